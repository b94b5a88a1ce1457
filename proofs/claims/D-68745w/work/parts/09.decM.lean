/-! names and decode rows, printed by mk.py -/
abbrev y_M_thrown : MethodName := ⟨"StateExplorerModel", "thrown", "()I"⟩
abbrev b_M_thrown : ByteArray := prog_4_method_2_code
theorem d_M_thrown_0 : decode b_M_thrown 0 = .ok (.aload_n 0, 1) := by decide +kernel
theorem d_M_thrown_1 : decode b_M_thrown 1 = .ok (.getfield 55, 3) := by decide +kernel
theorem d_M_thrown_4 : decode b_M_thrown 4 = .ok (.ireturn, 1) := by decide +kernel
abbrev y_M_fails : MethodName := ⟨"StateExplorerModel", "fails", "(ZZ)Z"⟩
abbrev b_M_fails : ByteArray := prog_4_method_3_code
theorem d_M_fails_0 : decode b_M_fails 0 = .ok (.aload_n 0, 1) := by decide +kernel
theorem d_M_fails_1 : decode b_M_fails 1 = .ok (.iload_n 1, 1) := by decide +kernel
theorem d_M_fails_2 : decode b_M_fails 2 = .ok (.ifCond .eq 7, 3) := by decide +kernel
theorem d_M_fails_5 : decode b_M_fails 5 = .ok (.iconst 1, 1) := by decide +kernel
theorem d_M_fails_6 : decode b_M_fails 6 = .ok (.goto 12, 3) := by decide +kernel
theorem d_M_fails_9 : decode b_M_fails 9 = .ok (.iload_n 2, 1) := by decide +kernel
theorem d_M_fails_10 : decode b_M_fails 10 = .ok (.ifCond .eq 7, 3) := by decide +kernel
theorem d_M_fails_13 : decode b_M_fails 13 = .ok (.iconst 2, 1) := by decide +kernel
theorem d_M_fails_14 : decode b_M_fails 14 = .ok (.goto 4, 3) := by decide +kernel
theorem d_M_fails_17 : decode b_M_fails 17 = .ok (.iconst 0, 1) := by decide +kernel
theorem d_M_fails_18 : decode b_M_fails 18 = .ok (.putfield 55, 3) := by decide +kernel
theorem d_M_fails_21 : decode b_M_fails 21 = .ok (.aload_n 0, 1) := by decide +kernel
theorem d_M_fails_22 : decode b_M_fails 22 = .ok (.getfield 55, 3) := by decide +kernel
theorem d_M_fails_25 : decode b_M_fails 25 = .ok (.ifCond .le 7, 3) := by decide +kernel
theorem d_M_fails_28 : decode b_M_fails 28 = .ok (.iconst 1, 1) := by decide +kernel
theorem d_M_fails_29 : decode b_M_fails 29 = .ok (.goto 4, 3) := by decide +kernel
theorem d_M_fails_32 : decode b_M_fails 32 = .ok (.iconst 0, 1) := by decide +kernel
theorem d_M_fails_33 : decode b_M_fails 33 = .ok (.ireturn, 1) := by decide +kernel
abbrev y_M_isGate : MethodName := ⟨"StateExplorerModel", "isGate", "(I)Z"⟩
abbrev b_M_isGate : ByteArray := prog_4_method_4_code
theorem d_M_isGate_0 : decode b_M_isGate 0 = .ok (.iload_n 1, 1) := by decide +kernel
theorem d_M_isGate_1 : decode b_M_isGate 1 = .ok (.ifCond .lt 15, 3) := by decide +kernel
theorem d_M_isGate_4 : decode b_M_isGate 4 = .ok (.iload_n 1, 1) := by decide +kernel
theorem d_M_isGate_5 : decode b_M_isGate 5 = .ok (.aload_n 0, 1) := by decide +kernel
theorem d_M_isGate_6 : decode b_M_isGate 6 = .ok (.getfield 59, 3) := by decide +kernel
theorem d_M_isGate_9 : decode b_M_isGate 9 = .ok (.if_icmp .ge 7, 3) := by decide +kernel
theorem d_M_isGate_12 : decode b_M_isGate 12 = .ok (.iconst 1, 1) := by decide +kernel
theorem d_M_isGate_13 : decode b_M_isGate 13 = .ok (.goto 4, 3) := by decide +kernel
theorem d_M_isGate_16 : decode b_M_isGate 16 = .ok (.iconst 0, 1) := by decide +kernel
theorem d_M_isGate_17 : decode b_M_isGate 17 = .ok (.ireturn, 1) := by decide +kernel
abbrev y_M_gate : MethodName := ⟨"StateExplorerModel", "gate", "(I)I"⟩
abbrev b_M_gate : ByteArray := prog_4_method_5_code
theorem d_M_gate_0 : decode b_M_gate 0 = .ok (.aload_n 0, 1) := by decide +kernel
theorem d_M_gate_1 : decode b_M_gate 1 = .ok (.iload_n 1, 1) := by decide +kernel
theorem d_M_gate_2 : decode b_M_gate 2 = .ok (.ifCond .lt 8, 3) := by decide +kernel
theorem d_M_gate_5 : decode b_M_gate 5 = .ok (.iload_n 1, 1) := by decide +kernel
theorem d_M_gate_6 : decode b_M_gate 6 = .ok (.iconst 3, 1) := by decide +kernel
theorem d_M_gate_7 : decode b_M_gate 7 = .ok (.if_icmp .le 7, 3) := by decide +kernel
theorem d_M_gate_10 : decode b_M_gate 10 = .ok (.iconst 1, 1) := by decide +kernel
theorem d_M_gate_11 : decode b_M_gate 11 = .ok (.goto 4, 3) := by decide +kernel
theorem d_M_gate_14 : decode b_M_gate 14 = .ok (.iconst 0, 1) := by decide +kernel
theorem d_M_gate_15 : decode b_M_gate 15 = .ok (.iconst 0, 1) := by decide +kernel
theorem d_M_gate_16 : decode b_M_gate 16 = .ok (.invokevirtual 62, 3) := by decide +kernel
theorem d_M_gate_19 : decode b_M_gate 19 = .ok (.ifCond .eq 5, 3) := by decide +kernel
theorem d_M_gate_22 : decode b_M_gate 22 = .ok (.iconst 0, 1) := by decide +kernel
theorem d_M_gate_23 : decode b_M_gate 23 = .ok (.ireturn, 1) := by decide +kernel
theorem d_M_gate_24 : decode b_M_gate 24 = .ok (.aload_n 0, 1) := by decide +kernel
theorem d_M_gate_25 : decode b_M_gate 25 = .ok (.getfield 59, 3) := by decide +kernel
theorem d_M_gate_28 : decode b_M_gate 28 = .ok (.bipush 60, 2) := by decide +kernel
theorem d_M_gate_30 : decode b_M_gate 30 = .ok (.if_icmp .eq 29, 3) := by decide +kernel
theorem d_M_gate_33 : decode b_M_gate 33 = .ok (.iload_n 1, 1) := by decide +kernel
theorem d_M_gate_34 : decode b_M_gate 34 = .ok (.ifCond .ne 11, 3) := by decide +kernel
theorem d_M_gate_37 : decode b_M_gate 37 = .ok (.aload_n 0, 1) := by decide +kernel
theorem d_M_gate_38 : decode b_M_gate 38 = .ok (.getfield 66, 3) := by decide +kernel
theorem d_M_gate_41 : decode b_M_gate 41 = .ok (.iconst 4, 1) := by decide +kernel
theorem d_M_gate_42 : decode b_M_gate 42 = .ok (.if_icmp .eq 17, 3) := by decide +kernel
theorem d_M_gate_45 : decode b_M_gate 45 = .ok (.iload_n 1, 1) := by decide +kernel
theorem d_M_gate_46 : decode b_M_gate 46 = .ok (.iconst 1, 1) := by decide +kernel
theorem d_M_gate_47 : decode b_M_gate 47 = .ok (.if_icmp .ne 14, 3) := by decide +kernel
theorem d_M_gate_50 : decode b_M_gate 50 = .ok (.aload_n 0, 1) := by decide +kernel
theorem d_M_gate_51 : decode b_M_gate 51 = .ok (.getfield 69, 3) := by decide +kernel
theorem d_M_gate_54 : decode b_M_gate 54 = .ok (.bipush 8, 2) := by decide +kernel
theorem d_M_gate_56 : decode b_M_gate 56 = .ok (.if_icmp .ne 5, 3) := by decide +kernel
theorem d_M_gate_59 : decode b_M_gate 59 = .ok (.iconst (-1), 1) := by decide +kernel
theorem d_M_gate_60 : decode b_M_gate 60 = .ok (.ireturn, 1) := by decide +kernel
theorem d_M_gate_61 : decode b_M_gate 61 = .ok (.aload_n 0, 1) := by decide +kernel
theorem d_M_gate_62 : decode b_M_gate 62 = .ok (.getfield 7, 3) := by decide +kernel
theorem d_M_gate_65 : decode b_M_gate 65 = .ok (.aload_n 0, 1) := by decide +kernel
theorem d_M_gate_66 : decode b_M_gate 66 = .ok (.getfield 59, 3) := by decide +kernel
theorem d_M_gate_69 : decode b_M_gate 69 = .ok (.iload_n 1, 1) := by decide +kernel
theorem d_M_gate_70 : decode b_M_gate 70 = .ok (.iastore, 1) := by decide +kernel
theorem d_M_gate_71 : decode b_M_gate 71 = .ok (.aload_n 0, 1) := by decide +kernel
theorem d_M_gate_72 : decode b_M_gate 72 = .ok (.getfield 13, 3) := by decide +kernel
theorem d_M_gate_75 : decode b_M_gate 75 = .ok (.aload_n 0, 1) := by decide +kernel
theorem d_M_gate_76 : decode b_M_gate 76 = .ok (.getfield 59, 3) := by decide +kernel
theorem d_M_gate_79 : decode b_M_gate 79 = .ok (.iload_n 1, 1) := by decide +kernel
theorem d_M_gate_80 : decode b_M_gate 80 = .ok (.ifCond .ne 10, 3) := by decide +kernel
theorem d_M_gate_83 : decode b_M_gate 83 = .ok (.aload_n 0, 1) := by decide +kernel
theorem d_M_gate_84 : decode b_M_gate 84 = .ok (.getfield 66, 3) := by decide +kernel
theorem d_M_gate_87 : decode b_M_gate 87 = .ok (.goto 16, 3) := by decide +kernel
theorem d_M_gate_90 : decode b_M_gate 90 = .ok (.iload_n 1, 1) := by decide +kernel
theorem d_M_gate_91 : decode b_M_gate 91 = .ok (.iconst 1, 1) := by decide +kernel
theorem d_M_gate_92 : decode b_M_gate 92 = .ok (.if_icmp .ne 10, 3) := by decide +kernel
theorem d_M_gate_95 : decode b_M_gate 95 = .ok (.aload_n 0, 1) := by decide +kernel
theorem d_M_gate_96 : decode b_M_gate 96 = .ok (.getfield 69, 3) := by decide +kernel
theorem d_M_gate_99 : decode b_M_gate 99 = .ok (.goto 4, 3) := by decide +kernel
theorem d_M_gate_102 : decode b_M_gate 102 = .ok (.iconst (-1), 1) := by decide +kernel
theorem d_M_gate_103 : decode b_M_gate 103 = .ok (.iastore, 1) := by decide +kernel
theorem d_M_gate_104 : decode b_M_gate 104 = .ok (.aload_n 0, 1) := by decide +kernel
theorem d_M_gate_105 : decode b_M_gate 105 = .ok (.iload_n 1, 1) := by decide +kernel
theorem d_M_gate_106 : decode b_M_gate 106 = .ok (.ifCond .ne 12, 3) := by decide +kernel
theorem d_M_gate_109 : decode b_M_gate 109 = .ok (.aload_n 0, 1) := by decide +kernel
theorem d_M_gate_110 : decode b_M_gate 110 = .ok (.getfield 66, 3) := by decide +kernel
theorem d_M_gate_113 : decode b_M_gate 113 = .ok (.iconst 1, 1) := by decide +kernel
theorem d_M_gate_114 : decode b_M_gate 114 = .ok (.iadd, 1) := by decide +kernel
theorem d_M_gate_115 : decode b_M_gate 115 = .ok (.goto 7, 3) := by decide +kernel
theorem d_M_gate_118 : decode b_M_gate 118 = .ok (.aload_n 0, 1) := by decide +kernel
theorem d_M_gate_119 : decode b_M_gate 119 = .ok (.getfield 66, 3) := by decide +kernel
theorem d_M_gate_122 : decode b_M_gate 122 = .ok (.putfield 66, 3) := by decide +kernel
theorem d_M_gate_125 : decode b_M_gate 125 = .ok (.aload_n 0, 1) := by decide +kernel
theorem d_M_gate_126 : decode b_M_gate 126 = .ok (.iload_n 1, 1) := by decide +kernel
theorem d_M_gate_127 : decode b_M_gate 127 = .ok (.iconst 1, 1) := by decide +kernel
theorem d_M_gate_128 : decode b_M_gate 128 = .ok (.if_icmp .ne 12, 3) := by decide +kernel
theorem d_M_gate_131 : decode b_M_gate 131 = .ok (.aload_n 0, 1) := by decide +kernel
theorem d_M_gate_132 : decode b_M_gate 132 = .ok (.getfield 69, 3) := by decide +kernel
theorem d_M_gate_135 : decode b_M_gate 135 = .ok (.iconst 1, 1) := by decide +kernel
theorem d_M_gate_136 : decode b_M_gate 136 = .ok (.iadd, 1) := by decide +kernel
theorem d_M_gate_137 : decode b_M_gate 137 = .ok (.goto 7, 3) := by decide +kernel
theorem d_M_gate_140 : decode b_M_gate 140 = .ok (.aload_n 0, 1) := by decide +kernel
theorem d_M_gate_141 : decode b_M_gate 141 = .ok (.getfield 69, 3) := by decide +kernel
theorem d_M_gate_144 : decode b_M_gate 144 = .ok (.putfield 69, 3) := by decide +kernel
theorem d_M_gate_147 : decode b_M_gate 147 = .ok (.aload_n 0, 1) := by decide +kernel
theorem d_M_gate_148 : decode b_M_gate 148 = .ok (.dup, 1) := by decide +kernel
theorem d_M_gate_149 : decode b_M_gate 149 = .ok (.getfield 59, 3) := by decide +kernel
theorem d_M_gate_152 : decode b_M_gate 152 = .ok (.iconst 1, 1) := by decide +kernel
theorem d_M_gate_153 : decode b_M_gate 153 = .ok (.iadd, 1) := by decide +kernel
theorem d_M_gate_154 : decode b_M_gate 154 = .ok (.putfield 59, 3) := by decide +kernel
theorem d_M_gate_157 : decode b_M_gate 157 = .ok (.aload_n 0, 1) := by decide +kernel
theorem d_M_gate_158 : decode b_M_gate 158 = .ok (.iconst 0, 1) := by decide +kernel
theorem d_M_gate_159 : decode b_M_gate 159 = .ok (.putfield 72, 3) := by decide +kernel
theorem d_M_gate_162 : decode b_M_gate 162 = .ok (.aload_n 0, 1) := by decide +kernel
theorem d_M_gate_163 : decode b_M_gate 163 = .ok (.getfield 59, 3) := by decide +kernel
theorem d_M_gate_166 : decode b_M_gate 166 = .ok (.iconst 1, 1) := by decide +kernel
theorem d_M_gate_167 : decode b_M_gate 167 = .ok (.isub, 1) := by decide +kernel
theorem d_M_gate_168 : decode b_M_gate 168 = .ok (.ireturn, 1) := by decide +kernel
abbrev y_M_feedsOf : MethodName := ⟨"StateExplorerModel", "feedsOf", "(I)I"⟩
abbrev b_M_feedsOf : ByteArray := prog_4_method_6_code
theorem d_M_feedsOf_0 : decode b_M_feedsOf 0 = .ok (.iconst 0, 1) := by decide +kernel
theorem d_M_feedsOf_1 : decode b_M_feedsOf 1 = .ok (.istore_n 2, 1) := by decide +kernel
theorem d_M_feedsOf_2 : decode b_M_feedsOf 2 = .ok (.iconst 0, 1) := by decide +kernel
theorem d_M_feedsOf_3 : decode b_M_feedsOf 3 = .ok (.istore_n 3, 1) := by decide +kernel
theorem d_M_feedsOf_4 : decode b_M_feedsOf 4 = .ok (.iload_n 3, 1) := by decide +kernel
theorem d_M_feedsOf_5 : decode b_M_feedsOf 5 = .ok (.aload_n 0, 1) := by decide +kernel
theorem d_M_feedsOf_6 : decode b_M_feedsOf 6 = .ok (.getfield 76, 3) := by decide +kernel
theorem d_M_feedsOf_9 : decode b_M_feedsOf 9 = .ok (.if_icmp .ge 27, 3) := by decide +kernel
theorem d_M_feedsOf_12 : decode b_M_feedsOf 12 = .ok (.aload_n 0, 1) := by decide +kernel
theorem d_M_feedsOf_13 : decode b_M_feedsOf 13 = .ok (.getfield 22, 3) := by decide +kernel
theorem d_M_feedsOf_16 : decode b_M_feedsOf 16 = .ok (.iload_n 3, 1) := by decide +kernel
theorem d_M_feedsOf_17 : decode b_M_feedsOf 17 = .ok (.iaload, 1) := by decide +kernel
theorem d_M_feedsOf_18 : decode b_M_feedsOf 18 = .ok (.iload_n 1, 1) := by decide +kernel
theorem d_M_feedsOf_19 : decode b_M_feedsOf 19 = .ok (.if_icmp .ne 9, 3) := by decide +kernel
theorem d_M_feedsOf_22 : decode b_M_feedsOf 22 = .ok (.iload_n 2, 1) := by decide +kernel
theorem d_M_feedsOf_23 : decode b_M_feedsOf 23 = .ok (.iconst 1, 1) := by decide +kernel
theorem d_M_feedsOf_24 : decode b_M_feedsOf 24 = .ok (.iadd, 1) := by decide +kernel
theorem d_M_feedsOf_25 : decode b_M_feedsOf 25 = .ok (.goto 4, 3) := by decide +kernel
theorem d_M_feedsOf_28 : decode b_M_feedsOf 28 = .ok (.iload_n 2, 1) := by decide +kernel
theorem d_M_feedsOf_29 : decode b_M_feedsOf 29 = .ok (.istore_n 2, 1) := by decide +kernel
theorem d_M_feedsOf_30 : decode b_M_feedsOf 30 = .ok (.iinc 3 1, 3) := by decide +kernel
theorem d_M_feedsOf_33 : decode b_M_feedsOf 33 = .ok (.goto (-29), 3) := by decide +kernel
theorem d_M_feedsOf_36 : decode b_M_feedsOf 36 = .ok (.iload_n 2, 1) := by decide +kernel
theorem d_M_feedsOf_37 : decode b_M_feedsOf 37 = .ok (.ireturn, 1) := by decide +kernel
abbrev y_M_feed : MethodName := ⟨"StateExplorerModel", "feed", "(IIZ)I"⟩
abbrev b_M_feed : ByteArray := prog_4_method_7_code
theorem d_M_feed_0 : decode b_M_feed 0 = .ok (.aload_n 0, 1) := by decide +kernel
theorem d_M_feed_1 : decode b_M_feed 1 = .ok (.iload_n 1, 1) := by decide +kernel
theorem d_M_feed_2 : decode b_M_feed 2 = .ok (.invokevirtual 79, 3) := by decide +kernel
theorem d_M_feed_5 : decode b_M_feed 5 = .ok (.ifCond .eq 15, 3) := by decide +kernel
theorem d_M_feed_8 : decode b_M_feed 8 = .ok (.aload_n 0, 1) := by decide +kernel
theorem d_M_feed_9 : decode b_M_feed 9 = .ok (.iload_n 2, 1) := by decide +kernel
theorem d_M_feed_10 : decode b_M_feed 10 = .ok (.invokevirtual 79, 3) := by decide +kernel
theorem d_M_feed_13 : decode b_M_feed 13 = .ok (.ifCond .eq 7, 3) := by decide +kernel
theorem d_M_feed_16 : decode b_M_feed 16 = .ok (.iconst 1, 1) := by decide +kernel
theorem d_M_feed_17 : decode b_M_feed 17 = .ok (.goto 4, 3) := by decide +kernel
theorem d_M_feed_20 : decode b_M_feed 20 = .ok (.iconst 0, 1) := by decide +kernel
theorem d_M_feed_21 : decode b_M_feed 21 = .ok (.istore 4, 2) := by decide +kernel
theorem d_M_feed_23 : decode b_M_feed 23 = .ok (.iload 4, 2) := by decide +kernel
theorem d_M_feed_25 : decode b_M_feed 25 = .ok (.ifCond .eq 34, 3) := by decide +kernel
theorem d_M_feed_28 : decode b_M_feed 28 = .ok (.aload_n 0, 1) := by decide +kernel
theorem d_M_feed_29 : decode b_M_feed 29 = .ok (.getfield 7, 3) := by decide +kernel
theorem d_M_feed_32 : decode b_M_feed 32 = .ok (.iload_n 1, 1) := by decide +kernel
theorem d_M_feed_33 : decode b_M_feed 33 = .ok (.iaload, 1) := by decide +kernel
theorem d_M_feed_34 : decode b_M_feed 34 = .ok (.ifCond .eq 21, 3) := by decide +kernel
theorem d_M_feed_37 : decode b_M_feed 37 = .ok (.aload_n 0, 1) := by decide +kernel
theorem d_M_feed_38 : decode b_M_feed 38 = .ok (.getfield 7, 3) := by decide +kernel
theorem d_M_feed_41 : decode b_M_feed 41 = .ok (.iload_n 1, 1) := by decide +kernel
theorem d_M_feed_42 : decode b_M_feed 42 = .ok (.iaload, 1) := by decide +kernel
theorem d_M_feed_43 : decode b_M_feed 43 = .ok (.iconst 1, 1) := by decide +kernel
theorem d_M_feed_44 : decode b_M_feed 44 = .ok (.if_icmp .ne 15, 3) := by decide +kernel
theorem d_M_feed_47 : decode b_M_feed 47 = .ok (.aload_n 0, 1) := by decide +kernel
theorem d_M_feed_48 : decode b_M_feed 48 = .ok (.iload_n 1, 1) := by decide +kernel
theorem d_M_feed_49 : decode b_M_feed 49 = .ok (.invokevirtual 83, 3) := by decide +kernel
theorem d_M_feed_52 : decode b_M_feed 52 = .ok (.ifCond .le 7, 3) := by decide +kernel
theorem d_M_feed_55 : decode b_M_feed 55 = .ok (.iconst 1, 1) := by decide +kernel
theorem d_M_feed_56 : decode b_M_feed 56 = .ok (.goto 4, 3) := by decide +kernel
theorem d_M_feed_59 : decode b_M_feed 59 = .ok (.iconst 0, 1) := by decide +kernel
theorem d_M_feed_60 : decode b_M_feed 60 = .ok (.istore 5, 2) := by decide +kernel
theorem d_M_feed_62 : decode b_M_feed 62 = .ok (.aload_n 0, 1) := by decide +kernel
theorem d_M_feed_63 : decode b_M_feed 63 = .ok (.iload 4, 2) := by decide +kernel
theorem d_M_feed_65 : decode b_M_feed 65 = .ok (.ifCond .ne 7, 3) := by decide +kernel
theorem d_M_feed_68 : decode b_M_feed 68 = .ok (.iconst 1, 1) := by decide +kernel
theorem d_M_feed_69 : decode b_M_feed 69 = .ok (.goto 4, 3) := by decide +kernel
theorem d_M_feed_72 : decode b_M_feed 72 = .ok (.iconst 0, 1) := by decide +kernel
theorem d_M_feed_73 : decode b_M_feed 73 = .ok (.iload 5, 2) := by decide +kernel
theorem d_M_feed_75 : decode b_M_feed 75 = .ok (.invokevirtual 62, 3) := by decide +kernel
theorem d_M_feed_78 : decode b_M_feed 78 = .ok (.ifCond .eq 5, 3) := by decide +kernel
theorem d_M_feed_81 : decode b_M_feed 81 = .ok (.iconst 0, 1) := by decide +kernel
theorem d_M_feed_82 : decode b_M_feed 82 = .ok (.ireturn, 1) := by decide +kernel
theorem d_M_feed_83 : decode b_M_feed 83 = .ok (.aload_n 0, 1) := by decide +kernel
theorem d_M_feed_84 : decode b_M_feed 84 = .ok (.getfield 76, 3) := by decide +kernel
theorem d_M_feed_87 : decode b_M_feed 87 = .ok (.sipush 240, 3) := by decide +kernel
theorem d_M_feed_90 : decode b_M_feed 90 = .ok (.if_icmp .ne 5, 3) := by decide +kernel
theorem d_M_feed_93 : decode b_M_feed 93 = .ok (.iconst (-1), 1) := by decide +kernel
theorem d_M_feed_94 : decode b_M_feed 94 = .ok (.ireturn, 1) := by decide +kernel
theorem d_M_feed_95 : decode b_M_feed 95 = .ok (.aload_n 0, 1) := by decide +kernel
theorem d_M_feed_96 : decode b_M_feed 96 = .ok (.getfield 22, 3) := by decide +kernel
theorem d_M_feed_99 : decode b_M_feed 99 = .ok (.aload_n 0, 1) := by decide +kernel
theorem d_M_feed_100 : decode b_M_feed 100 = .ok (.getfield 76, 3) := by decide +kernel
theorem d_M_feed_103 : decode b_M_feed 103 = .ok (.iload_n 1, 1) := by decide +kernel
theorem d_M_feed_104 : decode b_M_feed 104 = .ok (.iastore, 1) := by decide +kernel
theorem d_M_feed_105 : decode b_M_feed 105 = .ok (.aload_n 0, 1) := by decide +kernel
theorem d_M_feed_106 : decode b_M_feed 106 = .ok (.getfield 25, 3) := by decide +kernel
theorem d_M_feed_109 : decode b_M_feed 109 = .ok (.aload_n 0, 1) := by decide +kernel
theorem d_M_feed_110 : decode b_M_feed 110 = .ok (.getfield 76, 3) := by decide +kernel
theorem d_M_feed_113 : decode b_M_feed 113 = .ok (.iload_n 2, 1) := by decide +kernel
theorem d_M_feed_114 : decode b_M_feed 114 = .ok (.iastore, 1) := by decide +kernel
theorem d_M_feed_115 : decode b_M_feed 115 = .ok (.aload_n 0, 1) := by decide +kernel
theorem d_M_feed_116 : decode b_M_feed 116 = .ok (.getfield 31, 3) := by decide +kernel
theorem d_M_feed_119 : decode b_M_feed 119 = .ok (.aload_n 0, 1) := by decide +kernel
theorem d_M_feed_120 : decode b_M_feed 120 = .ok (.getfield 76, 3) := by decide +kernel
theorem d_M_feed_123 : decode b_M_feed 123 = .ok (.iload_n 3, 1) := by decide +kernel
theorem d_M_feed_124 : decode b_M_feed 124 = .ok (.bastore, 1) := by decide +kernel
theorem d_M_feed_125 : decode b_M_feed 125 = .ok (.aload_n 0, 1) := by decide +kernel
theorem d_M_feed_126 : decode b_M_feed 126 = .ok (.dup, 1) := by decide +kernel
theorem d_M_feed_127 : decode b_M_feed 127 = .ok (.getfield 76, 3) := by decide +kernel
theorem d_M_feed_130 : decode b_M_feed 130 = .ok (.iconst 1, 1) := by decide +kernel
theorem d_M_feed_131 : decode b_M_feed 131 = .ok (.iadd, 1) := by decide +kernel
theorem d_M_feed_132 : decode b_M_feed 132 = .ok (.putfield 76, 3) := by decide +kernel
theorem d_M_feed_135 : decode b_M_feed 135 = .ok (.aload_n 0, 1) := by decide +kernel
theorem d_M_feed_136 : decode b_M_feed 136 = .ok (.iconst 0, 1) := by decide +kernel
theorem d_M_feed_137 : decode b_M_feed 137 = .ok (.putfield 72, 3) := by decide +kernel
theorem d_M_feed_140 : decode b_M_feed 140 = .ok (.aload_n 0, 1) := by decide +kernel
theorem d_M_feed_141 : decode b_M_feed 141 = .ok (.iload_n 1, 1) := by decide +kernel
theorem d_M_feed_142 : decode b_M_feed 142 = .ok (.invokevirtual 83, 3) := by decide +kernel
theorem d_M_feed_145 : decode b_M_feed 145 = .ok (.ireturn, 1) := by decide +kernel
abbrev y_M_output : MethodName := ⟨"StateExplorerModel", "output", "(I)I"⟩
abbrev b_M_output : ByteArray := prog_4_method_8_code
theorem d_M_output_0 : decode b_M_output 0 = .ok (.aload_n 0, 1) := by decide +kernel
theorem d_M_output_1 : decode b_M_output 1 = .ok (.aload_n 0, 1) := by decide +kernel
theorem d_M_output_2 : decode b_M_output 2 = .ok (.iload_n 1, 1) := by decide +kernel
theorem d_M_output_3 : decode b_M_output 3 = .ok (.invokevirtual 79, 3) := by decide +kernel
theorem d_M_output_6 : decode b_M_output 6 = .ok (.ifCond .ne 7, 3) := by decide +kernel
theorem d_M_output_9 : decode b_M_output 9 = .ok (.iconst 1, 1) := by decide +kernel
theorem d_M_output_10 : decode b_M_output 10 = .ok (.goto 4, 3) := by decide +kernel
theorem d_M_output_13 : decode b_M_output 13 = .ok (.iconst 0, 1) := by decide +kernel
theorem d_M_output_14 : decode b_M_output 14 = .ok (.iconst 0, 1) := by decide +kernel
theorem d_M_output_15 : decode b_M_output 15 = .ok (.invokevirtual 62, 3) := by decide +kernel
theorem d_M_output_18 : decode b_M_output 18 = .ok (.ifCond .eq 5, 3) := by decide +kernel
theorem d_M_output_21 : decode b_M_output 21 = .ok (.iconst 0, 1) := by decide +kernel
theorem d_M_output_22 : decode b_M_output 22 = .ok (.ireturn, 1) := by decide +kernel
theorem d_M_output_23 : decode b_M_output 23 = .ok (.aload_n 0, 1) := by decide +kernel
theorem d_M_output_24 : decode b_M_output 24 = .ok (.getfield 87, 3) := by decide +kernel
theorem d_M_output_27 : decode b_M_output 27 = .ok (.bipush 6, 2) := by decide +kernel
theorem d_M_output_29 : decode b_M_output 29 = .ok (.if_icmp .ne 5, 3) := by decide +kernel
theorem d_M_output_32 : decode b_M_output 32 = .ok (.iconst (-1), 1) := by decide +kernel
theorem d_M_output_33 : decode b_M_output 33 = .ok (.ireturn, 1) := by decide +kernel
theorem d_M_output_34 : decode b_M_output 34 = .ok (.aload_n 0, 1) := by decide +kernel
theorem d_M_output_35 : decode b_M_output 35 = .ok (.getfield 28, 3) := by decide +kernel
theorem d_M_output_38 : decode b_M_output 38 = .ok (.aload_n 0, 1) := by decide +kernel
theorem d_M_output_39 : decode b_M_output 39 = .ok (.getfield 87, 3) := by decide +kernel
theorem d_M_output_42 : decode b_M_output 42 = .ok (.iload_n 1, 1) := by decide +kernel
theorem d_M_output_43 : decode b_M_output 43 = .ok (.iastore, 1) := by decide +kernel
theorem d_M_output_44 : decode b_M_output 44 = .ok (.aload_n 0, 1) := by decide +kernel
theorem d_M_output_45 : decode b_M_output 45 = .ok (.dup, 1) := by decide +kernel
theorem d_M_output_46 : decode b_M_output 46 = .ok (.getfield 87, 3) := by decide +kernel
theorem d_M_output_49 : decode b_M_output 49 = .ok (.iconst 1, 1) := by decide +kernel
theorem d_M_output_50 : decode b_M_output 50 = .ok (.iadd, 1) := by decide +kernel
theorem d_M_output_51 : decode b_M_output 51 = .ok (.putfield 87, 3) := by decide +kernel
theorem d_M_output_54 : decode b_M_output 54 = .ok (.aload_n 0, 1) := by decide +kernel
theorem d_M_output_55 : decode b_M_output 55 = .ok (.iconst 0, 1) := by decide +kernel
theorem d_M_output_56 : decode b_M_output 56 = .ok (.putfield 72, 3) := by decide +kernel
theorem d_M_output_59 : decode b_M_output 59 = .ok (.aload_n 0, 1) := by decide +kernel
theorem d_M_output_60 : decode b_M_output 60 = .ok (.getfield 87, 3) := by decide +kernel
theorem d_M_output_63 : decode b_M_output 63 = .ok (.ireturn, 1) := by decide +kernel
abbrev y_M_clear : MethodName := ⟨"StateExplorerModel", "clear", "()I"⟩
abbrev b_M_clear : ByteArray := prog_4_method_9_code
theorem d_M_clear_0 : decode b_M_clear 0 = .ok (.aload_n 0, 1) := by decide +kernel
theorem d_M_clear_1 : decode b_M_clear 1 = .ok (.iconst 0, 1) := by decide +kernel
theorem d_M_clear_2 : decode b_M_clear 2 = .ok (.putfield 55, 3) := by decide +kernel
theorem d_M_clear_5 : decode b_M_clear 5 = .ok (.aload_n 0, 1) := by decide +kernel
theorem d_M_clear_6 : decode b_M_clear 6 = .ok (.getfield 59, 3) := by decide +kernel
theorem d_M_clear_9 : decode b_M_clear 9 = .ok (.istore_n 1, 1) := by decide +kernel
theorem d_M_clear_10 : decode b_M_clear 10 = .ok (.aload_n 0, 1) := by decide +kernel
theorem d_M_clear_11 : decode b_M_clear 11 = .ok (.aload_n 0, 1) := by decide +kernel
theorem d_M_clear_12 : decode b_M_clear 12 = .ok (.aload_n 0, 1) := by decide +kernel
theorem d_M_clear_13 : decode b_M_clear 13 = .ok (.aload_n 0, 1) := by decide +kernel
theorem d_M_clear_14 : decode b_M_clear 14 = .ok (.aload_n 0, 1) := by decide +kernel
theorem d_M_clear_15 : decode b_M_clear 15 = .ok (.iconst 0, 1) := by decide +kernel
theorem d_M_clear_16 : decode b_M_clear 16 = .ok (.dup_x1, 1) := by decide +kernel
theorem d_M_clear_17 : decode b_M_clear 17 = .ok (.putfield 87, 3) := by decide +kernel
theorem d_M_clear_20 : decode b_M_clear 20 = .ok (.dup_x1, 1) := by decide +kernel
theorem d_M_clear_21 : decode b_M_clear 21 = .ok (.putfield 69, 3) := by decide +kernel
theorem d_M_clear_24 : decode b_M_clear 24 = .ok (.dup_x1, 1) := by decide +kernel
theorem d_M_clear_25 : decode b_M_clear 25 = .ok (.putfield 66, 3) := by decide +kernel
theorem d_M_clear_28 : decode b_M_clear 28 = .ok (.dup_x1, 1) := by decide +kernel
theorem d_M_clear_29 : decode b_M_clear 29 = .ok (.putfield 76, 3) := by decide +kernel
theorem d_M_clear_32 : decode b_M_clear 32 = .ok (.putfield 59, 3) := by decide +kernel
theorem d_M_clear_35 : decode b_M_clear 35 = .ok (.aload_n 0, 1) := by decide +kernel
theorem d_M_clear_36 : decode b_M_clear 36 = .ok (.iconst 0, 1) := by decide +kernel
theorem d_M_clear_37 : decode b_M_clear 37 = .ok (.putfield 72, 3) := by decide +kernel
theorem d_M_clear_40 : decode b_M_clear 40 = .ok (.iload_n 1, 1) := by decide +kernel
theorem d_M_clear_41 : decode b_M_clear 41 = .ok (.ireturn, 1) := by decide +kernel
abbrev y_M_taken : MethodName := ⟨"StateExplorerModel", "taken", "(I)I"⟩
abbrev b_M_taken : ByteArray := prog_4_method_10_code
theorem d_M_taken_0 : decode b_M_taken 0 = .ok (.aload_n 0, 1) := by decide +kernel
theorem d_M_taken_1 : decode b_M_taken 1 = .ok (.getfield 16, 3) := by decide +kernel
theorem d_M_taken_4 : decode b_M_taken 4 = .ok (.aload_n 0, 1) := by decide +kernel
theorem d_M_taken_5 : decode b_M_taken 5 = .ok (.getfield 25, 3) := by decide +kernel
theorem d_M_taken_8 : decode b_M_taken 8 = .ok (.iload_n 1, 1) := by decide +kernel
theorem d_M_taken_9 : decode b_M_taken 9 = .ok (.iaload, 1) := by decide +kernel
theorem d_M_taken_10 : decode b_M_taken 10 = .ok (.iaload, 1) := by decide +kernel
theorem d_M_taken_11 : decode b_M_taken 11 = .ok (.istore_n 2, 1) := by decide +kernel
theorem d_M_taken_12 : decode b_M_taken 12 = .ok (.iload_n 2, 1) := by decide +kernel
theorem d_M_taken_13 : decode b_M_taken 13 = .ok (.iconst 2, 1) := by decide +kernel
theorem d_M_taken_14 : decode b_M_taken 14 = .ok (.if_icmp .eq 12, 3) := by decide +kernel
theorem d_M_taken_17 : decode b_M_taken 17 = .ok (.aload_n 0, 1) := by decide +kernel
theorem d_M_taken_18 : decode b_M_taken 18 = .ok (.getfield 31, 3) := by decide +kernel
theorem d_M_taken_21 : decode b_M_taken 21 = .ok (.iload_n 1, 1) := by decide +kernel
theorem d_M_taken_22 : decode b_M_taken 22 = .ok (.baload, 1) := by decide +kernel
theorem d_M_taken_23 : decode b_M_taken 23 = .ok (.ifCond .ne 7, 3) := by decide +kernel
theorem d_M_taken_26 : decode b_M_taken 26 = .ok (.iload_n 2, 1) := by decide +kernel
theorem d_M_taken_27 : decode b_M_taken 27 = .ok (.goto 6, 3) := by decide +kernel
theorem d_M_taken_30 : decode b_M_taken 30 = .ok (.iconst 1, 1) := by decide +kernel
theorem d_M_taken_31 : decode b_M_taken 31 = .ok (.iload_n 2, 1) := by decide +kernel
theorem d_M_taken_32 : decode b_M_taken 32 = .ok (.isub, 1) := by decide +kernel
theorem d_M_taken_33 : decode b_M_taken 33 = .ok (.ireturn, 1) := by decide +kernel
abbrev y_M_again : MethodName := ⟨"StateExplorerModel", "again", "()Z"⟩
abbrev b_M_again : ByteArray := prog_4_method_11_code
theorem d_M_again_0 : decode b_M_again 0 = .ok (.iconst 0, 1) := by decide +kernel
theorem d_M_again_1 : decode b_M_again 1 = .ok (.istore_n 1, 1) := by decide +kernel
theorem d_M_again_2 : decode b_M_again 2 = .ok (.iconst 0, 1) := by decide +kernel
theorem d_M_again_3 : decode b_M_again 3 = .ok (.istore_n 2, 1) := by decide +kernel
theorem d_M_again_4 : decode b_M_again 4 = .ok (.iload_n 2, 1) := by decide +kernel
theorem d_M_again_5 : decode b_M_again 5 = .ok (.aload_n 0, 1) := by decide +kernel
theorem d_M_again_6 : decode b_M_again 6 = .ok (.getfield 59, 3) := by decide +kernel
theorem d_M_again_9 : decode b_M_again 9 = .ok (.if_icmp .ge 30, 3) := by decide +kernel
theorem d_M_again_12 : decode b_M_again 12 = .ok (.aload_n 0, 1) := by decide +kernel
theorem d_M_again_13 : decode b_M_again 13 = .ok (.getfield 19, 3) := by decide +kernel
theorem d_M_again_16 : decode b_M_again 16 = .ok (.iload_n 2, 1) := by decide +kernel
theorem d_M_again_17 : decode b_M_again 17 = .ok (.aload_n 0, 1) := by decide +kernel
theorem d_M_again_18 : decode b_M_again 18 = .ok (.getfield 7, 3) := by decide +kernel
theorem d_M_again_21 : decode b_M_again 21 = .ok (.iload_n 2, 1) := by decide +kernel
theorem d_M_again_22 : decode b_M_again 22 = .ok (.iaload, 1) := by decide +kernel
theorem d_M_again_23 : decode b_M_again 23 = .ok (.iconst 2, 1) := by decide +kernel
theorem d_M_again_24 : decode b_M_again 24 = .ok (.if_icmp .ne 7, 3) := by decide +kernel
theorem d_M_again_27 : decode b_M_again 27 = .ok (.iconst 1, 1) := by decide +kernel
theorem d_M_again_28 : decode b_M_again 28 = .ok (.goto 4, 3) := by decide +kernel
theorem d_M_again_31 : decode b_M_again 31 = .ok (.iconst 0, 1) := by decide +kernel
theorem d_M_again_32 : decode b_M_again 32 = .ok (.iastore, 1) := by decide +kernel
theorem d_M_again_33 : decode b_M_again 33 = .ok (.iinc 2 1, 3) := by decide +kernel
theorem d_M_again_36 : decode b_M_again 36 = .ok (.goto (-32), 3) := by decide +kernel
theorem d_M_again_39 : decode b_M_again 39 = .ok (.iconst 0, 1) := by decide +kernel
theorem d_M_again_40 : decode b_M_again 40 = .ok (.istore_n 2, 1) := by decide +kernel
theorem d_M_again_41 : decode b_M_again 41 = .ok (.iload_n 2, 1) := by decide +kernel
theorem d_M_again_42 : decode b_M_again 42 = .ok (.aload_n 0, 1) := by decide +kernel
theorem d_M_again_43 : decode b_M_again 43 = .ok (.getfield 76, 3) := by decide +kernel
theorem d_M_again_46 : decode b_M_again 46 = .ok (.if_icmp .ge 79, 3) := by decide +kernel
theorem d_M_again_49 : decode b_M_again 49 = .ok (.aload_n 0, 1) := by decide +kernel
theorem d_M_again_50 : decode b_M_again 50 = .ok (.getfield 22, 3) := by decide +kernel
theorem d_M_again_53 : decode b_M_again 53 = .ok (.iload_n 2, 1) := by decide +kernel
theorem d_M_again_54 : decode b_M_again 54 = .ok (.iaload, 1) := by decide +kernel
theorem d_M_again_55 : decode b_M_again 55 = .ok (.istore_n 3, 1) := by decide +kernel
theorem d_M_again_56 : decode b_M_again 56 = .ok (.aload_n 0, 1) := by decide +kernel
theorem d_M_again_57 : decode b_M_again 57 = .ok (.getfield 7, 3) := by decide +kernel
theorem d_M_again_60 : decode b_M_again 60 = .ok (.iload_n 3, 1) := by decide +kernel
theorem d_M_again_61 : decode b_M_again 61 = .ok (.iaload, 1) := by decide +kernel
theorem d_M_again_62 : decode b_M_again 62 = .ok (.iconst 2, 1) := by decide +kernel
theorem d_M_again_63 : decode b_M_again 63 = .ok (.if_icmp .ne 7, 3) := by decide +kernel
theorem d_M_again_66 : decode b_M_again 66 = .ok (.iconst 0, 1) := by decide +kernel
theorem d_M_again_67 : decode b_M_again 67 = .ok (.goto 4, 3) := by decide +kernel
theorem d_M_again_70 : decode b_M_again 70 = .ok (.iconst 1, 1) := by decide +kernel
theorem d_M_again_71 : decode b_M_again 71 = .ok (.istore 4, 2) := by decide +kernel
theorem d_M_again_73 : decode b_M_again 73 = .ok (.aload_n 0, 1) := by decide +kernel
theorem d_M_again_74 : decode b_M_again 74 = .ok (.iload_n 2, 1) := by decide +kernel
theorem d_M_again_75 : decode b_M_again 75 = .ok (.invokevirtual 90, 3) := by decide +kernel
theorem d_M_again_78 : decode b_M_again 78 = .ok (.istore 5, 2) := by decide +kernel
theorem d_M_again_80 : decode b_M_again 80 = .ok (.iload 5, 2) := by decide +kernel
theorem d_M_again_82 : decode b_M_again 82 = .ok (.iload 4, 2) := by decide +kernel
theorem d_M_again_84 : decode b_M_again 84 = .ok (.if_icmp .ne 11, 3) := by decide +kernel
theorem d_M_again_87 : decode b_M_again 87 = .ok (.aload_n 0, 1) := by decide +kernel
theorem d_M_again_88 : decode b_M_again 88 = .ok (.getfield 19, 3) := by decide +kernel
theorem d_M_again_91 : decode b_M_again 91 = .ok (.iload_n 3, 1) := by decide +kernel
theorem d_M_again_92 : decode b_M_again 92 = .ok (.iload 4, 2) := by decide +kernel
theorem d_M_again_94 : decode b_M_again 94 = .ok (.iastore, 1) := by decide +kernel
theorem d_M_again_95 : decode b_M_again 95 = .ok (.iload 5, 2) := by decide +kernel
theorem d_M_again_97 : decode b_M_again 97 = .ok (.iconst 2, 1) := by decide +kernel
theorem d_M_again_98 : decode b_M_again 98 = .ok (.if_icmp .ne 21, 3) := by decide +kernel
theorem d_M_again_101 : decode b_M_again 101 = .ok (.aload_n 0, 1) := by decide +kernel
theorem d_M_again_102 : decode b_M_again 102 = .ok (.getfield 19, 3) := by decide +kernel
theorem d_M_again_105 : decode b_M_again 105 = .ok (.iload_n 3, 1) := by decide +kernel
theorem d_M_again_106 : decode b_M_again 106 = .ok (.iaload, 1) := by decide +kernel
theorem d_M_again_107 : decode b_M_again 107 = .ok (.iload 4, 2) := by decide +kernel
theorem d_M_again_109 : decode b_M_again 109 = .ok (.if_icmp .eq 10, 3) := by decide +kernel
theorem d_M_again_112 : decode b_M_again 112 = .ok (.aload_n 0, 1) := by decide +kernel
theorem d_M_again_113 : decode b_M_again 113 = .ok (.getfield 19, 3) := by decide +kernel
theorem d_M_again_116 : decode b_M_again 116 = .ok (.iload_n 3, 1) := by decide +kernel
theorem d_M_again_117 : decode b_M_again 117 = .ok (.iconst 2, 1) := by decide +kernel
theorem d_M_again_118 : decode b_M_again 118 = .ok (.iastore, 1) := by decide +kernel
theorem d_M_again_119 : decode b_M_again 119 = .ok (.iinc 2 1, 3) := by decide +kernel
theorem d_M_again_122 : decode b_M_again 122 = .ok (.goto (-81), 3) := by decide +kernel
theorem d_M_again_125 : decode b_M_again 125 = .ok (.iconst 0, 1) := by decide +kernel
theorem d_M_again_126 : decode b_M_again 126 = .ok (.istore_n 2, 1) := by decide +kernel
theorem d_M_again_127 : decode b_M_again 127 = .ok (.iload_n 2, 1) := by decide +kernel
theorem d_M_again_128 : decode b_M_again 128 = .ok (.aload_n 0, 1) := by decide +kernel
theorem d_M_again_129 : decode b_M_again 129 = .ok (.getfield 59, 3) := by decide +kernel
theorem d_M_again_132 : decode b_M_again 132 = .ok (.if_icmp .ge 84, 3) := by decide +kernel
theorem d_M_again_135 : decode b_M_again 135 = .ok (.aload_n 0, 1) := by decide +kernel
theorem d_M_again_136 : decode b_M_again 136 = .ok (.getfield 7, 3) := by decide +kernel
theorem d_M_again_139 : decode b_M_again 139 = .ok (.iload_n 2, 1) := by decide +kernel
theorem d_M_again_140 : decode b_M_again 140 = .ok (.iaload, 1) := by decide +kernel
theorem d_M_again_141 : decode b_M_again 141 = .ok (.iconst 2, 1) := by decide +kernel
theorem d_M_again_142 : decode b_M_again 142 = .ok (.if_icmp .lt 27, 3) := by decide +kernel
theorem d_M_again_145 : decode b_M_again 145 = .ok (.aload_n 0, 1) := by decide +kernel
theorem d_M_again_146 : decode b_M_again 146 = .ok (.getfield 16, 3) := by decide +kernel
theorem d_M_again_149 : decode b_M_again 149 = .ok (.iload_n 2, 1) := by decide +kernel
theorem d_M_again_150 : decode b_M_again 150 = .ok (.iaload, 1) := by decide +kernel
theorem d_M_again_151 : decode b_M_again 151 = .ok (.iconst 2, 1) := by decide +kernel
theorem d_M_again_152 : decode b_M_again 152 = .ok (.if_icmp .ne 17, 3) := by decide +kernel
theorem d_M_again_155 : decode b_M_again 155 = .ok (.aload_n 0, 1) := by decide +kernel
theorem d_M_again_156 : decode b_M_again 156 = .ok (.getfield 19, 3) := by decide +kernel
theorem d_M_again_159 : decode b_M_again 159 = .ok (.iload_n 2, 1) := by decide +kernel
theorem d_M_again_160 : decode b_M_again 160 = .ok (.iaload, 1) := by decide +kernel
theorem d_M_again_161 : decode b_M_again 161 = .ok (.iconst 2, 1) := by decide +kernel
theorem d_M_again_162 : decode b_M_again 162 = .ok (.if_icmp .eq 7, 3) := by decide +kernel
theorem d_M_again_165 : decode b_M_again 165 = .ok (.iconst 1, 1) := by decide +kernel
theorem d_M_again_166 : decode b_M_again 166 = .ok (.goto 4, 3) := by decide +kernel
theorem d_M_again_169 : decode b_M_again 169 = .ok (.iconst 0, 1) := by decide +kernel
theorem d_M_again_170 : decode b_M_again 170 = .ok (.istore_n 3, 1) := by decide +kernel
theorem d_M_again_171 : decode b_M_again 171 = .ok (.aload_n 0, 1) := by decide +kernel
theorem d_M_again_172 : decode b_M_again 172 = .ok (.getfield 16, 3) := by decide +kernel
theorem d_M_again_175 : decode b_M_again 175 = .ok (.iload_n 2, 1) := by decide +kernel
theorem d_M_again_176 : decode b_M_again 176 = .ok (.iload_n 3, 1) := by decide +kernel
theorem d_M_again_177 : decode b_M_again 177 = .ok (.ifCond .eq 12, 3) := by decide +kernel
theorem d_M_again_180 : decode b_M_again 180 = .ok (.aload_n 0, 1) := by decide +kernel
theorem d_M_again_181 : decode b_M_again 181 = .ok (.getfield 19, 3) := by decide +kernel
theorem d_M_again_184 : decode b_M_again 184 = .ok (.iload_n 2, 1) := by decide +kernel
theorem d_M_again_185 : decode b_M_again 185 = .ok (.iaload, 1) := by decide +kernel
theorem d_M_again_186 : decode b_M_again 186 = .ok (.goto 9, 3) := by decide +kernel
theorem d_M_again_189 : decode b_M_again 189 = .ok (.aload_n 0, 1) := by decide +kernel
theorem d_M_again_190 : decode b_M_again 190 = .ok (.getfield 16, 3) := by decide +kernel
theorem d_M_again_193 : decode b_M_again 193 = .ok (.iload_n 2, 1) := by decide +kernel
theorem d_M_again_194 : decode b_M_again 194 = .ok (.iaload, 1) := by decide +kernel
theorem d_M_again_195 : decode b_M_again 195 = .ok (.iastore, 1) := by decide +kernel
theorem d_M_again_196 : decode b_M_again 196 = .ok (.iload_n 1, 1) := by decide +kernel
theorem d_M_again_197 : decode b_M_again 197 = .ok (.ifCond .ne 7, 3) := by decide +kernel
theorem d_M_again_200 : decode b_M_again 200 = .ok (.iload_n 3, 1) := by decide +kernel
theorem d_M_again_201 : decode b_M_again 201 = .ok (.ifCond .eq 7, 3) := by decide +kernel
theorem d_M_again_204 : decode b_M_again 204 = .ok (.iconst 1, 1) := by decide +kernel
theorem d_M_again_205 : decode b_M_again 205 = .ok (.goto 4, 3) := by decide +kernel
theorem d_M_again_208 : decode b_M_again 208 = .ok (.iconst 0, 1) := by decide +kernel
theorem d_M_again_209 : decode b_M_again 209 = .ok (.istore_n 1, 1) := by decide +kernel
theorem d_M_again_210 : decode b_M_again 210 = .ok (.iinc 2 1, 3) := by decide +kernel
theorem d_M_again_213 : decode b_M_again 213 = .ok (.goto (-86), 3) := by decide +kernel
theorem d_M_again_216 : decode b_M_again 216 = .ok (.iload_n 1, 1) := by decide +kernel
theorem d_M_again_217 : decode b_M_again 217 = .ok (.ireturn, 1) := by decide +kernel
abbrev y_M_work : MethodName := ⟨"StateExplorerModel", "work", "(II)V"⟩
abbrev b_M_work : ByteArray := prog_4_method_12_code
theorem d_M_work_0 : decode b_M_work 0 = .ok (.bipush 16, 2) := by decide +kernel
theorem d_M_work_2 : decode b_M_work 2 = .ok (.iload_n 1, 1) := by decide +kernel
theorem d_M_work_3 : decode b_M_work 3 = .ok (.imul, 1) := by decide +kernel
theorem d_M_work_4 : decode b_M_work 4 = .ok (.iload_n 2, 1) := by decide +kernel
theorem d_M_work_5 : decode b_M_work 5 = .ok (.iadd, 1) := by decide +kernel
theorem d_M_work_6 : decode b_M_work 6 = .ok (.istore_n 3, 1) := by decide +kernel
theorem d_M_work_7 : decode b_M_work 7 = .ok (.iconst 0, 1) := by decide +kernel
theorem d_M_work_8 : decode b_M_work 8 = .ok (.istore 4, 2) := by decide +kernel
theorem d_M_work_10 : decode b_M_work 10 = .ok (.iload 4, 2) := by decide +kernel
theorem d_M_work_12 : decode b_M_work 12 = .ok (.aload_n 0, 1) := by decide +kernel
theorem d_M_work_13 : decode b_M_work 13 = .ok (.getfield 59, 3) := by decide +kernel
theorem d_M_work_16 : decode b_M_work 16 = .ok (.if_icmp .ge 66, 3) := by decide +kernel
theorem d_M_work_19 : decode b_M_work 19 = .ok (.aload_n 0, 1) := by decide +kernel
theorem d_M_work_20 : decode b_M_work 20 = .ok (.getfield 16, 3) := by decide +kernel
theorem d_M_work_23 : decode b_M_work 23 = .ok (.iload 4, 2) := by decide +kernel
theorem d_M_work_25 : decode b_M_work 25 = .ok (.aload_n 0, 1) := by decide +kernel
theorem d_M_work_26 : decode b_M_work 26 = .ok (.getfield 7, 3) := by decide +kernel
theorem d_M_work_29 : decode b_M_work 29 = .ok (.iload 4, 2) := by decide +kernel
theorem d_M_work_31 : decode b_M_work 31 = .ok (.iaload, 1) := by decide +kernel
theorem d_M_work_32 : decode b_M_work 32 = .ok (.ifCond .ne 17, 3) := by decide +kernel
theorem d_M_work_35 : decode b_M_work 35 = .ok (.iload_n 2, 1) := by decide +kernel
theorem d_M_work_36 : decode b_M_work 36 = .ok (.aload_n 0, 1) := by decide +kernel
theorem d_M_work_37 : decode b_M_work 37 = .ok (.getfield 13, 3) := by decide +kernel
theorem d_M_work_40 : decode b_M_work 40 = .ok (.iload 4, 2) := by decide +kernel
theorem d_M_work_42 : decode b_M_work 42 = .ok (.iaload, 1) := by decide +kernel
theorem d_M_work_43 : decode b_M_work 43 = .ok (.ishr, 1) := by decide +kernel
theorem d_M_work_44 : decode b_M_work 44 = .ok (.iconst 1, 1) := by decide +kernel
theorem d_M_work_45 : decode b_M_work 45 = .ok (.iand, 1) := by decide +kernel
theorem d_M_work_46 : decode b_M_work 46 = .ok (.goto 29, 3) := by decide +kernel
theorem d_M_work_49 : decode b_M_work 49 = .ok (.aload_n 0, 1) := by decide +kernel
theorem d_M_work_50 : decode b_M_work 50 = .ok (.getfield 7, 3) := by decide +kernel
theorem d_M_work_53 : decode b_M_work 53 = .ok (.iload 4, 2) := by decide +kernel
theorem d_M_work_55 : decode b_M_work 55 = .ok (.iaload, 1) := by decide +kernel
theorem d_M_work_56 : decode b_M_work 56 = .ok (.iconst 1, 1) := by decide +kernel
theorem d_M_work_57 : decode b_M_work 57 = .ok (.if_icmp .ne 17, 3) := by decide +kernel
theorem d_M_work_60 : decode b_M_work 60 = .ok (.iload_n 1, 1) := by decide +kernel
theorem d_M_work_61 : decode b_M_work 61 = .ok (.aload_n 0, 1) := by decide +kernel
theorem d_M_work_62 : decode b_M_work 62 = .ok (.getfield 13, 3) := by decide +kernel
theorem d_M_work_65 : decode b_M_work 65 = .ok (.iload 4, 2) := by decide +kernel
theorem d_M_work_67 : decode b_M_work 67 = .ok (.iaload, 1) := by decide +kernel
theorem d_M_work_68 : decode b_M_work 68 = .ok (.ishr, 1) := by decide +kernel
theorem d_M_work_69 : decode b_M_work 69 = .ok (.iconst 1, 1) := by decide +kernel
theorem d_M_work_70 : decode b_M_work 70 = .ok (.iand, 1) := by decide +kernel
theorem d_M_work_71 : decode b_M_work 71 = .ok (.goto 4, 3) := by decide +kernel
theorem d_M_work_74 : decode b_M_work 74 = .ok (.iconst 2, 1) := by decide +kernel
theorem d_M_work_75 : decode b_M_work 75 = .ok (.iastore, 1) := by decide +kernel
theorem d_M_work_76 : decode b_M_work 76 = .ok (.iinc 4 1, 3) := by decide +kernel
theorem d_M_work_79 : decode b_M_work 79 = .ok (.goto (-69), 3) := by decide +kernel
theorem d_M_work_82 : decode b_M_work 82 = .ok (.iconst 1, 1) := by decide +kernel
theorem d_M_work_83 : decode b_M_work 83 = .ok (.istore 4, 2) := by decide +kernel
theorem d_M_work_85 : decode b_M_work 85 = .ok (.iload 4, 2) := by decide +kernel
theorem d_M_work_87 : decode b_M_work 87 = .ok (.ifCond .eq 12, 3) := by decide +kernel
theorem d_M_work_90 : decode b_M_work 90 = .ok (.aload_n 0, 1) := by decide +kernel
theorem d_M_work_91 : decode b_M_work 91 = .ok (.invokevirtual 93, 3) := by decide +kernel
theorem d_M_work_94 : decode b_M_work 94 = .ok (.istore 4, 2) := by decide +kernel
theorem d_M_work_96 : decode b_M_work 96 = .ok (.goto (-11), 3) := by decide +kernel
theorem d_M_work_99 : decode b_M_work 99 = .ok (.aload_n 0, 1) := by decide +kernel
theorem d_M_work_100 : decode b_M_work 100 = .ok (.getfield 35, 3) := by decide +kernel
theorem d_M_work_103 : decode b_M_work 103 = .ok (.iload_n 3, 1) := by decide +kernel
theorem d_M_work_104 : decode b_M_work 104 = .ok (.iconst 1, 1) := by decide +kernel
theorem d_M_work_105 : decode b_M_work 105 = .ok (.bastore, 1) := by decide +kernel
theorem d_M_work_106 : decode b_M_work 106 = .ok (.aload_n 0, 1) := by decide +kernel
theorem d_M_work_107 : decode b_M_work 107 = .ok (.getfield 41, 3) := by decide +kernel
theorem d_M_work_110 : decode b_M_work 110 = .ok (.iload_n 3, 1) := by decide +kernel
theorem d_M_work_111 : decode b_M_work 111 = .ok (.lconst 0, 1) := by decide +kernel
theorem d_M_work_112 : decode b_M_work 112 = .ok (.lastore, 1) := by decide +kernel
theorem d_M_work_113 : decode b_M_work 113 = .ok (.iconst 0, 1) := by decide +kernel
theorem d_M_work_114 : decode b_M_work 114 = .ok (.istore 5, 2) := by decide +kernel
theorem d_M_work_116 : decode b_M_work 116 = .ok (.iload 5, 2) := by decide +kernel
theorem d_M_work_118 : decode b_M_work 118 = .ok (.aload_n 0, 1) := by decide +kernel
theorem d_M_work_119 : decode b_M_work 119 = .ok (.getfield 59, 3) := by decide +kernel
theorem d_M_work_122 : decode b_M_work 122 = .ok (.if_icmp .ge 77, 3) := by decide +kernel
theorem d_M_work_125 : decode b_M_work 125 = .ok (.aload_n 0, 1) := by decide +kernel
theorem d_M_work_126 : decode b_M_work 126 = .ok (.getfield 35, 3) := by decide +kernel
theorem d_M_work_129 : decode b_M_work 129 = .ok (.iload_n 3, 1) := by decide +kernel
theorem d_M_work_130 : decode b_M_work 130 = .ok (.aload_n 0, 1) := by decide +kernel
theorem d_M_work_131 : decode b_M_work 131 = .ok (.getfield 35, 3) := by decide +kernel
theorem d_M_work_134 : decode b_M_work 134 = .ok (.iload_n 3, 1) := by decide +kernel
theorem d_M_work_135 : decode b_M_work 135 = .ok (.baload, 1) := by decide +kernel
theorem d_M_work_136 : decode b_M_work 136 = .ok (.ifCond .eq 18, 3) := by decide +kernel
theorem d_M_work_139 : decode b_M_work 139 = .ok (.aload_n 0, 1) := by decide +kernel
theorem d_M_work_140 : decode b_M_work 140 = .ok (.getfield 16, 3) := by decide +kernel
theorem d_M_work_143 : decode b_M_work 143 = .ok (.iload 5, 2) := by decide +kernel
theorem d_M_work_145 : decode b_M_work 145 = .ok (.iaload, 1) := by decide +kernel
theorem d_M_work_146 : decode b_M_work 146 = .ok (.iconst 2, 1) := by decide +kernel
theorem d_M_work_147 : decode b_M_work 147 = .ok (.if_icmp .eq 7, 3) := by decide +kernel
theorem d_M_work_150 : decode b_M_work 150 = .ok (.iconst 1, 1) := by decide +kernel
theorem d_M_work_151 : decode b_M_work 151 = .ok (.goto 4, 3) := by decide +kernel
theorem d_M_work_154 : decode b_M_work 154 = .ok (.iconst 0, 1) := by decide +kernel
theorem d_M_work_155 : decode b_M_work 155 = .ok (.bastore, 1) := by decide +kernel
theorem d_M_work_156 : decode b_M_work 156 = .ok (.aload_n 0, 1) := by decide +kernel
theorem d_M_work_157 : decode b_M_work 157 = .ok (.getfield 41, 3) := by decide +kernel
theorem d_M_work_160 : decode b_M_work 160 = .ok (.iload_n 3, 1) := by decide +kernel
theorem d_M_work_161 : decode b_M_work 161 = .ok (.aload_n 0, 1) := by decide +kernel
theorem d_M_work_162 : decode b_M_work 162 = .ok (.getfield 16, 3) := by decide +kernel
theorem d_M_work_165 : decode b_M_work 165 = .ok (.iload 5, 2) := by decide +kernel
theorem d_M_work_167 : decode b_M_work 167 = .ok (.iaload, 1) := by decide +kernel
theorem d_M_work_168 : decode b_M_work 168 = .ok (.iconst 1, 1) := by decide +kernel
theorem d_M_work_169 : decode b_M_work 169 = .ok (.if_icmp .ne 17, 3) := by decide +kernel
theorem d_M_work_172 : decode b_M_work 172 = .ok (.aload_n 0, 1) := by decide +kernel
theorem d_M_work_173 : decode b_M_work 173 = .ok (.getfield 41, 3) := by decide +kernel
theorem d_M_work_176 : decode b_M_work 176 = .ok (.iload_n 3, 1) := by decide +kernel
theorem d_M_work_177 : decode b_M_work 177 = .ok (.laload, 1) := by decide +kernel
theorem d_M_work_178 : decode b_M_work 178 = .ok (.lconst 1, 1) := by decide +kernel
theorem d_M_work_179 : decode b_M_work 179 = .ok (.iload 5, 2) := by decide +kernel
theorem d_M_work_181 : decode b_M_work 181 = .ok (.lshl, 1) := by decide +kernel
theorem d_M_work_182 : decode b_M_work 182 = .ok (.lor, 1) := by decide +kernel
theorem d_M_work_183 : decode b_M_work 183 = .ok (.goto 9, 3) := by decide +kernel
theorem d_M_work_186 : decode b_M_work 186 = .ok (.aload_n 0, 1) := by decide +kernel
theorem d_M_work_187 : decode b_M_work 187 = .ok (.getfield 41, 3) := by decide +kernel
theorem d_M_work_190 : decode b_M_work 190 = .ok (.iload_n 3, 1) := by decide +kernel
theorem d_M_work_191 : decode b_M_work 191 = .ok (.laload, 1) := by decide +kernel
theorem d_M_work_192 : decode b_M_work 192 = .ok (.lastore, 1) := by decide +kernel
theorem d_M_work_193 : decode b_M_work 193 = .ok (.iinc 5 1, 3) := by decide +kernel
theorem d_M_work_196 : decode b_M_work 196 = .ok (.goto (-80), 3) := by decide +kernel
theorem d_M_work_199 : decode b_M_work 199 = .ok (.aload_n 0, 1) := by decide +kernel
theorem d_M_work_200 : decode b_M_work 200 = .ok (.getfield 38, 3) := by decide +kernel
theorem d_M_work_203 : decode b_M_work 203 = .ok (.iload_n 3, 1) := by decide +kernel
theorem d_M_work_204 : decode b_M_work 204 = .ok (.iload_n 1, 1) := by decide +kernel
theorem d_M_work_205 : decode b_M_work 205 = .ok (.iastore, 1) := by decide +kernel
theorem d_M_work_206 : decode b_M_work 206 = .ok (.iconst 0, 1) := by decide +kernel
theorem d_M_work_207 : decode b_M_work 207 = .ok (.istore 5, 2) := by decide +kernel
theorem d_M_work_209 : decode b_M_work 209 = .ok (.iload 5, 2) := by decide +kernel
theorem d_M_work_211 : decode b_M_work 211 = .ok (.aload_n 0, 1) := by decide +kernel
theorem d_M_work_212 : decode b_M_work 212 = .ok (.getfield 76, 3) := by decide +kernel
theorem d_M_work_215 : decode b_M_work 215 = .ok (.if_icmp .ge 83, 3) := by decide +kernel
theorem d_M_work_218 : decode b_M_work 218 = .ok (.aload_n 0, 1) := by decide +kernel
theorem d_M_work_219 : decode b_M_work 219 = .ok (.getfield 35, 3) := by decide +kernel
theorem d_M_work_222 : decode b_M_work 222 = .ok (.iload_n 3, 1) := by decide +kernel
theorem d_M_work_223 : decode b_M_work 223 = .ok (.baload, 1) := by decide +kernel
theorem d_M_work_224 : decode b_M_work 224 = .ok (.ifCond .eq 74, 3) := by decide +kernel
theorem d_M_work_227 : decode b_M_work 227 = .ok (.aload_n 0, 1) := by decide +kernel
theorem d_M_work_228 : decode b_M_work 228 = .ok (.getfield 7, 3) := by decide +kernel
theorem d_M_work_231 : decode b_M_work 231 = .ok (.aload_n 0, 1) := by decide +kernel
theorem d_M_work_232 : decode b_M_work 232 = .ok (.getfield 22, 3) := by decide +kernel
theorem d_M_work_235 : decode b_M_work 235 = .ok (.iload 5, 2) := by decide +kernel
theorem d_M_work_237 : decode b_M_work 237 = .ok (.iaload, 1) := by decide +kernel
theorem d_M_work_238 : decode b_M_work 238 = .ok (.iaload, 1) := by decide +kernel
theorem d_M_work_239 : decode b_M_work 239 = .ok (.iconst 1, 1) := by decide +kernel
theorem d_M_work_240 : decode b_M_work 240 = .ok (.if_icmp .ne 52, 3) := by decide +kernel
theorem d_M_work_243 : decode b_M_work 243 = .ok (.aload_n 0, 1) := by decide +kernel
theorem d_M_work_244 : decode b_M_work 244 = .ok (.getfield 38, 3) := by decide +kernel
theorem d_M_work_247 : decode b_M_work 247 = .ok (.iload_n 3, 1) := by decide +kernel
theorem d_M_work_248 : decode b_M_work 248 = .ok (.aload_n 0, 1) := by decide +kernel
theorem d_M_work_249 : decode b_M_work 249 = .ok (.getfield 38, 3) := by decide +kernel
theorem d_M_work_252 : decode b_M_work 252 = .ok (.iload_n 3, 1) := by decide +kernel
theorem d_M_work_253 : decode b_M_work 253 = .ok (.iaload, 1) := by decide +kernel
theorem d_M_work_254 : decode b_M_work 254 = .ok (.iconst 1, 1) := by decide +kernel
theorem d_M_work_255 : decode b_M_work 255 = .ok (.aload_n 0, 1) := by decide +kernel
theorem d_M_work_256 : decode b_M_work 256 = .ok (.getfield 13, 3) := by decide +kernel
theorem d_M_work_259 : decode b_M_work 259 = .ok (.aload_n 0, 1) := by decide +kernel
theorem d_M_work_260 : decode b_M_work 260 = .ok (.getfield 22, 3) := by decide +kernel
theorem d_M_work_263 : decode b_M_work 263 = .ok (.iload 5, 2) := by decide +kernel
theorem d_M_work_265 : decode b_M_work 265 = .ok (.iaload, 1) := by decide +kernel
theorem d_M_work_266 : decode b_M_work 266 = .ok (.iaload, 1) := by decide +kernel
theorem d_M_work_267 : decode b_M_work 267 = .ok (.ishl, 1) := by decide +kernel
theorem d_M_work_268 : decode b_M_work 268 = .ok (.iconst (-1), 1) := by decide +kernel
theorem d_M_work_269 : decode b_M_work 269 = .ok (.ixor, 1) := by decide +kernel
theorem d_M_work_270 : decode b_M_work 270 = .ok (.iand, 1) := by decide +kernel
theorem d_M_work_271 : decode b_M_work 271 = .ok (.aload_n 0, 1) := by decide +kernel
theorem d_M_work_272 : decode b_M_work 272 = .ok (.iload 5, 2) := by decide +kernel
theorem d_M_work_274 : decode b_M_work 274 = .ok (.invokevirtual 90, 3) := by decide +kernel
theorem d_M_work_277 : decode b_M_work 277 = .ok (.aload_n 0, 1) := by decide +kernel
theorem d_M_work_278 : decode b_M_work 278 = .ok (.getfield 13, 3) := by decide +kernel
theorem d_M_work_281 : decode b_M_work 281 = .ok (.aload_n 0, 1) := by decide +kernel
theorem d_M_work_282 : decode b_M_work 282 = .ok (.getfield 22, 3) := by decide +kernel
theorem d_M_work_285 : decode b_M_work 285 = .ok (.iload 5, 2) := by decide +kernel
theorem d_M_work_287 : decode b_M_work 287 = .ok (.iaload, 1) := by decide +kernel
theorem d_M_work_288 : decode b_M_work 288 = .ok (.iaload, 1) := by decide +kernel
theorem d_M_work_289 : decode b_M_work 289 = .ok (.ishl, 1) := by decide +kernel
theorem d_M_work_290 : decode b_M_work 290 = .ok (.ior, 1) := by decide +kernel
theorem d_M_work_291 : decode b_M_work 291 = .ok (.iastore, 1) := by decide +kernel
theorem d_M_work_292 : decode b_M_work 292 = .ok (.iinc 5 1, 3) := by decide +kernel
theorem d_M_work_295 : decode b_M_work 295 = .ok (.goto (-86), 3) := by decide +kernel
theorem d_M_work_298 : decode b_M_work 298 = .ok (.return_, 1) := by decide +kernel
abbrev y_M_states : MethodName := ⟨"StateExplorerModel", "states", "()I"⟩
abbrev b_M_states : ByteArray := prog_4_method_13_code
theorem d_M_states_0 : decode b_M_states 0 = .ok (.iconst 1, 1) := by decide +kernel
theorem d_M_states_1 : decode b_M_states 1 = .ok (.aload_n 0, 1) := by decide +kernel
theorem d_M_states_2 : decode b_M_states 2 = .ok (.getfield 69, 3) := by decide +kernel
theorem d_M_states_5 : decode b_M_states 5 = .ok (.ishl, 1) := by decide +kernel
theorem d_M_states_6 : decode b_M_states 6 = .ok (.ireturn, 1) := by decide +kernel
abbrev y_M_choices : MethodName := ⟨"StateExplorerModel", "choices", "()I"⟩
abbrev b_M_choices : ByteArray := prog_4_method_14_code
theorem d_M_choices_0 : decode b_M_choices 0 = .ok (.iconst 1, 1) := by decide +kernel
theorem d_M_choices_1 : decode b_M_choices 1 = .ok (.aload_n 0, 1) := by decide +kernel
theorem d_M_choices_2 : decode b_M_choices 2 = .ok (.getfield 66, 3) := by decide +kernel
theorem d_M_choices_5 : decode b_M_choices 5 = .ok (.ishl, 1) := by decide +kernel
theorem d_M_choices_6 : decode b_M_choices 6 = .ok (.ireturn, 1) := by decide +kernel
abbrev y_M_shows : MethodName := ⟨"StateExplorerModel", "shows", "(III)Z"⟩
abbrev b_M_shows : ByteArray := prog_4_method_17_code
theorem d_M_shows_0 : decode b_M_shows 0 = .ok (.iconst 1, 1) := by decide +kernel
theorem d_M_shows_1 : decode b_M_shows 1 = .ok (.istore 4, 2) := by decide +kernel
theorem d_M_shows_3 : decode b_M_shows 3 = .ok (.iconst 0, 1) := by decide +kernel
theorem d_M_shows_4 : decode b_M_shows 4 = .ok (.istore 5, 2) := by decide +kernel
theorem d_M_shows_6 : decode b_M_shows 6 = .ok (.iload 5, 2) := by decide +kernel
theorem d_M_shows_8 : decode b_M_shows 8 = .ok (.aload_n 0, 1) := by decide +kernel
theorem d_M_shows_9 : decode b_M_shows 9 = .ok (.getfield 87, 3) := by decide +kernel
theorem d_M_shows_12 : decode b_M_shows 12 = .ok (.if_icmp .ge 67, 3) := by decide +kernel
theorem d_M_shows_15 : decode b_M_shows 15 = .ok (.iload 4, 2) := by decide +kernel
theorem d_M_shows_17 : decode b_M_shows 17 = .ok (.ifCond .eq 53, 3) := by decide +kernel
theorem d_M_shows_20 : decode b_M_shows 20 = .ok (.aload_n 0, 1) := by decide +kernel
theorem d_M_shows_21 : decode b_M_shows 21 = .ok (.getfield 41, 3) := by decide +kernel
theorem d_M_shows_24 : decode b_M_shows 24 = .ok (.bipush 16, 2) := by decide +kernel
theorem d_M_shows_26 : decode b_M_shows 26 = .ok (.iload_n 1, 1) := by decide +kernel
theorem d_M_shows_27 : decode b_M_shows 27 = .ok (.imul, 1) := by decide +kernel
theorem d_M_shows_28 : decode b_M_shows 28 = .ok (.iload_n 3, 1) := by decide +kernel
theorem d_M_shows_29 : decode b_M_shows 29 = .ok (.iadd, 1) := by decide +kernel
theorem d_M_shows_30 : decode b_M_shows 30 = .ok (.laload, 1) := by decide +kernel
theorem d_M_shows_31 : decode b_M_shows 31 = .ok (.aload_n 0, 1) := by decide +kernel
theorem d_M_shows_32 : decode b_M_shows 32 = .ok (.getfield 28, 3) := by decide +kernel
theorem d_M_shows_35 : decode b_M_shows 35 = .ok (.iload 5, 2) := by decide +kernel
theorem d_M_shows_37 : decode b_M_shows 37 = .ok (.iaload, 1) := by decide +kernel
theorem d_M_shows_38 : decode b_M_shows 38 = .ok (.lshr, 1) := by decide +kernel
theorem d_M_shows_39 : decode b_M_shows 39 = .ok (.lconst 1, 1) := by decide +kernel
theorem d_M_shows_40 : decode b_M_shows 40 = .ok (.land, 1) := by decide +kernel
theorem d_M_shows_41 : decode b_M_shows 41 = .ok (.aload_n 0, 1) := by decide +kernel
theorem d_M_shows_42 : decode b_M_shows 42 = .ok (.getfield 41, 3) := by decide +kernel
theorem d_M_shows_45 : decode b_M_shows 45 = .ok (.bipush 16, 2) := by decide +kernel
theorem d_M_shows_47 : decode b_M_shows 47 = .ok (.iload_n 2, 1) := by decide +kernel
theorem d_M_shows_48 : decode b_M_shows 48 = .ok (.imul, 1) := by decide +kernel
theorem d_M_shows_49 : decode b_M_shows 49 = .ok (.iload_n 3, 1) := by decide +kernel
theorem d_M_shows_50 : decode b_M_shows 50 = .ok (.iadd, 1) := by decide +kernel
theorem d_M_shows_51 : decode b_M_shows 51 = .ok (.laload, 1) := by decide +kernel
theorem d_M_shows_52 : decode b_M_shows 52 = .ok (.aload_n 0, 1) := by decide +kernel
theorem d_M_shows_53 : decode b_M_shows 53 = .ok (.getfield 28, 3) := by decide +kernel
theorem d_M_shows_56 : decode b_M_shows 56 = .ok (.iload 5, 2) := by decide +kernel
theorem d_M_shows_58 : decode b_M_shows 58 = .ok (.iaload, 1) := by decide +kernel
theorem d_M_shows_59 : decode b_M_shows 59 = .ok (.lshr, 1) := by decide +kernel
theorem d_M_shows_60 : decode b_M_shows 60 = .ok (.lconst 1, 1) := by decide +kernel
theorem d_M_shows_61 : decode b_M_shows 61 = .ok (.land, 1) := by decide +kernel
theorem d_M_shows_62 : decode b_M_shows 62 = .ok (.lcmp, 1) := by decide +kernel
theorem d_M_shows_63 : decode b_M_shows 63 = .ok (.ifCond .ne 7, 3) := by decide +kernel
theorem d_M_shows_66 : decode b_M_shows 66 = .ok (.iconst 1, 1) := by decide +kernel
theorem d_M_shows_67 : decode b_M_shows 67 = .ok (.goto 4, 3) := by decide +kernel
theorem d_M_shows_70 : decode b_M_shows 70 = .ok (.iconst 0, 1) := by decide +kernel
theorem d_M_shows_71 : decode b_M_shows 71 = .ok (.istore 4, 2) := by decide +kernel
theorem d_M_shows_73 : decode b_M_shows 73 = .ok (.iinc 5 1, 3) := by decide +kernel
theorem d_M_shows_76 : decode b_M_shows 76 = .ok (.goto (-70), 3) := by decide +kernel
theorem d_M_shows_79 : decode b_M_shows 79 = .ok (.iload 4, 2) := by decide +kernel
theorem d_M_shows_81 : decode b_M_shows 81 = .ok (.ireturn, 1) := by decide +kernel
abbrev y_M_differ : MethodName := ⟨"StateExplorerModel", "differ", "(II)Z"⟩
abbrev b_M_differ : ByteArray := prog_4_method_18_code
theorem d_M_differ_0 : decode b_M_differ 0 = .ok (.iconst 0, 1) := by decide +kernel
theorem d_M_differ_1 : decode b_M_differ 1 = .ok (.istore_n 3, 1) := by decide +kernel
theorem d_M_differ_2 : decode b_M_differ 2 = .ok (.iconst 0, 1) := by decide +kernel
theorem d_M_differ_3 : decode b_M_differ 3 = .ok (.istore 4, 2) := by decide +kernel
theorem d_M_differ_5 : decode b_M_differ 5 = .ok (.iload 4, 2) := by decide +kernel
theorem d_M_differ_7 : decode b_M_differ 7 = .ok (.aload_n 0, 1) := by decide +kernel
theorem d_M_differ_8 : decode b_M_differ 8 = .ok (.invokevirtual 101, 3) := by decide +kernel
theorem d_M_differ_11 : decode b_M_differ 11 = .ok (.if_icmp .ge 102, 3) := by decide +kernel
theorem d_M_differ_14 : decode b_M_differ 14 = .ok (.bipush 16, 2) := by decide +kernel
theorem d_M_differ_16 : decode b_M_differ 16 = .ok (.iload_n 1, 1) := by decide +kernel
theorem d_M_differ_17 : decode b_M_differ 17 = .ok (.imul, 1) := by decide +kernel
theorem d_M_differ_18 : decode b_M_differ 18 = .ok (.iload 4, 2) := by decide +kernel
theorem d_M_differ_20 : decode b_M_differ 20 = .ok (.iadd, 1) := by decide +kernel
theorem d_M_differ_21 : decode b_M_differ 21 = .ok (.istore 5, 2) := by decide +kernel
theorem d_M_differ_23 : decode b_M_differ 23 = .ok (.bipush 16, 2) := by decide +kernel
theorem d_M_differ_25 : decode b_M_differ 25 = .ok (.iload_n 2, 1) := by decide +kernel
theorem d_M_differ_26 : decode b_M_differ 26 = .ok (.imul, 1) := by decide +kernel
theorem d_M_differ_27 : decode b_M_differ 27 = .ok (.iload 4, 2) := by decide +kernel
theorem d_M_differ_29 : decode b_M_differ 29 = .ok (.iadd, 1) := by decide +kernel
theorem d_M_differ_30 : decode b_M_differ 30 = .ok (.istore 6, 2) := by decide +kernel
theorem d_M_differ_32 : decode b_M_differ 32 = .ok (.iload_n 3, 1) := by decide +kernel
theorem d_M_differ_33 : decode b_M_differ 33 = .ok (.ifCond .ne 68, 3) := by decide +kernel
theorem d_M_differ_36 : decode b_M_differ 36 = .ok (.aload_n 0, 1) := by decide +kernel
theorem d_M_differ_37 : decode b_M_differ 37 = .ok (.getfield 35, 3) := by decide +kernel
theorem d_M_differ_40 : decode b_M_differ 40 = .ok (.iload 5, 2) := by decide +kernel
theorem d_M_differ_42 : decode b_M_differ 42 = .ok (.baload, 1) := by decide +kernel
theorem d_M_differ_43 : decode b_M_differ 43 = .ok (.aload_n 0, 1) := by decide +kernel
theorem d_M_differ_44 : decode b_M_differ 44 = .ok (.getfield 35, 3) := by decide +kernel
theorem d_M_differ_47 : decode b_M_differ 47 = .ok (.iload 6, 2) := by decide +kernel
theorem d_M_differ_49 : decode b_M_differ 49 = .ok (.baload, 1) := by decide +kernel
theorem d_M_differ_50 : decode b_M_differ 50 = .ok (.if_icmp .ne 51, 3) := by decide +kernel
theorem d_M_differ_53 : decode b_M_differ 53 = .ok (.aload_n 0, 1) := by decide +kernel
theorem d_M_differ_54 : decode b_M_differ 54 = .ok (.getfield 35, 3) := by decide +kernel
theorem d_M_differ_57 : decode b_M_differ 57 = .ok (.iload 5, 2) := by decide +kernel
theorem d_M_differ_59 : decode b_M_differ 59 = .ok (.baload, 1) := by decide +kernel
theorem d_M_differ_60 : decode b_M_differ 60 = .ok (.ifCond .eq 45, 3) := by decide +kernel
theorem d_M_differ_63 : decode b_M_differ 63 = .ok (.aload_n 0, 1) := by decide +kernel
theorem d_M_differ_64 : decode b_M_differ 64 = .ok (.iload_n 1, 1) := by decide +kernel
theorem d_M_differ_65 : decode b_M_differ 65 = .ok (.iload_n 2, 1) := by decide +kernel
theorem d_M_differ_66 : decode b_M_differ 66 = .ok (.iload 4, 2) := by decide +kernel
theorem d_M_differ_68 : decode b_M_differ 68 = .ok (.invokevirtual 114, 3) := by decide +kernel
theorem d_M_differ_71 : decode b_M_differ 71 = .ok (.ifCond .eq 30, 3) := by decide +kernel
theorem d_M_differ_74 : decode b_M_differ 74 = .ok (.aload_n 0, 1) := by decide +kernel
theorem d_M_differ_75 : decode b_M_differ 75 = .ok (.getfield 49, 3) := by decide +kernel
theorem d_M_differ_78 : decode b_M_differ 78 = .ok (.sipush 256, 3) := by decide +kernel
theorem d_M_differ_81 : decode b_M_differ 81 = .ok (.aload_n 0, 1) := by decide +kernel
theorem d_M_differ_82 : decode b_M_differ 82 = .ok (.getfield 38, 3) := by decide +kernel
theorem d_M_differ_85 : decode b_M_differ 85 = .ok (.iload 5, 2) := by decide +kernel
theorem d_M_differ_87 : decode b_M_differ 87 = .ok (.iaload, 1) := by decide +kernel
theorem d_M_differ_88 : decode b_M_differ 88 = .ok (.imul, 1) := by decide +kernel
theorem d_M_differ_89 : decode b_M_differ 89 = .ok (.aload_n 0, 1) := by decide +kernel
theorem d_M_differ_90 : decode b_M_differ 90 = .ok (.getfield 38, 3) := by decide +kernel
theorem d_M_differ_93 : decode b_M_differ 93 = .ok (.iload 6, 2) := by decide +kernel
theorem d_M_differ_95 : decode b_M_differ 95 = .ok (.iaload, 1) := by decide +kernel
theorem d_M_differ_96 : decode b_M_differ 96 = .ok (.iadd, 1) := by decide +kernel
theorem d_M_differ_97 : decode b_M_differ 97 = .ok (.baload, 1) := by decide +kernel
theorem d_M_differ_98 : decode b_M_differ 98 = .ok (.ifCond .eq 7, 3) := by decide +kernel
theorem d_M_differ_101 : decode b_M_differ 101 = .ok (.iconst 1, 1) := by decide +kernel
theorem d_M_differ_102 : decode b_M_differ 102 = .ok (.goto 4, 3) := by decide +kernel
theorem d_M_differ_105 : decode b_M_differ 105 = .ok (.iconst 0, 1) := by decide +kernel
theorem d_M_differ_106 : decode b_M_differ 106 = .ok (.istore_n 3, 1) := by decide +kernel
theorem d_M_differ_107 : decode b_M_differ 107 = .ok (.iinc 4 1, 3) := by decide +kernel
theorem d_M_differ_110 : decode b_M_differ 110 = .ok (.goto (-105), 3) := by decide +kernel
theorem d_M_differ_113 : decode b_M_differ 113 = .ok (.iload_n 3, 1) := by decide +kernel
theorem d_M_differ_114 : decode b_M_differ 114 = .ok (.ireturn, 1) := by decide +kernel
abbrev y_M_tell : MethodName := ⟨"StateExplorerModel", "tell", "()V"⟩
abbrev b_M_tell : ByteArray := prog_4_method_19_code
theorem d_M_tell_0 : decode b_M_tell 0 = .ok (.iconst 0, 1) := by decide +kernel
theorem d_M_tell_1 : decode b_M_tell 1 = .ok (.istore_n 1, 1) := by decide +kernel
theorem d_M_tell_2 : decode b_M_tell 2 = .ok (.iload_n 1, 1) := by decide +kernel
theorem d_M_tell_3 : decode b_M_tell 3 = .ok (.ldc 48, 2) := by decide +kernel
theorem d_M_tell_5 : decode b_M_tell 5 = .ok (.if_icmp .ge 16, 3) := by decide +kernel
theorem d_M_tell_8 : decode b_M_tell 8 = .ok (.aload_n 0, 1) := by decide +kernel
theorem d_M_tell_9 : decode b_M_tell 9 = .ok (.getfield 49, 3) := by decide +kernel
theorem d_M_tell_12 : decode b_M_tell 12 = .ok (.iload_n 1, 1) := by decide +kernel
theorem d_M_tell_13 : decode b_M_tell 13 = .ok (.iconst 0, 1) := by decide +kernel
theorem d_M_tell_14 : decode b_M_tell 14 = .ok (.bastore, 1) := by decide +kernel
theorem d_M_tell_15 : decode b_M_tell 15 = .ok (.iinc 1 1, 3) := by decide +kernel
theorem d_M_tell_18 : decode b_M_tell 18 = .ok (.goto (-16), 3) := by decide +kernel
theorem d_M_tell_21 : decode b_M_tell 21 = .ok (.iconst 1, 1) := by decide +kernel
theorem d_M_tell_22 : decode b_M_tell 22 = .ok (.istore_n 1, 1) := by decide +kernel
theorem d_M_tell_23 : decode b_M_tell 23 = .ok (.iload_n 1, 1) := by decide +kernel
theorem d_M_tell_24 : decode b_M_tell 24 = .ok (.ifCond .eq 110, 3) := by decide +kernel
theorem d_M_tell_27 : decode b_M_tell 27 = .ok (.iconst 0, 1) := by decide +kernel
theorem d_M_tell_28 : decode b_M_tell 28 = .ok (.istore_n 1, 1) := by decide +kernel
theorem d_M_tell_29 : decode b_M_tell 29 = .ok (.iconst 0, 1) := by decide +kernel
theorem d_M_tell_30 : decode b_M_tell 30 = .ok (.istore_n 2, 1) := by decide +kernel
theorem d_M_tell_31 : decode b_M_tell 31 = .ok (.iload_n 2, 1) := by decide +kernel
theorem d_M_tell_32 : decode b_M_tell 32 = .ok (.aload_n 0, 1) := by decide +kernel
theorem d_M_tell_33 : decode b_M_tell 33 = .ok (.invokevirtual 97, 3) := by decide +kernel
theorem d_M_tell_36 : decode b_M_tell 36 = .ok (.if_icmp .ge 95, 3) := by decide +kernel
theorem d_M_tell_39 : decode b_M_tell 39 = .ok (.iconst 0, 1) := by decide +kernel
theorem d_M_tell_40 : decode b_M_tell 40 = .ok (.istore_n 3, 1) := by decide +kernel
theorem d_M_tell_41 : decode b_M_tell 41 = .ok (.iload_n 3, 1) := by decide +kernel
theorem d_M_tell_42 : decode b_M_tell 42 = .ok (.iload_n 2, 1) := by decide +kernel
theorem d_M_tell_43 : decode b_M_tell 43 = .ok (.if_icmp .ge 82, 3) := by decide +kernel
theorem d_M_tell_46 : decode b_M_tell 46 = .ok (.aload_n 0, 1) := by decide +kernel
theorem d_M_tell_47 : decode b_M_tell 47 = .ok (.getfield 45, 3) := by decide +kernel
theorem d_M_tell_50 : decode b_M_tell 50 = .ok (.iload_n 2, 1) := by decide +kernel
theorem d_M_tell_51 : decode b_M_tell 51 = .ok (.iaload, 1) := by decide +kernel
theorem d_M_tell_52 : decode b_M_tell 52 = .ok (.ifCond .lt 67, 3) := by decide +kernel
theorem d_M_tell_55 : decode b_M_tell 55 = .ok (.aload_n 0, 1) := by decide +kernel
theorem d_M_tell_56 : decode b_M_tell 56 = .ok (.getfield 45, 3) := by decide +kernel
theorem d_M_tell_59 : decode b_M_tell 59 = .ok (.iload_n 3, 1) := by decide +kernel
theorem d_M_tell_60 : decode b_M_tell 60 = .ok (.iaload, 1) := by decide +kernel
theorem d_M_tell_61 : decode b_M_tell 61 = .ok (.ifCond .lt 58, 3) := by decide +kernel
theorem d_M_tell_64 : decode b_M_tell 64 = .ok (.aload_n 0, 1) := by decide +kernel
theorem d_M_tell_65 : decode b_M_tell 65 = .ok (.getfield 49, 3) := by decide +kernel
theorem d_M_tell_68 : decode b_M_tell 68 = .ok (.sipush 256, 3) := by decide +kernel
theorem d_M_tell_71 : decode b_M_tell 71 = .ok (.iload_n 2, 1) := by decide +kernel
theorem d_M_tell_72 : decode b_M_tell 72 = .ok (.imul, 1) := by decide +kernel
theorem d_M_tell_73 : decode b_M_tell 73 = .ok (.iload_n 3, 1) := by decide +kernel
theorem d_M_tell_74 : decode b_M_tell 74 = .ok (.iadd, 1) := by decide +kernel
theorem d_M_tell_75 : decode b_M_tell 75 = .ok (.baload, 1) := by decide +kernel
theorem d_M_tell_76 : decode b_M_tell 76 = .ok (.ifCond .ne 43, 3) := by decide +kernel
theorem d_M_tell_79 : decode b_M_tell 79 = .ok (.aload_n 0, 1) := by decide +kernel
theorem d_M_tell_80 : decode b_M_tell 80 = .ok (.iload_n 2, 1) := by decide +kernel
theorem d_M_tell_81 : decode b_M_tell 81 = .ok (.iload_n 3, 1) := by decide +kernel
theorem d_M_tell_82 : decode b_M_tell 82 = .ok (.invokevirtual 118, 3) := by decide +kernel
theorem d_M_tell_85 : decode b_M_tell 85 = .ok (.ifCond .ne 6, 3) := by decide +kernel
theorem d_M_tell_88 : decode b_M_tell 88 = .ok (.goto 31, 3) := by decide +kernel
theorem d_M_tell_91 : decode b_M_tell 91 = .ok (.aload_n 0, 1) := by decide +kernel
theorem d_M_tell_92 : decode b_M_tell 92 = .ok (.getfield 49, 3) := by decide +kernel
theorem d_M_tell_95 : decode b_M_tell 95 = .ok (.sipush 256, 3) := by decide +kernel
theorem d_M_tell_98 : decode b_M_tell 98 = .ok (.iload_n 2, 1) := by decide +kernel
theorem d_M_tell_99 : decode b_M_tell 99 = .ok (.imul, 1) := by decide +kernel
theorem d_M_tell_100 : decode b_M_tell 100 = .ok (.iload_n 3, 1) := by decide +kernel
theorem d_M_tell_101 : decode b_M_tell 101 = .ok (.iadd, 1) := by decide +kernel
theorem d_M_tell_102 : decode b_M_tell 102 = .ok (.iconst 1, 1) := by decide +kernel
theorem d_M_tell_103 : decode b_M_tell 103 = .ok (.bastore, 1) := by decide +kernel
theorem d_M_tell_104 : decode b_M_tell 104 = .ok (.aload_n 0, 1) := by decide +kernel
theorem d_M_tell_105 : decode b_M_tell 105 = .ok (.getfield 49, 3) := by decide +kernel
theorem d_M_tell_108 : decode b_M_tell 108 = .ok (.sipush 256, 3) := by decide +kernel
theorem d_M_tell_111 : decode b_M_tell 111 = .ok (.iload_n 3, 1) := by decide +kernel
theorem d_M_tell_112 : decode b_M_tell 112 = .ok (.imul, 1) := by decide +kernel
theorem d_M_tell_113 : decode b_M_tell 113 = .ok (.iload_n 2, 1) := by decide +kernel
theorem d_M_tell_114 : decode b_M_tell 114 = .ok (.iadd, 1) := by decide +kernel
theorem d_M_tell_115 : decode b_M_tell 115 = .ok (.iconst 1, 1) := by decide +kernel
theorem d_M_tell_116 : decode b_M_tell 116 = .ok (.bastore, 1) := by decide +kernel
theorem d_M_tell_117 : decode b_M_tell 117 = .ok (.iconst 1, 1) := by decide +kernel
theorem d_M_tell_118 : decode b_M_tell 118 = .ok (.istore_n 1, 1) := by decide +kernel
theorem d_M_tell_119 : decode b_M_tell 119 = .ok (.iinc 3 1, 3) := by decide +kernel
theorem d_M_tell_122 : decode b_M_tell 122 = .ok (.goto (-81), 3) := by decide +kernel
theorem d_M_tell_125 : decode b_M_tell 125 = .ok (.iinc 2 1, 3) := by decide +kernel
theorem d_M_tell_128 : decode b_M_tell 128 = .ok (.goto (-97), 3) := by decide +kernel
theorem d_M_tell_131 : decode b_M_tell 131 = .ok (.goto (-108), 3) := by decide +kernel
theorem d_M_tell_134 : decode b_M_tell 134 = .ok (.return_, 1) := by decide +kernel
abbrev y_M_reached : MethodName := ⟨"StateExplorerModel", "reached", "()I"⟩
abbrev b_M_reached : ByteArray := prog_4_method_16_code
theorem d_M_reached_0 : decode b_M_reached 0 = .ok (.iconst 0, 1) := by decide +kernel
theorem d_M_reached_1 : decode b_M_reached 1 = .ok (.istore_n 1, 1) := by decide +kernel
theorem d_M_reached_2 : decode b_M_reached 2 = .ok (.iconst 0, 1) := by decide +kernel
theorem d_M_reached_3 : decode b_M_reached 3 = .ok (.istore_n 2, 1) := by decide +kernel
theorem d_M_reached_4 : decode b_M_reached 4 = .ok (.iload_n 2, 1) := by decide +kernel
theorem d_M_reached_5 : decode b_M_reached 5 = .ok (.aload_n 0, 1) := by decide +kernel
theorem d_M_reached_6 : decode b_M_reached 6 = .ok (.invokevirtual 97, 3) := by decide +kernel
theorem d_M_reached_9 : decode b_M_reached 9 = .ok (.if_icmp .ge 26, 3) := by decide +kernel
theorem d_M_reached_12 : decode b_M_reached 12 = .ok (.aload_n 0, 1) := by decide +kernel
theorem d_M_reached_13 : decode b_M_reached 13 = .ok (.getfield 45, 3) := by decide +kernel
theorem d_M_reached_16 : decode b_M_reached 16 = .ok (.iload_n 2, 1) := by decide +kernel
theorem d_M_reached_17 : decode b_M_reached 17 = .ok (.iaload, 1) := by decide +kernel
theorem d_M_reached_18 : decode b_M_reached 18 = .ok (.ifCond .lt 9, 3) := by decide +kernel
theorem d_M_reached_21 : decode b_M_reached 21 = .ok (.iload_n 1, 1) := by decide +kernel
theorem d_M_reached_22 : decode b_M_reached 22 = .ok (.iconst 1, 1) := by decide +kernel
theorem d_M_reached_23 : decode b_M_reached 23 = .ok (.iadd, 1) := by decide +kernel
theorem d_M_reached_24 : decode b_M_reached 24 = .ok (.goto 4, 3) := by decide +kernel
theorem d_M_reached_27 : decode b_M_reached 27 = .ok (.iload_n 1, 1) := by decide +kernel
theorem d_M_reached_28 : decode b_M_reached 28 = .ok (.istore_n 1, 1) := by decide +kernel
theorem d_M_reached_29 : decode b_M_reached 29 = .ok (.iinc 2 1, 3) := by decide +kernel
theorem d_M_reached_32 : decode b_M_reached 32 = .ok (.goto (-28), 3) := by decide +kernel
theorem d_M_reached_35 : decode b_M_reached 35 = .ok (.iload_n 1, 1) := by decide +kernel
theorem d_M_reached_36 : decode b_M_reached 36 = .ok (.ireturn, 1) := by decide +kernel
abbrev y_M_explore : MethodName := ⟨"StateExplorerModel", "explore", "()I"⟩
abbrev b_M_explore : ByteArray := prog_4_method_15_code
theorem d_M_explore_0 : decode b_M_explore 0 = .ok (.aload_n 0, 1) := by decide +kernel
theorem d_M_explore_1 : decode b_M_explore 1 = .ok (.iconst 0, 1) := by decide +kernel
theorem d_M_explore_2 : decode b_M_explore 2 = .ok (.putfield 55, 3) := by decide +kernel
theorem d_M_explore_5 : decode b_M_explore 5 = .ok (.iconst 0, 1) := by decide +kernel
theorem d_M_explore_6 : decode b_M_explore 6 = .ok (.istore_n 1, 1) := by decide +kernel
theorem d_M_explore_7 : decode b_M_explore 7 = .ok (.iload_n 1, 1) := by decide +kernel
theorem d_M_explore_8 : decode b_M_explore 8 = .ok (.aload_n 0, 1) := by decide +kernel
theorem d_M_explore_9 : decode b_M_explore 9 = .ok (.invokevirtual 97, 3) := by decide +kernel
theorem d_M_explore_12 : decode b_M_explore 12 = .ok (.if_icmp .ge 46, 3) := by decide +kernel
theorem d_M_explore_15 : decode b_M_explore 15 = .ok (.aload_n 0, 1) := by decide +kernel
theorem d_M_explore_16 : decode b_M_explore 16 = .ok (.getfield 45, 3) := by decide +kernel
theorem d_M_explore_19 : decode b_M_explore 19 = .ok (.iload_n 1, 1) := by decide +kernel
theorem d_M_explore_20 : decode b_M_explore 20 = .ok (.iload_n 1, 1) := by decide +kernel
theorem d_M_explore_21 : decode b_M_explore 21 = .ok (.ifCond .ne 7, 3) := by decide +kernel
theorem d_M_explore_24 : decode b_M_explore 24 = .ok (.iconst 0, 1) := by decide +kernel
theorem d_M_explore_25 : decode b_M_explore 25 = .ok (.goto 4, 3) := by decide +kernel
theorem d_M_explore_28 : decode b_M_explore 28 = .ok (.iconst (-1), 1) := by decide +kernel
theorem d_M_explore_29 : decode b_M_explore 29 = .ok (.iastore, 1) := by decide +kernel
theorem d_M_explore_30 : decode b_M_explore 30 = .ok (.iconst 0, 1) := by decide +kernel
theorem d_M_explore_31 : decode b_M_explore 31 = .ok (.istore_n 2, 1) := by decide +kernel
theorem d_M_explore_32 : decode b_M_explore 32 = .ok (.iload_n 2, 1) := by decide +kernel
theorem d_M_explore_33 : decode b_M_explore 33 = .ok (.aload_n 0, 1) := by decide +kernel
theorem d_M_explore_34 : decode b_M_explore 34 = .ok (.invokevirtual 101, 3) := by decide +kernel
theorem d_M_explore_37 : decode b_M_explore 37 = .ok (.if_icmp .ge 15, 3) := by decide +kernel
theorem d_M_explore_40 : decode b_M_explore 40 = .ok (.aload_n 0, 1) := by decide +kernel
theorem d_M_explore_41 : decode b_M_explore 41 = .ok (.iload_n 1, 1) := by decide +kernel
theorem d_M_explore_42 : decode b_M_explore 42 = .ok (.iload_n 2, 1) := by decide +kernel
theorem d_M_explore_43 : decode b_M_explore 43 = .ok (.invokevirtual 104, 3) := by decide +kernel
theorem d_M_explore_46 : decode b_M_explore 46 = .ok (.iinc 2 1, 3) := by decide +kernel
theorem d_M_explore_49 : decode b_M_explore 49 = .ok (.goto (-17), 3) := by decide +kernel
theorem d_M_explore_52 : decode b_M_explore 52 = .ok (.iinc 1 1, 3) := by decide +kernel
theorem d_M_explore_55 : decode b_M_explore 55 = .ok (.goto (-48), 3) := by decide +kernel
theorem d_M_explore_58 : decode b_M_explore 58 = .ok (.iconst 1, 1) := by decide +kernel
theorem d_M_explore_59 : decode b_M_explore 59 = .ok (.istore_n 1, 1) := by decide +kernel
theorem d_M_explore_60 : decode b_M_explore 60 = .ok (.iconst 0, 1) := by decide +kernel
theorem d_M_explore_61 : decode b_M_explore 61 = .ok (.istore_n 2, 1) := by decide +kernel
theorem d_M_explore_62 : decode b_M_explore 62 = .ok (.iload_n 1, 1) := by decide +kernel
theorem d_M_explore_63 : decode b_M_explore 63 = .ok (.ifCond .eq 110, 3) := by decide +kernel
theorem d_M_explore_66 : decode b_M_explore 66 = .ok (.iconst 0, 1) := by decide +kernel
theorem d_M_explore_67 : decode b_M_explore 67 = .ok (.istore_n 1, 1) := by decide +kernel
theorem d_M_explore_68 : decode b_M_explore 68 = .ok (.iconst 0, 1) := by decide +kernel
theorem d_M_explore_69 : decode b_M_explore 69 = .ok (.istore_n 3, 1) := by decide +kernel
theorem d_M_explore_70 : decode b_M_explore 70 = .ok (.iload_n 3, 1) := by decide +kernel
theorem d_M_explore_71 : decode b_M_explore 71 = .ok (.aload_n 0, 1) := by decide +kernel
theorem d_M_explore_72 : decode b_M_explore 72 = .ok (.invokevirtual 97, 3) := by decide +kernel
theorem d_M_explore_75 : decode b_M_explore 75 = .ok (.if_icmp .ge 92, 3) := by decide +kernel
theorem d_M_explore_78 : decode b_M_explore 78 = .ok (.iconst 0, 1) := by decide +kernel
theorem d_M_explore_79 : decode b_M_explore 79 = .ok (.istore 4, 2) := by decide +kernel
theorem d_M_explore_81 : decode b_M_explore 81 = .ok (.iload 4, 2) := by decide +kernel
theorem d_M_explore_83 : decode b_M_explore 83 = .ok (.aload_n 0, 1) := by decide +kernel
theorem d_M_explore_84 : decode b_M_explore 84 = .ok (.invokevirtual 101, 3) := by decide +kernel
theorem d_M_explore_87 : decode b_M_explore 87 = .ok (.if_icmp .ge 74, 3) := by decide +kernel
theorem d_M_explore_90 : decode b_M_explore 90 = .ok (.aload_n 0, 1) := by decide +kernel
theorem d_M_explore_91 : decode b_M_explore 91 = .ok (.getfield 45, 3) := by decide +kernel
theorem d_M_explore_94 : decode b_M_explore 94 = .ok (.iload_n 3, 1) := by decide +kernel
theorem d_M_explore_95 : decode b_M_explore 95 = .ok (.iaload, 1) := by decide +kernel
theorem d_M_explore_96 : decode b_M_explore 96 = .ok (.iload_n 2, 1) := by decide +kernel
theorem d_M_explore_97 : decode b_M_explore 97 = .ok (.if_icmp .ne 64, 3) := by decide +kernel
theorem d_M_explore_100 : decode b_M_explore 100 = .ok (.aload_n 0, 1) := by decide +kernel
theorem d_M_explore_101 : decode b_M_explore 101 = .ok (.getfield 38, 3) := by decide +kernel
theorem d_M_explore_104 : decode b_M_explore 104 = .ok (.bipush 16, 2) := by decide +kernel
theorem d_M_explore_106 : decode b_M_explore 106 = .ok (.iload_n 3, 1) := by decide +kernel
theorem d_M_explore_107 : decode b_M_explore 107 = .ok (.imul, 1) := by decide +kernel
theorem d_M_explore_108 : decode b_M_explore 108 = .ok (.iload 4, 2) := by decide +kernel
theorem d_M_explore_110 : decode b_M_explore 110 = .ok (.iadd, 1) := by decide +kernel
theorem d_M_explore_111 : decode b_M_explore 111 = .ok (.iaload, 1) := by decide +kernel
theorem d_M_explore_112 : decode b_M_explore 112 = .ok (.istore 5, 2) := by decide +kernel
theorem d_M_explore_114 : decode b_M_explore 114 = .ok (.aload_n 0, 1) := by decide +kernel
theorem d_M_explore_115 : decode b_M_explore 115 = .ok (.getfield 35, 3) := by decide +kernel
theorem d_M_explore_118 : decode b_M_explore 118 = .ok (.bipush 16, 2) := by decide +kernel
theorem d_M_explore_120 : decode b_M_explore 120 = .ok (.iload_n 3, 1) := by decide +kernel
theorem d_M_explore_121 : decode b_M_explore 121 = .ok (.imul, 1) := by decide +kernel
theorem d_M_explore_122 : decode b_M_explore 122 = .ok (.iload 4, 2) := by decide +kernel
theorem d_M_explore_124 : decode b_M_explore 124 = .ok (.iadd, 1) := by decide +kernel
theorem d_M_explore_125 : decode b_M_explore 125 = .ok (.baload, 1) := by decide +kernel
theorem d_M_explore_126 : decode b_M_explore 126 = .ok (.ifCond .eq 29, 3) := by decide +kernel
theorem d_M_explore_129 : decode b_M_explore 129 = .ok (.aload_n 0, 1) := by decide +kernel
theorem d_M_explore_130 : decode b_M_explore 130 = .ok (.getfield 45, 3) := by decide +kernel
theorem d_M_explore_133 : decode b_M_explore 133 = .ok (.iload 5, 2) := by decide +kernel
theorem d_M_explore_135 : decode b_M_explore 135 = .ok (.iaload, 1) := by decide +kernel
theorem d_M_explore_136 : decode b_M_explore 136 = .ok (.iconst (-1), 1) := by decide +kernel
theorem d_M_explore_137 : decode b_M_explore 137 = .ok (.if_icmp .eq 6, 3) := by decide +kernel
theorem d_M_explore_140 : decode b_M_explore 140 = .ok (.goto 15, 3) := by decide +kernel
theorem d_M_explore_143 : decode b_M_explore 143 = .ok (.aload_n 0, 1) := by decide +kernel
theorem d_M_explore_144 : decode b_M_explore 144 = .ok (.getfield 45, 3) := by decide +kernel
theorem d_M_explore_147 : decode b_M_explore 147 = .ok (.iload 5, 2) := by decide +kernel
theorem d_M_explore_149 : decode b_M_explore 149 = .ok (.iload_n 2, 1) := by decide +kernel
theorem d_M_explore_150 : decode b_M_explore 150 = .ok (.iconst 1, 1) := by decide +kernel
theorem d_M_explore_151 : decode b_M_explore 151 = .ok (.iadd, 1) := by decide +kernel
theorem d_M_explore_152 : decode b_M_explore 152 = .ok (.iastore, 1) := by decide +kernel
theorem d_M_explore_153 : decode b_M_explore 153 = .ok (.iconst 1, 1) := by decide +kernel
theorem d_M_explore_154 : decode b_M_explore 154 = .ok (.istore_n 1, 1) := by decide +kernel
theorem d_M_explore_155 : decode b_M_explore 155 = .ok (.iinc 4 1, 3) := by decide +kernel
theorem d_M_explore_158 : decode b_M_explore 158 = .ok (.goto (-77), 3) := by decide +kernel
theorem d_M_explore_161 : decode b_M_explore 161 = .ok (.iinc 3 1, 3) := by decide +kernel
theorem d_M_explore_164 : decode b_M_explore 164 = .ok (.goto (-94), 3) := by decide +kernel
theorem d_M_explore_167 : decode b_M_explore 167 = .ok (.iinc 2 1, 3) := by decide +kernel
theorem d_M_explore_170 : decode b_M_explore 170 = .ok (.goto (-108), 3) := by decide +kernel
theorem d_M_explore_173 : decode b_M_explore 173 = .ok (.aload_n 0, 1) := by decide +kernel
theorem d_M_explore_174 : decode b_M_explore 174 = .ok (.iconst 1, 1) := by decide +kernel
theorem d_M_explore_175 : decode b_M_explore 175 = .ok (.putfield 72, 3) := by decide +kernel
theorem d_M_explore_178 : decode b_M_explore 178 = .ok (.aload_n 0, 1) := by decide +kernel
theorem d_M_explore_179 : decode b_M_explore 179 = .ok (.invokevirtual 108, 3) := by decide +kernel
theorem d_M_explore_182 : decode b_M_explore 182 = .ok (.aload_n 0, 1) := by decide +kernel
theorem d_M_explore_183 : decode b_M_explore 183 = .ok (.invokevirtual 111, 3) := by decide +kernel
theorem d_M_explore_186 : decode b_M_explore 186 = .ok (.ireturn, 1) := by decide +kernel
abbrev y_M_isState : MethodName := ⟨"StateExplorerModel", "isState", "(I)Z"⟩
abbrev b_M_isState : ByteArray := prog_4_method_20_code
theorem d_M_isState_0 : decode b_M_isState 0 = .ok (.iload_n 1, 1) := by decide +kernel
theorem d_M_isState_1 : decode b_M_isState 1 = .ok (.ifCond .lt 15, 3) := by decide +kernel
theorem d_M_isState_4 : decode b_M_isState 4 = .ok (.iload_n 1, 1) := by decide +kernel
theorem d_M_isState_5 : decode b_M_isState 5 = .ok (.aload_n 0, 1) := by decide +kernel
theorem d_M_isState_6 : decode b_M_isState 6 = .ok (.invokevirtual 97, 3) := by decide +kernel
theorem d_M_isState_9 : decode b_M_isState 9 = .ok (.if_icmp .ge 7, 3) := by decide +kernel
theorem d_M_isState_12 : decode b_M_isState 12 = .ok (.iconst 1, 1) := by decide +kernel
theorem d_M_isState_13 : decode b_M_isState 13 = .ok (.goto 4, 3) := by decide +kernel
theorem d_M_isState_16 : decode b_M_isState 16 = .ok (.iconst 0, 1) := by decide +kernel
theorem d_M_isState_17 : decode b_M_isState 17 = .ok (.ireturn, 1) := by decide +kernel
abbrev y_M_distance : MethodName := ⟨"StateExplorerModel", "distance", "(I)I"⟩
abbrev b_M_distance : ByteArray := prog_4_method_21_code
theorem d_M_distance_0 : decode b_M_distance 0 = .ok (.aload_n 0, 1) := by decide +kernel
theorem d_M_distance_1 : decode b_M_distance 1 = .ok (.aload_n 0, 1) := by decide +kernel
theorem d_M_distance_2 : decode b_M_distance 2 = .ok (.getfield 72, 3) := by decide +kernel
theorem d_M_distance_5 : decode b_M_distance 5 = .ok (.ifCond .ne 7, 3) := by decide +kernel
theorem d_M_distance_8 : decode b_M_distance 8 = .ok (.iconst 1, 1) := by decide +kernel
theorem d_M_distance_9 : decode b_M_distance 9 = .ok (.goto 4, 3) := by decide +kernel
theorem d_M_distance_12 : decode b_M_distance 12 = .ok (.iconst 0, 1) := by decide +kernel
theorem d_M_distance_13 : decode b_M_distance 13 = .ok (.aload_n 0, 1) := by decide +kernel
theorem d_M_distance_14 : decode b_M_distance 14 = .ok (.iload_n 1, 1) := by decide +kernel
theorem d_M_distance_15 : decode b_M_distance 15 = .ok (.invokevirtual 122, 3) := by decide +kernel
theorem d_M_distance_18 : decode b_M_distance 18 = .ok (.ifCond .ne 7, 3) := by decide +kernel
theorem d_M_distance_21 : decode b_M_distance 21 = .ok (.iconst 1, 1) := by decide +kernel
theorem d_M_distance_22 : decode b_M_distance 22 = .ok (.goto 4, 3) := by decide +kernel
theorem d_M_distance_25 : decode b_M_distance 25 = .ok (.iconst 0, 1) := by decide +kernel
theorem d_M_distance_26 : decode b_M_distance 26 = .ok (.invokevirtual 62, 3) := by decide +kernel
theorem d_M_distance_29 : decode b_M_distance 29 = .ok (.ifCond .eq 7, 3) := by decide +kernel
theorem d_M_distance_32 : decode b_M_distance 32 = .ok (.iconst 0, 1) := by decide +kernel
theorem d_M_distance_33 : decode b_M_distance 33 = .ok (.goto 9, 3) := by decide +kernel
theorem d_M_distance_36 : decode b_M_distance 36 = .ok (.aload_n 0, 1) := by decide +kernel
theorem d_M_distance_37 : decode b_M_distance 37 = .ok (.getfield 45, 3) := by decide +kernel
theorem d_M_distance_40 : decode b_M_distance 40 = .ok (.iload_n 1, 1) := by decide +kernel
theorem d_M_distance_41 : decode b_M_distance 41 = .ok (.iaload, 1) := by decide +kernel
theorem d_M_distance_42 : decode b_M_distance 42 = .ok (.ireturn, 1) := by decide +kernel
abbrev y_M_lead : MethodName := ⟨"StateExplorerModel", "lead", "(II)V"⟩
abbrev b_M_lead : ByteArray := prog_4_method_22_code
theorem d_M_lead_0 : decode b_M_lead 0 = .ok (.iconst 0, 1) := by decide +kernel
theorem d_M_lead_1 : decode b_M_lead 1 = .ok (.istore_n 3, 1) := by decide +kernel
theorem d_M_lead_2 : decode b_M_lead 2 = .ok (.iload_n 3, 1) := by decide +kernel
theorem d_M_lead_3 : decode b_M_lead 3 = .ok (.aload_n 0, 1) := by decide +kernel
theorem d_M_lead_4 : decode b_M_lead 4 = .ok (.invokevirtual 97, 3) := by decide +kernel
theorem d_M_lead_7 : decode b_M_lead 7 = .ok (.if_icmp .ge 25, 3) := by decide +kernel
theorem d_M_lead_10 : decode b_M_lead 10 = .ok (.aload_n 0, 1) := by decide +kernel
theorem d_M_lead_11 : decode b_M_lead 11 = .ok (.getfield 52, 3) := by decide +kernel
theorem d_M_lead_14 : decode b_M_lead 14 = .ok (.iload_n 3, 1) := by decide +kernel
theorem d_M_lead_15 : decode b_M_lead 15 = .ok (.iload_n 3, 1) := by decide +kernel
theorem d_M_lead_16 : decode b_M_lead 16 = .ok (.iload_n 1, 1) := by decide +kernel
theorem d_M_lead_17 : decode b_M_lead 17 = .ok (.if_icmp .ne 7, 3) := by decide +kernel
theorem d_M_lead_20 : decode b_M_lead 20 = .ok (.iconst 1, 1) := by decide +kernel
theorem d_M_lead_21 : decode b_M_lead 21 = .ok (.goto 4, 3) := by decide +kernel
theorem d_M_lead_24 : decode b_M_lead 24 = .ok (.iconst 0, 1) := by decide +kernel
theorem d_M_lead_25 : decode b_M_lead 25 = .ok (.bastore, 1) := by decide +kernel
theorem d_M_lead_26 : decode b_M_lead 26 = .ok (.iinc 3 1, 3) := by decide +kernel
theorem d_M_lead_29 : decode b_M_lead 29 = .ok (.goto (-27), 3) := by decide +kernel
theorem d_M_lead_32 : decode b_M_lead 32 = .ok (.iconst 1, 1) := by decide +kernel
theorem d_M_lead_33 : decode b_M_lead 33 = .ok (.istore_n 3, 1) := by decide +kernel
theorem d_M_lead_34 : decode b_M_lead 34 = .ok (.iload_n 3, 1) := by decide +kernel
theorem d_M_lead_35 : decode b_M_lead 35 = .ok (.iload_n 2, 1) := by decide +kernel
theorem d_M_lead_36 : decode b_M_lead 36 = .ok (.if_icmp .gt 120, 3) := by decide +kernel
theorem d_M_lead_39 : decode b_M_lead 39 = .ok (.iconst 0, 1) := by decide +kernel
theorem d_M_lead_40 : decode b_M_lead 40 = .ok (.istore 4, 2) := by decide +kernel
theorem d_M_lead_42 : decode b_M_lead 42 = .ok (.iload 4, 2) := by decide +kernel
theorem d_M_lead_44 : decode b_M_lead 44 = .ok (.aload_n 0, 1) := by decide +kernel
theorem d_M_lead_45 : decode b_M_lead 45 = .ok (.invokevirtual 97, 3) := by decide +kernel
theorem d_M_lead_48 : decode b_M_lead 48 = .ok (.if_icmp .ge 102, 3) := by decide +kernel
theorem d_M_lead_51 : decode b_M_lead 51 = .ok (.iconst 0, 1) := by decide +kernel
theorem d_M_lead_52 : decode b_M_lead 52 = .ok (.istore 5, 2) := by decide +kernel
theorem d_M_lead_54 : decode b_M_lead 54 = .ok (.iconst 0, 1) := by decide +kernel
theorem d_M_lead_55 : decode b_M_lead 55 = .ok (.istore 6, 2) := by decide +kernel
theorem d_M_lead_57 : decode b_M_lead 57 = .ok (.iload 6, 2) := by decide +kernel
theorem d_M_lead_59 : decode b_M_lead 59 = .ok (.aload_n 0, 1) := by decide +kernel
theorem d_M_lead_60 : decode b_M_lead 60 = .ok (.invokevirtual 101, 3) := by decide +kernel
theorem d_M_lead_63 : decode b_M_lead 63 = .ok (.if_icmp .ge 66, 3) := by decide +kernel
theorem d_M_lead_66 : decode b_M_lead 66 = .ok (.iload 5, 2) := by decide +kernel
theorem d_M_lead_68 : decode b_M_lead 68 = .ok (.ifCond .ne 48, 3) := by decide +kernel
theorem d_M_lead_71 : decode b_M_lead 71 = .ok (.aload_n 0, 1) := by decide +kernel
theorem d_M_lead_72 : decode b_M_lead 72 = .ok (.getfield 35, 3) := by decide +kernel
theorem d_M_lead_75 : decode b_M_lead 75 = .ok (.bipush 16, 2) := by decide +kernel
theorem d_M_lead_77 : decode b_M_lead 77 = .ok (.iload 4, 2) := by decide +kernel
theorem d_M_lead_79 : decode b_M_lead 79 = .ok (.imul, 1) := by decide +kernel
theorem d_M_lead_80 : decode b_M_lead 80 = .ok (.iload 6, 2) := by decide +kernel
theorem d_M_lead_82 : decode b_M_lead 82 = .ok (.iadd, 1) := by decide +kernel
theorem d_M_lead_83 : decode b_M_lead 83 = .ok (.baload, 1) := by decide +kernel
theorem d_M_lead_84 : decode b_M_lead 84 = .ok (.ifCond .eq 36, 3) := by decide +kernel
theorem d_M_lead_87 : decode b_M_lead 87 = .ok (.aload_n 0, 1) := by decide +kernel
theorem d_M_lead_88 : decode b_M_lead 88 = .ok (.getfield 52, 3) := by decide +kernel
theorem d_M_lead_91 : decode b_M_lead 91 = .ok (.sipush 256, 3) := by decide +kernel
theorem d_M_lead_94 : decode b_M_lead 94 = .ok (.iload_n 3, 1) := by decide +kernel
theorem d_M_lead_95 : decode b_M_lead 95 = .ok (.iconst 1, 1) := by decide +kernel
theorem d_M_lead_96 : decode b_M_lead 96 = .ok (.isub, 1) := by decide +kernel
theorem d_M_lead_97 : decode b_M_lead 97 = .ok (.imul, 1) := by decide +kernel
theorem d_M_lead_98 : decode b_M_lead 98 = .ok (.aload_n 0, 1) := by decide +kernel
theorem d_M_lead_99 : decode b_M_lead 99 = .ok (.getfield 38, 3) := by decide +kernel
theorem d_M_lead_102 : decode b_M_lead 102 = .ok (.bipush 16, 2) := by decide +kernel
theorem d_M_lead_104 : decode b_M_lead 104 = .ok (.iload 4, 2) := by decide +kernel
theorem d_M_lead_106 : decode b_M_lead 106 = .ok (.imul, 1) := by decide +kernel
theorem d_M_lead_107 : decode b_M_lead 107 = .ok (.iload 6, 2) := by decide +kernel
theorem d_M_lead_109 : decode b_M_lead 109 = .ok (.iadd, 1) := by decide +kernel
theorem d_M_lead_110 : decode b_M_lead 110 = .ok (.iaload, 1) := by decide +kernel
theorem d_M_lead_111 : decode b_M_lead 111 = .ok (.iadd, 1) := by decide +kernel
theorem d_M_lead_112 : decode b_M_lead 112 = .ok (.baload, 1) := by decide +kernel
theorem d_M_lead_113 : decode b_M_lead 113 = .ok (.ifCond .eq 7, 3) := by decide +kernel
theorem d_M_lead_116 : decode b_M_lead 116 = .ok (.iconst 1, 1) := by decide +kernel
theorem d_M_lead_117 : decode b_M_lead 117 = .ok (.goto 4, 3) := by decide +kernel
theorem d_M_lead_120 : decode b_M_lead 120 = .ok (.iconst 0, 1) := by decide +kernel
theorem d_M_lead_121 : decode b_M_lead 121 = .ok (.istore 5, 2) := by decide +kernel
theorem d_M_lead_123 : decode b_M_lead 123 = .ok (.iinc 6 1, 3) := by decide +kernel
theorem d_M_lead_126 : decode b_M_lead 126 = .ok (.goto (-69), 3) := by decide +kernel
theorem d_M_lead_129 : decode b_M_lead 129 = .ok (.aload_n 0, 1) := by decide +kernel
theorem d_M_lead_130 : decode b_M_lead 130 = .ok (.getfield 52, 3) := by decide +kernel
theorem d_M_lead_133 : decode b_M_lead 133 = .ok (.sipush 256, 3) := by decide +kernel
theorem d_M_lead_136 : decode b_M_lead 136 = .ok (.iload_n 3, 1) := by decide +kernel
theorem d_M_lead_137 : decode b_M_lead 137 = .ok (.imul, 1) := by decide +kernel
theorem d_M_lead_138 : decode b_M_lead 138 = .ok (.iload 4, 2) := by decide +kernel
theorem d_M_lead_140 : decode b_M_lead 140 = .ok (.iadd, 1) := by decide +kernel
theorem d_M_lead_141 : decode b_M_lead 141 = .ok (.iload 5, 2) := by decide +kernel
theorem d_M_lead_143 : decode b_M_lead 143 = .ok (.bastore, 1) := by decide +kernel
theorem d_M_lead_144 : decode b_M_lead 144 = .ok (.iinc 4 1, 3) := by decide +kernel
theorem d_M_lead_147 : decode b_M_lead 147 = .ok (.goto (-105), 3) := by decide +kernel
theorem d_M_lead_150 : decode b_M_lead 150 = .ok (.iinc 3 1, 3) := by decide +kernel
theorem d_M_lead_153 : decode b_M_lead 153 = .ok (.goto (-119), 3) := by decide +kernel
theorem d_M_lead_156 : decode b_M_lead 156 = .ok (.return_, 1) := by decide +kernel
abbrev y_M_way : MethodName := ⟨"StateExplorerModel", "way", "(II)I"⟩
abbrev b_M_way : ByteArray := prog_4_method_23_code
theorem d_M_way_0 : decode b_M_way 0 = .ok (.aload_n 0, 1) := by decide +kernel
theorem d_M_way_1 : decode b_M_way 1 = .ok (.aload_n 0, 1) := by decide +kernel
theorem d_M_way_2 : decode b_M_way 2 = .ok (.getfield 72, 3) := by decide +kernel
theorem d_M_way_5 : decode b_M_way 5 = .ok (.ifCond .ne 7, 3) := by decide +kernel
theorem d_M_way_8 : decode b_M_way 8 = .ok (.iconst 1, 1) := by decide +kernel
theorem d_M_way_9 : decode b_M_way 9 = .ok (.goto 4, 3) := by decide +kernel
theorem d_M_way_12 : decode b_M_way 12 = .ok (.iconst 0, 1) := by decide +kernel
theorem d_M_way_13 : decode b_M_way 13 = .ok (.aload_n 0, 1) := by decide +kernel
theorem d_M_way_14 : decode b_M_way 14 = .ok (.iload_n 1, 1) := by decide +kernel
theorem d_M_way_15 : decode b_M_way 15 = .ok (.invokevirtual 122, 3) := by decide +kernel
theorem d_M_way_18 : decode b_M_way 18 = .ok (.ifCond .ne 7, 3) := by decide +kernel
theorem d_M_way_21 : decode b_M_way 21 = .ok (.iconst 1, 1) := by decide +kernel
theorem d_M_way_22 : decode b_M_way 22 = .ok (.goto 4, 3) := by decide +kernel
theorem d_M_way_25 : decode b_M_way 25 = .ok (.iconst 0, 1) := by decide +kernel
theorem d_M_way_26 : decode b_M_way 26 = .ok (.invokevirtual 62, 3) := by decide +kernel
theorem d_M_way_29 : decode b_M_way 29 = .ok (.ifCond .eq 5, 3) := by decide +kernel
theorem d_M_way_32 : decode b_M_way 32 = .ok (.iconst 0, 1) := by decide +kernel
theorem d_M_way_33 : decode b_M_way 33 = .ok (.ireturn, 1) := by decide +kernel
theorem d_M_way_34 : decode b_M_way 34 = .ok (.aload_n 0, 1) := by decide +kernel
theorem d_M_way_35 : decode b_M_way 35 = .ok (.getfield 45, 3) := by decide +kernel
theorem d_M_way_38 : decode b_M_way 38 = .ok (.iload_n 1, 1) := by decide +kernel
theorem d_M_way_39 : decode b_M_way 39 = .ok (.iaload, 1) := by decide +kernel
theorem d_M_way_40 : decode b_M_way 40 = .ok (.istore_n 3, 1) := by decide +kernel
theorem d_M_way_41 : decode b_M_way 41 = .ok (.iload_n 2, 1) := by decide +kernel
theorem d_M_way_42 : decode b_M_way 42 = .ok (.ifCond .lt 8, 3) := by decide +kernel
theorem d_M_way_45 : decode b_M_way 45 = .ok (.iload_n 2, 1) := by decide +kernel
theorem d_M_way_46 : decode b_M_way 46 = .ok (.iload_n 3, 1) := by decide +kernel
theorem d_M_way_47 : decode b_M_way 47 = .ok (.if_icmp .lt 5, 3) := by decide +kernel
theorem d_M_way_50 : decode b_M_way 50 = .ok (.iconst (-1), 1) := by decide +kernel
theorem d_M_way_51 : decode b_M_way 51 = .ok (.ireturn, 1) := by decide +kernel
theorem d_M_way_52 : decode b_M_way 52 = .ok (.aload_n 0, 1) := by decide +kernel
theorem d_M_way_53 : decode b_M_way 53 = .ok (.iload_n 1, 1) := by decide +kernel
theorem d_M_way_54 : decode b_M_way 54 = .ok (.iload_n 3, 1) := by decide +kernel
theorem d_M_way_55 : decode b_M_way 55 = .ok (.invokevirtual 125, 3) := by decide +kernel
theorem d_M_way_58 : decode b_M_way 58 = .ok (.iconst 0, 1) := by decide +kernel
theorem d_M_way_59 : decode b_M_way 59 = .ok (.istore 4, 2) := by decide +kernel
theorem d_M_way_61 : decode b_M_way 61 = .ok (.iconst 0, 1) := by decide +kernel
theorem d_M_way_62 : decode b_M_way 62 = .ok (.istore 5, 2) := by decide +kernel
theorem d_M_way_64 : decode b_M_way 64 = .ok (.iconst 0, 1) := by decide +kernel
theorem d_M_way_65 : decode b_M_way 65 = .ok (.istore 6, 2) := by decide +kernel
theorem d_M_way_67 : decode b_M_way 67 = .ok (.iload 6, 2) := by decide +kernel
theorem d_M_way_69 : decode b_M_way 69 = .ok (.iload_n 2, 1) := by decide +kernel
theorem d_M_way_70 : decode b_M_way 70 = .ok (.if_icmp .gt 81, 3) := by decide +kernel
theorem d_M_way_73 : decode b_M_way 73 = .ok (.iconst 0, 1) := by decide +kernel
theorem d_M_way_74 : decode b_M_way 74 = .ok (.istore 5, 2) := by decide +kernel
theorem d_M_way_76 : decode b_M_way 76 = .ok (.aload_n 0, 1) := by decide +kernel
theorem d_M_way_77 : decode b_M_way 77 = .ok (.getfield 35, 3) := by decide +kernel
theorem d_M_way_80 : decode b_M_way 80 = .ok (.bipush 16, 2) := by decide +kernel
theorem d_M_way_82 : decode b_M_way 82 = .ok (.iload 4, 2) := by decide +kernel
theorem d_M_way_84 : decode b_M_way 84 = .ok (.imul, 1) := by decide +kernel
theorem d_M_way_85 : decode b_M_way 85 = .ok (.iload 5, 2) := by decide +kernel
theorem d_M_way_87 : decode b_M_way 87 = .ok (.iadd, 1) := by decide +kernel
theorem d_M_way_88 : decode b_M_way 88 = .ok (.baload, 1) := by decide +kernel
theorem d_M_way_89 : decode b_M_way 89 = .ok (.ifCond .eq 35, 3) := by decide +kernel
theorem d_M_way_92 : decode b_M_way 92 = .ok (.aload_n 0, 1) := by decide +kernel
theorem d_M_way_93 : decode b_M_way 93 = .ok (.getfield 52, 3) := by decide +kernel
theorem d_M_way_96 : decode b_M_way 96 = .ok (.sipush 256, 3) := by decide +kernel
theorem d_M_way_99 : decode b_M_way 99 = .ok (.iload_n 3, 1) := by decide +kernel
theorem d_M_way_100 : decode b_M_way 100 = .ok (.iload 6, 2) := by decide +kernel
theorem d_M_way_102 : decode b_M_way 102 = .ok (.isub, 1) := by decide +kernel
theorem d_M_way_103 : decode b_M_way 103 = .ok (.iconst 1, 1) := by decide +kernel
theorem d_M_way_104 : decode b_M_way 104 = .ok (.isub, 1) := by decide +kernel
theorem d_M_way_105 : decode b_M_way 105 = .ok (.imul, 1) := by decide +kernel
theorem d_M_way_106 : decode b_M_way 106 = .ok (.aload_n 0, 1) := by decide +kernel
theorem d_M_way_107 : decode b_M_way 107 = .ok (.getfield 38, 3) := by decide +kernel
theorem d_M_way_110 : decode b_M_way 110 = .ok (.bipush 16, 2) := by decide +kernel
theorem d_M_way_112 : decode b_M_way 112 = .ok (.iload 4, 2) := by decide +kernel
theorem d_M_way_114 : decode b_M_way 114 = .ok (.imul, 1) := by decide +kernel
theorem d_M_way_115 : decode b_M_way 115 = .ok (.iload 5, 2) := by decide +kernel
theorem d_M_way_117 : decode b_M_way 117 = .ok (.iadd, 1) := by decide +kernel
theorem d_M_way_118 : decode b_M_way 118 = .ok (.iaload, 1) := by decide +kernel
theorem d_M_way_119 : decode b_M_way 119 = .ok (.iadd, 1) := by decide +kernel
theorem d_M_way_120 : decode b_M_way 120 = .ok (.baload, 1) := by decide +kernel
theorem d_M_way_121 : decode b_M_way 121 = .ok (.ifCond .ne 9, 3) := by decide +kernel
theorem d_M_way_124 : decode b_M_way 124 = .ok (.iinc 5 1, 3) := by decide +kernel
theorem d_M_way_127 : decode b_M_way 127 = .ok (.goto (-51), 3) := by decide +kernel
theorem d_M_way_130 : decode b_M_way 130 = .ok (.aload_n 0, 1) := by decide +kernel
theorem d_M_way_131 : decode b_M_way 131 = .ok (.getfield 38, 3) := by decide +kernel
theorem d_M_way_134 : decode b_M_way 134 = .ok (.bipush 16, 2) := by decide +kernel
theorem d_M_way_136 : decode b_M_way 136 = .ok (.iload 4, 2) := by decide +kernel
theorem d_M_way_138 : decode b_M_way 138 = .ok (.imul, 1) := by decide +kernel
theorem d_M_way_139 : decode b_M_way 139 = .ok (.iload 5, 2) := by decide +kernel
theorem d_M_way_141 : decode b_M_way 141 = .ok (.iadd, 1) := by decide +kernel
theorem d_M_way_142 : decode b_M_way 142 = .ok (.iaload, 1) := by decide +kernel
theorem d_M_way_143 : decode b_M_way 143 = .ok (.istore 4, 2) := by decide +kernel
theorem d_M_way_145 : decode b_M_way 145 = .ok (.iinc 6 1, 3) := by decide +kernel
theorem d_M_way_148 : decode b_M_way 148 = .ok (.goto (-81), 3) := by decide +kernel
theorem d_M_way_151 : decode b_M_way 151 = .ok (.iload 5, 2) := by decide +kernel
theorem d_M_way_153 : decode b_M_way 153 = .ok (.ireturn, 1) := by decide +kernel
abbrev y_M_many : MethodName := ⟨"StateExplorerModel", "many", "(I)I"⟩
abbrev b_M_many : ByteArray := prog_4_method_24_code
theorem d_M_many_0 : decode b_M_many 0 = .ok (.aload_n 0, 1) := by decide +kernel
theorem d_M_many_1 : decode b_M_many 1 = .ok (.aload_n 0, 1) := by decide +kernel
theorem d_M_many_2 : decode b_M_many 2 = .ok (.getfield 72, 3) := by decide +kernel
theorem d_M_many_5 : decode b_M_many 5 = .ok (.ifCond .ne 7, 3) := by decide +kernel
theorem d_M_many_8 : decode b_M_many 8 = .ok (.iconst 1, 1) := by decide +kernel
theorem d_M_many_9 : decode b_M_many 9 = .ok (.goto 4, 3) := by decide +kernel
theorem d_M_many_12 : decode b_M_many 12 = .ok (.iconst 0, 1) := by decide +kernel
theorem d_M_many_13 : decode b_M_many 13 = .ok (.iconst 0, 1) := by decide +kernel
theorem d_M_many_14 : decode b_M_many 14 = .ok (.invokevirtual 62, 3) := by decide +kernel
theorem d_M_many_17 : decode b_M_many 17 = .ok (.ifCond .eq 5, 3) := by decide +kernel
theorem d_M_many_20 : decode b_M_many 20 = .ok (.iconst 0, 1) := by decide +kernel
theorem d_M_many_21 : decode b_M_many 21 = .ok (.ireturn, 1) := by decide +kernel
theorem d_M_many_22 : decode b_M_many 22 = .ok (.iconst 0, 1) := by decide +kernel
theorem d_M_many_23 : decode b_M_many 23 = .ok (.istore_n 2, 1) := by decide +kernel
theorem d_M_many_24 : decode b_M_many 24 = .ok (.iconst 0, 1) := by decide +kernel
theorem d_M_many_25 : decode b_M_many 25 = .ok (.istore_n 3, 1) := by decide +kernel
theorem d_M_many_26 : decode b_M_many 26 = .ok (.iload_n 3, 1) := by decide +kernel
theorem d_M_many_27 : decode b_M_many 27 = .ok (.aload_n 0, 1) := by decide +kernel
theorem d_M_many_28 : decode b_M_many 28 = .ok (.invokevirtual 97, 3) := by decide +kernel
theorem d_M_many_31 : decode b_M_many 31 = .ok (.if_icmp .ge 31, 3) := by decide +kernel
theorem d_M_many_34 : decode b_M_many 34 = .ok (.iload_n 1, 1) := by decide +kernel
theorem d_M_many_35 : decode b_M_many 35 = .ok (.ifCond .lt 27, 3) := by decide +kernel
theorem d_M_many_38 : decode b_M_many 38 = .ok (.aload_n 0, 1) := by decide +kernel
theorem d_M_many_39 : decode b_M_many 39 = .ok (.getfield 45, 3) := by decide +kernel
theorem d_M_many_42 : decode b_M_many 42 = .ok (.iload_n 3, 1) := by decide +kernel
theorem d_M_many_43 : decode b_M_many 43 = .ok (.iaload, 1) := by decide +kernel
theorem d_M_many_44 : decode b_M_many 44 = .ok (.iload_n 1, 1) := by decide +kernel
theorem d_M_many_45 : decode b_M_many 45 = .ok (.if_icmp .ne 9, 3) := by decide +kernel
theorem d_M_many_48 : decode b_M_many 48 = .ok (.iload_n 2, 1) := by decide +kernel
theorem d_M_many_49 : decode b_M_many 49 = .ok (.iconst 1, 1) := by decide +kernel
theorem d_M_many_50 : decode b_M_many 50 = .ok (.iadd, 1) := by decide +kernel
theorem d_M_many_51 : decode b_M_many 51 = .ok (.goto 4, 3) := by decide +kernel
theorem d_M_many_54 : decode b_M_many 54 = .ok (.iload_n 2, 1) := by decide +kernel
theorem d_M_many_55 : decode b_M_many 55 = .ok (.istore_n 2, 1) := by decide +kernel
theorem d_M_many_56 : decode b_M_many 56 = .ok (.iinc 3 1, 3) := by decide +kernel
theorem d_M_many_59 : decode b_M_many 59 = .ok (.goto (-33), 3) := by decide +kernel
theorem d_M_many_62 : decode b_M_many 62 = .ok (.iload_n 2, 1) := by decide +kernel
theorem d_M_many_63 : decode b_M_many 63 = .ok (.ireturn, 1) := by decide +kernel
abbrev y_M_next : MethodName := ⟨"StateExplorerModel", "next", "(II)I"⟩
abbrev b_M_next : ByteArray := prog_4_method_25_code
theorem d_M_next_0 : decode b_M_next 0 = .ok (.aload_n 0, 1) := by decide +kernel
theorem d_M_next_1 : decode b_M_next 1 = .ok (.aload_n 0, 1) := by decide +kernel
theorem d_M_next_2 : decode b_M_next 2 = .ok (.getfield 72, 3) := by decide +kernel
theorem d_M_next_5 : decode b_M_next 5 = .ok (.ifCond .ne 7, 3) := by decide +kernel
theorem d_M_next_8 : decode b_M_next 8 = .ok (.iconst 1, 1) := by decide +kernel
theorem d_M_next_9 : decode b_M_next 9 = .ok (.goto 4, 3) := by decide +kernel
theorem d_M_next_12 : decode b_M_next 12 = .ok (.iconst 0, 1) := by decide +kernel
theorem d_M_next_13 : decode b_M_next 13 = .ok (.aload_n 0, 1) := by decide +kernel
theorem d_M_next_14 : decode b_M_next 14 = .ok (.iload_n 1, 1) := by decide +kernel
theorem d_M_next_15 : decode b_M_next 15 = .ok (.invokevirtual 122, 3) := by decide +kernel
theorem d_M_next_18 : decode b_M_next 18 = .ok (.ifCond .eq 13, 3) := by decide +kernel
theorem d_M_next_21 : decode b_M_next 21 = .ok (.iload_n 2, 1) := by decide +kernel
theorem d_M_next_22 : decode b_M_next 22 = .ok (.ifCond .lt 9, 3) := by decide +kernel
theorem d_M_next_25 : decode b_M_next 25 = .ok (.iload_n 2, 1) := by decide +kernel
theorem d_M_next_26 : decode b_M_next 26 = .ok (.bipush 15, 2) := by decide +kernel
theorem d_M_next_28 : decode b_M_next 28 = .ok (.if_icmp .le 7, 3) := by decide +kernel
theorem d_M_next_31 : decode b_M_next 31 = .ok (.iconst 1, 1) := by decide +kernel
theorem d_M_next_32 : decode b_M_next 32 = .ok (.goto 4, 3) := by decide +kernel
theorem d_M_next_35 : decode b_M_next 35 = .ok (.iconst 0, 1) := by decide +kernel
theorem d_M_next_36 : decode b_M_next 36 = .ok (.invokevirtual 62, 3) := by decide +kernel
theorem d_M_next_39 : decode b_M_next 39 = .ok (.ifCond .eq 5, 3) := by decide +kernel
theorem d_M_next_42 : decode b_M_next 42 = .ok (.iconst 0, 1) := by decide +kernel
theorem d_M_next_43 : decode b_M_next 43 = .ok (.ireturn, 1) := by decide +kernel
theorem d_M_next_44 : decode b_M_next 44 = .ok (.bipush 16, 2) := by decide +kernel
theorem d_M_next_46 : decode b_M_next 46 = .ok (.iload_n 1, 1) := by decide +kernel
theorem d_M_next_47 : decode b_M_next 47 = .ok (.imul, 1) := by decide +kernel
theorem d_M_next_48 : decode b_M_next 48 = .ok (.iload_n 2, 1) := by decide +kernel
theorem d_M_next_49 : decode b_M_next 49 = .ok (.aload_n 0, 1) := by decide +kernel
theorem d_M_next_50 : decode b_M_next 50 = .ok (.invokevirtual 101, 3) := by decide +kernel
theorem d_M_next_53 : decode b_M_next 53 = .ok (.irem, 1) := by decide +kernel
theorem d_M_next_54 : decode b_M_next 54 = .ok (.iadd, 1) := by decide +kernel
theorem d_M_next_55 : decode b_M_next 55 = .ok (.istore_n 3, 1) := by decide +kernel
theorem d_M_next_56 : decode b_M_next 56 = .ok (.aload_n 0, 1) := by decide +kernel
theorem d_M_next_57 : decode b_M_next 57 = .ok (.getfield 35, 3) := by decide +kernel
theorem d_M_next_60 : decode b_M_next 60 = .ok (.iload_n 3, 1) := by decide +kernel
theorem d_M_next_61 : decode b_M_next 61 = .ok (.baload, 1) := by decide +kernel
theorem d_M_next_62 : decode b_M_next 62 = .ok (.ifCond .eq 12, 3) := by decide +kernel
theorem d_M_next_65 : decode b_M_next 65 = .ok (.aload_n 0, 1) := by decide +kernel
theorem d_M_next_66 : decode b_M_next 66 = .ok (.getfield 38, 3) := by decide +kernel
theorem d_M_next_69 : decode b_M_next 69 = .ok (.iload_n 3, 1) := by decide +kernel
theorem d_M_next_70 : decode b_M_next 70 = .ok (.iaload, 1) := by decide +kernel
theorem d_M_next_71 : decode b_M_next 71 = .ok (.goto 4, 3) := by decide +kernel
theorem d_M_next_74 : decode b_M_next 74 = .ok (.iconst (-1), 1) := by decide +kernel
theorem d_M_next_75 : decode b_M_next 75 = .ok (.ireturn, 1) := by decide +kernel
abbrev y_M_doubt : MethodName := ⟨"StateExplorerModel", "doubt", "(I)I"⟩
abbrev b_M_doubt : ByteArray := prog_4_method_26_code
theorem d_M_doubt_0 : decode b_M_doubt 0 = .ok (.aload_n 0, 1) := by decide +kernel
theorem d_M_doubt_1 : decode b_M_doubt 1 = .ok (.aload_n 0, 1) := by decide +kernel
theorem d_M_doubt_2 : decode b_M_doubt 2 = .ok (.getfield 72, 3) := by decide +kernel
theorem d_M_doubt_5 : decode b_M_doubt 5 = .ok (.ifCond .ne 7, 3) := by decide +kernel
theorem d_M_doubt_8 : decode b_M_doubt 8 = .ok (.iconst 1, 1) := by decide +kernel
theorem d_M_doubt_9 : decode b_M_doubt 9 = .ok (.goto 4, 3) := by decide +kernel
theorem d_M_doubt_12 : decode b_M_doubt 12 = .ok (.iconst 0, 1) := by decide +kernel
theorem d_M_doubt_13 : decode b_M_doubt 13 = .ok (.iload_n 1, 1) := by decide +kernel
theorem d_M_doubt_14 : decode b_M_doubt 14 = .ok (.ifCond .lt 8, 3) := by decide +kernel
theorem d_M_doubt_17 : decode b_M_doubt 17 = .ok (.iload_n 1, 1) := by decide +kernel
theorem d_M_doubt_18 : decode b_M_doubt 18 = .ok (.iconst 2, 1) := by decide +kernel
theorem d_M_doubt_19 : decode b_M_doubt 19 = .ok (.if_icmp .le 7, 3) := by decide +kernel
theorem d_M_doubt_22 : decode b_M_doubt 22 = .ok (.iconst 1, 1) := by decide +kernel
theorem d_M_doubt_23 : decode b_M_doubt 23 = .ok (.goto 4, 3) := by decide +kernel
theorem d_M_doubt_26 : decode b_M_doubt 26 = .ok (.iconst 0, 1) := by decide +kernel
theorem d_M_doubt_27 : decode b_M_doubt 27 = .ok (.invokevirtual 62, 3) := by decide +kernel
theorem d_M_doubt_30 : decode b_M_doubt 30 = .ok (.ifCond .eq 5, 3) := by decide +kernel
theorem d_M_doubt_33 : decode b_M_doubt 33 = .ok (.iconst 0, 1) := by decide +kernel
theorem d_M_doubt_34 : decode b_M_doubt 34 = .ok (.ireturn, 1) := by decide +kernel
theorem d_M_doubt_35 : decode b_M_doubt 35 = .ok (.iconst 0, 1) := by decide +kernel
theorem d_M_doubt_36 : decode b_M_doubt 36 = .ok (.istore_n 2, 1) := by decide +kernel
theorem d_M_doubt_37 : decode b_M_doubt 37 = .ok (.iload_n 2, 1) := by decide +kernel
theorem d_M_doubt_38 : decode b_M_doubt 38 = .ok (.sipush 256, 3) := by decide +kernel
theorem d_M_doubt_41 : decode b_M_doubt 41 = .ok (.if_icmp .ge 86, 3) := by decide +kernel
theorem d_M_doubt_44 : decode b_M_doubt 44 = .ok (.iconst 0, 1) := by decide +kernel
theorem d_M_doubt_45 : decode b_M_doubt 45 = .ok (.istore_n 3, 1) := by decide +kernel
theorem d_M_doubt_46 : decode b_M_doubt 46 = .ok (.iload_n 3, 1) := by decide +kernel
theorem d_M_doubt_47 : decode b_M_doubt 47 = .ok (.bipush 16, 2) := by decide +kernel
theorem d_M_doubt_49 : decode b_M_doubt 49 = .ok (.aload_n 0, 1) := by decide +kernel
theorem d_M_doubt_50 : decode b_M_doubt 50 = .ok (.invokevirtual 97, 3) := by decide +kernel
theorem d_M_doubt_53 : decode b_M_doubt 53 = .ok (.imul, 1) := by decide +kernel
theorem d_M_doubt_54 : decode b_M_doubt 54 = .ok (.if_icmp .ge 67, 3) := by decide +kernel
theorem d_M_doubt_57 : decode b_M_doubt 57 = .ok (.aload_n 0, 1) := by decide +kernel
theorem d_M_doubt_58 : decode b_M_doubt 58 = .ok (.getfield 45, 3) := by decide +kernel
theorem d_M_doubt_61 : decode b_M_doubt 61 = .ok (.iload_n 3, 1) := by decide +kernel
theorem d_M_doubt_62 : decode b_M_doubt 62 = .ok (.bipush 16, 2) := by decide +kernel
theorem d_M_doubt_64 : decode b_M_doubt 64 = .ok (.idiv, 1) := by decide +kernel
theorem d_M_doubt_65 : decode b_M_doubt 65 = .ok (.iaload, 1) := by decide +kernel
theorem d_M_doubt_66 : decode b_M_doubt 66 = .ok (.iload_n 2, 1) := by decide +kernel
theorem d_M_doubt_67 : decode b_M_doubt 67 = .ok (.if_icmp .ne 48, 3) := by decide +kernel
theorem d_M_doubt_70 : decode b_M_doubt 70 = .ok (.iload_n 3, 1) := by decide +kernel
theorem d_M_doubt_71 : decode b_M_doubt 71 = .ok (.bipush 16, 2) := by decide +kernel
theorem d_M_doubt_73 : decode b_M_doubt 73 = .ok (.irem, 1) := by decide +kernel
theorem d_M_doubt_74 : decode b_M_doubt 74 = .ok (.aload_n 0, 1) := by decide +kernel
theorem d_M_doubt_75 : decode b_M_doubt 75 = .ok (.invokevirtual 101, 3) := by decide +kernel
theorem d_M_doubt_78 : decode b_M_doubt 78 = .ok (.if_icmp .ge 37, 3) := by decide +kernel
theorem d_M_doubt_81 : decode b_M_doubt 81 = .ok (.aload_n 0, 1) := by decide +kernel
theorem d_M_doubt_82 : decode b_M_doubt 82 = .ok (.getfield 35, 3) := by decide +kernel
theorem d_M_doubt_85 : decode b_M_doubt 85 = .ok (.iload_n 3, 1) := by decide +kernel
theorem d_M_doubt_86 : decode b_M_doubt 86 = .ok (.baload, 1) := by decide +kernel
theorem d_M_doubt_87 : decode b_M_doubt 87 = .ok (.ifCond .ne 28, 3) := by decide +kernel
theorem d_M_doubt_90 : decode b_M_doubt 90 = .ok (.iload_n 1, 1) := by decide +kernel
theorem d_M_doubt_91 : decode b_M_doubt 91 = .ok (.ifCond .ne 7, 3) := by decide +kernel
theorem d_M_doubt_94 : decode b_M_doubt 94 = .ok (.iload_n 2, 1) := by decide +kernel
theorem d_M_doubt_95 : decode b_M_doubt 95 = .ok (.goto 19, 3) := by decide +kernel
theorem d_M_doubt_98 : decode b_M_doubt 98 = .ok (.iload_n 1, 1) := by decide +kernel
theorem d_M_doubt_99 : decode b_M_doubt 99 = .ok (.iconst 1, 1) := by decide +kernel
theorem d_M_doubt_100 : decode b_M_doubt 100 = .ok (.if_icmp .ne 10, 3) := by decide +kernel
theorem d_M_doubt_103 : decode b_M_doubt 103 = .ok (.iload_n 3, 1) := by decide +kernel
theorem d_M_doubt_104 : decode b_M_doubt 104 = .ok (.bipush 16, 2) := by decide +kernel
theorem d_M_doubt_106 : decode b_M_doubt 106 = .ok (.idiv, 1) := by decide +kernel
theorem d_M_doubt_107 : decode b_M_doubt 107 = .ok (.goto 7, 3) := by decide +kernel
theorem d_M_doubt_110 : decode b_M_doubt 110 = .ok (.iload_n 3, 1) := by decide +kernel
theorem d_M_doubt_111 : decode b_M_doubt 111 = .ok (.bipush 16, 2) := by decide +kernel
theorem d_M_doubt_113 : decode b_M_doubt 113 = .ok (.irem, 1) := by decide +kernel
theorem d_M_doubt_114 : decode b_M_doubt 114 = .ok (.ireturn, 1) := by decide +kernel
theorem d_M_doubt_115 : decode b_M_doubt 115 = .ok (.iinc 3 1, 3) := by decide +kernel
theorem d_M_doubt_118 : decode b_M_doubt 118 = .ok (.goto (-72), 3) := by decide +kernel
theorem d_M_doubt_121 : decode b_M_doubt 121 = .ok (.iinc 2 1, 3) := by decide +kernel
theorem d_M_doubt_124 : decode b_M_doubt 124 = .ok (.goto (-87), 3) := by decide +kernel
theorem d_M_doubt_127 : decode b_M_doubt 127 = .ok (.iconst (-1), 1) := by decide +kernel
theorem d_M_doubt_128 : decode b_M_doubt 128 = .ok (.ireturn, 1) := by decide +kernel
abbrev y_M_held : MethodName := ⟨"StateExplorerModel", "held", "(JZ)I"⟩
abbrev b_M_held : ByteArray := prog_4_method_27_code
theorem d_M_held_0 : decode b_M_held 0 = .ok (.iconst 0, 1) := by decide +kernel
theorem d_M_held_1 : decode b_M_held 1 = .ok (.istore 4, 2) := by decide +kernel
theorem d_M_held_3 : decode b_M_held 3 = .ok (.iconst 0, 1) := by decide +kernel
theorem d_M_held_4 : decode b_M_held 4 = .ok (.istore 5, 2) := by decide +kernel
theorem d_M_held_6 : decode b_M_held 6 = .ok (.iload 5, 2) := by decide +kernel
theorem d_M_held_8 : decode b_M_held 8 = .ok (.bipush 16, 2) := by decide +kernel
theorem d_M_held_10 : decode b_M_held 10 = .ok (.aload_n 0, 1) := by decide +kernel
theorem d_M_held_11 : decode b_M_held 11 = .ok (.invokevirtual 97, 3) := by decide +kernel
theorem d_M_held_14 : decode b_M_held 14 = .ok (.imul, 1) := by decide +kernel
theorem d_M_held_15 : decode b_M_held 15 = .ok (.if_icmp .ge 99, 3) := by decide +kernel
theorem d_M_held_18 : decode b_M_held 18 = .ok (.aload_n 0, 1) := by decide +kernel
theorem d_M_held_19 : decode b_M_held 19 = .ok (.getfield 45, 3) := by decide +kernel
theorem d_M_held_22 : decode b_M_held 22 = .ok (.iload 5, 2) := by decide +kernel
theorem d_M_held_24 : decode b_M_held 24 = .ok (.bipush 16, 2) := by decide +kernel
theorem d_M_held_26 : decode b_M_held 26 = .ok (.idiv, 1) := by decide +kernel
theorem d_M_held_27 : decode b_M_held 27 = .ok (.iaload, 1) := by decide +kernel
theorem d_M_held_28 : decode b_M_held 28 = .ok (.ifCond .lt 29, 3) := by decide +kernel
theorem d_M_held_31 : decode b_M_held 31 = .ok (.iload 5, 2) := by decide +kernel
theorem d_M_held_33 : decode b_M_held 33 = .ok (.bipush 16, 2) := by decide +kernel
theorem d_M_held_35 : decode b_M_held 35 = .ok (.irem, 1) := by decide +kernel
theorem d_M_held_36 : decode b_M_held 36 = .ok (.aload_n 0, 1) := by decide +kernel
theorem d_M_held_37 : decode b_M_held 37 = .ok (.invokevirtual 101, 3) := by decide +kernel
theorem d_M_held_40 : decode b_M_held 40 = .ok (.if_icmp .ge 17, 3) := by decide +kernel
theorem d_M_held_43 : decode b_M_held 43 = .ok (.aload_n 0, 1) := by decide +kernel
theorem d_M_held_44 : decode b_M_held 44 = .ok (.getfield 35, 3) := by decide +kernel
theorem d_M_held_47 : decode b_M_held 47 = .ok (.iload 5, 2) := by decide +kernel
theorem d_M_held_49 : decode b_M_held 49 = .ok (.baload, 1) := by decide +kernel
theorem d_M_held_50 : decode b_M_held 50 = .ok (.ifCond .eq 7, 3) := by decide +kernel
theorem d_M_held_53 : decode b_M_held 53 = .ok (.iconst 1, 1) := by decide +kernel
theorem d_M_held_54 : decode b_M_held 54 = .ok (.goto 4, 3) := by decide +kernel
theorem d_M_held_57 : decode b_M_held 57 = .ok (.iconst 0, 1) := by decide +kernel
theorem d_M_held_58 : decode b_M_held 58 = .ok (.istore 6, 2) := by decide +kernel
theorem d_M_held_60 : decode b_M_held 60 = .ok (.aload_n 0, 1) := by decide +kernel
theorem d_M_held_61 : decode b_M_held 61 = .ok (.getfield 41, 3) := by decide +kernel
theorem d_M_held_64 : decode b_M_held 64 = .ok (.iload 5, 2) := by decide +kernel
theorem d_M_held_66 : decode b_M_held 66 = .ok (.laload, 1) := by decide +kernel
theorem d_M_held_67 : decode b_M_held 67 = .ok (.lload_n 1, 1) := by decide +kernel
theorem d_M_held_68 : decode b_M_held 68 = .ok (.land, 1) := by decide +kernel
theorem d_M_held_69 : decode b_M_held 69 = .ok (.lstore 7, 2) := by decide +kernel
theorem d_M_held_71 : decode b_M_held 71 = .ok (.iload 6, 2) := by decide +kernel
theorem d_M_held_73 : decode b_M_held 73 = .ok (.ifCond .eq 31, 3) := by decide +kernel
theorem d_M_held_76 : decode b_M_held 76 = .ok (.iload_n 3, 1) := by decide +kernel
theorem d_M_held_77 : decode b_M_held 77 = .ok (.ifCond .eq 13, 3) := by decide +kernel
theorem d_M_held_80 : decode b_M_held 80 = .ok (.lload 7, 2) := by decide +kernel
theorem d_M_held_82 : decode b_M_held 82 = .ok (.lload_n 1, 1) := by decide +kernel
theorem d_M_held_83 : decode b_M_held 83 = .ok (.lcmp, 1) := by decide +kernel
theorem d_M_held_84 : decode b_M_held 84 = .ok (.ifCond .ne 20, 3) := by decide +kernel
theorem d_M_held_87 : decode b_M_held 87 = .ok (.goto 10, 3) := by decide +kernel
theorem d_M_held_90 : decode b_M_held 90 = .ok (.lload 7, 2) := by decide +kernel
theorem d_M_held_92 : decode b_M_held 92 = .ok (.lconst 0, 1) := by decide +kernel
theorem d_M_held_93 : decode b_M_held 93 = .ok (.lcmp, 1) := by decide +kernel
theorem d_M_held_94 : decode b_M_held 94 = .ok (.ifCond .ne 10, 3) := by decide +kernel
theorem d_M_held_97 : decode b_M_held 97 = .ok (.iload 4, 2) := by decide +kernel
theorem d_M_held_99 : decode b_M_held 99 = .ok (.iconst 1, 1) := by decide +kernel
theorem d_M_held_100 : decode b_M_held 100 = .ok (.iadd, 1) := by decide +kernel
theorem d_M_held_101 : decode b_M_held 101 = .ok (.goto 5, 3) := by decide +kernel
theorem d_M_held_104 : decode b_M_held 104 = .ok (.iload 4, 2) := by decide +kernel
theorem d_M_held_106 : decode b_M_held 106 = .ok (.istore 4, 2) := by decide +kernel
theorem d_M_held_108 : decode b_M_held 108 = .ok (.iinc 5 1, 3) := by decide +kernel
theorem d_M_held_111 : decode b_M_held 111 = .ok (.goto (-105), 3) := by decide +kernel
theorem d_M_held_114 : decode b_M_held 114 = .ok (.iload 4, 2) := by decide +kernel
theorem d_M_held_116 : decode b_M_held 116 = .ok (.ireturn, 1) := by decide +kernel
abbrev y_M_always : MethodName := ⟨"StateExplorerModel", "always", "(I)I"⟩
abbrev b_M_always : ByteArray := prog_4_method_28_code
theorem d_M_always_0 : decode b_M_always 0 = .ok (.aload_n 0, 1) := by decide +kernel
theorem d_M_always_1 : decode b_M_always 1 = .ok (.aload_n 0, 1) := by decide +kernel
theorem d_M_always_2 : decode b_M_always 2 = .ok (.getfield 72, 3) := by decide +kernel
theorem d_M_always_5 : decode b_M_always 5 = .ok (.ifCond .ne 7, 3) := by decide +kernel
theorem d_M_always_8 : decode b_M_always 8 = .ok (.iconst 1, 1) := by decide +kernel
theorem d_M_always_9 : decode b_M_always 9 = .ok (.goto 4, 3) := by decide +kernel
theorem d_M_always_12 : decode b_M_always 12 = .ok (.iconst 0, 1) := by decide +kernel
theorem d_M_always_13 : decode b_M_always 13 = .ok (.aload_n 0, 1) := by decide +kernel
theorem d_M_always_14 : decode b_M_always 14 = .ok (.iload_n 1, 1) := by decide +kernel
theorem d_M_always_15 : decode b_M_always 15 = .ok (.invokevirtual 79, 3) := by decide +kernel
theorem d_M_always_18 : decode b_M_always 18 = .ok (.ifCond .ne 7, 3) := by decide +kernel
theorem d_M_always_21 : decode b_M_always 21 = .ok (.iconst 1, 1) := by decide +kernel
theorem d_M_always_22 : decode b_M_always 22 = .ok (.goto 4, 3) := by decide +kernel
theorem d_M_always_25 : decode b_M_always 25 = .ok (.iconst 0, 1) := by decide +kernel
theorem d_M_always_26 : decode b_M_always 26 = .ok (.invokevirtual 62, 3) := by decide +kernel
theorem d_M_always_29 : decode b_M_always 29 = .ok (.ifCond .eq 5, 3) := by decide +kernel
theorem d_M_always_32 : decode b_M_always 32 = .ok (.iconst 0, 1) := by decide +kernel
theorem d_M_always_33 : decode b_M_always 33 = .ok (.ireturn, 1) := by decide +kernel
theorem d_M_always_34 : decode b_M_always 34 = .ok (.aload_n 0, 1) := by decide +kernel
theorem d_M_always_35 : decode b_M_always 35 = .ok (.lconst 1, 1) := by decide +kernel
theorem d_M_always_36 : decode b_M_always 36 = .ok (.iload_n 1, 1) := by decide +kernel
theorem d_M_always_37 : decode b_M_always 37 = .ok (.lshl, 1) := by decide +kernel
theorem d_M_always_38 : decode b_M_always 38 = .ok (.iconst 1, 1) := by decide +kernel
theorem d_M_always_39 : decode b_M_always 39 = .ok (.invokevirtual 128, 3) := by decide +kernel
theorem d_M_always_42 : decode b_M_always 42 = .ok (.istore_n 2, 1) := by decide +kernel
theorem d_M_always_43 : decode b_M_always 43 = .ok (.aload_n 0, 1) := by decide +kernel
theorem d_M_always_44 : decode b_M_always 44 = .ok (.lconst 1, 1) := by decide +kernel
theorem d_M_always_45 : decode b_M_always 45 = .ok (.iload_n 1, 1) := by decide +kernel
theorem d_M_always_46 : decode b_M_always 46 = .ok (.lshl, 1) := by decide +kernel
theorem d_M_always_47 : decode b_M_always 47 = .ok (.iconst 0, 1) := by decide +kernel
theorem d_M_always_48 : decode b_M_always 48 = .ok (.invokevirtual 128, 3) := by decide +kernel
theorem d_M_always_51 : decode b_M_always 51 = .ok (.istore_n 3, 1) := by decide +kernel
theorem d_M_always_52 : decode b_M_always 52 = .ok (.iload_n 2, 1) := by decide +kernel
theorem d_M_always_53 : decode b_M_always 53 = .ok (.ifCond .le 11, 3) := by decide +kernel
theorem d_M_always_56 : decode b_M_always 56 = .ok (.iload_n 3, 1) := by decide +kernel
theorem d_M_always_57 : decode b_M_always 57 = .ok (.ifCond .ne 7, 3) := by decide +kernel
theorem d_M_always_60 : decode b_M_always 60 = .ok (.iconst 1, 1) := by decide +kernel
theorem d_M_always_61 : decode b_M_always 61 = .ok (.goto 16, 3) := by decide +kernel
theorem d_M_always_64 : decode b_M_always 64 = .ok (.iload_n 3, 1) := by decide +kernel
theorem d_M_always_65 : decode b_M_always 65 = .ok (.ifCond .le 11, 3) := by decide +kernel
theorem d_M_always_68 : decode b_M_always 68 = .ok (.iload_n 2, 1) := by decide +kernel
theorem d_M_always_69 : decode b_M_always 69 = .ok (.ifCond .ne 7, 3) := by decide +kernel
theorem d_M_always_72 : decode b_M_always 72 = .ok (.iconst 0, 1) := by decide +kernel
theorem d_M_always_73 : decode b_M_always 73 = .ok (.goto 4, 3) := by decide +kernel
theorem d_M_always_76 : decode b_M_always 76 = .ok (.iconst 2, 1) := by decide +kernel
theorem d_M_always_77 : decode b_M_always 77 = .ok (.ireturn, 1) := by decide +kernel
abbrev y_M_isSame : MethodName := ⟨"StateExplorerModel", "isSame", "(II)Z"⟩
abbrev b_M_isSame : ByteArray := prog_4_method_29_code
theorem d_M_isSame_0 : decode b_M_isSame 0 = .ok (.aload_n 0, 1) := by decide +kernel
theorem d_M_isSame_1 : decode b_M_isSame 1 = .ok (.aload_n 0, 1) := by decide +kernel
theorem d_M_isSame_2 : decode b_M_isSame 2 = .ok (.getfield 72, 3) := by decide +kernel
theorem d_M_isSame_5 : decode b_M_isSame 5 = .ok (.ifCond .ne 7, 3) := by decide +kernel
theorem d_M_isSame_8 : decode b_M_isSame 8 = .ok (.iconst 1, 1) := by decide +kernel
theorem d_M_isSame_9 : decode b_M_isSame 9 = .ok (.goto 4, 3) := by decide +kernel
theorem d_M_isSame_12 : decode b_M_isSame 12 = .ok (.iconst 0, 1) := by decide +kernel
theorem d_M_isSame_13 : decode b_M_isSame 13 = .ok (.aload_n 0, 1) := by decide +kernel
theorem d_M_isSame_14 : decode b_M_isSame 14 = .ok (.iload_n 1, 1) := by decide +kernel
theorem d_M_isSame_15 : decode b_M_isSame 15 = .ok (.invokevirtual 79, 3) := by decide +kernel
theorem d_M_isSame_18 : decode b_M_isSame 18 = .ok (.ifCond .eq 11, 3) := by decide +kernel
theorem d_M_isSame_21 : decode b_M_isSame 21 = .ok (.aload_n 0, 1) := by decide +kernel
theorem d_M_isSame_22 : decode b_M_isSame 22 = .ok (.iload_n 2, 1) := by decide +kernel
theorem d_M_isSame_23 : decode b_M_isSame 23 = .ok (.invokevirtual 79, 3) := by decide +kernel
theorem d_M_isSame_26 : decode b_M_isSame 26 = .ok (.ifCond .ne 7, 3) := by decide +kernel
theorem d_M_isSame_29 : decode b_M_isSame 29 = .ok (.iconst 1, 1) := by decide +kernel
theorem d_M_isSame_30 : decode b_M_isSame 30 = .ok (.goto 4, 3) := by decide +kernel
theorem d_M_isSame_33 : decode b_M_isSame 33 = .ok (.iconst 0, 1) := by decide +kernel
theorem d_M_isSame_34 : decode b_M_isSame 34 = .ok (.invokevirtual 62, 3) := by decide +kernel
theorem d_M_isSame_37 : decode b_M_isSame 37 = .ok (.ifCond .eq 5, 3) := by decide +kernel
theorem d_M_isSame_40 : decode b_M_isSame 40 = .ok (.iconst 0, 1) := by decide +kernel
theorem d_M_isSame_41 : decode b_M_isSame 41 = .ok (.ireturn, 1) := by decide +kernel
theorem d_M_isSame_42 : decode b_M_isSame 42 = .ok (.lconst 1, 1) := by decide +kernel
theorem d_M_isSame_43 : decode b_M_isSame 43 = .ok (.iload_n 1, 1) := by decide +kernel
theorem d_M_isSame_44 : decode b_M_isSame 44 = .ok (.lshl, 1) := by decide +kernel
theorem d_M_isSame_45 : decode b_M_isSame 45 = .ok (.lconst 1, 1) := by decide +kernel
theorem d_M_isSame_46 : decode b_M_isSame 46 = .ok (.iload_n 2, 1) := by decide +kernel
theorem d_M_isSame_47 : decode b_M_isSame 47 = .ok (.lshl, 1) := by decide +kernel
theorem d_M_isSame_48 : decode b_M_isSame 48 = .ok (.lor, 1) := by decide +kernel
theorem d_M_isSame_49 : decode b_M_isSame 49 = .ok (.lstore_n 3, 1) := by decide +kernel
theorem d_M_isSame_50 : decode b_M_isSame 50 = .ok (.aload_n 0, 1) := by decide +kernel
theorem d_M_isSame_51 : decode b_M_isSame 51 = .ok (.lload_n 3, 1) := by decide +kernel
theorem d_M_isSame_52 : decode b_M_isSame 52 = .ok (.iconst 1, 1) := by decide +kernel
theorem d_M_isSame_53 : decode b_M_isSame 53 = .ok (.invokevirtual 128, 3) := by decide +kernel
theorem d_M_isSame_56 : decode b_M_isSame 56 = .ok (.aload_n 0, 1) := by decide +kernel
theorem d_M_isSame_57 : decode b_M_isSame 57 = .ok (.lload_n 3, 1) := by decide +kernel
theorem d_M_isSame_58 : decode b_M_isSame 58 = .ok (.iconst 0, 1) := by decide +kernel
theorem d_M_isSame_59 : decode b_M_isSame 59 = .ok (.invokevirtual 128, 3) := by decide +kernel
theorem d_M_isSame_62 : decode b_M_isSame 62 = .ok (.iadd, 1) := by decide +kernel
theorem d_M_isSame_63 : decode b_M_isSame 63 = .ok (.aload_n 0, 1) := by decide +kernel
theorem d_M_isSame_64 : decode b_M_isSame 64 = .ok (.lconst 0, 1) := by decide +kernel
theorem d_M_isSame_65 : decode b_M_isSame 65 = .ok (.iconst 1, 1) := by decide +kernel
theorem d_M_isSame_66 : decode b_M_isSame 66 = .ok (.invokevirtual 128, 3) := by decide +kernel
theorem d_M_isSame_69 : decode b_M_isSame 69 = .ok (.if_icmp .ne 7, 3) := by decide +kernel
theorem d_M_isSame_72 : decode b_M_isSame 72 = .ok (.iconst 1, 1) := by decide +kernel
theorem d_M_isSame_73 : decode b_M_isSame 73 = .ok (.goto 4, 3) := by decide +kernel
theorem d_M_isSame_76 : decode b_M_isSame 76 = .ok (.iconst 0, 1) := by decide +kernel
theorem d_M_isSame_77 : decode b_M_isSame 77 = .ok (.ireturn, 1) := by decide +kernel
abbrev y_M_least : MethodName := ⟨"StateExplorerModel", "least", "(I)I"⟩
abbrev b_M_least : ByteArray := prog_4_method_30_code
theorem d_M_least_0 : decode b_M_least 0 = .ok (.iconst 0, 1) := by decide +kernel
theorem d_M_least_1 : decode b_M_least 1 = .ok (.istore_n 2, 1) := by decide +kernel
theorem d_M_least_2 : decode b_M_least 2 = .ok (.aload_n 0, 1) := by decide +kernel
theorem d_M_least_3 : decode b_M_least 3 = .ok (.getfield 45, 3) := by decide +kernel
theorem d_M_least_6 : decode b_M_least 6 = .ok (.iload_n 2, 1) := by decide +kernel
theorem d_M_least_7 : decode b_M_least 7 = .ok (.iaload, 1) := by decide +kernel
theorem d_M_least_8 : decode b_M_least 8 = .ok (.ifCond .lt 18, 3) := by decide +kernel
theorem d_M_least_11 : decode b_M_least 11 = .ok (.aload_n 0, 1) := by decide +kernel
theorem d_M_least_12 : decode b_M_least 12 = .ok (.getfield 49, 3) := by decide +kernel
theorem d_M_least_15 : decode b_M_least 15 = .ok (.sipush 256, 3) := by decide +kernel
theorem d_M_least_18 : decode b_M_least 18 = .ok (.iload_n 1, 1) := by decide +kernel
theorem d_M_least_19 : decode b_M_least 19 = .ok (.imul, 1) := by decide +kernel
theorem d_M_least_20 : decode b_M_least 20 = .ok (.iload_n 2, 1) := by decide +kernel
theorem d_M_least_21 : decode b_M_least 21 = .ok (.iadd, 1) := by decide +kernel
theorem d_M_least_22 : decode b_M_least 22 = .ok (.baload, 1) := by decide +kernel
theorem d_M_least_23 : decode b_M_least 23 = .ok (.ifCond .eq 9, 3) := by decide +kernel
theorem d_M_least_26 : decode b_M_least 26 = .ok (.iinc 2 1, 3) := by decide +kernel
theorem d_M_least_29 : decode b_M_least 29 = .ok (.goto (-27), 3) := by decide +kernel
theorem d_M_least_32 : decode b_M_least 32 = .ok (.iload_n 2, 1) := by decide +kernel
theorem d_M_least_33 : decode b_M_least 33 = .ok (.ireturn, 1) := by decide +kernel
abbrev y_M_group : MethodName := ⟨"StateExplorerModel", "group", "(I)I"⟩
abbrev b_M_group : ByteArray := prog_4_method_31_code
theorem d_M_group_0 : decode b_M_group 0 = .ok (.aload_n 0, 1) := by decide +kernel
theorem d_M_group_1 : decode b_M_group 1 = .ok (.aload_n 0, 1) := by decide +kernel
theorem d_M_group_2 : decode b_M_group 2 = .ok (.getfield 72, 3) := by decide +kernel
theorem d_M_group_5 : decode b_M_group 5 = .ok (.ifCond .ne 7, 3) := by decide +kernel
theorem d_M_group_8 : decode b_M_group 8 = .ok (.iconst 1, 1) := by decide +kernel
theorem d_M_group_9 : decode b_M_group 9 = .ok (.goto 4, 3) := by decide +kernel
theorem d_M_group_12 : decode b_M_group 12 = .ok (.iconst 0, 1) := by decide +kernel
theorem d_M_group_13 : decode b_M_group 13 = .ok (.aload_n 0, 1) := by decide +kernel
theorem d_M_group_14 : decode b_M_group 14 = .ok (.iload_n 1, 1) := by decide +kernel
theorem d_M_group_15 : decode b_M_group 15 = .ok (.invokevirtual 122, 3) := by decide +kernel
theorem d_M_group_18 : decode b_M_group 18 = .ok (.ifCond .ne 7, 3) := by decide +kernel
theorem d_M_group_21 : decode b_M_group 21 = .ok (.iconst 1, 1) := by decide +kernel
theorem d_M_group_22 : decode b_M_group 22 = .ok (.goto 4, 3) := by decide +kernel
theorem d_M_group_25 : decode b_M_group 25 = .ok (.iconst 0, 1) := by decide +kernel
theorem d_M_group_26 : decode b_M_group 26 = .ok (.invokevirtual 62, 3) := by decide +kernel
theorem d_M_group_29 : decode b_M_group 29 = .ok (.ifCond .eq 7, 3) := by decide +kernel
theorem d_M_group_32 : decode b_M_group 32 = .ok (.iconst 0, 1) := by decide +kernel
theorem d_M_group_33 : decode b_M_group 33 = .ok (.goto 21, 3) := by decide +kernel
theorem d_M_group_36 : decode b_M_group 36 = .ok (.aload_n 0, 1) := by decide +kernel
theorem d_M_group_37 : decode b_M_group 37 = .ok (.getfield 45, 3) := by decide +kernel
theorem d_M_group_40 : decode b_M_group 40 = .ok (.iload_n 1, 1) := by decide +kernel
theorem d_M_group_41 : decode b_M_group 41 = .ok (.iaload, 1) := by decide +kernel
theorem d_M_group_42 : decode b_M_group 42 = .ok (.ifCond .ge 7, 3) := by decide +kernel
theorem d_M_group_45 : decode b_M_group 45 = .ok (.iconst (-1), 1) := by decide +kernel
theorem d_M_group_46 : decode b_M_group 46 = .ok (.goto 8, 3) := by decide +kernel
theorem d_M_group_49 : decode b_M_group 49 = .ok (.aload_n 0, 1) := by decide +kernel
theorem d_M_group_50 : decode b_M_group 50 = .ok (.iload_n 1, 1) := by decide +kernel
theorem d_M_group_51 : decode b_M_group 51 = .ok (.invokevirtual 132, 3) := by decide +kernel
theorem d_M_group_54 : decode b_M_group 54 = .ok (.ireturn, 1) := by decide +kernel
abbrev y_M_count : MethodName := ⟨"StateExplorerModel", "count", "(I)I"⟩
abbrev b_M_count : ByteArray := prog_4_method_32_code
theorem d_M_count_0 : decode b_M_count 0 = .ok (.aload_n 0, 1) := by decide +kernel
theorem d_M_count_1 : decode b_M_count 1 = .ok (.iconst 0, 1) := by decide +kernel
theorem d_M_count_2 : decode b_M_count 2 = .ok (.putfield 55, 3) := by decide +kernel
theorem d_M_count_5 : decode b_M_count 5 = .ok (.iload_n 1, 1) := by decide +kernel
theorem d_M_count_6 : decode b_M_count 6 = .ok (.ifCond .lt 9, 3) := by decide +kernel
theorem d_M_count_9 : decode b_M_count 9 = .ok (.iload_n 1, 1) := by decide +kernel
theorem d_M_count_10 : decode b_M_count 10 = .ok (.bipush 9, 2) := by decide +kernel
theorem d_M_count_12 : decode b_M_count 12 = .ok (.if_icmp .le 5, 3) := by decide +kernel
theorem d_M_count_15 : decode b_M_count 15 = .ok (.iconst (-1), 1) := by decide +kernel
theorem d_M_count_16 : decode b_M_count 16 = .ok (.ireturn, 1) := by decide +kernel
theorem d_M_count_17 : decode b_M_count 17 = .ok (.iload_n 1, 1) := by decide +kernel
theorem d_M_count_18 : decode b_M_count 18 = .ok (.iconst 5, 1) := by decide +kernel
theorem d_M_count_19 : decode b_M_count 19 = .ok (.if_icmp .ge 55, 3) := by decide +kernel
theorem d_M_count_22 : decode b_M_count 22 = .ok (.iload_n 1, 1) := by decide +kernel
theorem d_M_count_23 : decode b_M_count 23 = .ok (.ifCond .ne 10, 3) := by decide +kernel
theorem d_M_count_26 : decode b_M_count 26 = .ok (.aload_n 0, 1) := by decide +kernel
theorem d_M_count_27 : decode b_M_count 27 = .ok (.getfield 59, 3) := by decide +kernel
theorem d_M_count_30 : decode b_M_count 30 = .ok (.goto 43, 3) := by decide +kernel
theorem d_M_count_33 : decode b_M_count 33 = .ok (.iload_n 1, 1) := by decide +kernel
theorem d_M_count_34 : decode b_M_count 34 = .ok (.iconst 1, 1) := by decide +kernel
theorem d_M_count_35 : decode b_M_count 35 = .ok (.if_icmp .ne 10, 3) := by decide +kernel
theorem d_M_count_38 : decode b_M_count 38 = .ok (.aload_n 0, 1) := by decide +kernel
theorem d_M_count_39 : decode b_M_count 39 = .ok (.getfield 76, 3) := by decide +kernel
theorem d_M_count_42 : decode b_M_count 42 = .ok (.goto 31, 3) := by decide +kernel
theorem d_M_count_45 : decode b_M_count 45 = .ok (.iload_n 1, 1) := by decide +kernel
theorem d_M_count_46 : decode b_M_count 46 = .ok (.iconst 2, 1) := by decide +kernel
theorem d_M_count_47 : decode b_M_count 47 = .ok (.if_icmp .ne 10, 3) := by decide +kernel
theorem d_M_count_50 : decode b_M_count 50 = .ok (.aload_n 0, 1) := by decide +kernel
theorem d_M_count_51 : decode b_M_count 51 = .ok (.getfield 66, 3) := by decide +kernel
theorem d_M_count_54 : decode b_M_count 54 = .ok (.goto 19, 3) := by decide +kernel
theorem d_M_count_57 : decode b_M_count 57 = .ok (.iload_n 1, 1) := by decide +kernel
theorem d_M_count_58 : decode b_M_count 58 = .ok (.iconst 3, 1) := by decide +kernel
theorem d_M_count_59 : decode b_M_count 59 = .ok (.if_icmp .ne 10, 3) := by decide +kernel
theorem d_M_count_62 : decode b_M_count 62 = .ok (.aload_n 0, 1) := by decide +kernel
theorem d_M_count_63 : decode b_M_count 63 = .ok (.getfield 69, 3) := by decide +kernel
theorem d_M_count_66 : decode b_M_count 66 = .ok (.goto 7, 3) := by decide +kernel
theorem d_M_count_69 : decode b_M_count 69 = .ok (.aload_n 0, 1) := by decide +kernel
theorem d_M_count_70 : decode b_M_count 70 = .ok (.getfield 87, 3) := by decide +kernel
theorem d_M_count_73 : decode b_M_count 73 = .ok (.ireturn, 1) := by decide +kernel
theorem d_M_count_74 : decode b_M_count 74 = .ok (.iload_n 1, 1) := by decide +kernel
theorem d_M_count_75 : decode b_M_count 75 = .ok (.iconst 5, 1) := by decide +kernel
theorem d_M_count_76 : decode b_M_count 76 = .ok (.if_icmp .eq 10, 3) := by decide +kernel
theorem d_M_count_79 : decode b_M_count 79 = .ok (.aload_n 0, 1) := by decide +kernel
theorem d_M_count_80 : decode b_M_count 80 = .ok (.getfield 72, 3) := by decide +kernel
theorem d_M_count_83 : decode b_M_count 83 = .ok (.ifCond .ne 16, 3) := by decide +kernel
theorem d_M_count_86 : decode b_M_count 86 = .ok (.aload_n 0, 1) := by decide +kernel
theorem d_M_count_87 : decode b_M_count 87 = .ok (.getfield 72, 3) := by decide +kernel
theorem d_M_count_90 : decode b_M_count 90 = .ok (.ifCond .eq 7, 3) := by decide +kernel
theorem d_M_count_93 : decode b_M_count 93 = .ok (.iconst 1, 1) := by decide +kernel
theorem d_M_count_94 : decode b_M_count 94 = .ok (.goto 4, 3) := by decide +kernel
theorem d_M_count_97 : decode b_M_count 97 = .ok (.iconst 0, 1) := by decide +kernel
theorem d_M_count_98 : decode b_M_count 98 = .ok (.ireturn, 1) := by decide +kernel
theorem d_M_count_99 : decode b_M_count 99 = .ok (.iconst 0, 1) := by decide +kernel
theorem d_M_count_100 : decode b_M_count 100 = .ok (.istore_n 2, 1) := by decide +kernel
theorem d_M_count_101 : decode b_M_count 101 = .ok (.iconst 0, 1) := by decide +kernel
theorem d_M_count_102 : decode b_M_count 102 = .ok (.istore_n 3, 1) := by decide +kernel
theorem d_M_count_103 : decode b_M_count 103 = .ok (.iconst 0, 1) := by decide +kernel
theorem d_M_count_104 : decode b_M_count 104 = .ok (.istore 4, 2) := by decide +kernel
theorem d_M_count_106 : decode b_M_count 106 = .ok (.iconst 0, 1) := by decide +kernel
theorem d_M_count_107 : decode b_M_count 107 = .ok (.istore 5, 2) := by decide +kernel
theorem d_M_count_109 : decode b_M_count 109 = .ok (.iconst 0, 1) := by decide +kernel
theorem d_M_count_110 : decode b_M_count 110 = .ok (.istore 6, 2) := by decide +kernel
theorem d_M_count_112 : decode b_M_count 112 = .ok (.iload 6, 2) := by decide +kernel
theorem d_M_count_114 : decode b_M_count 114 = .ok (.aload_n 0, 1) := by decide +kernel
theorem d_M_count_115 : decode b_M_count 115 = .ok (.invokevirtual 97, 3) := by decide +kernel
theorem d_M_count_118 : decode b_M_count 118 = .ok (.if_icmp .ge 115, 3) := by decide +kernel
theorem d_M_count_121 : decode b_M_count 121 = .ok (.aload_n 0, 1) := by decide +kernel
theorem d_M_count_122 : decode b_M_count 122 = .ok (.getfield 45, 3) := by decide +kernel
theorem d_M_count_125 : decode b_M_count 125 = .ok (.iload 6, 2) := by decide +kernel
theorem d_M_count_127 : decode b_M_count 127 = .ok (.iaload, 1) := by decide +kernel
theorem d_M_count_128 : decode b_M_count 128 = .ok (.ifCond .ge 6, 3) := by decide +kernel
theorem d_M_count_131 : decode b_M_count 131 = .ok (.goto 96, 3) := by decide +kernel
theorem d_M_count_134 : decode b_M_count 134 = .ok (.iinc 2 1, 3) := by decide +kernel
theorem d_M_count_137 : decode b_M_count 137 = .ok (.aload_n 0, 1) := by decide +kernel
theorem d_M_count_138 : decode b_M_count 138 = .ok (.getfield 45, 3) := by decide +kernel
theorem d_M_count_141 : decode b_M_count 141 = .ok (.iload 6, 2) := by decide +kernel
theorem d_M_count_143 : decode b_M_count 143 = .ok (.iaload, 1) := by decide +kernel
theorem d_M_count_144 : decode b_M_count 144 = .ok (.iload_n 3, 1) := by decide +kernel
theorem d_M_count_145 : decode b_M_count 145 = .ok (.if_icmp .le 13, 3) := by decide +kernel
theorem d_M_count_148 : decode b_M_count 148 = .ok (.aload_n 0, 1) := by decide +kernel
theorem d_M_count_149 : decode b_M_count 149 = .ok (.getfield 45, 3) := by decide +kernel
theorem d_M_count_152 : decode b_M_count 152 = .ok (.iload 6, 2) := by decide +kernel
theorem d_M_count_154 : decode b_M_count 154 = .ok (.iaload, 1) := by decide +kernel
theorem d_M_count_155 : decode b_M_count 155 = .ok (.goto 4, 3) := by decide +kernel
theorem d_M_count_158 : decode b_M_count 158 = .ok (.iload_n 3, 1) := by decide +kernel
theorem d_M_count_159 : decode b_M_count 159 = .ok (.istore_n 3, 1) := by decide +kernel
theorem d_M_count_160 : decode b_M_count 160 = .ok (.aload_n 0, 1) := by decide +kernel
theorem d_M_count_161 : decode b_M_count 161 = .ok (.iload 6, 2) := by decide +kernel
theorem d_M_count_163 : decode b_M_count 163 = .ok (.invokevirtual 132, 3) := by decide +kernel
theorem d_M_count_166 : decode b_M_count 166 = .ok (.iload 6, 2) := by decide +kernel
theorem d_M_count_168 : decode b_M_count 168 = .ok (.if_icmp .ne 10, 3) := by decide +kernel
theorem d_M_count_171 : decode b_M_count 171 = .ok (.iload 4, 2) := by decide +kernel
theorem d_M_count_173 : decode b_M_count 173 = .ok (.iconst 1, 1) := by decide +kernel
theorem d_M_count_174 : decode b_M_count 174 = .ok (.iadd, 1) := by decide +kernel
theorem d_M_count_175 : decode b_M_count 175 = .ok (.goto 5, 3) := by decide +kernel
theorem d_M_count_178 : decode b_M_count 178 = .ok (.iload 4, 2) := by decide +kernel
theorem d_M_count_180 : decode b_M_count 180 = .ok (.istore 4, 2) := by decide +kernel
theorem d_M_count_182 : decode b_M_count 182 = .ok (.iconst 0, 1) := by decide +kernel
theorem d_M_count_183 : decode b_M_count 183 = .ok (.istore 7, 2) := by decide +kernel
theorem d_M_count_185 : decode b_M_count 185 = .ok (.iload 7, 2) := by decide +kernel
theorem d_M_count_187 : decode b_M_count 187 = .ok (.aload_n 0, 1) := by decide +kernel
theorem d_M_count_188 : decode b_M_count 188 = .ok (.invokevirtual 101, 3) := by decide +kernel
theorem d_M_count_191 : decode b_M_count 191 = .ok (.if_icmp .ge 36, 3) := by decide +kernel
theorem d_M_count_194 : decode b_M_count 194 = .ok (.aload_n 0, 1) := by decide +kernel
theorem d_M_count_195 : decode b_M_count 195 = .ok (.getfield 35, 3) := by decide +kernel
theorem d_M_count_198 : decode b_M_count 198 = .ok (.bipush 16, 2) := by decide +kernel
theorem d_M_count_200 : decode b_M_count 200 = .ok (.iload 6, 2) := by decide +kernel
theorem d_M_count_202 : decode b_M_count 202 = .ok (.imul, 1) := by decide +kernel
theorem d_M_count_203 : decode b_M_count 203 = .ok (.iload 7, 2) := by decide +kernel
theorem d_M_count_205 : decode b_M_count 205 = .ok (.iadd, 1) := by decide +kernel
theorem d_M_count_206 : decode b_M_count 206 = .ok (.baload, 1) := by decide +kernel
theorem d_M_count_207 : decode b_M_count 207 = .ok (.ifCond .eq 8, 3) := by decide +kernel
theorem d_M_count_210 : decode b_M_count 210 = .ok (.iload 5, 2) := by decide +kernel
theorem d_M_count_212 : decode b_M_count 212 = .ok (.goto 7, 3) := by decide +kernel
theorem d_M_count_215 : decode b_M_count 215 = .ok (.iload 5, 2) := by decide +kernel
theorem d_M_count_217 : decode b_M_count 217 = .ok (.iconst 1, 1) := by decide +kernel
theorem d_M_count_218 : decode b_M_count 218 = .ok (.iadd, 1) := by decide +kernel
theorem d_M_count_219 : decode b_M_count 219 = .ok (.istore 5, 2) := by decide +kernel
theorem d_M_count_221 : decode b_M_count 221 = .ok (.iinc 7 1, 3) := by decide +kernel
theorem d_M_count_224 : decode b_M_count 224 = .ok (.goto (-39), 3) := by decide +kernel
theorem d_M_count_227 : decode b_M_count 227 = .ok (.iinc 6 1, 3) := by decide +kernel
theorem d_M_count_230 : decode b_M_count 230 = .ok (.goto (-118), 3) := by decide +kernel
theorem d_M_count_233 : decode b_M_count 233 = .ok (.iload_n 1, 1) := by decide +kernel
theorem d_M_count_234 : decode b_M_count 234 = .ok (.bipush 6, 2) := by decide +kernel
theorem d_M_count_236 : decode b_M_count 236 = .ok (.if_icmp .ne 7, 3) := by decide +kernel
theorem d_M_count_239 : decode b_M_count 239 = .ok (.iload_n 2, 1) := by decide +kernel
theorem d_M_count_240 : decode b_M_count 240 = .ok (.goto 26, 3) := by decide +kernel
theorem d_M_count_243 : decode b_M_count 243 = .ok (.iload_n 1, 1) := by decide +kernel
theorem d_M_count_244 : decode b_M_count 244 = .ok (.bipush 7, 2) := by decide +kernel
theorem d_M_count_246 : decode b_M_count 246 = .ok (.if_icmp .ne 7, 3) := by decide +kernel
theorem d_M_count_249 : decode b_M_count 249 = .ok (.iload_n 3, 1) := by decide +kernel
theorem d_M_count_250 : decode b_M_count 250 = .ok (.goto 16, 3) := by decide +kernel
theorem d_M_count_253 : decode b_M_count 253 = .ok (.iload_n 1, 1) := by decide +kernel
theorem d_M_count_254 : decode b_M_count 254 = .ok (.bipush 8, 2) := by decide +kernel
theorem d_M_count_256 : decode b_M_count 256 = .ok (.if_icmp .ne 8, 3) := by decide +kernel
theorem d_M_count_259 : decode b_M_count 259 = .ok (.iload 4, 2) := by decide +kernel
theorem d_M_count_261 : decode b_M_count 261 = .ok (.goto 5, 3) := by decide +kernel
theorem d_M_count_264 : decode b_M_count 264 = .ok (.iload 5, 2) := by decide +kernel
theorem d_M_count_266 : decode b_M_count 266 = .ok (.ireturn, 1) := by decide +kernel
