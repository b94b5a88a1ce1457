/-! names of the constructors, printed by genc.py -/
abbrev y_N_init : MethodName := ⟨"StateExplorer$Nodes", "<init>", "()V"⟩
abbrev b_N_init : ByteArray := prog_2_method_1_code
theorem d_N_init_0 : decode b_N_init 0 = .ok (.aload_n 0, 1) := by decide +kernel
theorem d_N_init_1 : decode b_N_init 1 = .ok (.invokespecial 3, 3) := by decide +kernel
theorem d_N_init_4 : decode b_N_init 4 = .ok (.aload_n 0, 1) := by decide +kernel
theorem d_N_init_5 : decode b_N_init 5 = .ok (.ldc 11, 2) := by decide +kernel
theorem d_N_init_7 : decode b_N_init 7 = .ok (.newarray .byte, 2) := by decide +kernel
theorem d_N_init_9 : decode b_N_init 9 = .ok (.putfield 12, 3) := by decide +kernel
theorem d_N_init_12 : decode b_N_init 12 = .ok (.aload_n 0, 1) := by decide +kernel
theorem d_N_init_13 : decode b_N_init 13 = .ok (.ldc 11, 2) := by decide +kernel
theorem d_N_init_15 : decode b_N_init 15 = .ok (.newarray .int, 2) := by decide +kernel
theorem d_N_init_17 : decode b_N_init 17 = .ok (.putfield 16, 3) := by decide +kernel
theorem d_N_init_20 : decode b_N_init 20 = .ok (.aload_n 0, 1) := by decide +kernel
theorem d_N_init_21 : decode b_N_init 21 = .ok (.ldc 11, 2) := by decide +kernel
theorem d_N_init_23 : decode b_N_init 23 = .ok (.newarray .int, 2) := by decide +kernel
theorem d_N_init_25 : decode b_N_init 25 = .ok (.putfield 20, 3) := by decide +kernel
theorem d_N_init_28 : decode b_N_init 28 = .ok (.aload_n 0, 1) := by decide +kernel
theorem d_N_init_29 : decode b_N_init 29 = .ok (.ldc 11, 2) := by decide +kernel
theorem d_N_init_31 : decode b_N_init 31 = .ok (.newarray .int, 2) := by decide +kernel
theorem d_N_init_33 : decode b_N_init 33 = .ok (.putfield 23, 3) := by decide +kernel
theorem d_N_init_36 : decode b_N_init 36 = .ok (.aload_n 0, 1) := by decide +kernel
theorem d_N_init_37 : decode b_N_init 37 = .ok (.ldc 26, 2) := by decide +kernel
theorem d_N_init_39 : decode b_N_init 39 = .ok (.newarray .int, 2) := by decide +kernel
theorem d_N_init_41 : decode b_N_init 41 = .ok (.putfield 27, 3) := by decide +kernel
theorem d_N_init_44 : decode b_N_init 44 = .ok (.aload_n 0, 1) := by decide +kernel
theorem d_N_init_45 : decode b_N_init 45 = .ok (.ldc 11, 2) := by decide +kernel
theorem d_N_init_47 : decode b_N_init 47 = .ok (.newarray .boolean, 2) := by decide +kernel
theorem d_N_init_49 : decode b_N_init 49 = .ok (.putfield 30, 3) := by decide +kernel
theorem d_N_init_52 : decode b_N_init 52 = .ok (.aload_n 0, 1) := by decide +kernel
theorem d_N_init_53 : decode b_N_init 53 = .ok (.iconst (-1), 1) := by decide +kernel
theorem d_N_init_54 : decode b_N_init 54 = .ok (.putfield 34, 3) := by decide +kernel
theorem d_N_init_57 : decode b_N_init 57 = .ok (.aload_n 0, 1) := by decide +kernel
theorem d_N_init_58 : decode b_N_init 58 = .ok (.iconst 2, 1) := by decide +kernel
theorem d_N_init_59 : decode b_N_init 59 = .ok (.putfield 38, 3) := by decide +kernel
theorem d_N_init_62 : decode b_N_init 62 = .ok (.aload_n 0, 1) := by decide +kernel
theorem d_N_init_63 : decode b_N_init 63 = .ok (.sipush 16384, 3) := by decide +kernel
theorem d_N_init_66 : decode b_N_init 66 = .ok (.newarray .int, 2) := by decide +kernel
theorem d_N_init_68 : decode b_N_init 68 = .ok (.putfield 41, 3) := by decide +kernel
theorem d_N_init_71 : decode b_N_init 71 = .ok (.aload_n 0, 1) := by decide +kernel
theorem d_N_init_72 : decode b_N_init 72 = .ok (.sipush 16384, 3) := by decide +kernel
theorem d_N_init_75 : decode b_N_init 75 = .ok (.newarray .int, 2) := by decide +kernel
theorem d_N_init_77 : decode b_N_init 77 = .ok (.putfield 44, 3) := by decide +kernel
theorem d_N_init_80 : decode b_N_init 80 = .ok (.aload_n 0, 1) := by decide +kernel
theorem d_N_init_81 : decode b_N_init 81 = .ok (.sipush 16384, 3) := by decide +kernel
theorem d_N_init_84 : decode b_N_init 84 = .ok (.newarray .int, 2) := by decide +kernel
theorem d_N_init_86 : decode b_N_init 86 = .ok (.putfield 47, 3) := by decide +kernel
theorem d_N_init_89 : decode b_N_init 89 = .ok (.aload_n 0, 1) := by decide +kernel
theorem d_N_init_90 : decode b_N_init 90 = .ok (.sipush 16384, 3) := by decide +kernel
theorem d_N_init_93 : decode b_N_init 93 = .ok (.newarray .int, 2) := by decide +kernel
theorem d_N_init_95 : decode b_N_init 95 = .ok (.putfield 50, 3) := by decide +kernel
theorem d_N_init_98 : decode b_N_init 98 = .ok (.aload_n 0, 1) := by decide +kernel
theorem d_N_init_99 : decode b_N_init 99 = .ok (.sipush 16384, 3) := by decide +kernel
theorem d_N_init_102 : decode b_N_init 102 = .ok (.newarray .byte, 2) := by decide +kernel
theorem d_N_init_104 : decode b_N_init 104 = .ok (.putfield 53, 3) := by decide +kernel
theorem d_N_init_107 : decode b_N_init 107 = .ok (.aload_n 0, 1) := by decide +kernel
theorem d_N_init_108 : decode b_N_init 108 = .ok (.getfield 12, 3) := by decide +kernel
theorem d_N_init_111 : decode b_N_init 111 = .ok (.iconst 0, 1) := by decide +kernel
theorem d_N_init_112 : decode b_N_init 112 = .ok (.bipush 12, 2) := by decide +kernel
theorem d_N_init_114 : decode b_N_init 114 = .ok (.bastore, 1) := by decide +kernel
theorem d_N_init_115 : decode b_N_init 115 = .ok (.aload_n 0, 1) := by decide +kernel
theorem d_N_init_116 : decode b_N_init 116 = .ok (.getfield 12, 3) := by decide +kernel
theorem d_N_init_119 : decode b_N_init 119 = .ok (.iconst 1, 1) := by decide +kernel
theorem d_N_init_120 : decode b_N_init 120 = .ok (.bipush 12, 2) := by decide +kernel
theorem d_N_init_122 : decode b_N_init 122 = .ok (.bastore, 1) := by decide +kernel
theorem d_N_init_123 : decode b_N_init 123 = .ok (.iconst 0, 1) := by decide +kernel
theorem d_N_init_124 : decode b_N_init 124 = .ok (.istore_n 1, 1) := by decide +kernel
theorem d_N_init_125 : decode b_N_init 125 = .ok (.iload_n 1, 1) := by decide +kernel
theorem d_N_init_126 : decode b_N_init 126 = .ok (.ldc 26, 2) := by decide +kernel
theorem d_N_init_128 : decode b_N_init 128 = .ok (.if_icmp .ge 16, 3) := by decide +kernel
theorem d_N_init_131 : decode b_N_init 131 = .ok (.aload_n 0, 1) := by decide +kernel
theorem d_N_init_132 : decode b_N_init 132 = .ok (.getfield 27, 3) := by decide +kernel
theorem d_N_init_135 : decode b_N_init 135 = .ok (.iload_n 1, 1) := by decide +kernel
theorem d_N_init_136 : decode b_N_init 136 = .ok (.iconst (-1), 1) := by decide +kernel
theorem d_N_init_137 : decode b_N_init 137 = .ok (.iastore, 1) := by decide +kernel
theorem d_N_init_138 : decode b_N_init 138 = .ok (.iinc 1 1, 3) := by decide +kernel
theorem d_N_init_141 : decode b_N_init 141 = .ok (.goto (-16), 3) := by decide +kernel
theorem d_N_init_144 : decode b_N_init 144 = .ok (.aload_n 0, 1) := by decide +kernel
theorem d_N_init_145 : decode b_N_init 145 = .ok (.ldc 56, 2) := by decide +kernel
theorem d_N_init_147 : decode b_N_init 147 = .ok (.putfield 57, 3) := by decide +kernel
theorem d_N_init_150 : decode b_N_init 150 = .ok (.aload_n 0, 1) := by decide +kernel
theorem d_N_init_151 : decode b_N_init 151 = .ok (.invokevirtual 60, 3) := by decide +kernel
theorem d_N_init_154 : decode b_N_init 154 = .ok (.return_, 1) := by decide +kernel
abbrev y_X_init : MethodName := ⟨"StateExplorer", "<init>", "()V"⟩
abbrev b_X_init : ByteArray := prog_1_method_1_code
theorem d_X_init_0 : decode b_X_init 0 = .ok (.aload_n 0, 1) := by decide +kernel
theorem d_X_init_1 : decode b_X_init 1 = .ok (.invokespecial 1, 3) := by decide +kernel
theorem d_X_init_4 : decode b_X_init 4 = .ok (.aload_n 0, 1) := by decide +kernel
theorem d_X_init_5 : decode b_X_init 5 = .ok (.new 7, 3) := by decide +kernel
theorem d_X_init_8 : decode b_X_init 8 = .ok (.dup, 1) := by decide +kernel
theorem d_X_init_9 : decode b_X_init 9 = .ok (.invokespecial 9, 3) := by decide +kernel
theorem d_X_init_12 : decode b_X_init 12 = .ok (.putfield 10, 3) := by decide +kernel
theorem d_X_init_15 : decode b_X_init 15 = .ok (.aload_n 0, 1) := by decide +kernel
theorem d_X_init_16 : decode b_X_init 16 = .ok (.bipush 60, 2) := by decide +kernel
theorem d_X_init_18 : decode b_X_init 18 = .ok (.newarray .int, 2) := by decide +kernel
theorem d_X_init_20 : decode b_X_init 20 = .ok (.putfield 16, 3) := by decide +kernel
theorem d_X_init_23 : decode b_X_init 23 = .ok (.aload_n 0, 1) := by decide +kernel
theorem d_X_init_24 : decode b_X_init 24 = .ok (.bipush 60, 2) := by decide +kernel
theorem d_X_init_26 : decode b_X_init 26 = .ok (.newarray .int, 2) := by decide +kernel
theorem d_X_init_28 : decode b_X_init 28 = .ok (.putfield 20, 3) := by decide +kernel
theorem d_X_init_31 : decode b_X_init 31 = .ok (.aload_n 0, 1) := by decide +kernel
theorem d_X_init_32 : decode b_X_init 32 = .ok (.bipush 6, 2) := by decide +kernel
theorem d_X_init_34 : decode b_X_init 34 = .ok (.newarray .int, 2) := by decide +kernel
theorem d_X_init_36 : decode b_X_init 36 = .ok (.putfield 23, 3) := by decide +kernel
theorem d_X_init_39 : decode b_X_init 39 = .ok (.aload_n 0, 1) := by decide +kernel
theorem d_X_init_40 : decode b_X_init 40 = .ok (.bipush 8, 2) := by decide +kernel
theorem d_X_init_42 : decode b_X_init 42 = .ok (.newarray .int, 2) := by decide +kernel
theorem d_X_init_44 : decode b_X_init 44 = .ok (.putfield 26, 3) := by decide +kernel
theorem d_X_init_47 : decode b_X_init 47 = .ok (.aload_n 0, 1) := by decide +kernel
theorem d_X_init_48 : decode b_X_init 48 = .ok (.sipush 240, 3) := by decide +kernel
theorem d_X_init_51 : decode b_X_init 51 = .ok (.newarray .int, 2) := by decide +kernel
theorem d_X_init_53 : decode b_X_init 53 = .ok (.putfield 29, 3) := by decide +kernel
theorem d_X_init_56 : decode b_X_init 56 = .ok (.aload_n 0, 1) := by decide +kernel
theorem d_X_init_57 : decode b_X_init 57 = .ok (.sipush 240, 3) := by decide +kernel
theorem d_X_init_60 : decode b_X_init 60 = .ok (.newarray .int, 2) := by decide +kernel
theorem d_X_init_62 : decode b_X_init 62 = .ok (.putfield 32, 3) := by decide +kernel
theorem d_X_init_65 : decode b_X_init 65 = .ok (.aload_n 0, 1) := by decide +kernel
theorem d_X_init_66 : decode b_X_init 66 = .ok (.sipush 240, 3) := by decide +kernel
theorem d_X_init_69 : decode b_X_init 69 = .ok (.newarray .boolean, 2) := by decide +kernel
theorem d_X_init_71 : decode b_X_init 71 = .ok (.putfield 35, 3) := by decide +kernel
theorem d_X_init_74 : decode b_X_init 74 = .ok (.aload_n 0, 1) := by decide +kernel
theorem d_X_init_75 : decode b_X_init 75 = .ok (.bipush 60, 2) := by decide +kernel
theorem d_X_init_77 : decode b_X_init 77 = .ok (.newarray .int, 2) := by decide +kernel
theorem d_X_init_79 : decode b_X_init 79 = .ok (.putfield 39, 3) := by decide +kernel
theorem d_X_init_82 : decode b_X_init 82 = .ok (.aload_n 0, 1) := by decide +kernel
theorem d_X_init_83 : decode b_X_init 83 = .ok (.bipush 60, 2) := by decide +kernel
theorem d_X_init_85 : decode b_X_init 85 = .ok (.newarray .int, 2) := by decide +kernel
theorem d_X_init_87 : decode b_X_init 87 = .ok (.putfield 42, 3) := by decide +kernel
theorem d_X_init_90 : decode b_X_init 90 = .ok (.aload_n 0, 1) := by decide +kernel
theorem d_X_init_91 : decode b_X_init 91 = .ok (.bipush 8, 2) := by decide +kernel
theorem d_X_init_93 : decode b_X_init 93 = .ok (.newarray .int, 2) := by decide +kernel
theorem d_X_init_95 : decode b_X_init 95 = .ok (.putfield 45, 3) := by decide +kernel
theorem d_X_init_98 : decode b_X_init 98 = .ok (.aload_n 0, 1) := by decide +kernel
theorem d_X_init_99 : decode b_X_init 99 = .ok (.sipush 256, 3) := by decide +kernel
theorem d_X_init_102 : decode b_X_init 102 = .ok (.newarray .int, 2) := by decide +kernel
theorem d_X_init_104 : decode b_X_init 104 = .ok (.putfield 48, 3) := by decide +kernel
theorem d_X_init_107 : decode b_X_init 107 = .ok (.aload_n 0, 1) := by decide +kernel
theorem d_X_init_108 : decode b_X_init 108 = .ok (.sipush 256, 3) := by decide +kernel
theorem d_X_init_111 : decode b_X_init 111 = .ok (.newarray .int, 2) := by decide +kernel
theorem d_X_init_113 : decode b_X_init 113 = .ok (.putfield 51, 3) := by decide +kernel
theorem d_X_init_116 : decode b_X_init 116 = .ok (.aload_n 0, 1) := by decide +kernel
theorem d_X_init_117 : decode b_X_init 117 = .ok (.sipush 256, 3) := by decide +kernel
theorem d_X_init_120 : decode b_X_init 120 = .ok (.newarray .int, 2) := by decide +kernel
theorem d_X_init_122 : decode b_X_init 122 = .ok (.putfield 54, 3) := by decide +kernel
theorem d_X_init_125 : decode b_X_init 125 = .ok (.aload_n 0, 1) := by decide +kernel
theorem d_X_init_126 : decode b_X_init 126 = .ok (.iconst 4, 1) := by decide +kernel
theorem d_X_init_127 : decode b_X_init 127 = .ok (.newarray .int, 2) := by decide +kernel
theorem d_X_init_129 : decode b_X_init 129 = .ok (.putfield 57, 3) := by decide +kernel
theorem d_X_init_132 : decode b_X_init 132 = .ok (.aload_n 0, 1) := by decide +kernel
theorem d_X_init_133 : decode b_X_init 133 = .ok (.bipush 8, 2) := by decide +kernel
theorem d_X_init_135 : decode b_X_init 135 = .ok (.newarray .int, 2) := by decide +kernel
theorem d_X_init_137 : decode b_X_init 137 = .ok (.putfield 60, 3) := by decide +kernel
theorem d_X_init_140 : decode b_X_init 140 = .ok (.aload_n 0, 1) := by decide +kernel
theorem d_X_init_141 : decode b_X_init 141 = .ok (.bipush 8, 2) := by decide +kernel
theorem d_X_init_143 : decode b_X_init 143 = .ok (.newarray .int, 2) := by decide +kernel
theorem d_X_init_145 : decode b_X_init 145 = .ok (.putfield 63, 3) := by decide +kernel
theorem d_X_init_148 : decode b_X_init 148 = .ok (.aload_n 0, 1) := by decide +kernel
theorem d_X_init_149 : decode b_X_init 149 = .ok (.sipush 256, 3) := by decide +kernel
theorem d_X_init_152 : decode b_X_init 152 = .ok (.newarray .int, 2) := by decide +kernel
theorem d_X_init_154 : decode b_X_init 154 = .ok (.putfield 66, 3) := by decide +kernel
theorem d_X_init_157 : decode b_X_init 157 = .ok (.aload_n 0, 1) := by decide +kernel
theorem d_X_init_158 : decode b_X_init 158 = .ok (.sipush 256, 3) := by decide +kernel
theorem d_X_init_161 : decode b_X_init 161 = .ok (.newarray .int, 2) := by decide +kernel
theorem d_X_init_163 : decode b_X_init 163 = .ok (.putfield 69, 3) := by decide +kernel
theorem d_X_init_166 : decode b_X_init 166 = .ok (.return_, 1) := by decide +kernel
abbrev y_M_init : MethodName := ⟨"StateExplorerModel", "<init>", "()V"⟩
abbrev b_M_init : ByteArray := prog_4_method_1_code
theorem d_M_init_0 : decode b_M_init 0 = .ok (.aload_n 0, 1) := by decide +kernel
theorem d_M_init_1 : decode b_M_init 1 = .ok (.invokespecial 1, 3) := by decide +kernel
theorem d_M_init_4 : decode b_M_init 4 = .ok (.aload_n 0, 1) := by decide +kernel
theorem d_M_init_5 : decode b_M_init 5 = .ok (.bipush 60, 2) := by decide +kernel
theorem d_M_init_7 : decode b_M_init 7 = .ok (.newarray .int, 2) := by decide +kernel
theorem d_M_init_9 : decode b_M_init 9 = .ok (.putfield 7, 3) := by decide +kernel
theorem d_M_init_12 : decode b_M_init 12 = .ok (.aload_n 0, 1) := by decide +kernel
theorem d_M_init_13 : decode b_M_init 13 = .ok (.bipush 60, 2) := by decide +kernel
theorem d_M_init_15 : decode b_M_init 15 = .ok (.newarray .int, 2) := by decide +kernel
theorem d_M_init_17 : decode b_M_init 17 = .ok (.putfield 13, 3) := by decide +kernel
theorem d_M_init_20 : decode b_M_init 20 = .ok (.aload_n 0, 1) := by decide +kernel
theorem d_M_init_21 : decode b_M_init 21 = .ok (.bipush 60, 2) := by decide +kernel
theorem d_M_init_23 : decode b_M_init 23 = .ok (.newarray .int, 2) := by decide +kernel
theorem d_M_init_25 : decode b_M_init 25 = .ok (.putfield 16, 3) := by decide +kernel
theorem d_M_init_28 : decode b_M_init 28 = .ok (.aload_n 0, 1) := by decide +kernel
theorem d_M_init_29 : decode b_M_init 29 = .ok (.bipush 60, 2) := by decide +kernel
theorem d_M_init_31 : decode b_M_init 31 = .ok (.newarray .int, 2) := by decide +kernel
theorem d_M_init_33 : decode b_M_init 33 = .ok (.putfield 19, 3) := by decide +kernel
theorem d_M_init_36 : decode b_M_init 36 = .ok (.aload_n 0, 1) := by decide +kernel
theorem d_M_init_37 : decode b_M_init 37 = .ok (.sipush 240, 3) := by decide +kernel
theorem d_M_init_40 : decode b_M_init 40 = .ok (.newarray .int, 2) := by decide +kernel
theorem d_M_init_42 : decode b_M_init 42 = .ok (.putfield 22, 3) := by decide +kernel
theorem d_M_init_45 : decode b_M_init 45 = .ok (.aload_n 0, 1) := by decide +kernel
theorem d_M_init_46 : decode b_M_init 46 = .ok (.sipush 240, 3) := by decide +kernel
theorem d_M_init_49 : decode b_M_init 49 = .ok (.newarray .int, 2) := by decide +kernel
theorem d_M_init_51 : decode b_M_init 51 = .ok (.putfield 25, 3) := by decide +kernel
theorem d_M_init_54 : decode b_M_init 54 = .ok (.aload_n 0, 1) := by decide +kernel
theorem d_M_init_55 : decode b_M_init 55 = .ok (.bipush 6, 2) := by decide +kernel
theorem d_M_init_57 : decode b_M_init 57 = .ok (.newarray .int, 2) := by decide +kernel
theorem d_M_init_59 : decode b_M_init 59 = .ok (.putfield 28, 3) := by decide +kernel
theorem d_M_init_62 : decode b_M_init 62 = .ok (.aload_n 0, 1) := by decide +kernel
theorem d_M_init_63 : decode b_M_init 63 = .ok (.sipush 240, 3) := by decide +kernel
theorem d_M_init_66 : decode b_M_init 66 = .ok (.newarray .boolean, 2) := by decide +kernel
theorem d_M_init_68 : decode b_M_init 68 = .ok (.putfield 31, 3) := by decide +kernel
theorem d_M_init_71 : decode b_M_init 71 = .ok (.aload_n 0, 1) := by decide +kernel
theorem d_M_init_72 : decode b_M_init 72 = .ok (.sipush 4096, 3) := by decide +kernel
theorem d_M_init_75 : decode b_M_init 75 = .ok (.newarray .boolean, 2) := by decide +kernel
theorem d_M_init_77 : decode b_M_init 77 = .ok (.putfield 35, 3) := by decide +kernel
theorem d_M_init_80 : decode b_M_init 80 = .ok (.aload_n 0, 1) := by decide +kernel
theorem d_M_init_81 : decode b_M_init 81 = .ok (.sipush 4096, 3) := by decide +kernel
theorem d_M_init_84 : decode b_M_init 84 = .ok (.newarray .int, 2) := by decide +kernel
theorem d_M_init_86 : decode b_M_init 86 = .ok (.putfield 38, 3) := by decide +kernel
theorem d_M_init_89 : decode b_M_init 89 = .ok (.aload_n 0, 1) := by decide +kernel
theorem d_M_init_90 : decode b_M_init 90 = .ok (.sipush 4096, 3) := by decide +kernel
theorem d_M_init_93 : decode b_M_init 93 = .ok (.newarray .long, 2) := by decide +kernel
theorem d_M_init_95 : decode b_M_init 95 = .ok (.putfield 41, 3) := by decide +kernel
theorem d_M_init_98 : decode b_M_init 98 = .ok (.aload_n 0, 1) := by decide +kernel
theorem d_M_init_99 : decode b_M_init 99 = .ok (.sipush 256, 3) := by decide +kernel
theorem d_M_init_102 : decode b_M_init 102 = .ok (.newarray .int, 2) := by decide +kernel
theorem d_M_init_104 : decode b_M_init 104 = .ok (.putfield 45, 3) := by decide +kernel
theorem d_M_init_107 : decode b_M_init 107 = .ok (.aload_n 0, 1) := by decide +kernel
theorem d_M_init_108 : decode b_M_init 108 = .ok (.ldc 48, 2) := by decide +kernel
theorem d_M_init_110 : decode b_M_init 110 = .ok (.newarray .boolean, 2) := by decide +kernel
theorem d_M_init_112 : decode b_M_init 112 = .ok (.putfield 49, 3) := by decide +kernel
theorem d_M_init_115 : decode b_M_init 115 = .ok (.aload_n 0, 1) := by decide +kernel
theorem d_M_init_116 : decode b_M_init 116 = .ok (.ldc 48, 2) := by decide +kernel
theorem d_M_init_118 : decode b_M_init 118 = .ok (.newarray .boolean, 2) := by decide +kernel
theorem d_M_init_120 : decode b_M_init 120 = .ok (.putfield 52, 3) := by decide +kernel
theorem d_M_init_123 : decode b_M_init 123 = .ok (.return_, 1) := by decide +kernel
theorem q_15 : Cond.code ⟨"StateExplorer", "<init>", "()V"⟩ prog_1_method_1_code 1 none ∈ xw_ok := xw_mem (xt1 (List.mem_of_getElem? (i := 15) rfl)) rfl
theorem q_16 : Cond.methodLink "StateExplorer" 1 ⟨"java/lang/Object", "<init>", "()V"⟩ ∈ xw_ok := xw_mem (xt1 (List.mem_of_getElem? (i := 16) rfl)) rfl
theorem q_17 : Cond.instanceMethod ⟨"java/lang/Object", "<init>", "()V"⟩ ∈ xw_ok := xw_mem (xt1 (List.mem_of_getElem? (i := 17) rfl)) rfl
theorem q_19 : Cond.classLink "StateExplorer" 7 "StateExplorer$Nodes" ∈ xw_ok := xw_mem (xt1 (List.mem_of_getElem? (i := 19) rfl)) rfl
theorem q_20 : Cond.instantiable "StateExplorer$Nodes" 14 ∈ xw_ok := xw_mem (xt1 (List.mem_of_getElem? (i := 20) rfl)) rfl
theorem q_21 : Cond.methodLink "StateExplorer" 9 ⟨"StateExplorer$Nodes", "<init>", "()V"⟩ ∈ xw_ok := xw_mem (xt1 (List.mem_of_getElem? (i := 21) rfl)) rfl
theorem q_22 : Cond.instanceMethod ⟨"StateExplorer$Nodes", "<init>", "()V"⟩ ∈ xw_ok := xw_mem (xt1 (List.mem_of_getElem? (i := 22) rfl)) rfl
theorem q_23 : Cond.code ⟨"StateExplorer$Nodes", "<init>", "()V"⟩ prog_2_method_1_code 2 none ∈ xw_ok := xw_mem (xt1 (List.mem_of_getElem? (i := 23) rfl)) rfl
theorem q_24 : Cond.methodLink "StateExplorer$Nodes" 3 ⟨"java/lang/Object", "<init>", "()V"⟩ ∈ xw_ok := xw_mem (xt1 (List.mem_of_getElem? (i := 24) rfl)) rfl
theorem q_27 : Cond.constant "StateExplorer$Nodes" 56 262142 ∈ xw_ok := xw_mem (xt1 (List.mem_of_getElem? (i := 27) rfl)) rfl
theorem q_543 : Cond.code ⟨"StateExplorerModel", "<init>", "()V"⟩ prog_4_method_1_code 1 none ∈ xw_ok := xw_mem (xt3 (List.mem_of_getElem? (i := 63) rfl)) rfl
theorem q_544 : Cond.methodLink "StateExplorerModel" 1 ⟨"java/lang/Object", "<init>", "()V"⟩ ∈ xw_ok := xw_mem (xt3 (List.mem_of_getElem? (i := 64) rfl)) rfl
theorem q_610 : Cond.arrayClass .long ∈ xw_ok := xw_mem (xt3 (List.mem_of_getElem? (i := 130) rfl)) rfl
theorem q_77 : Cond.arrayClass .byte ∈ xw_ok := xw_mem (xt1 (List.mem_of_getElem? (i := 77) rfl)) rfl
theorem q_78 : Cond.arrayClass .int ∈ xw_ok := xw_mem (xt1 (List.mem_of_getElem? (i := 78) rfl)) rfl
theorem q_79 : Cond.arrayClass .boolean ∈ xw_ok := xw_mem (xt1 (List.mem_of_getElem? (i := 79) rfl)) rfl
