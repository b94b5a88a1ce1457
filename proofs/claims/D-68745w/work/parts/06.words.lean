/-! words of the tables, printed by mk.py -/
theorem xnz {x : Int32} (h : x = 0 ∨ x = 1) : vp_nar .boolean x = x := by rcases h with rfl | rfl <;> rfl
theorem xt1 {w : Cond} (h : w ∈ tables_1_1) : w ∈ lw_tbl := List.mem_append_right _ (List.mem_append_left _ h)
theorem xt2 {w : Cond} (h : w ∈ tables_1_2) : w ∈ lw_tbl := List.mem_append_right _ (List.mem_append_right _ (List.mem_append_left _ h))
theorem xt3 {w : Cond} (h : w ∈ tables_1_3) : w ∈ lw_tbl := List.mem_append_right _ (List.mem_append_right _ (List.mem_append_right _ (List.mem_append_left _ h)))
theorem xt4 {w : Cond} (h : w ∈ tables_1_4) : w ∈ lw_tbl := List.mem_append_right _ (List.mem_append_right _ (List.mem_append_right _ (List.mem_append_right _ h)))
theorem q_0 : Cond.initialized "StateExplorerLaw" ∈ xw_ok := xw_mem (xt1 (List.mem_of_getElem? (i := 0) rfl)) rfl
theorem q_1 : Cond.initialized "StateExplorer" ∈ xw_ok := xw_mem (xt1 (List.mem_of_getElem? (i := 1) rfl)) rfl
theorem q_2 : Cond.initialized "StateExplorer$Nodes" ∈ xw_ok := xw_mem (xt1 (List.mem_of_getElem? (i := 2) rfl)) rfl
theorem q_3 : Cond.initialized "StateExplorerModel" ∈ xw_ok := xw_mem (xt1 (List.mem_of_getElem? (i := 3) rfl)) rfl
theorem q_7 : Cond.initialized "java/lang/IllegalArgumentException" ∈ xw_ok := xw_mem (xt1 (List.mem_of_getElem? (i := 7) rfl)) rfl
theorem q_8 : Cond.initialized "java/lang/IndexOutOfBoundsException" ∈ xw_ok := xw_mem (xt1 (List.mem_of_getElem? (i := 8) rfl)) rfl
theorem q_9 : Cond.initialized "java/lang/IllegalStateException" ∈ xw_ok := xw_mem (xt1 (List.mem_of_getElem? (i := 9) rfl)) rfl
theorem q_10 : Cond.initialized "java/lang/Math" ∈ xw_ok := xw_mem (xt1 (List.mem_of_getElem? (i := 10) rfl)) rfl
theorem q_25 : Cond.constant "StateExplorer$Nodes" 11 262144 ∈ xw_ok := xw_mem (xt1 (List.mem_of_getElem? (i := 25) rfl)) rfl
theorem q_26 : Cond.constant "StateExplorer$Nodes" 26 32768 ∈ xw_ok := xw_mem (xt1 (List.mem_of_getElem? (i := 26) rfl)) rfl
theorem q_28 : Cond.methodLink "StateExplorer$Nodes" 60 ⟨"StateExplorer$Nodes", "forget", "()V"⟩ ∈ xw_ok := xw_mem (xt1 (List.mem_of_getElem? (i := 28) rfl)) rfl
theorem q_30 : Cond.instanceMethod ⟨"StateExplorer$Nodes", "forget", "()V"⟩ ∈ xw_ok := xw_mem (xt1 (List.mem_of_getElem? (i := 30) rfl)) rfl
theorem q_31 : Cond.code ⟨"StateExplorer$Nodes", "forget", "()V"⟩ prog_2_method_2_code 2 none ∈ xw_ok := xw_mem (xt1 (List.mem_of_getElem? (i := 31) rfl)) rfl
theorem q_32 : Cond.fieldLink "StateExplorer$Nodes" 12 "StateExplorer$Nodes" "levels" "[B" ∈ xw_ok := xw_mem (xt1 (List.mem_of_getElem? (i := 32) rfl)) rfl
theorem q_33 : Cond.fieldLink "StateExplorer$Nodes" 16 "StateExplorer$Nodes" "lows" "[I" ∈ xw_ok := xw_mem (xt1 (List.mem_of_getElem? (i := 33) rfl)) rfl
theorem q_35 : Cond.fieldLink "StateExplorer$Nodes" 20 "StateExplorer$Nodes" "highs" "[I" ∈ xw_ok := xw_mem (xt1 (List.mem_of_getElem? (i := 35) rfl)) rfl
theorem q_37 : Cond.fieldLink "StateExplorer$Nodes" 23 "StateExplorer$Nodes" "next" "[I" ∈ xw_ok := xw_mem (xt1 (List.mem_of_getElem? (i := 37) rfl)) rfl
theorem q_38 : Cond.fieldLink "StateExplorer$Nodes" 27 "StateExplorer$Nodes" "chains" "[I" ∈ xw_ok := xw_mem (xt1 (List.mem_of_getElem? (i := 38) rfl)) rfl
theorem q_39 : Cond.fieldLink "StateExplorer$Nodes" 30 "StateExplorer$Nodes" "marked" "[Z" ∈ xw_ok := xw_mem (xt1 (List.mem_of_getElem? (i := 39) rfl)) rfl
theorem q_40 : Cond.fieldLink "StateExplorer$Nodes" 34 "StateExplorer$Nodes" "free" "I" ∈ xw_ok := xw_mem (xt1 (List.mem_of_getElem? (i := 40) rfl)) rfl
theorem q_41 : Cond.fieldLink "StateExplorer$Nodes" 38 "StateExplorer$Nodes" "used" "I" ∈ xw_ok := xw_mem (xt1 (List.mem_of_getElem? (i := 41) rfl)) rfl
theorem q_42 : Cond.fieldLink "StateExplorer$Nodes" 57 "StateExplorer$Nodes" "spare" "I" ∈ xw_ok := xw_mem (xt1 (List.mem_of_getElem? (i := 42) rfl)) rfl
theorem q_43 : Cond.fieldLink "StateExplorer$Nodes" 41 "StateExplorer$Nodes" "keyA" "[I" ∈ xw_ok := xw_mem (xt1 (List.mem_of_getElem? (i := 43) rfl)) rfl
theorem q_44 : Cond.fieldLink "StateExplorer$Nodes" 44 "StateExplorer$Nodes" "keyB" "[I" ∈ xw_ok := xw_mem (xt1 (List.mem_of_getElem? (i := 44) rfl)) rfl
theorem q_45 : Cond.fieldLink "StateExplorer$Nodes" 47 "StateExplorer$Nodes" "keyC" "[I" ∈ xw_ok := xw_mem (xt1 (List.mem_of_getElem? (i := 45) rfl)) rfl
theorem q_46 : Cond.fieldLink "StateExplorer$Nodes" 50 "StateExplorer$Nodes" "results" "[I" ∈ xw_ok := xw_mem (xt1 (List.mem_of_getElem? (i := 46) rfl)) rfl
theorem q_47 : Cond.fieldLink "StateExplorer$Nodes" 53 "StateExplorer$Nodes" "keyKinds" "[B" ∈ xw_ok := xw_mem (xt1 (List.mem_of_getElem? (i := 47) rfl)) rfl
theorem q_80 : Cond.fieldLink "StateExplorer" 10 "StateExplorer" "nodes" "LStateExplorer$Nodes;" ∈ xw_ok := xw_mem (xt1 (List.mem_of_getElem? (i := 80) rfl)) rfl
theorem q_81 : Cond.fieldLink "StateExplorer" 75 "StateExplorer" "gates" "I" ∈ xw_ok := xw_mem (xt1 (List.mem_of_getElem? (i := 81) rfl)) rfl
theorem q_82 : Cond.fieldLink "StateExplorer" 96 "StateExplorer" "feeds" "I" ∈ xw_ok := xw_mem (xt1 (List.mem_of_getElem? (i := 82) rfl)) rfl
theorem q_83 : Cond.fieldLink "StateExplorer" 86 "StateExplorer" "inputs" "I" ∈ xw_ok := xw_mem (xt1 (List.mem_of_getElem? (i := 83) rfl)) rfl
theorem q_84 : Cond.fieldLink "StateExplorer" 89 "StateExplorer" "latches" "I" ∈ xw_ok := xw_mem (xt1 (List.mem_of_getElem? (i := 84) rfl)) rfl
theorem q_85 : Cond.fieldLink "StateExplorer" 109 "StateExplorer" "outputs" "I" ∈ xw_ok := xw_mem (xt1 (List.mem_of_getElem? (i := 85) rfl)) rfl
theorem q_86 : Cond.fieldLink "StateExplorer" 16 "StateExplorer" "sorts" "[I" ∈ xw_ok := xw_mem (xt1 (List.mem_of_getElem? (i := 86) rfl)) rfl
theorem q_87 : Cond.fieldLink "StateExplorer" 20 "StateExplorer" "numbers" "[I" ∈ xw_ok := xw_mem (xt1 (List.mem_of_getElem? (i := 87) rfl)) rfl
theorem q_88 : Cond.fieldLink "StateExplorer" 23 "StateExplorer" "named" "[I" ∈ xw_ok := xw_mem (xt1 (List.mem_of_getElem? (i := 88) rfl)) rfl
theorem q_89 : Cond.fieldLink "StateExplorer" 26 "StateExplorer" "latchAt" "[I" ∈ xw_ok := xw_mem (xt1 (List.mem_of_getElem? (i := 89) rfl)) rfl
theorem q_90 : Cond.fieldLink "StateExplorer" 29 "StateExplorer" "to" "[I" ∈ xw_ok := xw_mem (xt1 (List.mem_of_getElem? (i := 90) rfl)) rfl
theorem q_91 : Cond.fieldLink "StateExplorer" 32 "StateExplorer" "from" "[I" ∈ xw_ok := xw_mem (xt1 (List.mem_of_getElem? (i := 91) rfl)) rfl
theorem q_92 : Cond.fieldLink "StateExplorer" 35 "StateExplorer" "negated" "[Z" ∈ xw_ok := xw_mem (xt1 (List.mem_of_getElem? (i := 92) rfl)) rfl
theorem q_93 : Cond.fieldLink "StateExplorer" 92 "StateExplorer" "explored" "Z" ∈ xw_ok := xw_mem (xt1 (List.mem_of_getElem? (i := 93) rfl)) rfl
theorem q_94 : Cond.fieldLink "StateExplorer" 39 "StateExplorer" "ones" "[I" ∈ xw_ok := xw_mem (xt1 (List.mem_of_getElem? (i := 94) rfl)) rfl
theorem q_95 : Cond.fieldLink "StateExplorer" 42 "StateExplorer" "zeros" "[I" ∈ xw_ok := xw_mem (xt1 (List.mem_of_getElem? (i := 95) rfl)) rfl
theorem q_96 : Cond.fieldLink "StateExplorer" 45 "StateExplorer" "nexts" "[I" ∈ xw_ok := xw_mem (xt1 (List.mem_of_getElem? (i := 96) rfl)) rfl
theorem q_97 : Cond.fieldLink "StateExplorer" 48 "StateExplorer" "layers" "[I" ∈ xw_ok := xw_mem (xt1 (List.mem_of_getElem? (i := 97) rfl)) rfl
theorem q_98 : Cond.fieldLink "StateExplorer" 51 "StateExplorer" "groups" "[I" ∈ xw_ok := xw_mem (xt1 (List.mem_of_getElem? (i := 98) rfl)) rfl
theorem q_99 : Cond.fieldLink "StateExplorer" 54 "StateExplorer" "fresh" "[I" ∈ xw_ok := xw_mem (xt1 (List.mem_of_getElem? (i := 99) rfl)) rfl
theorem q_100 : Cond.fieldLink "StateExplorer" 124 "StateExplorer" "settles" "I" ∈ xw_ok := xw_mem (xt1 (List.mem_of_getElem? (i := 100) rfl)) rfl
theorem q_101 : Cond.fieldLink "StateExplorer" 127 "StateExplorer" "reached" "I" ∈ xw_ok := xw_mem (xt1 (List.mem_of_getElem? (i := 101) rfl)) rfl
theorem q_102 : Cond.fieldLink "StateExplorer" 225 "StateExplorer" "farthest" "I" ∈ xw_ok := xw_mem (xt1 (List.mem_of_getElem? (i := 102) rfl)) rfl
theorem q_103 : Cond.fieldLink "StateExplorer" 247 "StateExplorer" "grouped" "I" ∈ xw_ok := xw_mem (xt1 (List.mem_of_getElem? (i := 103) rfl)) rfl
theorem q_104 : Cond.fieldLink "StateExplorer" 57 "StateExplorer" "spare" "[I" ∈ xw_ok := xw_mem (xt1 (List.mem_of_getElem? (i := 104) rfl)) rfl
theorem q_105 : Cond.fieldLink "StateExplorer" 60 "StateExplorer" "whole" "[I" ∈ xw_ok := xw_mem (xt1 (List.mem_of_getElem? (i := 105) rfl)) rfl
theorem q_106 : Cond.fieldLink "StateExplorer" 63 "StateExplorer" "halves" "[I" ∈ xw_ok := xw_mem (xt1 (List.mem_of_getElem? (i := 106) rfl)) rfl
theorem q_107 : Cond.fieldLink "StateExplorer" 214 "StateExplorer" "wayTo" "I" ∈ xw_ok := xw_mem (xt1 (List.mem_of_getElem? (i := 107) rfl)) rfl
theorem q_108 : Cond.fieldLink "StateExplorer" 66 "StateExplorer" "steps" "[I" ∈ xw_ok := xw_mem (xt1 (List.mem_of_getElem? (i := 108) rfl)) rfl
theorem q_109 : Cond.fieldLink "StateExplorer" 69 "StateExplorer" "through" "[I" ∈ xw_ok := xw_mem (xt1 (List.mem_of_getElem? (i := 109) rfl)) rfl
theorem q_179 : Cond.methodLink "StateExplorer" 217 ⟨"StateExplorer", "spread", "()V"⟩ ∈ xw_ok := xw_mem (xt1 (List.mem_of_getElem? (i := 179) rfl)) rfl
theorem q_181 : Cond.instanceMethod ⟨"StateExplorer", "spread", "()V"⟩ ∈ xw_ok := xw_mem (xt1 (List.mem_of_getElem? (i := 181) rfl)) rfl
theorem q_182 : Cond.code ⟨"StateExplorer", "spread", "()V"⟩ prog_1_method_27_code 3 none ∈ xw_ok := xw_mem (xt1 (List.mem_of_getElem? (i := 182) rfl)) rfl
theorem q_183 : Cond.methodLink "StateExplorer" 195 ⟨"StateExplorer", "inputVariable", "(I)I"⟩ ∈ xw_ok := xw_mem (xt1 (List.mem_of_getElem? (i := 183) rfl)) rfl
theorem q_184 : Cond.static ⟨"StateExplorer", "inputVariable", "(I)I"⟩ ∈ xw_ok := xw_mem (xt1 (List.mem_of_getElem? (i := 184) rfl)) rfl
theorem q_185 : Cond.code ⟨"StateExplorer", "inputVariable", "(I)I"⟩ prog_1_method_17_code 1 (some .int) ∈ xw_ok := xw_mem (xt1 (List.mem_of_getElem? (i := 185) rfl)) rfl
theorem q_186 : Cond.methodLink "StateExplorer" 177 ⟨"StateExplorer", "variableOf", "(I)I"⟩ ∈ xw_ok := xw_mem (xt1 (List.mem_of_getElem? (i := 186) rfl)) rfl
theorem q_187 : Cond.static ⟨"StateExplorer", "variableOf", "(I)I"⟩ ∈ xw_ok := xw_mem (xt1 (List.mem_of_getElem? (i := 187) rfl)) rfl
theorem q_188 : Cond.code ⟨"StateExplorer", "variableOf", "(I)I"⟩ prog_1_method_16_code 1 (some .int) ∈ xw_ok := xw_mem (xt1 (List.mem_of_getElem? (i := 188) rfl)) rfl
theorem q_189 : Cond.methodLink "StateExplorer" 198 ⟨"StateExplorer", "variable", "(I)I"⟩ ∈ xw_ok := xw_mem (xt1 (List.mem_of_getElem? (i := 189) rfl)) rfl
theorem q_191 : Cond.instanceMethod ⟨"StateExplorer", "variable", "(I)I"⟩ ∈ xw_ok := xw_mem (xt1 (List.mem_of_getElem? (i := 191) rfl)) rfl
theorem q_192 : Cond.code ⟨"StateExplorer", "variable", "(I)I"⟩ prog_1_method_18_code 2 (some .int) ∈ xw_ok := xw_mem (xt1 (List.mem_of_getElem? (i := 192) rfl)) rfl
theorem q_193 : Cond.methodLink "StateExplorer" 165 ⟨"StateExplorer", "begin", "()V"⟩ ∈ xw_ok := xw_mem (xt1 (List.mem_of_getElem? (i := 193) rfl)) rfl
theorem q_195 : Cond.instanceMethod ⟨"StateExplorer", "begin", "()V"⟩ ∈ xw_ok := xw_mem (xt1 (List.mem_of_getElem? (i := 195) rfl)) rfl
theorem q_196 : Cond.code ⟨"StateExplorer", "begin", "()V"⟩ prog_1_method_10_code 1 none ∈ xw_ok := xw_mem (xt1 (List.mem_of_getElem? (i := 196) rfl)) rfl
theorem q_197 : Cond.methodLink "StateExplorer" 116 ⟨"StateExplorer$Nodes", "isTight", "()Z"⟩ ∈ xw_ok := xw_mem (xt1 (List.mem_of_getElem? (i := 197) rfl)) rfl
theorem q_198 : Cond.instanceMethod ⟨"StateExplorer$Nodes", "isTight", "()Z"⟩ ∈ xw_ok := xw_mem (xt1 (List.mem_of_getElem? (i := 198) rfl)) rfl
theorem q_199 : Cond.selects "StateExplorer$Nodes" ⟨"StateExplorer$Nodes", "isTight", "()Z"⟩ ⟨"StateExplorer$Nodes", "isTight", "()Z"⟩ ∈ xw_ok := xw_mem (xt1 (List.mem_of_getElem? (i := 199) rfl)) rfl
theorem q_200 : Cond.code ⟨"StateExplorer$Nodes", "isTight", "()Z"⟩ prog_2_method_12_code 1 (some .boolean) ∈ xw_ok := xw_mem (xt1 (List.mem_of_getElem? (i := 200) rfl)) rfl
theorem q_201 : Cond.constant "StateExplorer$Nodes" 81 65536 ∈ xw_ok := xw_mem (xt1 (List.mem_of_getElem? (i := 201) rfl)) rfl
theorem q_202 : Cond.methodLink "StateExplorer" 120 ⟨"StateExplorer", "keep", "([II)V"⟩ ∈ xw_ok := xw_mem (xt1 (List.mem_of_getElem? (i := 202) rfl)) rfl
theorem q_204 : Cond.instanceMethod ⟨"StateExplorer", "keep", "([II)V"⟩ ∈ xw_ok := xw_mem (xt1 (List.mem_of_getElem? (i := 204) rfl)) rfl
theorem q_205 : Cond.code ⟨"StateExplorer", "keep", "([II)V"⟩ prog_1_method_9_code 4 none ∈ xw_ok := xw_mem (xt1 (List.mem_of_getElem? (i := 205) rfl)) rfl
theorem q_206 : Cond.methodLink "StateExplorer" 112 ⟨"StateExplorer$Nodes", "mark", "(LStateExplorer$Nodes;I)I"⟩ ∈ xw_ok := xw_mem (xt1 (List.mem_of_getElem? (i := 206) rfl)) rfl
theorem q_207 : Cond.static ⟨"StateExplorer$Nodes", "mark", "(LStateExplorer$Nodes;I)I"⟩ ∈ xw_ok := xw_mem (xt1 (List.mem_of_getElem? (i := 207) rfl)) rfl
theorem q_208 : Cond.code ⟨"StateExplorer$Nodes", "mark", "(LStateExplorer$Nodes;I)I"⟩ prog_2_method_13_code 2 (some .int) ∈ xw_ok := xw_mem (xt1 (List.mem_of_getElem? (i := 208) rfl)) rfl
theorem q_209 : Cond.methodLink "StateExplorer$Nodes" 82 ⟨"StateExplorer$Nodes", "mark", "(LStateExplorer$Nodes;I)I"⟩ ∈ xw_ok := xw_mem (xt1 (List.mem_of_getElem? (i := 209) rfl)) rfl
theorem q_210 : Cond.methodLink "StateExplorer" 130 ⟨"StateExplorer$Nodes", "sweep", "()V"⟩ ∈ xw_ok := xw_mem (xt1 (List.mem_of_getElem? (i := 210) rfl)) rfl
theorem q_211 : Cond.instanceMethod ⟨"StateExplorer$Nodes", "sweep", "()V"⟩ ∈ xw_ok := xw_mem (xt1 (List.mem_of_getElem? (i := 211) rfl)) rfl
theorem q_212 : Cond.selects "StateExplorer$Nodes" ⟨"StateExplorer$Nodes", "sweep", "()V"⟩ ⟨"StateExplorer$Nodes", "sweep", "()V"⟩ ∈ xw_ok := xw_mem (xt1 (List.mem_of_getElem? (i := 212) rfl)) rfl
theorem q_213 : Cond.code ⟨"StateExplorer$Nodes", "sweep", "()V"⟩ prog_2_method_15_code 3 none ∈ xw_ok := xw_mem (xt1 (List.mem_of_getElem? (i := 213) rfl)) rfl
theorem q_214 : Cond.methodLink "StateExplorer$Nodes" 70 ⟨"StateExplorer$Nodes", "chain", "(III)I"⟩ ∈ xw_ok := xw_mem (xt1 (List.mem_of_getElem? (i := 214) rfl)) rfl
theorem q_216 : Cond.instanceMethod ⟨"StateExplorer$Nodes", "chain", "(III)I"⟩ ∈ xw_ok := xw_mem (xt1 (List.mem_of_getElem? (i := 216) rfl)) rfl
theorem q_217 : Cond.code ⟨"StateExplorer$Nodes", "chain", "(III)I"⟩ prog_2_method_4_code 4 (some .int) ∈ xw_ok := xw_mem (xt1 (List.mem_of_getElem? (i := 217) rfl)) rfl
theorem q_218 : Cond.methodLink "StateExplorer$Nodes" 66 ⟨"StateExplorer$Nodes", "mixed", "(III)I"⟩ ∈ xw_ok := xw_mem (xt1 (List.mem_of_getElem? (i := 218) rfl)) rfl
theorem q_219 : Cond.static ⟨"StateExplorer$Nodes", "mixed", "(III)I"⟩ ∈ xw_ok := xw_mem (xt1 (List.mem_of_getElem? (i := 219) rfl)) rfl
theorem q_220 : Cond.code ⟨"StateExplorer$Nodes", "mixed", "(III)I"⟩ prog_2_method_3_code 4 (some .int) ∈ xw_ok := xw_mem (xt1 (List.mem_of_getElem? (i := 220) rfl)) rfl
theorem q_221 : Cond.constant "StateExplorer$Nodes" 63 625341585 ∈ xw_ok := xw_mem (xt1 (List.mem_of_getElem? (i := 221) rfl)) rfl
theorem q_222 : Cond.constant "StateExplorer$Nodes" 64 1103515245 ∈ xw_ok := xw_mem (xt1 (List.mem_of_getElem? (i := 222) rfl)) rfl
theorem q_223 : Cond.constant "StateExplorer$Nodes" 65 1799596469 ∈ xw_ok := xw_mem (xt1 (List.mem_of_getElem? (i := 223) rfl)) rfl
theorem q_224 : Cond.methodLink "StateExplorer$Nodes" 86 ⟨"StateExplorer$Nodes", "unmark", "()V"⟩ ∈ xw_ok := xw_mem (xt1 (List.mem_of_getElem? (i := 224) rfl)) rfl
theorem q_225 : Cond.instanceMethod ⟨"StateExplorer$Nodes", "unmark", "()V"⟩ ∈ xw_ok := xw_mem (xt1 (List.mem_of_getElem? (i := 225) rfl)) rfl
theorem q_226 : Cond.selects "StateExplorer$Nodes" ⟨"StateExplorer$Nodes", "unmark", "()V"⟩ ⟨"StateExplorer$Nodes", "unmark", "()V"⟩ ∈ xw_ok := xw_mem (xt1 (List.mem_of_getElem? (i := 226) rfl)) rfl
theorem q_227 : Cond.code ⟨"StateExplorer$Nodes", "unmark", "()V"⟩ prog_2_method_14_code 2 none ∈ xw_ok := xw_mem (xt1 (List.mem_of_getElem? (i := 227) rfl)) rfl
theorem q_228 : Cond.methodLink "StateExplorer" 157 ⟨"StateExplorer$Nodes", "node", "(III)I"⟩ ∈ xw_ok := xw_mem (xt1 (List.mem_of_getElem? (i := 228) rfl)) rfl
theorem q_229 : Cond.instanceMethod ⟨"StateExplorer$Nodes", "node", "(III)I"⟩ ∈ xw_ok := xw_mem (xt1 (List.mem_of_getElem? (i := 229) rfl)) rfl
theorem q_230 : Cond.selects "StateExplorer$Nodes" ⟨"StateExplorer$Nodes", "node", "(III)I"⟩ ⟨"StateExplorer$Nodes", "node", "(III)I"⟩ ∈ xw_ok := xw_mem (xt1 (List.mem_of_getElem? (i := 230) rfl)) rfl
theorem q_231 : Cond.code ⟨"StateExplorer$Nodes", "node", "(III)I"⟩ prog_2_method_5_code 6 (some .int) ∈ xw_ok := xw_mem (xt1 (List.mem_of_getElem? (i := 231) rfl)) rfl
theorem q_232 : Cond.methodLink "StateExplorer$Nodes" 73 ⟨"StateExplorer$Nodes", "take", "()I"⟩ ∈ xw_ok := xw_mem (xt1 (List.mem_of_getElem? (i := 232) rfl)) rfl
theorem q_234 : Cond.instanceMethod ⟨"StateExplorer$Nodes", "take", "()I"⟩ ∈ xw_ok := xw_mem (xt1 (List.mem_of_getElem? (i := 234) rfl)) rfl
theorem q_235 : Cond.code ⟨"StateExplorer$Nodes", "take", "()I"⟩ prog_2_method_6_code 2 (some .int) ∈ xw_ok := xw_mem (xt1 (List.mem_of_getElem? (i := 235) rfl)) rfl
theorem q_236 : Cond.methodLink "StateExplorer" 201 ⟨"StateExplorer", "not", "(I)I"⟩ ∈ xw_ok := xw_mem (xt1 (List.mem_of_getElem? (i := 236) rfl)) rfl
theorem q_238 : Cond.instanceMethod ⟨"StateExplorer", "not", "(I)I"⟩ ∈ xw_ok := xw_mem (xt1 (List.mem_of_getElem? (i := 238) rfl)) rfl
theorem q_239 : Cond.code ⟨"StateExplorer", "not", "(I)I"⟩ prog_1_method_15_code 2 (some .int) ∈ xw_ok := xw_mem (xt1 (List.mem_of_getElem? (i := 239) rfl)) rfl
theorem q_240 : Cond.methodLink "StateExplorer" 154 ⟨"StateExplorer", "chosen", "(LStateExplorer$Nodes;III)I"⟩ ∈ xw_ok := xw_mem (xt2 (List.mem_of_getElem? (i := 0) rfl)) rfl
theorem q_241 : Cond.static ⟨"StateExplorer", "chosen", "(LStateExplorer$Nodes;III)I"⟩ ∈ xw_ok := xw_mem (xt2 (List.mem_of_getElem? (i := 1) rfl)) rfl
theorem q_242 : Cond.code ⟨"StateExplorer", "chosen", "(LStateExplorer$Nodes;III)I"⟩ prog_1_method_12_code 8 (some .int) ∈ xw_ok := xw_mem (xt2 (List.mem_of_getElem? (i := 2) rfl)) rfl
theorem q_243 : Cond.methodLink "StateExplorer" 142 ⟨"StateExplorer$Nodes", "known", "(IIII)I"⟩ ∈ xw_ok := xw_mem (xt2 (List.mem_of_getElem? (i := 3) rfl)) rfl
theorem q_244 : Cond.instanceMethod ⟨"StateExplorer$Nodes", "known", "(IIII)I"⟩ ∈ xw_ok := xw_mem (xt2 (List.mem_of_getElem? (i := 4) rfl)) rfl
theorem q_245 : Cond.selects "StateExplorer$Nodes" ⟨"StateExplorer$Nodes", "known", "(IIII)I"⟩ ⟨"StateExplorer$Nodes", "known", "(IIII)I"⟩ ∈ xw_ok := xw_mem (xt2 (List.mem_of_getElem? (i := 5) rfl)) rfl
theorem q_246 : Cond.code ⟨"StateExplorer$Nodes", "known", "(IIII)I"⟩ prog_2_method_10_code 6 (some .int) ∈ xw_ok := xw_mem (xt2 (List.mem_of_getElem? (i := 6) rfl)) rfl
theorem q_247 : Cond.methodLink "StateExplorer$Nodes" 77 ⟨"StateExplorer$Nodes", "place", "(IIII)I"⟩ ∈ xw_ok := xw_mem (xt2 (List.mem_of_getElem? (i := 7) rfl)) rfl
theorem q_249 : Cond.instanceMethod ⟨"StateExplorer$Nodes", "place", "(IIII)I"⟩ ∈ xw_ok := xw_mem (xt2 (List.mem_of_getElem? (i := 9) rfl)) rfl
theorem q_250 : Cond.code ⟨"StateExplorer$Nodes", "place", "(IIII)I"⟩ prog_2_method_9_code 5 (some .int) ∈ xw_ok := xw_mem (xt2 (List.mem_of_getElem? (i := 10) rfl)) rfl
theorem q_251 : Cond.methodLink "StateExplorer" 146 ⟨"StateExplorer", "first", "(LStateExplorer$Nodes;III)I"⟩ ∈ xw_ok := xw_mem (xt2 (List.mem_of_getElem? (i := 11) rfl)) rfl
theorem q_252 : Cond.static ⟨"StateExplorer", "first", "(LStateExplorer$Nodes;III)I"⟩ ∈ xw_ok := xw_mem (xt2 (List.mem_of_getElem? (i := 12) rfl)) rfl
theorem q_253 : Cond.code ⟨"StateExplorer", "first", "(LStateExplorer$Nodes;III)I"⟩ prog_1_method_11_code 4 (some .int) ∈ xw_ok := xw_mem (xt2 (List.mem_of_getElem? (i := 13) rfl)) rfl
theorem q_254 : Cond.methodLink "StateExplorer" 133 ⟨"StateExplorer$Nodes", "level", "(I)I"⟩ ∈ xw_ok := xw_mem (xt2 (List.mem_of_getElem? (i := 14) rfl)) rfl
theorem q_255 : Cond.instanceMethod ⟨"StateExplorer$Nodes", "level", "(I)I"⟩ ∈ xw_ok := xw_mem (xt2 (List.mem_of_getElem? (i := 15) rfl)) rfl
theorem q_256 : Cond.selects "StateExplorer$Nodes" ⟨"StateExplorer$Nodes", "level", "(I)I"⟩ ⟨"StateExplorer$Nodes", "level", "(I)I"⟩ ∈ xw_ok := xw_mem (xt2 (List.mem_of_getElem? (i := 16) rfl)) rfl
theorem q_257 : Cond.code ⟨"StateExplorer$Nodes", "level", "(I)I"⟩ prog_2_method_8_code 2 (some .int) ∈ xw_ok := xw_mem (xt2 (List.mem_of_getElem? (i := 17) rfl)) rfl
theorem q_258 : Cond.methodLink "StateExplorer" 136 ⟨"java/lang/Math", "min", "(II)I"⟩ ∈ xw_ok := xw_mem (xt2 (List.mem_of_getElem? (i := 18) rfl)) rfl
theorem q_259 : Cond.static ⟨"java/lang/Math", "min", "(II)I"⟩ ∈ xw_ok := xw_mem (xt2 (List.mem_of_getElem? (i := 19) rfl)) rfl
theorem q_260 : Cond.code Lib.Math.min.name Lib.Math.min.code 2 (some .int) ∈ xw_ok := xw_mem (xt2 (List.mem_of_getElem? (i := 20) rfl)) rfl
theorem q_261 : Cond.methodLink "StateExplorer" 150 ⟨"StateExplorer$Nodes", "cofactor", "(IIZ)I"⟩ ∈ xw_ok := xw_mem (xt2 (List.mem_of_getElem? (i := 21) rfl)) rfl
theorem q_262 : Cond.instanceMethod ⟨"StateExplorer$Nodes", "cofactor", "(IIZ)I"⟩ ∈ xw_ok := xw_mem (xt2 (List.mem_of_getElem? (i := 22) rfl)) rfl
theorem q_263 : Cond.selects "StateExplorer$Nodes" ⟨"StateExplorer$Nodes", "cofactor", "(IIZ)I"⟩ ⟨"StateExplorer$Nodes", "cofactor", "(IIZ)I"⟩ ∈ xw_ok := xw_mem (xt2 (List.mem_of_getElem? (i := 23) rfl)) rfl
theorem q_264 : Cond.code ⟨"StateExplorer$Nodes", "cofactor", "(IIZ)I"⟩ prog_2_method_7_code 4 (some .int) ∈ xw_ok := xw_mem (xt2 (List.mem_of_getElem? (i := 24) rfl)) rfl
theorem q_265 : Cond.methodLink "StateExplorer" 161 ⟨"StateExplorer$Nodes", "learn", "(IIIII)I"⟩ ∈ xw_ok := xw_mem (xt2 (List.mem_of_getElem? (i := 25) rfl)) rfl
theorem q_266 : Cond.instanceMethod ⟨"StateExplorer$Nodes", "learn", "(IIIII)I"⟩ ∈ xw_ok := xw_mem (xt2 (List.mem_of_getElem? (i := 26) rfl)) rfl
theorem q_267 : Cond.selects "StateExplorer$Nodes" ⟨"StateExplorer$Nodes", "learn", "(IIIII)I"⟩ ⟨"StateExplorer$Nodes", "learn", "(IIIII)I"⟩ ∈ xw_ok := xw_mem (xt2 (List.mem_of_getElem? (i := 27) rfl)) rfl
theorem q_268 : Cond.code ⟨"StateExplorer$Nodes", "learn", "(IIIII)I"⟩ prog_2_method_11_code 7 (some .int) ∈ xw_ok := xw_mem (xt2 (List.mem_of_getElem? (i := 28) rfl)) rfl
theorem q_269 : Cond.methodLink "StateExplorer" 204 ⟨"StateExplorer", "spread", "(I)Z"⟩ ∈ xw_ok := xw_mem (xt2 (List.mem_of_getElem? (i := 29) rfl)) rfl
theorem q_271 : Cond.instanceMethod ⟨"StateExplorer", "spread", "(I)Z"⟩ ∈ xw_ok := xw_mem (xt2 (List.mem_of_getElem? (i := 31) rfl)) rfl
theorem q_272 : Cond.code ⟨"StateExplorer", "spread", "(I)Z"⟩ prog_1_method_28_code 5 (some .boolean) ∈ xw_ok := xw_mem (xt2 (List.mem_of_getElem? (i := 32) rfl)) rfl
theorem q_273 : Cond.methodLink "StateExplorer" 211 ⟨"StateExplorer", "and", "(II)I"⟩ ∈ xw_ok := xw_mem (xt2 (List.mem_of_getElem? (i := 33) rfl)) rfl
theorem q_275 : Cond.instanceMethod ⟨"StateExplorer", "and", "(II)I"⟩ ∈ xw_ok := xw_mem (xt2 (List.mem_of_getElem? (i := 35) rfl)) rfl
theorem q_276 : Cond.code ⟨"StateExplorer", "and", "(II)I"⟩ prog_1_method_13_code 3 (some .int) ∈ xw_ok := xw_mem (xt2 (List.mem_of_getElem? (i := 36) rfl)) rfl
theorem q_277 : Cond.methodLink "StateExplorer" 208 ⟨"StateExplorer", "or", "(II)I"⟩ ∈ xw_ok := xw_mem (xt2 (List.mem_of_getElem? (i := 37) rfl)) rfl
theorem q_279 : Cond.instanceMethod ⟨"StateExplorer", "or", "(II)I"⟩ ∈ xw_ok := xw_mem (xt2 (List.mem_of_getElem? (i := 39) rfl)) rfl
theorem q_280 : Cond.code ⟨"StateExplorer", "or", "(II)I"⟩ prog_1_method_14_code 3 (some .int) ∈ xw_ok := xw_mem (xt2 (List.mem_of_getElem? (i := 40) rfl)) rfl
theorem q_281 : Cond.methodLink "StateExplorer" 219 ⟨"StateExplorer", "latch", "()V"⟩ ∈ xw_ok := xw_mem (xt2 (List.mem_of_getElem? (i := 41) rfl)) rfl
theorem q_283 : Cond.instanceMethod ⟨"StateExplorer", "latch", "()V"⟩ ∈ xw_ok := xw_mem (xt2 (List.mem_of_getElem? (i := 43) rfl)) rfl
theorem q_284 : Cond.code ⟨"StateExplorer", "latch", "()V"⟩ prog_1_method_29_code 2 none ∈ xw_ok := xw_mem (xt2 (List.mem_of_getElem? (i := 44) rfl)) rfl
theorem q_286 : Cond.methodLink "StateExplorer" 228 ⟨"StateExplorer", "only", "(I)I"⟩ ∈ xw_ok := xw_mem (xt2 (List.mem_of_getElem? (i := 46) rfl)) rfl
theorem q_288 : Cond.instanceMethod ⟨"StateExplorer", "only", "(I)I"⟩ ∈ xw_ok := xw_mem (xt2 (List.mem_of_getElem? (i := 48) rfl)) rfl
theorem q_289 : Cond.code ⟨"StateExplorer", "only", "(I)I"⟩ prog_1_method_30_code 3 (some .int) ∈ xw_ok := xw_mem (xt2 (List.mem_of_getElem? (i := 49) rfl)) rfl
theorem q_290 : Cond.methodLink "StateExplorer" 187 ⟨"StateExplorer", "bit", "(II)Z"⟩ ∈ xw_ok := xw_mem (xt2 (List.mem_of_getElem? (i := 50) rfl)) rfl
theorem q_291 : Cond.static ⟨"StateExplorer", "bit", "(II)Z"⟩ ∈ xw_ok := xw_mem (xt2 (List.mem_of_getElem? (i := 51) rfl)) rfl
theorem q_292 : Cond.code ⟨"StateExplorer", "bit", "(II)Z"⟩ prog_1_method_22_code 2 (some .boolean) ∈ xw_ok := xw_mem (xt2 (List.mem_of_getElem? (i := 52) rfl)) rfl
theorem q_293 : Cond.methodLink "StateExplorer" 184 ⟨"StateExplorer", "after", "(II)I"⟩ ∈ xw_ok := xw_mem (xt2 (List.mem_of_getElem? (i := 53) rfl)) rfl
theorem q_295 : Cond.instanceMethod ⟨"StateExplorer", "after", "(II)I"⟩ ∈ xw_ok := xw_mem (xt2 (List.mem_of_getElem? (i := 55) rfl)) rfl
theorem q_296 : Cond.code ⟨"StateExplorer", "after", "(II)I"⟩ prog_1_method_21_code 4 (some .int) ∈ xw_ok := xw_mem (xt2 (List.mem_of_getElem? (i := 56) rfl)) rfl
theorem q_297 : Cond.methodLink "StateExplorer" 231 ⟨"StateExplorer", "gather", "()V"⟩ ∈ xw_ok := xw_mem (xt2 (List.mem_of_getElem? (i := 57) rfl)) rfl
theorem q_299 : Cond.instanceMethod ⟨"StateExplorer", "gather", "()V"⟩ ∈ xw_ok := xw_mem (xt2 (List.mem_of_getElem? (i := 59) rfl)) rfl
theorem q_300 : Cond.code ⟨"StateExplorer", "gather", "()V"⟩ prog_1_method_35_code 4 none ∈ xw_ok := xw_mem (xt2 (List.mem_of_getElem? (i := 60) rfl)) rfl
theorem q_301 : Cond.methodLink "StateExplorer" 237 ⟨"StateExplorer", "at", "(III)Z"⟩ ∈ xw_ok := xw_mem (xt2 (List.mem_of_getElem? (i := 61) rfl)) rfl
theorem q_303 : Cond.instanceMethod ⟨"StateExplorer", "at", "(III)Z"⟩ ∈ xw_ok := xw_mem (xt2 (List.mem_of_getElem? (i := 63) rfl)) rfl
theorem q_304 : Cond.code ⟨"StateExplorer", "at", "(III)Z"⟩ prog_1_method_23_code 6 (some .boolean) ∈ xw_ok := xw_mem (xt2 (List.mem_of_getElem? (i := 64) rfl)) rfl
theorem q_305 : Cond.methodLink "StateExplorer" 250 ⟨"StateExplorer", "alike", "(II)Z"⟩ ∈ xw_ok := xw_mem (xt2 (List.mem_of_getElem? (i := 65) rfl)) rfl
theorem q_307 : Cond.instanceMethod ⟨"StateExplorer", "alike", "(II)Z"⟩ ∈ xw_ok := xw_mem (xt2 (List.mem_of_getElem? (i := 67) rfl)) rfl
theorem q_308 : Cond.code ⟨"StateExplorer", "alike", "(II)Z"⟩ prog_1_method_34_code 5 (some .boolean) ∈ xw_ok := xw_mem (xt2 (List.mem_of_getElem? (i := 68) rfl)) rfl
theorem q_309 : Cond.methodLink "StateExplorer" 241 ⟨"StateExplorer", "seen", "(II)I"⟩ ∈ xw_ok := xw_mem (xt2 (List.mem_of_getElem? (i := 69) rfl)) rfl
theorem q_311 : Cond.instanceMethod ⟨"StateExplorer", "seen", "(II)I"⟩ ∈ xw_ok := xw_mem (xt2 (List.mem_of_getElem? (i := 71) rfl)) rfl
theorem q_312 : Cond.code ⟨"StateExplorer", "seen", "(II)I"⟩ prog_1_method_32_code 5 (some .int) ∈ xw_ok := xw_mem (xt2 (List.mem_of_getElem? (i := 72) rfl)) rfl
theorem q_313 : Cond.methodLink "StateExplorer" 244 ⟨"StateExplorer", "nextOf", "(II)I"⟩ ∈ xw_ok := xw_mem (xt2 (List.mem_of_getElem? (i := 73) rfl)) rfl
theorem q_315 : Cond.instanceMethod ⟨"StateExplorer", "nextOf", "(II)I"⟩ ∈ xw_ok := xw_mem (xt2 (List.mem_of_getElem? (i := 75) rfl)) rfl
theorem q_316 : Cond.code ⟨"StateExplorer", "nextOf", "(II)I"⟩ prog_1_method_33_code 5 (some .int) ∈ xw_ok := xw_mem (xt2 (List.mem_of_getElem? (i := 76) rfl)) rfl
theorem q_317 : Cond.methodLink "StateExplorer" 234 ⟨"StateExplorer", "states", "(I)I"⟩ ∈ xw_ok := xw_mem (xt2 (List.mem_of_getElem? (i := 77) rfl)) rfl
theorem q_319 : Cond.instanceMethod ⟨"StateExplorer", "states", "(I)I"⟩ ∈ xw_ok := xw_mem (xt2 (List.mem_of_getElem? (i := 79) rfl)) rfl
theorem q_320 : Cond.code ⟨"StateExplorer", "states", "(I)I"⟩ prog_1_method_25_code 2 (some .int) ∈ xw_ok := xw_mem (xt2 (List.mem_of_getElem? (i := 80) rfl)) rfl
theorem q_321 : Cond.methodLink "StateExplorer" 191 ⟨"StateExplorer", "points", "(LStateExplorer$Nodes;II)I"⟩ ∈ xw_ok := xw_mem (xt2 (List.mem_of_getElem? (i := 81) rfl)) rfl
theorem q_322 : Cond.static ⟨"StateExplorer", "points", "(LStateExplorer$Nodes;II)I"⟩ ∈ xw_ok := xw_mem (xt2 (List.mem_of_getElem? (i := 82) rfl)) rfl
theorem q_323 : Cond.code ⟨"StateExplorer", "points", "(LStateExplorer$Nodes;II)I"⟩ prog_1_method_24_code 5 (some .int) ∈ xw_ok := xw_mem (xt2 (List.mem_of_getElem? (i := 83) rfl)) rfl
theorem q_328 : Cond.methodLink "StateExplorer" 270 ⟨"StateExplorer", "sure", "()I"⟩ ∈ xw_ok := xw_mem (xt2 (List.mem_of_getElem? (i := 88) rfl)) rfl
theorem q_330 : Cond.instanceMethod ⟨"StateExplorer", "sure", "()I"⟩ ∈ xw_ok := xw_mem (xt2 (List.mem_of_getElem? (i := 90) rfl)) rfl
theorem q_331 : Cond.code ⟨"StateExplorer", "sure", "()I"⟩ prog_1_method_44_code 1 (some .int) ∈ xw_ok := xw_mem (xt2 (List.mem_of_getElem? (i := 91) rfl)) rfl
theorem q_335 : Cond.classLink "StateExplorerLaw" 13 "java/lang/IllegalArgumentException" ∈ xw_ok := xw_mem (xt2 (List.mem_of_getElem? (i := 95) rfl)) rfl
theorem q_336 : Cond.methodLink "StateExplorerLaw" 7 ⟨"StateExplorer", "gate", "(I)I"⟩ ∈ xw_ok := xw_mem (xt2 (List.mem_of_getElem? (i := 96) rfl)) rfl
theorem q_337 : Cond.instanceMethod ⟨"StateExplorer", "gate", "(I)I"⟩ ∈ xw_ok := xw_mem (xt2 (List.mem_of_getElem? (i := 97) rfl)) rfl
theorem q_338 : Cond.selects "StateExplorer" ⟨"StateExplorer", "gate", "(I)I"⟩ ⟨"StateExplorer", "gate", "(I)I"⟩ ∈ xw_ok := xw_mem (xt2 (List.mem_of_getElem? (i := 98) rfl)) rfl
theorem q_339 : Cond.code ⟨"StateExplorer", "gate", "(I)I"⟩ prog_1_method_4_code 2 (some .int) ∈ xw_ok := xw_mem (xt2 (List.mem_of_getElem? (i := 99) rfl)) rfl
theorem q_340 : Cond.classLink "StateExplorer" 83 "java/lang/IllegalArgumentException" ∈ xw_ok := xw_mem (xt2 (List.mem_of_getElem? (i := 100) rfl)) rfl
theorem q_341 : Cond.instantiable "java/lang/IllegalArgumentException" 6 ∈ xw_ok := xw_mem (xt2 (List.mem_of_getElem? (i := 101) rfl)) rfl
theorem q_406 : Cond.classLink "StateExplorerLaw" 19 "java/lang/IndexOutOfBoundsException" ∈ xw_ok := xw_mem (xt2 (List.mem_of_getElem? (i := 166) rfl)) rfl
theorem q_407 : Cond.classLink "StateExplorerLaw" 21 "java/lang/IllegalStateException" ∈ xw_ok := xw_mem (xt2 (List.mem_of_getElem? (i := 167) rfl)) rfl
theorem q_408 : Cond.methodLink "StateExplorerLaw" 15 ⟨"StateExplorer", "feed", "(IIZ)I"⟩ ∈ xw_ok := xw_mem (xt2 (List.mem_of_getElem? (i := 168) rfl)) rfl
theorem q_409 : Cond.instanceMethod ⟨"StateExplorer", "feed", "(IIZ)I"⟩ ∈ xw_ok := xw_mem (xt2 (List.mem_of_getElem? (i := 169) rfl)) rfl
theorem q_410 : Cond.selects "StateExplorer" ⟨"StateExplorer", "feed", "(IIZ)I"⟩ ⟨"StateExplorer", "feed", "(IIZ)I"⟩ ∈ xw_ok := xw_mem (xt2 (List.mem_of_getElem? (i := 170) rfl)) rfl
theorem q_411 : Cond.code ⟨"StateExplorer", "feed", "(IIZ)I"⟩ prog_1_method_6_code 4 (some .int) ∈ xw_ok := xw_mem (xt2 (List.mem_of_getElem? (i := 171) rfl)) rfl
theorem q_412 : Cond.methodLink "StateExplorer" 99 ⟨"StateExplorer", "there", "(I)I"⟩ ∈ xw_ok := xw_mem (xt2 (List.mem_of_getElem? (i := 172) rfl)) rfl
theorem q_414 : Cond.instanceMethod ⟨"StateExplorer", "there", "(I)I"⟩ ∈ xw_ok := xw_mem (xt2 (List.mem_of_getElem? (i := 174) rfl)) rfl
theorem q_415 : Cond.code ⟨"StateExplorer", "there", "(I)I"⟩ prog_1_method_3_code 2 (some .int) ∈ xw_ok := xw_mem (xt2 (List.mem_of_getElem? (i := 175) rfl)) rfl
theorem q_416 : Cond.methodLink "StateExplorer" 79 ⟨"StateExplorer", "need", "(Z)V"⟩ ∈ xw_ok := xw_mem (xt2 (List.mem_of_getElem? (i := 176) rfl)) rfl
theorem q_417 : Cond.static ⟨"StateExplorer", "need", "(Z)V"⟩ ∈ xw_ok := xw_mem (xt2 (List.mem_of_getElem? (i := 177) rfl)) rfl
theorem q_418 : Cond.code ⟨"StateExplorer", "need", "(Z)V"⟩ prog_1_method_2_code 1 none ∈ xw_ok := xw_mem (xt2 (List.mem_of_getElem? (i := 178) rfl)) rfl
theorem q_419 : Cond.classLink "StateExplorer" 72 "java/lang/IndexOutOfBoundsException" ∈ xw_ok := xw_mem (xt2 (List.mem_of_getElem? (i := 179) rfl)) rfl
theorem q_420 : Cond.instantiable "java/lang/IndexOutOfBoundsException" 6 ∈ xw_ok := xw_mem (xt2 (List.mem_of_getElem? (i := 180) rfl)) rfl
theorem q_434 : Cond.methodLink "StateExplorer" 103 ⟨"StateExplorer", "feedsOf", "(I)I"⟩ ∈ xw_ok := xw_mem (xt2 (List.mem_of_getElem? (i := 194) rfl)) rfl
theorem q_436 : Cond.instanceMethod ⟨"StateExplorer", "feedsOf", "(I)I"⟩ ∈ xw_ok := xw_mem (xt2 (List.mem_of_getElem? (i := 196) rfl)) rfl
theorem q_437 : Cond.code ⟨"StateExplorer", "feedsOf", "(I)I"⟩ prog_1_method_5_code 4 (some .int) ∈ xw_ok := xw_mem (xt2 (List.mem_of_getElem? (i := 197) rfl)) rfl
theorem q_438 : Cond.classLink "StateExplorer" 106 "java/lang/IllegalStateException" ∈ xw_ok := xw_mem (xt2 (List.mem_of_getElem? (i := 198) rfl)) rfl
theorem q_439 : Cond.instantiable "java/lang/IllegalStateException" 6 ∈ xw_ok := xw_mem (xt2 (List.mem_of_getElem? (i := 199) rfl)) rfl
theorem q_456 : Cond.methodLink "StateExplorerLaw" 23 ⟨"StateExplorer", "output", "(I)I"⟩ ∈ xw_ok := xw_mem (xt2 (List.mem_of_getElem? (i := 216) rfl)) rfl
theorem q_457 : Cond.instanceMethod ⟨"StateExplorer", "output", "(I)I"⟩ ∈ xw_ok := xw_mem (xt2 (List.mem_of_getElem? (i := 217) rfl)) rfl
theorem q_458 : Cond.selects "StateExplorer" ⟨"StateExplorer", "output", "(I)I"⟩ ⟨"StateExplorer", "output", "(I)I"⟩ ∈ xw_ok := xw_mem (xt2 (List.mem_of_getElem? (i := 218) rfl)) rfl
theorem q_459 : Cond.code ⟨"StateExplorer", "output", "(I)I"⟩ prog_1_method_7_code 2 (some .int) ∈ xw_ok := xw_mem (xt2 (List.mem_of_getElem? (i := 219) rfl)) rfl
theorem q_463 : Cond.methodLink "StateExplorerLaw" 26 ⟨"StateExplorer", "distance", "(I)I"⟩ ∈ xw_ok := xw_mem (xt2 (List.mem_of_getElem? (i := 223) rfl)) rfl
theorem q_464 : Cond.instanceMethod ⟨"StateExplorer", "distance", "(I)I"⟩ ∈ xw_ok := xw_mem (xt2 (List.mem_of_getElem? (i := 224) rfl)) rfl
theorem q_465 : Cond.selects "StateExplorer" ⟨"StateExplorer", "distance", "(I)I"⟩ ⟨"StateExplorer", "distance", "(I)I"⟩ ∈ xw_ok := xw_mem (xt2 (List.mem_of_getElem? (i := 225) rfl)) rfl
theorem q_466 : Cond.code ⟨"StateExplorer", "distance", "(I)I"⟩ prog_1_method_38_code 3 (some .int) ∈ xw_ok := xw_mem (xt2 (List.mem_of_getElem? (i := 226) rfl)) rfl
theorem q_467 : Cond.methodLink "StateExplorer" 256 ⟨"StateExplorer", "needsState", "(I)V"⟩ ∈ xw_ok := xw_mem (xt2 (List.mem_of_getElem? (i := 227) rfl)) rfl
theorem q_469 : Cond.instanceMethod ⟨"StateExplorer", "needsState", "(I)V"⟩ ∈ xw_ok := xw_mem (xt2 (List.mem_of_getElem? (i := 229) rfl)) rfl
theorem q_470 : Cond.code ⟨"StateExplorer", "needsState", "(I)V"⟩ prog_1_method_37_code 2 none ∈ xw_ok := xw_mem (xt2 (List.mem_of_getElem? (i := 230) rfl)) rfl
theorem q_471 : Cond.methodLink "StateExplorer" 253 ⟨"StateExplorer", "needsExplored", "()V"⟩ ∈ xw_ok := xw_mem (xt2 (List.mem_of_getElem? (i := 231) rfl)) rfl
theorem q_473 : Cond.instanceMethod ⟨"StateExplorer", "needsExplored", "()V"⟩ ∈ xw_ok := xw_mem (xt2 (List.mem_of_getElem? (i := 233) rfl)) rfl
theorem q_474 : Cond.code ⟨"StateExplorer", "needsExplored", "()V"⟩ prog_1_method_36_code 1 none ∈ xw_ok := xw_mem (xt2 (List.mem_of_getElem? (i := 234) rfl)) rfl
theorem q_478 : Cond.methodLink "StateExplorerLaw" 29 ⟨"StateExplorer", "way", "(II)I"⟩ ∈ xw_ok := xw_mem (xt2 (List.mem_of_getElem? (i := 238) rfl)) rfl
theorem q_479 : Cond.instanceMethod ⟨"StateExplorer", "way", "(II)I"⟩ ∈ xw_ok := xw_mem (xt2 (List.mem_of_getElem? (i := 239) rfl)) rfl
theorem q_480 : Cond.selects "StateExplorer" ⟨"StateExplorer", "way", "(II)I"⟩ ⟨"StateExplorer", "way", "(II)I"⟩ ∈ xw_ok := xw_mem (xt3 (List.mem_of_getElem? (i := 0) rfl)) rfl
theorem q_481 : Cond.code ⟨"StateExplorer", "way", "(II)I"⟩ prog_1_method_40_code 4 (some .int) ∈ xw_ok := xw_mem (xt3 (List.mem_of_getElem? (i := 1) rfl)) rfl
theorem q_482 : Cond.methodLink "StateExplorer" 260 ⟨"StateExplorer", "distance", "(I)I"⟩ ∈ xw_ok := xw_mem (xt3 (List.mem_of_getElem? (i := 2) rfl)) rfl
theorem q_483 : Cond.methodLink "StateExplorer" 263 ⟨"StateExplorer", "find", "(II)V"⟩ ∈ xw_ok := xw_mem (xt3 (List.mem_of_getElem? (i := 3) rfl)) rfl
theorem q_485 : Cond.instanceMethod ⟨"StateExplorer", "find", "(II)V"⟩ ∈ xw_ok := xw_mem (xt3 (List.mem_of_getElem? (i := 5) rfl)) rfl
theorem q_486 : Cond.code ⟨"StateExplorer", "find", "(II)V"⟩ prog_1_method_39_code 6 none ∈ xw_ok := xw_mem (xt3 (List.mem_of_getElem? (i := 6) rfl)) rfl
theorem q_487 : Cond.methodLink "StateExplorer" 180 ⟨"StateExplorer", "before", "(LStateExplorer$Nodes;I[I)I"⟩ ∈ xw_ok := xw_mem (xt3 (List.mem_of_getElem? (i := 7) rfl)) rfl
theorem q_488 : Cond.static ⟨"StateExplorer", "before", "(LStateExplorer$Nodes;I[I)I"⟩ ∈ xw_ok := xw_mem (xt3 (List.mem_of_getElem? (i := 8) rfl)) rfl
theorem q_489 : Cond.code ⟨"StateExplorer", "before", "(LStateExplorer$Nodes;I[I)I"⟩ prog_1_method_20_code 7 (some .int) ∈ xw_ok := xw_mem (xt3 (List.mem_of_getElem? (i := 9) rfl)) rfl
theorem q_490 : Cond.methodLink "StateExplorer" 171 ⟨"StateExplorer", "anyChoice", "(LStateExplorer$Nodes;I)I"⟩ ∈ xw_ok := xw_mem (xt3 (List.mem_of_getElem? (i := 10) rfl)) rfl
theorem q_491 : Cond.static ⟨"StateExplorer", "anyChoice", "(LStateExplorer$Nodes;I)I"⟩ ∈ xw_ok := xw_mem (xt3 (List.mem_of_getElem? (i := 11) rfl)) rfl
theorem q_492 : Cond.code ⟨"StateExplorer", "anyChoice", "(LStateExplorer$Nodes;I)I"⟩ prog_1_method_19_code 4 (some .int) ∈ xw_ok := xw_mem (xt3 (List.mem_of_getElem? (i := 12) rfl)) rfl
theorem q_496 : Cond.methodLink "StateExplorerLaw" 33 ⟨"StateExplorer", "many", "(I)I"⟩ ∈ xw_ok := xw_mem (xt3 (List.mem_of_getElem? (i := 16) rfl)) rfl
theorem q_497 : Cond.instanceMethod ⟨"StateExplorer", "many", "(I)I"⟩ ∈ xw_ok := xw_mem (xt3 (List.mem_of_getElem? (i := 17) rfl)) rfl
theorem q_498 : Cond.selects "StateExplorer" ⟨"StateExplorer", "many", "(I)I"⟩ ⟨"StateExplorer", "many", "(I)I"⟩ ∈ xw_ok := xw_mem (xt3 (List.mem_of_getElem? (i := 18) rfl)) rfl
theorem q_499 : Cond.code ⟨"StateExplorer", "many", "(I)I"⟩ prog_1_method_41_code 2 (some .int) ∈ xw_ok := xw_mem (xt3 (List.mem_of_getElem? (i := 19) rfl)) rfl
theorem q_503 : Cond.methodLink "StateExplorerLaw" 36 ⟨"StateExplorer", "next", "(II)I"⟩ ∈ xw_ok := xw_mem (xt3 (List.mem_of_getElem? (i := 23) rfl)) rfl
theorem q_504 : Cond.instanceMethod ⟨"StateExplorer", "next", "(II)I"⟩ ∈ xw_ok := xw_mem (xt3 (List.mem_of_getElem? (i := 24) rfl)) rfl
theorem q_505 : Cond.selects "StateExplorer" ⟨"StateExplorer", "next", "(II)I"⟩ ⟨"StateExplorer", "next", "(II)I"⟩ ∈ xw_ok := xw_mem (xt3 (List.mem_of_getElem? (i := 25) rfl)) rfl
theorem q_506 : Cond.code ⟨"StateExplorer", "next", "(II)I"⟩ prog_1_method_42_code 3 (some .int) ∈ xw_ok := xw_mem (xt3 (List.mem_of_getElem? (i := 26) rfl)) rfl
theorem q_510 : Cond.methodLink "StateExplorerLaw" 39 ⟨"StateExplorer", "doubt", "(I)I"⟩ ∈ xw_ok := xw_mem (xt3 (List.mem_of_getElem? (i := 30) rfl)) rfl
theorem q_511 : Cond.instanceMethod ⟨"StateExplorer", "doubt", "(I)I"⟩ ∈ xw_ok := xw_mem (xt3 (List.mem_of_getElem? (i := 31) rfl)) rfl
theorem q_512 : Cond.selects "StateExplorer" ⟨"StateExplorer", "doubt", "(I)I"⟩ ⟨"StateExplorer", "doubt", "(I)I"⟩ ∈ xw_ok := xw_mem (xt3 (List.mem_of_getElem? (i := 32) rfl)) rfl
theorem q_513 : Cond.code ⟨"StateExplorer", "doubt", "(I)I"⟩ prog_1_method_43_code 4 (some .int) ∈ xw_ok := xw_mem (xt3 (List.mem_of_getElem? (i := 33) rfl)) rfl
theorem q_514 : Cond.methodLink "StateExplorer" 267 ⟨"StateExplorer", "least", "(I)I"⟩ ∈ xw_ok := xw_mem (xt3 (List.mem_of_getElem? (i := 34) rfl)) rfl
theorem q_516 : Cond.instanceMethod ⟨"StateExplorer", "least", "(I)I"⟩ ∈ xw_ok := xw_mem (xt3 (List.mem_of_getElem? (i := 36) rfl)) rfl
theorem q_517 : Cond.code ⟨"StateExplorer", "least", "(I)I"⟩ prog_1_method_26_code 6 (some .int) ∈ xw_ok := xw_mem (xt3 (List.mem_of_getElem? (i := 37) rfl)) rfl
theorem q_521 : Cond.methodLink "StateExplorerLaw" 42 ⟨"StateExplorer", "always", "(I)I"⟩ ∈ xw_ok := xw_mem (xt3 (List.mem_of_getElem? (i := 41) rfl)) rfl
theorem q_522 : Cond.instanceMethod ⟨"StateExplorer", "always", "(I)I"⟩ ∈ xw_ok := xw_mem (xt3 (List.mem_of_getElem? (i := 42) rfl)) rfl
theorem q_523 : Cond.selects "StateExplorer" ⟨"StateExplorer", "always", "(I)I"⟩ ⟨"StateExplorer", "always", "(I)I"⟩ ∈ xw_ok := xw_mem (xt3 (List.mem_of_getElem? (i := 43) rfl)) rfl
theorem q_524 : Cond.code ⟨"StateExplorer", "always", "(I)I"⟩ prog_1_method_45_code 2 (some .int) ∈ xw_ok := xw_mem (xt3 (List.mem_of_getElem? (i := 44) rfl)) rfl
theorem q_528 : Cond.methodLink "StateExplorerLaw" 45 ⟨"StateExplorer", "isSame", "(II)Z"⟩ ∈ xw_ok := xw_mem (xt3 (List.mem_of_getElem? (i := 48) rfl)) rfl
theorem q_529 : Cond.instanceMethod ⟨"StateExplorer", "isSame", "(II)Z"⟩ ∈ xw_ok := xw_mem (xt3 (List.mem_of_getElem? (i := 49) rfl)) rfl
theorem q_530 : Cond.selects "StateExplorer" ⟨"StateExplorer", "isSame", "(II)Z"⟩ ⟨"StateExplorer", "isSame", "(II)Z"⟩ ∈ xw_ok := xw_mem (xt3 (List.mem_of_getElem? (i := 50) rfl)) rfl
theorem q_531 : Cond.code ⟨"StateExplorer", "isSame", "(II)Z"⟩ prog_1_method_46_code 3 (some .boolean) ∈ xw_ok := xw_mem (xt3 (List.mem_of_getElem? (i := 51) rfl)) rfl
theorem q_535 : Cond.methodLink "StateExplorerLaw" 49 ⟨"StateExplorer", "group", "(I)I"⟩ ∈ xw_ok := xw_mem (xt3 (List.mem_of_getElem? (i := 55) rfl)) rfl
theorem q_536 : Cond.instanceMethod ⟨"StateExplorer", "group", "(I)I"⟩ ∈ xw_ok := xw_mem (xt3 (List.mem_of_getElem? (i := 56) rfl)) rfl
theorem q_537 : Cond.selects "StateExplorer" ⟨"StateExplorer", "group", "(I)I"⟩ ⟨"StateExplorer", "group", "(I)I"⟩ ∈ xw_ok := xw_mem (xt3 (List.mem_of_getElem? (i := 57) rfl)) rfl
theorem q_538 : Cond.code ⟨"StateExplorer", "group", "(I)I"⟩ prog_1_method_47_code 2 (some .int) ∈ xw_ok := xw_mem (xt3 (List.mem_of_getElem? (i := 58) rfl)) rfl
theorem q_545 : Cond.constant "StateExplorerModel" 48 65536 ∈ xw_ok := xw_mem (xt3 (List.mem_of_getElem? (i := 65) rfl)) rfl
theorem q_546 : Cond.fieldLink "StateExplorerModel" 55 "StateExplorerModel" "code" "I" ∈ xw_ok := xw_mem (xt3 (List.mem_of_getElem? (i := 66) rfl)) rfl
theorem q_547 : Cond.fieldLink "StateExplorerModel" 59 "StateExplorerModel" "gates" "I" ∈ xw_ok := xw_mem (xt3 (List.mem_of_getElem? (i := 67) rfl)) rfl
theorem q_548 : Cond.fieldLink "StateExplorerModel" 76 "StateExplorerModel" "feeds" "I" ∈ xw_ok := xw_mem (xt3 (List.mem_of_getElem? (i := 68) rfl)) rfl
theorem q_549 : Cond.fieldLink "StateExplorerModel" 66 "StateExplorerModel" "inputs" "I" ∈ xw_ok := xw_mem (xt3 (List.mem_of_getElem? (i := 69) rfl)) rfl
theorem q_550 : Cond.fieldLink "StateExplorerModel" 69 "StateExplorerModel" "latches" "I" ∈ xw_ok := xw_mem (xt3 (List.mem_of_getElem? (i := 70) rfl)) rfl
theorem q_551 : Cond.fieldLink "StateExplorerModel" 87 "StateExplorerModel" "outputs" "I" ∈ xw_ok := xw_mem (xt3 (List.mem_of_getElem? (i := 71) rfl)) rfl
theorem q_552 : Cond.fieldLink "StateExplorerModel" 7 "StateExplorerModel" "sort" "[I" ∈ xw_ok := xw_mem (xt3 (List.mem_of_getElem? (i := 72) rfl)) rfl
theorem q_553 : Cond.fieldLink "StateExplorerModel" 13 "StateExplorerModel" "number" "[I" ∈ xw_ok := xw_mem (xt3 (List.mem_of_getElem? (i := 73) rfl)) rfl
theorem q_554 : Cond.fieldLink "StateExplorerModel" 16 "StateExplorerModel" "value" "[I" ∈ xw_ok := xw_mem (xt3 (List.mem_of_getElem? (i := 74) rfl)) rfl
theorem q_555 : Cond.fieldLink "StateExplorerModel" 19 "StateExplorerModel" "made" "[I" ∈ xw_ok := xw_mem (xt3 (List.mem_of_getElem? (i := 75) rfl)) rfl
theorem q_556 : Cond.fieldLink "StateExplorerModel" 22 "StateExplorerModel" "to" "[I" ∈ xw_ok := xw_mem (xt3 (List.mem_of_getElem? (i := 76) rfl)) rfl
theorem q_557 : Cond.fieldLink "StateExplorerModel" 25 "StateExplorerModel" "from" "[I" ∈ xw_ok := xw_mem (xt3 (List.mem_of_getElem? (i := 77) rfl)) rfl
theorem q_558 : Cond.fieldLink "StateExplorerModel" 28 "StateExplorerModel" "outputOf" "[I" ∈ xw_ok := xw_mem (xt3 (List.mem_of_getElem? (i := 78) rfl)) rfl
theorem q_559 : Cond.fieldLink "StateExplorerModel" 31 "StateExplorerModel" "negated" "[Z" ∈ xw_ok := xw_mem (xt3 (List.mem_of_getElem? (i := 79) rfl)) rfl
theorem q_560 : Cond.fieldLink "StateExplorerModel" 72 "StateExplorerModel" "explored" "Z" ∈ xw_ok := xw_mem (xt3 (List.mem_of_getElem? (i := 80) rfl)) rfl
theorem q_561 : Cond.fieldLink "StateExplorerModel" 35 "StateExplorerModel" "settles" "[Z" ∈ xw_ok := xw_mem (xt3 (List.mem_of_getElem? (i := 81) rfl)) rfl
theorem q_562 : Cond.fieldLink "StateExplorerModel" 38 "StateExplorerModel" "next" "[I" ∈ xw_ok := xw_mem (xt3 (List.mem_of_getElem? (i := 82) rfl)) rfl
theorem q_563 : Cond.fieldLink "StateExplorerModel" 41 "StateExplorerModel" "ones" "[J" ∈ xw_ok := xw_mem (xt3 (List.mem_of_getElem? (i := 83) rfl)) rfl
theorem q_564 : Cond.fieldLink "StateExplorerModel" 45 "StateExplorerModel" "distance" "[I" ∈ xw_ok := xw_mem (xt3 (List.mem_of_getElem? (i := 84) rfl)) rfl
theorem q_565 : Cond.fieldLink "StateExplorerModel" 49 "StateExplorerModel" "apart" "[Z" ∈ xw_ok := xw_mem (xt3 (List.mem_of_getElem? (i := 85) rfl)) rfl
theorem q_566 : Cond.fieldLink "StateExplorerModel" 52 "StateExplorerModel" "leads" "[Z" ∈ xw_ok := xw_mem (xt3 (List.mem_of_getElem? (i := 86) rfl)) rfl
theorem q_619 : Cond.methodLink "StateExplorerModel" 62 ⟨"StateExplorerModel", "fails", "(ZZ)Z"⟩ ∈ xw_ok := xw_mem (xt3 (List.mem_of_getElem? (i := 139) rfl)) rfl
theorem q_621 : Cond.instanceMethod ⟨"StateExplorerModel", "fails", "(ZZ)Z"⟩ ∈ xw_ok := xw_mem (xt3 (List.mem_of_getElem? (i := 141) rfl)) rfl
theorem q_622 : Cond.code ⟨"StateExplorerModel", "fails", "(ZZ)Z"⟩ prog_4_method_3_code 3 (some .boolean) ∈ xw_ok := xw_mem (xt3 (List.mem_of_getElem? (i := 142) rfl)) rfl
theorem q_627 : Cond.methodLink "StateExplorerModel" 79 ⟨"StateExplorerModel", "isGate", "(I)Z"⟩ ∈ xw_ok := xw_mem (xt3 (List.mem_of_getElem? (i := 147) rfl)) rfl
theorem q_629 : Cond.instanceMethod ⟨"StateExplorerModel", "isGate", "(I)Z"⟩ ∈ xw_ok := xw_mem (xt3 (List.mem_of_getElem? (i := 149) rfl)) rfl
theorem q_630 : Cond.code ⟨"StateExplorerModel", "isGate", "(I)Z"⟩ prog_4_method_4_code 2 (some .boolean) ∈ xw_ok := xw_mem (xt3 (List.mem_of_getElem? (i := 150) rfl)) rfl
theorem q_631 : Cond.methodLink "StateExplorerModel" 83 ⟨"StateExplorerModel", "feedsOf", "(I)I"⟩ ∈ xw_ok := xw_mem (xt3 (List.mem_of_getElem? (i := 151) rfl)) rfl
theorem q_633 : Cond.instanceMethod ⟨"StateExplorerModel", "feedsOf", "(I)I"⟩ ∈ xw_ok := xw_mem (xt3 (List.mem_of_getElem? (i := 153) rfl)) rfl
theorem q_634 : Cond.code ⟨"StateExplorerModel", "feedsOf", "(I)I"⟩ prog_4_method_6_code 4 (some .int) ∈ xw_ok := xw_mem (xt3 (List.mem_of_getElem? (i := 154) rfl)) rfl
theorem q_647 : Cond.methodLink "StateExplorerModel" 97 ⟨"StateExplorerModel", "states", "()I"⟩ ∈ xw_ok := xw_mem (xt3 (List.mem_of_getElem? (i := 167) rfl)) rfl
theorem q_649 : Cond.instanceMethod ⟨"StateExplorerModel", "states", "()I"⟩ ∈ xw_ok := xw_mem (xt3 (List.mem_of_getElem? (i := 169) rfl)) rfl
theorem q_650 : Cond.code ⟨"StateExplorerModel", "states", "()I"⟩ prog_4_method_13_code 1 (some .int) ∈ xw_ok := xw_mem (xt3 (List.mem_of_getElem? (i := 170) rfl)) rfl
theorem q_651 : Cond.methodLink "StateExplorerModel" 101 ⟨"StateExplorerModel", "choices", "()I"⟩ ∈ xw_ok := xw_mem (xt3 (List.mem_of_getElem? (i := 171) rfl)) rfl
theorem q_653 : Cond.instanceMethod ⟨"StateExplorerModel", "choices", "()I"⟩ ∈ xw_ok := xw_mem (xt3 (List.mem_of_getElem? (i := 173) rfl)) rfl
theorem q_654 : Cond.code ⟨"StateExplorerModel", "choices", "()I"⟩ prog_4_method_14_code 1 (some .int) ∈ xw_ok := xw_mem (xt3 (List.mem_of_getElem? (i := 174) rfl)) rfl
theorem q_655 : Cond.methodLink "StateExplorerModel" 104 ⟨"StateExplorerModel", "work", "(II)V"⟩ ∈ xw_ok := xw_mem (xt3 (List.mem_of_getElem? (i := 175) rfl)) rfl
theorem q_657 : Cond.instanceMethod ⟨"StateExplorerModel", "work", "(II)V"⟩ ∈ xw_ok := xw_mem (xt3 (List.mem_of_getElem? (i := 177) rfl)) rfl
theorem q_658 : Cond.code ⟨"StateExplorerModel", "work", "(II)V"⟩ prog_4_method_12_code 6 none ∈ xw_ok := xw_mem (xt3 (List.mem_of_getElem? (i := 178) rfl)) rfl
theorem q_659 : Cond.methodLink "StateExplorerModel" 93 ⟨"StateExplorerModel", "again", "()Z"⟩ ∈ xw_ok := xw_mem (xt3 (List.mem_of_getElem? (i := 179) rfl)) rfl
theorem q_661 : Cond.instanceMethod ⟨"StateExplorerModel", "again", "()Z"⟩ ∈ xw_ok := xw_mem (xt3 (List.mem_of_getElem? (i := 181) rfl)) rfl
theorem q_662 : Cond.code ⟨"StateExplorerModel", "again", "()Z"⟩ prog_4_method_11_code 6 (some .boolean) ∈ xw_ok := xw_mem (xt3 (List.mem_of_getElem? (i := 182) rfl)) rfl
theorem q_663 : Cond.methodLink "StateExplorerModel" 90 ⟨"StateExplorerModel", "taken", "(I)I"⟩ ∈ xw_ok := xw_mem (xt3 (List.mem_of_getElem? (i := 183) rfl)) rfl
theorem q_665 : Cond.instanceMethod ⟨"StateExplorerModel", "taken", "(I)I"⟩ ∈ xw_ok := xw_mem (xt3 (List.mem_of_getElem? (i := 185) rfl)) rfl
theorem q_666 : Cond.code ⟨"StateExplorerModel", "taken", "(I)I"⟩ prog_4_method_10_code 3 (some .int) ∈ xw_ok := xw_mem (xt3 (List.mem_of_getElem? (i := 186) rfl)) rfl
theorem q_667 : Cond.methodLink "StateExplorerModel" 108 ⟨"StateExplorerModel", "tell", "()V"⟩ ∈ xw_ok := xw_mem (xt3 (List.mem_of_getElem? (i := 187) rfl)) rfl
theorem q_669 : Cond.instanceMethod ⟨"StateExplorerModel", "tell", "()V"⟩ ∈ xw_ok := xw_mem (xt3 (List.mem_of_getElem? (i := 189) rfl)) rfl
theorem q_670 : Cond.code ⟨"StateExplorerModel", "tell", "()V"⟩ prog_4_method_19_code 4 none ∈ xw_ok := xw_mem (xt3 (List.mem_of_getElem? (i := 190) rfl)) rfl
theorem q_671 : Cond.methodLink "StateExplorerModel" 118 ⟨"StateExplorerModel", "differ", "(II)Z"⟩ ∈ xw_ok := xw_mem (xt3 (List.mem_of_getElem? (i := 191) rfl)) rfl
theorem q_673 : Cond.instanceMethod ⟨"StateExplorerModel", "differ", "(II)Z"⟩ ∈ xw_ok := xw_mem (xt3 (List.mem_of_getElem? (i := 193) rfl)) rfl
theorem q_674 : Cond.code ⟨"StateExplorerModel", "differ", "(II)Z"⟩ prog_4_method_18_code 7 (some .boolean) ∈ xw_ok := xw_mem (xt3 (List.mem_of_getElem? (i := 194) rfl)) rfl
theorem q_675 : Cond.methodLink "StateExplorerModel" 114 ⟨"StateExplorerModel", "shows", "(III)Z"⟩ ∈ xw_ok := xw_mem (xt3 (List.mem_of_getElem? (i := 195) rfl)) rfl
theorem q_677 : Cond.instanceMethod ⟨"StateExplorerModel", "shows", "(III)Z"⟩ ∈ xw_ok := xw_mem (xt3 (List.mem_of_getElem? (i := 197) rfl)) rfl
theorem q_678 : Cond.code ⟨"StateExplorerModel", "shows", "(III)Z"⟩ prog_4_method_17_code 6 (some .boolean) ∈ xw_ok := xw_mem (xt3 (List.mem_of_getElem? (i := 198) rfl)) rfl
theorem q_679 : Cond.methodLink "StateExplorerModel" 111 ⟨"StateExplorerModel", "reached", "()I"⟩ ∈ xw_ok := xw_mem (xt3 (List.mem_of_getElem? (i := 199) rfl)) rfl
theorem q_681 : Cond.instanceMethod ⟨"StateExplorerModel", "reached", "()I"⟩ ∈ xw_ok := xw_mem (xt3 (List.mem_of_getElem? (i := 201) rfl)) rfl
theorem q_682 : Cond.code ⟨"StateExplorerModel", "reached", "()I"⟩ prog_4_method_16_code 3 (some .int) ∈ xw_ok := xw_mem (xt3 (List.mem_of_getElem? (i := 202) rfl)) rfl
theorem q_687 : Cond.methodLink "StateExplorerModel" 122 ⟨"StateExplorerModel", "isState", "(I)Z"⟩ ∈ xw_ok := xw_mem (xt3 (List.mem_of_getElem? (i := 207) rfl)) rfl
theorem q_689 : Cond.instanceMethod ⟨"StateExplorerModel", "isState", "(I)Z"⟩ ∈ xw_ok := xw_mem (xt3 (List.mem_of_getElem? (i := 209) rfl)) rfl
theorem q_690 : Cond.code ⟨"StateExplorerModel", "isState", "(I)Z"⟩ prog_4_method_20_code 2 (some .boolean) ∈ xw_ok := xw_mem (xt3 (List.mem_of_getElem? (i := 210) rfl)) rfl
theorem q_695 : Cond.methodLink "StateExplorerModel" 125 ⟨"StateExplorerModel", "lead", "(II)V"⟩ ∈ xw_ok := xw_mem (xt3 (List.mem_of_getElem? (i := 215) rfl)) rfl
theorem q_697 : Cond.instanceMethod ⟨"StateExplorerModel", "lead", "(II)V"⟩ ∈ xw_ok := xw_mem (xt3 (List.mem_of_getElem? (i := 217) rfl)) rfl
theorem q_698 : Cond.code ⟨"StateExplorerModel", "lead", "(II)V"⟩ prog_4_method_22_code 7 none ∈ xw_ok := xw_mem (xt3 (List.mem_of_getElem? (i := 218) rfl)) rfl
theorem q_715 : Cond.methodLink "StateExplorerModel" 128 ⟨"StateExplorerModel", "held", "(JZ)I"⟩ ∈ xw_ok := xw_mem (xt3 (List.mem_of_getElem? (i := 235) rfl)) rfl
theorem q_717 : Cond.instanceMethod ⟨"StateExplorerModel", "held", "(JZ)I"⟩ ∈ xw_ok := xw_mem (xt3 (List.mem_of_getElem? (i := 237) rfl)) rfl
theorem q_718 : Cond.code ⟨"StateExplorerModel", "held", "(JZ)I"⟩ prog_4_method_27_code 9 (some .int) ∈ xw_ok := xw_mem (xt3 (List.mem_of_getElem? (i := 238) rfl)) rfl
theorem q_727 : Cond.methodLink "StateExplorerModel" 132 ⟨"StateExplorerModel", "least", "(I)I"⟩ ∈ xw_ok := xw_mem (xt4 (List.mem_of_getElem? (i := 7) rfl)) rfl
theorem q_729 : Cond.instanceMethod ⟨"StateExplorerModel", "least", "(I)I"⟩ ∈ xw_ok := xw_mem (xt4 (List.mem_of_getElem? (i := 9) rfl)) rfl
theorem q_730 : Cond.code ⟨"StateExplorerModel", "least", "(I)I"⟩ prog_4_method_30_code 3 (some .int) ∈ xw_ok := xw_mem (xt4 (List.mem_of_getElem? (i := 10) rfl)) rfl
theorem qs_0 : Cond.selects "StateExplorer$Nodes" ⟨"StateExplorer$Nodes", "forget", "()V"⟩ ⟨"StateExplorer$Nodes", "forget", "()V"⟩ ∈ xw_ok := xw_mem (List.mem_append_left _ (List.mem_of_getElem? (i := 0) rfl)) rfl
theorem qs_1 : Cond.selects "StateExplorer" ⟨"StateExplorer", "spread", "()V"⟩ ⟨"StateExplorer", "spread", "()V"⟩ ∈ xw_ok := xw_mem (List.mem_append_left _ (List.mem_of_getElem? (i := 1) rfl)) rfl
theorem qs_2 : Cond.selects "StateExplorer" ⟨"StateExplorer", "variable", "(I)I"⟩ ⟨"StateExplorer", "variable", "(I)I"⟩ ∈ xw_ok := xw_mem (List.mem_append_left _ (List.mem_of_getElem? (i := 2) rfl)) rfl
theorem qs_3 : Cond.selects "StateExplorer" ⟨"StateExplorer", "begin", "()V"⟩ ⟨"StateExplorer", "begin", "()V"⟩ ∈ xw_ok := xw_mem (List.mem_append_left _ (List.mem_of_getElem? (i := 3) rfl)) rfl
theorem qs_4 : Cond.selects "StateExplorer" ⟨"StateExplorer", "keep", "([II)V"⟩ ⟨"StateExplorer", "keep", "([II)V"⟩ ∈ xw_ok := xw_mem (List.mem_append_left _ (List.mem_of_getElem? (i := 4) rfl)) rfl
theorem qs_5 : Cond.selects "StateExplorer$Nodes" ⟨"StateExplorer$Nodes", "chain", "(III)I"⟩ ⟨"StateExplorer$Nodes", "chain", "(III)I"⟩ ∈ xw_ok := xw_mem (List.mem_append_left _ (List.mem_of_getElem? (i := 5) rfl)) rfl
theorem qs_6 : Cond.selects "StateExplorer$Nodes" ⟨"StateExplorer$Nodes", "take", "()I"⟩ ⟨"StateExplorer$Nodes", "take", "()I"⟩ ∈ xw_ok := xw_mem (List.mem_append_left _ (List.mem_of_getElem? (i := 6) rfl)) rfl
theorem qs_7 : Cond.selects "StateExplorer" ⟨"StateExplorer", "not", "(I)I"⟩ ⟨"StateExplorer", "not", "(I)I"⟩ ∈ xw_ok := xw_mem (List.mem_append_left _ (List.mem_of_getElem? (i := 7) rfl)) rfl
theorem qs_8 : Cond.selects "StateExplorer$Nodes" ⟨"StateExplorer$Nodes", "place", "(IIII)I"⟩ ⟨"StateExplorer$Nodes", "place", "(IIII)I"⟩ ∈ xw_ok := xw_mem (List.mem_append_left _ (List.mem_of_getElem? (i := 8) rfl)) rfl
theorem qs_9 : Cond.selects "StateExplorer" ⟨"StateExplorer", "spread", "(I)Z"⟩ ⟨"StateExplorer", "spread", "(I)Z"⟩ ∈ xw_ok := xw_mem (List.mem_append_left _ (List.mem_of_getElem? (i := 9) rfl)) rfl
theorem qs_10 : Cond.selects "StateExplorer" ⟨"StateExplorer", "and", "(II)I"⟩ ⟨"StateExplorer", "and", "(II)I"⟩ ∈ xw_ok := xw_mem (List.mem_append_left _ (List.mem_of_getElem? (i := 10) rfl)) rfl
theorem qs_11 : Cond.selects "StateExplorer" ⟨"StateExplorer", "or", "(II)I"⟩ ⟨"StateExplorer", "or", "(II)I"⟩ ∈ xw_ok := xw_mem (List.mem_append_left _ (List.mem_of_getElem? (i := 11) rfl)) rfl
theorem qs_12 : Cond.selects "StateExplorer" ⟨"StateExplorer", "latch", "()V"⟩ ⟨"StateExplorer", "latch", "()V"⟩ ∈ xw_ok := xw_mem (List.mem_append_left _ (List.mem_of_getElem? (i := 12) rfl)) rfl
theorem qs_13 : Cond.selects "StateExplorer" ⟨"StateExplorer", "only", "(I)I"⟩ ⟨"StateExplorer", "only", "(I)I"⟩ ∈ xw_ok := xw_mem (List.mem_append_left _ (List.mem_of_getElem? (i := 13) rfl)) rfl
theorem qs_14 : Cond.selects "StateExplorer" ⟨"StateExplorer", "after", "(II)I"⟩ ⟨"StateExplorer", "after", "(II)I"⟩ ∈ xw_ok := xw_mem (List.mem_append_left _ (List.mem_of_getElem? (i := 14) rfl)) rfl
theorem qs_15 : Cond.selects "StateExplorer" ⟨"StateExplorer", "gather", "()V"⟩ ⟨"StateExplorer", "gather", "()V"⟩ ∈ xw_ok := xw_mem (List.mem_append_left _ (List.mem_of_getElem? (i := 15) rfl)) rfl
theorem qs_16 : Cond.selects "StateExplorer" ⟨"StateExplorer", "at", "(III)Z"⟩ ⟨"StateExplorer", "at", "(III)Z"⟩ ∈ xw_ok := xw_mem (List.mem_append_left _ (List.mem_of_getElem? (i := 16) rfl)) rfl
theorem qs_17 : Cond.selects "StateExplorer" ⟨"StateExplorer", "alike", "(II)Z"⟩ ⟨"StateExplorer", "alike", "(II)Z"⟩ ∈ xw_ok := xw_mem (List.mem_append_left _ (List.mem_of_getElem? (i := 17) rfl)) rfl
theorem qs_18 : Cond.selects "StateExplorer" ⟨"StateExplorer", "seen", "(II)I"⟩ ⟨"StateExplorer", "seen", "(II)I"⟩ ∈ xw_ok := xw_mem (List.mem_append_left _ (List.mem_of_getElem? (i := 18) rfl)) rfl
theorem qs_19 : Cond.selects "StateExplorer" ⟨"StateExplorer", "nextOf", "(II)I"⟩ ⟨"StateExplorer", "nextOf", "(II)I"⟩ ∈ xw_ok := xw_mem (List.mem_append_left _ (List.mem_of_getElem? (i := 19) rfl)) rfl
theorem qs_20 : Cond.selects "StateExplorer" ⟨"StateExplorer", "states", "(I)I"⟩ ⟨"StateExplorer", "states", "(I)I"⟩ ∈ xw_ok := xw_mem (List.mem_append_left _ (List.mem_of_getElem? (i := 20) rfl)) rfl
theorem qs_21 : Cond.selects "StateExplorer" ⟨"StateExplorer", "sure", "()I"⟩ ⟨"StateExplorer", "sure", "()I"⟩ ∈ xw_ok := xw_mem (List.mem_append_left _ (List.mem_of_getElem? (i := 21) rfl)) rfl
theorem qs_23 : Cond.selects "StateExplorer" ⟨"StateExplorer", "there", "(I)I"⟩ ⟨"StateExplorer", "there", "(I)I"⟩ ∈ xw_ok := xw_mem (List.mem_append_left _ (List.mem_of_getElem? (i := 23) rfl)) rfl
theorem qs_24 : Cond.selects "StateExplorer" ⟨"StateExplorer", "feedsOf", "(I)I"⟩ ⟨"StateExplorer", "feedsOf", "(I)I"⟩ ∈ xw_ok := xw_mem (List.mem_append_left _ (List.mem_of_getElem? (i := 24) rfl)) rfl
theorem qs_25 : Cond.selects "StateExplorer" ⟨"StateExplorer", "needsState", "(I)V"⟩ ⟨"StateExplorer", "needsState", "(I)V"⟩ ∈ xw_ok := xw_mem (List.mem_append_left _ (List.mem_of_getElem? (i := 25) rfl)) rfl
theorem qs_26 : Cond.selects "StateExplorer" ⟨"StateExplorer", "needsExplored", "()V"⟩ ⟨"StateExplorer", "needsExplored", "()V"⟩ ∈ xw_ok := xw_mem (List.mem_append_left _ (List.mem_of_getElem? (i := 26) rfl)) rfl
theorem qs_27 : Cond.selects "StateExplorer" ⟨"StateExplorer", "find", "(II)V"⟩ ⟨"StateExplorer", "find", "(II)V"⟩ ∈ xw_ok := xw_mem (List.mem_append_left _ (List.mem_of_getElem? (i := 27) rfl)) rfl
theorem qs_28 : Cond.selects "StateExplorer" ⟨"StateExplorer", "least", "(I)I"⟩ ⟨"StateExplorer", "least", "(I)I"⟩ ∈ xw_ok := xw_mem (List.mem_append_left _ (List.mem_of_getElem? (i := 28) rfl)) rfl
theorem qs_29 : Cond.selects "StateExplorerModel" ⟨"StateExplorerModel", "fails", "(ZZ)Z"⟩ ⟨"StateExplorerModel", "fails", "(ZZ)Z"⟩ ∈ xw_ok := xw_mem (List.mem_append_left _ (List.mem_of_getElem? (i := 29) rfl)) rfl
theorem qs_30 : Cond.selects "StateExplorerModel" ⟨"StateExplorerModel", "isGate", "(I)Z"⟩ ⟨"StateExplorerModel", "isGate", "(I)Z"⟩ ∈ xw_ok := xw_mem (List.mem_append_left _ (List.mem_of_getElem? (i := 30) rfl)) rfl
theorem qs_31 : Cond.selects "StateExplorerModel" ⟨"StateExplorerModel", "feedsOf", "(I)I"⟩ ⟨"StateExplorerModel", "feedsOf", "(I)I"⟩ ∈ xw_ok := xw_mem (List.mem_append_left _ (List.mem_of_getElem? (i := 31) rfl)) rfl
theorem qs_32 : Cond.selects "StateExplorerModel" ⟨"StateExplorerModel", "states", "()I"⟩ ⟨"StateExplorerModel", "states", "()I"⟩ ∈ xw_ok := xw_mem (List.mem_append_left _ (List.mem_of_getElem? (i := 32) rfl)) rfl
theorem qs_33 : Cond.selects "StateExplorerModel" ⟨"StateExplorerModel", "choices", "()I"⟩ ⟨"StateExplorerModel", "choices", "()I"⟩ ∈ xw_ok := xw_mem (List.mem_append_left _ (List.mem_of_getElem? (i := 33) rfl)) rfl
theorem qs_34 : Cond.selects "StateExplorerModel" ⟨"StateExplorerModel", "work", "(II)V"⟩ ⟨"StateExplorerModel", "work", "(II)V"⟩ ∈ xw_ok := xw_mem (List.mem_append_left _ (List.mem_of_getElem? (i := 34) rfl)) rfl
theorem qs_35 : Cond.selects "StateExplorerModel" ⟨"StateExplorerModel", "again", "()Z"⟩ ⟨"StateExplorerModel", "again", "()Z"⟩ ∈ xw_ok := xw_mem (List.mem_append_left _ (List.mem_of_getElem? (i := 35) rfl)) rfl
theorem qs_36 : Cond.selects "StateExplorerModel" ⟨"StateExplorerModel", "taken", "(I)I"⟩ ⟨"StateExplorerModel", "taken", "(I)I"⟩ ∈ xw_ok := xw_mem (List.mem_append_left _ (List.mem_of_getElem? (i := 36) rfl)) rfl
theorem qs_37 : Cond.selects "StateExplorerModel" ⟨"StateExplorerModel", "tell", "()V"⟩ ⟨"StateExplorerModel", "tell", "()V"⟩ ∈ xw_ok := xw_mem (List.mem_append_left _ (List.mem_of_getElem? (i := 37) rfl)) rfl
theorem qs_38 : Cond.selects "StateExplorerModel" ⟨"StateExplorerModel", "differ", "(II)Z"⟩ ⟨"StateExplorerModel", "differ", "(II)Z"⟩ ∈ xw_ok := xw_mem (List.mem_append_left _ (List.mem_of_getElem? (i := 38) rfl)) rfl
theorem qs_39 : Cond.selects "StateExplorerModel" ⟨"StateExplorerModel", "shows", "(III)Z"⟩ ⟨"StateExplorerModel", "shows", "(III)Z"⟩ ∈ xw_ok := xw_mem (List.mem_append_left _ (List.mem_of_getElem? (i := 39) rfl)) rfl
theorem qs_40 : Cond.selects "StateExplorerModel" ⟨"StateExplorerModel", "reached", "()I"⟩ ⟨"StateExplorerModel", "reached", "()I"⟩ ∈ xw_ok := xw_mem (List.mem_append_left _ (List.mem_of_getElem? (i := 40) rfl)) rfl
theorem qs_41 : Cond.selects "StateExplorerModel" ⟨"StateExplorerModel", "isState", "(I)Z"⟩ ⟨"StateExplorerModel", "isState", "(I)Z"⟩ ∈ xw_ok := xw_mem (List.mem_append_left _ (List.mem_of_getElem? (i := 41) rfl)) rfl
theorem qs_42 : Cond.selects "StateExplorerModel" ⟨"StateExplorerModel", "lead", "(II)V"⟩ ⟨"StateExplorerModel", "lead", "(II)V"⟩ ∈ xw_ok := xw_mem (List.mem_append_left _ (List.mem_of_getElem? (i := 42) rfl)) rfl
theorem qs_43 : Cond.selects "StateExplorerModel" ⟨"StateExplorerModel", "held", "(JZ)I"⟩ ⟨"StateExplorerModel", "held", "(JZ)I"⟩ ∈ xw_ok := xw_mem (List.mem_append_left _ (List.mem_of_getElem? (i := 43) rfl)) rfl
theorem qs_44 : Cond.selects "StateExplorerModel" ⟨"StateExplorerModel", "least", "(I)I"⟩ ⟨"StateExplorerModel", "least", "(I)I"⟩ ∈ xw_ok := xw_mem (List.mem_append_left _ (List.mem_of_getElem? (i := 44) rfl)) rfl
