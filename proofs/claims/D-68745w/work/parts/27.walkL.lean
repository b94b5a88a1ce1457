theorem q_171 : Cond.methodLink "StateExplorerLaw" 73 ⟨"StateExplorer", "clear", "()I"⟩ ∈ xw_ok := xw_mem (xt1 (List.mem_of_getElem? (i := 171) rfl)) rfl
theorem q_172 : Cond.instanceMethod ⟨"StateExplorer", "clear", "()I"⟩ ∈ xw_ok := xw_mem (xt1 (List.mem_of_getElem? (i := 172) rfl)) rfl
theorem q_173 : Cond.selects "StateExplorer" ⟨"StateExplorer", "clear", "()I"⟩ ⟨"StateExplorer", "clear", "()I"⟩ ∈ xw_ok := xw_mem (xt1 (List.mem_of_getElem? (i := 173) rfl)) rfl
theorem q_174 : Cond.code ⟨"StateExplorer", "clear", "()I"⟩ prog_1_method_8_code 2 (some .int) ∈ xw_ok := xw_mem (xt1 (List.mem_of_getElem? (i := 174) rfl)) rfl
theorem q_175 : Cond.methodLink "StateExplorerLaw" 77 ⟨"StateExplorer", "explore", "()I"⟩ ∈ xw_ok := xw_mem (xt1 (List.mem_of_getElem? (i := 175) rfl)) rfl
theorem q_176 : Cond.instanceMethod ⟨"StateExplorer", "explore", "()I"⟩ ∈ xw_ok := xw_mem (xt1 (List.mem_of_getElem? (i := 176) rfl)) rfl
theorem q_177 : Cond.selects "StateExplorer" ⟨"StateExplorer", "explore", "()I"⟩ ⟨"StateExplorer", "explore", "()I"⟩ ∈ xw_ok := xw_mem (xt1 (List.mem_of_getElem? (i := 177) rfl)) rfl
theorem q_178 : Cond.code ⟨"StateExplorer", "explore", "()I"⟩ prog_1_method_31_code 2 (some .int) ∈ xw_ok := xw_mem (xt1 (List.mem_of_getElem? (i := 178) rfl)) rfl
theorem q_324 : Cond.methodLink "StateExplorerLaw" 106 ⟨"StateExplorer", "count", "(I)I"⟩ ∈ xw_ok := xw_mem (xt2 (List.mem_of_getElem? (i := 84) rfl)) rfl
theorem q_325 : Cond.instanceMethod ⟨"StateExplorer", "count", "(I)I"⟩ ∈ xw_ok := xw_mem (xt2 (List.mem_of_getElem? (i := 85) rfl)) rfl
theorem q_326 : Cond.selects "StateExplorer" ⟨"StateExplorer", "count", "(I)I"⟩ ⟨"StateExplorer", "count", "(I)I"⟩ ∈ xw_ok := xw_mem (xt2 (List.mem_of_getElem? (i := 86) rfl)) rfl
theorem q_327 : Cond.code ⟨"StateExplorer", "count", "(I)I"⟩ prog_1_method_48_code 2 (some .int) ∈ xw_ok := xw_mem (xt2 (List.mem_of_getElem? (i := 87) rfl)) rfl
theorem q_332 : Cond.methodLink "StateExplorerLaw" 56 ⟨"StateExplorerLaw", "gate", "(LStateExplorer;I[J)I"⟩ ∈ xw_ok := xw_mem (xt2 (List.mem_of_getElem? (i := 92) rfl)) rfl
theorem q_333 : Cond.static ⟨"StateExplorerLaw", "gate", "(LStateExplorer;I[J)I"⟩ ∈ xw_ok := xw_mem (xt2 (List.mem_of_getElem? (i := 93) rfl)) rfl
theorem q_403 : Cond.methodLink "StateExplorerLaw" 66 ⟨"StateExplorerLaw", "feed", "(LStateExplorer;IIZ[J)I"⟩ ∈ xw_ok := xw_mem (xt2 (List.mem_of_getElem? (i := 163) rfl)) rfl
theorem q_404 : Cond.static ⟨"StateExplorerLaw", "feed", "(LStateExplorer;IIZ[J)I"⟩ ∈ xw_ok := xw_mem (xt2 (List.mem_of_getElem? (i := 164) rfl)) rfl
theorem q_453 : Cond.methodLink "StateExplorerLaw" 70 ⟨"StateExplorerLaw", "output", "(LStateExplorer;I[J)I"⟩ ∈ xw_ok := xw_mem (xt2 (List.mem_of_getElem? (i := 213) rfl)) rfl
theorem q_454 : Cond.static ⟨"StateExplorerLaw", "output", "(LStateExplorer;I[J)I"⟩ ∈ xw_ok := xw_mem (xt2 (List.mem_of_getElem? (i := 214) rfl)) rfl
theorem q_460 : Cond.methodLink "StateExplorerLaw" 81 ⟨"StateExplorerLaw", "distance", "(LStateExplorer;I[J)I"⟩ ∈ xw_ok := xw_mem (xt2 (List.mem_of_getElem? (i := 220) rfl)) rfl
theorem q_461 : Cond.static ⟨"StateExplorerLaw", "distance", "(LStateExplorer;I[J)I"⟩ ∈ xw_ok := xw_mem (xt2 (List.mem_of_getElem? (i := 221) rfl)) rfl
theorem q_475 : Cond.methodLink "StateExplorerLaw" 84 ⟨"StateExplorerLaw", "way", "(LStateExplorer;II[J)I"⟩ ∈ xw_ok := xw_mem (xt2 (List.mem_of_getElem? (i := 235) rfl)) rfl
theorem q_476 : Cond.static ⟨"StateExplorerLaw", "way", "(LStateExplorer;II[J)I"⟩ ∈ xw_ok := xw_mem (xt2 (List.mem_of_getElem? (i := 236) rfl)) rfl
theorem q_493 : Cond.methodLink "StateExplorerLaw" 88 ⟨"StateExplorerLaw", "many", "(LStateExplorer;I[J)I"⟩ ∈ xw_ok := xw_mem (xt3 (List.mem_of_getElem? (i := 13) rfl)) rfl
theorem q_494 : Cond.static ⟨"StateExplorerLaw", "many", "(LStateExplorer;I[J)I"⟩ ∈ xw_ok := xw_mem (xt3 (List.mem_of_getElem? (i := 14) rfl)) rfl
theorem q_500 : Cond.methodLink "StateExplorerLaw" 91 ⟨"StateExplorerLaw", "next", "(LStateExplorer;II[J)I"⟩ ∈ xw_ok := xw_mem (xt3 (List.mem_of_getElem? (i := 20) rfl)) rfl
theorem q_501 : Cond.static ⟨"StateExplorerLaw", "next", "(LStateExplorer;II[J)I"⟩ ∈ xw_ok := xw_mem (xt3 (List.mem_of_getElem? (i := 21) rfl)) rfl
theorem q_507 : Cond.methodLink "StateExplorerLaw" 94 ⟨"StateExplorerLaw", "doubt", "(LStateExplorer;I[J)I"⟩ ∈ xw_ok := xw_mem (xt3 (List.mem_of_getElem? (i := 27) rfl)) rfl
theorem q_508 : Cond.static ⟨"StateExplorerLaw", "doubt", "(LStateExplorer;I[J)I"⟩ ∈ xw_ok := xw_mem (xt3 (List.mem_of_getElem? (i := 28) rfl)) rfl
theorem q_518 : Cond.methodLink "StateExplorerLaw" 97 ⟨"StateExplorerLaw", "always", "(LStateExplorer;I[J)I"⟩ ∈ xw_ok := xw_mem (xt3 (List.mem_of_getElem? (i := 38) rfl)) rfl
theorem q_519 : Cond.static ⟨"StateExplorerLaw", "always", "(LStateExplorer;I[J)I"⟩ ∈ xw_ok := xw_mem (xt3 (List.mem_of_getElem? (i := 39) rfl)) rfl
theorem q_525 : Cond.methodLink "StateExplorerLaw" 100 ⟨"StateExplorerLaw", "isSame", "(LStateExplorer;II[J)I"⟩ ∈ xw_ok := xw_mem (xt3 (List.mem_of_getElem? (i := 45) rfl)) rfl
theorem q_526 : Cond.static ⟨"StateExplorerLaw", "isSame", "(LStateExplorer;II[J)I"⟩ ∈ xw_ok := xw_mem (xt3 (List.mem_of_getElem? (i := 46) rfl)) rfl
theorem q_532 : Cond.methodLink "StateExplorerLaw" 103 ⟨"StateExplorerLaw", "group", "(LStateExplorer;I[J)I"⟩ ∈ xw_ok := xw_mem (xt3 (List.mem_of_getElem? (i := 52) rfl)) rfl
theorem q_533 : Cond.static ⟨"StateExplorerLaw", "group", "(LStateExplorer;I[J)I"⟩ ∈ xw_ok := xw_mem (xt3 (List.mem_of_getElem? (i := 53) rfl)) rfl
theorem q_611 : Cond.methodLink "StateExplorerLaw" 62 ⟨"StateExplorerModel", "thrown", "()I"⟩ ∈ xw_ok := xw_mem (xt3 (List.mem_of_getElem? (i := 131) rfl)) rfl
theorem q_612 : Cond.instanceMethod ⟨"StateExplorerModel", "thrown", "()I"⟩ ∈ xw_ok := xw_mem (xt3 (List.mem_of_getElem? (i := 132) rfl)) rfl
theorem q_613 : Cond.selects "StateExplorerModel" ⟨"StateExplorerModel", "thrown", "()I"⟩ ⟨"StateExplorerModel", "thrown", "()I"⟩ ∈ xw_ok := xw_mem (xt3 (List.mem_of_getElem? (i := 133) rfl)) rfl
theorem q_614 : Cond.code ⟨"StateExplorerModel", "thrown", "()I"⟩ prog_4_method_2_code 1 (some .int) ∈ xw_ok := xw_mem (xt3 (List.mem_of_getElem? (i := 134) rfl)) rfl
theorem q_615 : Cond.methodLink "StateExplorerLaw" 61 ⟨"StateExplorerModel", "gate", "(I)I"⟩ ∈ xw_ok := xw_mem (xt3 (List.mem_of_getElem? (i := 135) rfl)) rfl
theorem q_616 : Cond.instanceMethod ⟨"StateExplorerModel", "gate", "(I)I"⟩ ∈ xw_ok := xw_mem (xt3 (List.mem_of_getElem? (i := 136) rfl)) rfl
theorem q_617 : Cond.selects "StateExplorerModel" ⟨"StateExplorerModel", "gate", "(I)I"⟩ ⟨"StateExplorerModel", "gate", "(I)I"⟩ ∈ xw_ok := xw_mem (xt3 (List.mem_of_getElem? (i := 137) rfl)) rfl
theorem q_618 : Cond.code ⟨"StateExplorerModel", "gate", "(I)I"⟩ prog_4_method_5_code 2 (some .int) ∈ xw_ok := xw_mem (xt3 (List.mem_of_getElem? (i := 138) rfl)) rfl
theorem q_623 : Cond.methodLink "StateExplorerLaw" 69 ⟨"StateExplorerModel", "feed", "(IIZ)I"⟩ ∈ xw_ok := xw_mem (xt3 (List.mem_of_getElem? (i := 143) rfl)) rfl
theorem q_624 : Cond.instanceMethod ⟨"StateExplorerModel", "feed", "(IIZ)I"⟩ ∈ xw_ok := xw_mem (xt3 (List.mem_of_getElem? (i := 144) rfl)) rfl
theorem q_625 : Cond.selects "StateExplorerModel" ⟨"StateExplorerModel", "feed", "(IIZ)I"⟩ ⟨"StateExplorerModel", "feed", "(IIZ)I"⟩ ∈ xw_ok := xw_mem (xt3 (List.mem_of_getElem? (i := 145) rfl)) rfl
theorem q_626 : Cond.code ⟨"StateExplorerModel", "feed", "(IIZ)I"⟩ prog_4_method_7_code 6 (some .int) ∈ xw_ok := xw_mem (xt3 (List.mem_of_getElem? (i := 146) rfl)) rfl
theorem q_635 : Cond.methodLink "StateExplorerLaw" 72 ⟨"StateExplorerModel", "output", "(I)I"⟩ ∈ xw_ok := xw_mem (xt3 (List.mem_of_getElem? (i := 155) rfl)) rfl
theorem q_636 : Cond.instanceMethod ⟨"StateExplorerModel", "output", "(I)I"⟩ ∈ xw_ok := xw_mem (xt3 (List.mem_of_getElem? (i := 156) rfl)) rfl
theorem q_637 : Cond.selects "StateExplorerModel" ⟨"StateExplorerModel", "output", "(I)I"⟩ ⟨"StateExplorerModel", "output", "(I)I"⟩ ∈ xw_ok := xw_mem (xt3 (List.mem_of_getElem? (i := 157) rfl)) rfl
theorem q_638 : Cond.code ⟨"StateExplorerModel", "output", "(I)I"⟩ prog_4_method_8_code 2 (some .int) ∈ xw_ok := xw_mem (xt3 (List.mem_of_getElem? (i := 158) rfl)) rfl
theorem q_639 : Cond.methodLink "StateExplorerLaw" 76 ⟨"StateExplorerModel", "clear", "()I"⟩ ∈ xw_ok := xw_mem (xt3 (List.mem_of_getElem? (i := 159) rfl)) rfl
theorem q_640 : Cond.instanceMethod ⟨"StateExplorerModel", "clear", "()I"⟩ ∈ xw_ok := xw_mem (xt3 (List.mem_of_getElem? (i := 160) rfl)) rfl
theorem q_641 : Cond.selects "StateExplorerModel" ⟨"StateExplorerModel", "clear", "()I"⟩ ⟨"StateExplorerModel", "clear", "()I"⟩ ∈ xw_ok := xw_mem (xt3 (List.mem_of_getElem? (i := 161) rfl)) rfl
theorem q_642 : Cond.code ⟨"StateExplorerModel", "clear", "()I"⟩ prog_4_method_9_code 2 (some .int) ∈ xw_ok := xw_mem (xt3 (List.mem_of_getElem? (i := 162) rfl)) rfl
theorem q_643 : Cond.methodLink "StateExplorerLaw" 80 ⟨"StateExplorerModel", "explore", "()I"⟩ ∈ xw_ok := xw_mem (xt3 (List.mem_of_getElem? (i := 163) rfl)) rfl
theorem q_644 : Cond.instanceMethod ⟨"StateExplorerModel", "explore", "()I"⟩ ∈ xw_ok := xw_mem (xt3 (List.mem_of_getElem? (i := 164) rfl)) rfl
theorem q_645 : Cond.selects "StateExplorerModel" ⟨"StateExplorerModel", "explore", "()I"⟩ ⟨"StateExplorerModel", "explore", "()I"⟩ ∈ xw_ok := xw_mem (xt3 (List.mem_of_getElem? (i := 165) rfl)) rfl
theorem q_646 : Cond.code ⟨"StateExplorerModel", "explore", "()I"⟩ prog_4_method_15_code 6 (some .int) ∈ xw_ok := xw_mem (xt3 (List.mem_of_getElem? (i := 166) rfl)) rfl
theorem q_683 : Cond.methodLink "StateExplorerLaw" 83 ⟨"StateExplorerModel", "distance", "(I)I"⟩ ∈ xw_ok := xw_mem (xt3 (List.mem_of_getElem? (i := 203) rfl)) rfl
theorem q_684 : Cond.instanceMethod ⟨"StateExplorerModel", "distance", "(I)I"⟩ ∈ xw_ok := xw_mem (xt3 (List.mem_of_getElem? (i := 204) rfl)) rfl
theorem q_685 : Cond.selects "StateExplorerModel" ⟨"StateExplorerModel", "distance", "(I)I"⟩ ⟨"StateExplorerModel", "distance", "(I)I"⟩ ∈ xw_ok := xw_mem (xt3 (List.mem_of_getElem? (i := 205) rfl)) rfl
theorem q_686 : Cond.code ⟨"StateExplorerModel", "distance", "(I)I"⟩ prog_4_method_21_code 2 (some .int) ∈ xw_ok := xw_mem (xt3 (List.mem_of_getElem? (i := 206) rfl)) rfl
theorem q_691 : Cond.methodLink "StateExplorerLaw" 87 ⟨"StateExplorerModel", "way", "(II)I"⟩ ∈ xw_ok := xw_mem (xt3 (List.mem_of_getElem? (i := 211) rfl)) rfl
theorem q_692 : Cond.instanceMethod ⟨"StateExplorerModel", "way", "(II)I"⟩ ∈ xw_ok := xw_mem (xt3 (List.mem_of_getElem? (i := 212) rfl)) rfl
theorem q_693 : Cond.selects "StateExplorerModel" ⟨"StateExplorerModel", "way", "(II)I"⟩ ⟨"StateExplorerModel", "way", "(II)I"⟩ ∈ xw_ok := xw_mem (xt3 (List.mem_of_getElem? (i := 213) rfl)) rfl
theorem q_694 : Cond.code ⟨"StateExplorerModel", "way", "(II)I"⟩ prog_4_method_23_code 7 (some .int) ∈ xw_ok := xw_mem (xt3 (List.mem_of_getElem? (i := 214) rfl)) rfl
theorem q_699 : Cond.methodLink "StateExplorerLaw" 90 ⟨"StateExplorerModel", "many", "(I)I"⟩ ∈ xw_ok := xw_mem (xt3 (List.mem_of_getElem? (i := 219) rfl)) rfl
theorem q_700 : Cond.instanceMethod ⟨"StateExplorerModel", "many", "(I)I"⟩ ∈ xw_ok := xw_mem (xt3 (List.mem_of_getElem? (i := 220) rfl)) rfl
theorem q_701 : Cond.selects "StateExplorerModel" ⟨"StateExplorerModel", "many", "(I)I"⟩ ⟨"StateExplorerModel", "many", "(I)I"⟩ ∈ xw_ok := xw_mem (xt3 (List.mem_of_getElem? (i := 221) rfl)) rfl
theorem q_702 : Cond.code ⟨"StateExplorerModel", "many", "(I)I"⟩ prog_4_method_24_code 4 (some .int) ∈ xw_ok := xw_mem (xt3 (List.mem_of_getElem? (i := 222) rfl)) rfl
theorem q_703 : Cond.methodLink "StateExplorerLaw" 93 ⟨"StateExplorerModel", "next", "(II)I"⟩ ∈ xw_ok := xw_mem (xt3 (List.mem_of_getElem? (i := 223) rfl)) rfl
theorem q_704 : Cond.instanceMethod ⟨"StateExplorerModel", "next", "(II)I"⟩ ∈ xw_ok := xw_mem (xt3 (List.mem_of_getElem? (i := 224) rfl)) rfl
theorem q_705 : Cond.selects "StateExplorerModel" ⟨"StateExplorerModel", "next", "(II)I"⟩ ⟨"StateExplorerModel", "next", "(II)I"⟩ ∈ xw_ok := xw_mem (xt3 (List.mem_of_getElem? (i := 225) rfl)) rfl
theorem q_706 : Cond.code ⟨"StateExplorerModel", "next", "(II)I"⟩ prog_4_method_25_code 4 (some .int) ∈ xw_ok := xw_mem (xt3 (List.mem_of_getElem? (i := 226) rfl)) rfl
theorem q_707 : Cond.methodLink "StateExplorerLaw" 96 ⟨"StateExplorerModel", "doubt", "(I)I"⟩ ∈ xw_ok := xw_mem (xt3 (List.mem_of_getElem? (i := 227) rfl)) rfl
theorem q_708 : Cond.instanceMethod ⟨"StateExplorerModel", "doubt", "(I)I"⟩ ∈ xw_ok := xw_mem (xt3 (List.mem_of_getElem? (i := 228) rfl)) rfl
theorem q_709 : Cond.selects "StateExplorerModel" ⟨"StateExplorerModel", "doubt", "(I)I"⟩ ⟨"StateExplorerModel", "doubt", "(I)I"⟩ ∈ xw_ok := xw_mem (xt3 (List.mem_of_getElem? (i := 229) rfl)) rfl
theorem q_710 : Cond.code ⟨"StateExplorerModel", "doubt", "(I)I"⟩ prog_4_method_26_code 4 (some .int) ∈ xw_ok := xw_mem (xt3 (List.mem_of_getElem? (i := 230) rfl)) rfl
theorem q_711 : Cond.methodLink "StateExplorerLaw" 99 ⟨"StateExplorerModel", "always", "(I)I"⟩ ∈ xw_ok := xw_mem (xt3 (List.mem_of_getElem? (i := 231) rfl)) rfl
theorem q_712 : Cond.instanceMethod ⟨"StateExplorerModel", "always", "(I)I"⟩ ∈ xw_ok := xw_mem (xt3 (List.mem_of_getElem? (i := 232) rfl)) rfl
theorem q_713 : Cond.selects "StateExplorerModel" ⟨"StateExplorerModel", "always", "(I)I"⟩ ⟨"StateExplorerModel", "always", "(I)I"⟩ ∈ xw_ok := xw_mem (xt3 (List.mem_of_getElem? (i := 233) rfl)) rfl
theorem q_714 : Cond.code ⟨"StateExplorerModel", "always", "(I)I"⟩ prog_4_method_28_code 4 (some .int) ∈ xw_ok := xw_mem (xt3 (List.mem_of_getElem? (i := 234) rfl)) rfl
theorem q_719 : Cond.methodLink "StateExplorerLaw" 102 ⟨"StateExplorerModel", "isSame", "(II)Z"⟩ ∈ xw_ok := xw_mem (xt3 (List.mem_of_getElem? (i := 239) rfl)) rfl
theorem q_720 : Cond.instanceMethod ⟨"StateExplorerModel", "isSame", "(II)Z"⟩ ∈ xw_ok := xw_mem (xt4 (List.mem_of_getElem? (i := 0) rfl)) rfl
theorem q_721 : Cond.selects "StateExplorerModel" ⟨"StateExplorerModel", "isSame", "(II)Z"⟩ ⟨"StateExplorerModel", "isSame", "(II)Z"⟩ ∈ xw_ok := xw_mem (xt4 (List.mem_of_getElem? (i := 1) rfl)) rfl
theorem q_722 : Cond.code ⟨"StateExplorerModel", "isSame", "(II)Z"⟩ prog_4_method_29_code 5 (some .boolean) ∈ xw_ok := xw_mem (xt4 (List.mem_of_getElem? (i := 2) rfl)) rfl
theorem q_723 : Cond.methodLink "StateExplorerLaw" 105 ⟨"StateExplorerModel", "group", "(I)I"⟩ ∈ xw_ok := xw_mem (xt4 (List.mem_of_getElem? (i := 3) rfl)) rfl
theorem q_724 : Cond.instanceMethod ⟨"StateExplorerModel", "group", "(I)I"⟩ ∈ xw_ok := xw_mem (xt4 (List.mem_of_getElem? (i := 4) rfl)) rfl
theorem q_725 : Cond.selects "StateExplorerModel" ⟨"StateExplorerModel", "group", "(I)I"⟩ ⟨"StateExplorerModel", "group", "(I)I"⟩ ∈ xw_ok := xw_mem (xt4 (List.mem_of_getElem? (i := 5) rfl)) rfl
theorem q_726 : Cond.code ⟨"StateExplorerModel", "group", "(I)I"⟩ prog_4_method_31_code 2 (some .int) ∈ xw_ok := xw_mem (xt4 (List.mem_of_getElem? (i := 6) rfl)) rfl
theorem q_731 : Cond.methodLink "StateExplorerLaw" 109 ⟨"StateExplorerModel", "count", "(I)I"⟩ ∈ xw_ok := xw_mem (xt4 (List.mem_of_getElem? (i := 11) rfl)) rfl
theorem q_732 : Cond.instanceMethod ⟨"StateExplorerModel", "count", "(I)I"⟩ ∈ xw_ok := xw_mem (xt4 (List.mem_of_getElem? (i := 12) rfl)) rfl
theorem q_733 : Cond.selects "StateExplorerModel" ⟨"StateExplorerModel", "count", "(I)I"⟩ ⟨"StateExplorerModel", "count", "(I)I"⟩ ∈ xw_ok := xw_mem (xt4 (List.mem_of_getElem? (i := 13) rfl)) rfl
theorem q_734 : Cond.code ⟨"StateExplorerModel", "count", "(I)I"⟩ prog_4_method_32_code 8 (some .int) ∈ xw_ok := xw_mem (xt4 (List.mem_of_getElem? (i := 14) rfl)) rfl
theorem mi_M_always : xMi y_M_always (.code y_M_always b_M_always 4 (some .int)) 1 := ⟨q_714, q_3, by decide, by decide, by decide +kernel⟩
theorem mi_M_clear : xMi y_M_clear (.code y_M_clear b_M_clear 2 (some .int)) 0 := ⟨q_642, q_3, by decide, by decide, by decide +kernel⟩
theorem mi_M_count : xMi y_M_count (.code y_M_count b_M_count 8 (some .int)) 1 := ⟨q_734, q_3, by decide, by decide, by decide +kernel⟩
theorem mi_M_distance : xMi y_M_distance (.code y_M_distance b_M_distance 2 (some .int)) 1 := ⟨q_686, q_3, by decide, by decide, by decide +kernel⟩
theorem mi_M_doubt : xMi y_M_doubt (.code y_M_doubt b_M_doubt 4 (some .int)) 1 := ⟨q_710, q_3, by decide, by decide, by decide +kernel⟩
theorem mi_M_explore : xMi y_M_explore (.code y_M_explore b_M_explore 6 (some .int)) 0 := ⟨q_646, q_3, by decide, by decide, by decide +kernel⟩
theorem mi_M_feed : xMi y_M_feed (.code y_M_feed b_M_feed 6 (some .int)) 3 := ⟨q_626, q_3, by decide, by decide, by decide +kernel⟩
theorem mi_M_gate : xMi y_M_gate (.code y_M_gate b_M_gate 2 (some .int)) 1 := ⟨q_618, q_3, by decide, by decide, by decide +kernel⟩
theorem mi_M_group : xMi y_M_group (.code y_M_group b_M_group 2 (some .int)) 1 := ⟨q_726, q_3, by decide, by decide, by decide +kernel⟩
theorem mi_M_isSame : xMi y_M_isSame (.code y_M_isSame b_M_isSame 5 (some .boolean)) 2 := ⟨q_722, q_3, by decide, by decide, by decide +kernel⟩
theorem mi_M_many : xMi y_M_many (.code y_M_many b_M_many 4 (some .int)) 1 := ⟨q_702, q_3, by decide, by decide, by decide +kernel⟩
theorem mi_M_next : xMi y_M_next (.code y_M_next b_M_next 4 (some .int)) 2 := ⟨q_706, q_3, by decide, by decide, by decide +kernel⟩
theorem mi_M_output : xMi y_M_output (.code y_M_output b_M_output 2 (some .int)) 1 := ⟨q_638, q_3, by decide, by decide, by decide +kernel⟩
theorem mi_M_thrown : xMi y_M_thrown (.code y_M_thrown b_M_thrown 1 (some .int)) 0 := ⟨q_614, q_3, by decide, by decide, by decide +kernel⟩
theorem mi_M_way : xMi y_M_way (.code y_M_way b_M_way 7 (some .int)) 2 := ⟨q_694, q_3, by decide, by decide, by decide +kernel⟩
theorem mi_X_clear : xMi y_X_clear (.code y_X_clear b_X_clear 2 (some .int)) 0 := ⟨q_174, q_1, by decide, by decide, by decide +kernel⟩
theorem mi_X_count : xMi y_X_count (.code y_X_count b_X_count 2 (some .int)) 1 := ⟨q_327, q_1, by decide, by decide, by decide +kernel⟩
theorem mi_X_explore : xMi y_X_explore (.code y_X_explore b_X_explore 2 (some .int)) 0 := ⟨q_178, q_1, by decide, by decide, by decide +kernel⟩
/-! the law's loop, printed by genlaw.py -/
def lw_P (b : Addr) (xs : List Int32) (args : Array Value) (s : State) : Prop := args = #[.ref b] ∧ s.IntsAt b xs ∧ xs.length ≤ 2048 ∧ (Jvm.Cond.and given_1 narrow_1).before args s = true
def lw_Q (_ : Array Value) (s : State) (o : Outcome) (t : State) : Prop := o = .returned (some (.int 1)) ∧ Framed s o t [] 163966 8604208
def lw_Z (below : List Frame) (a : Array Value) (s : State) : State → Prop := fun t => ∃ o, t.status = .running ∧ Ended t below o ∧ lw_Q a s o t
/-- the law's own end, with 1 on the stack, nothing written that was there before, its room as the claim has it -/
theorem lw_ret {p : Program} {l : Launch} {e : Env} {s : State} {m : MethodId} {below : List Frame} {meth : Method} {c : Code} {b : Nat} (hx : p.tables.exec = Jvm.exec) (hb : c.code = code) (hr : meth.sig.returnType = ret) (hlocks : meth.locks = false) {pc : Nat} {H : Heap} {ls : Array Slot} (hdg : decode code pc = .ok (.ireturn, 1)) : W p l e room_1 s m #[Value.ref b] below meth c H [] 163966 8604208 (lw_Z below #[Value.ref b] s) (F0 m pc ls [.int 1]) := by
  intro T hT X
  obtain ⟨fs, hret, hrun, hended, hW, hframe⟩ := X.leave (v := some (.int 1)) (hlocks := hlocks) (fun h => by rw [hr] at h; cases h)
  have hmeth' : T.vm.method? m = some meth := X.method'
  refine ⟨T.setFrames fs, ?_, .returned (some (.int 1)), hrun, hended, rfl, ⟨_, rfl⟩, hW, hframe⟩
  jvm_step X.here [X.here.top, hx, hb, hdg, hmeth', hr, ret, narrow_b1]
  (try refine ⟨rfl, ?_⟩); (try refine ⟨rfl, ?_⟩)
  first | (intro acts; rw [hret _ acts rfl rfl rfl]) | rw [hret _ _ rfl rfl rfl]
  exact Steps.refl _
/-- what holds in the law's loop -/
def OKL (κ : Cx) (τ : xT) (b LL : Nat) (xs : Nat → Int32) (Z : Int32 → Prop) : Prop :=
  OKc κ (wdL τ) 7 b_L_law "StateExplorerLaw" ret room_1 ∧ LL ≤ 2048 ∧ va_X b LL xs (kS κ) (kS κ).heap ∧ b < (kS κ).heap.size ∧ (¬ xA (wdL τ) (kS κ).heap.size b) ∧ OKt κ (wdL τ) ((x0, x0), ((x0, fun _ => 0), fun _ => 0)) ∧ NC (kS κ) ∧ (∀ e : Env, (kL κ).admits e → e.platform.stackTraces = false) ∧ (∀ r, Z r → r = 1) ∧ (∀ q, xA (wdL τ) (kS κ).heap.size q → (kS κ).heap.size ≤ q) ∧ kA κ = #[Value.ref b]
/-- room for the rest of the script -/
def xBd (k : Nat × Nat) (x : Int32) : Prop := k.1 + (512 - x.toNatClampNeg / 4) ≤ 163966 ∧ k.2 + 6 * (512 - x.toNatClampNeg / 4) ≤ 8604208
theorem xbd0 {k : Nat × Nat} {x : Int32} (h : xBd k x) : k.1 ≤ 163966 ∧ k.2 ≤ 8604208 := ⟨Nat.le_trans (Nat.le_add_right _ _) h.1, Nat.le_trans (Nat.le_add_right _ _) h.2⟩
theorem xlk {k : Nat × Nat} {x : Int32} {LL : Nat} (hi : vp_in x LL) (hL : LL ≤ 2048) (h : xBd k x) : k.1 + 1 ≤ 163966 ∧ k.2 + 6 ≤ 8604208 := by
  obtain ⟨j, hj, rfl⟩ := vp_in_of hi (by omega)
  unfold xBd at h
  rw [nI_clamp (by omega)] at h
  omega
theorem xlk2 {k : Nat × Nat} {x x' : Int32} {LL : Nat} (hi : vp_in x LL) (hL : LL ≤ 2048) (h : xBd k x) (e : x' = x + 4) : xBd (k.1 + 1, k.2 + 6) x' := by
  obtain ⟨j, hj, rfl⟩ := vp_in_of hi (by omega)
  have e2 : x' = nI (j + 4) := by rw [e]; exact nI_add j 4
  subst e2
  unfold xBd at *
  rw [nI_clamp (by omega)] at h ⊢
  dsimp only
  omega
section lawrows
variable {σ : Type} {κ : Cx} {ω : xWd σ} {nL : Nat} {k k' : Nat × Nat} {Q : State → Prop} {X : σ} {pc : Nat} {lv : List (Nat × Value)} {st : List Value} {cc : ByteArray} {own : String} {ret' : Option FieldType} {rm : Room}
theorem gw_widen (h : k.1 ≤ k'.1 ∧ k.2 ≤ k'.2) (kk : GW κ ω nL k' Q X pc lv st) : GW κ ω nL k Q X pc lv st := fun H locs ls hP hS hl => W.widen h.1 h.2 (kk H locs ls hP hS hl)
theorem gw_sld {b LL : Nat} {xs : Nat → Int32} {i : Int32} (o : OKc κ ω nL cc own ret' rm) (hX : va_X b LL xs (kS κ) (kS κ).heap) (hbl : b < (kS κ).heap.size) (hbA : ¬ xA ω (kS κ).heap.size b) (hin : vp_in i LL) (hd : decode cc pc = .ok (.iaload, 1)) (kk : GW κ ω nL k Q X (pc + 1) lv (.int (xs i.toNatClampNeg) :: st)) : GW κ ω nL k Q X pc lv (.int i :: .ref b :: st) := fun H locs ls hP hS hl => va_sld o.1 o.2.1 hX hbl hbA hS hin hd (kk H locs ls hP hS hl)
theorem gw_slen {b LL : Nat} {xs : Nat → Int32} (o : OKc κ ω nL cc own ret' rm) (hX : va_X b LL xs (kS κ) (kS κ).heap) (hbl : b < (kS κ).heap.size) (hbA : ¬ xA ω (kS κ).heap.size b) (hd : decode cc pc = .ok (.arraylength, 1)) (kk : GW κ ω nL k Q X (pc + 1) lv (.int (Int32.ofNat LL) :: st)) : GW κ ω nL k Q X pc lv (.ref b :: st) := fun H locs ls hP hS hl => va_slen o.1 o.2.1 hX hbl hbA hS hd (kk H locs ls hP hS hl)
end lawrows
theorem gwl_ret {κ : Cx} {τ : xT} {b LL : Nat} {xs : Nat → Int32} {Z : Int32 → Prop} {k : Nat × Nat} {X : (xF × xF) × ((xF × (Nat → Int64)) × (Nat → Int64))} {pc : Nat} {lv : List (Nat × Value)} {v : Int32} (c : OKL κ τ b LL xs Z) (hv : v = 1) (hk : k.1 ≤ 163966 ∧ k.2 ≤ 8604208) (hd : decode b_L_law pc = .ok (.ireturn, 1)) : GW κ (wdL τ) 7 k (lw_Z (kB κ) #[Value.ref b] (kS κ)) X pc lv [.int v] := by
  intro H locs ls hP hS hl
  subst hv
  obtain ⟨⟨hx, hb, hml, hown, hts, hK, hD, hr, hlocks, hR⟩, -, -, -, -, -, -, -, -, hnew, hargs⟩ := c
  refine va_forget (fun q hq => hnew _ (hS.2.2 q hq)) ?_
  refine W.widen hk.1 hk.2 ?_
  have key := lw_ret (p := kP κ) (l := kL κ) (e := kE κ) (s := kS κ) (m := kM κ) (below := kB κ) (meth := kMe κ) (c := kC κ) (b := b) hx hb hr hlocks (pc := pc) (H := H) (ls := ls) hd
  show W (kP κ) (kL κ) (kE κ) (kR κ) (kS κ) (kM κ) (kA κ) (kB κ) (kMe κ) (kC κ) H [] 163966 8604208 _ _
  rw [hR, hargs]
  exact key
def law_b858 (xs : Nat → Int32) (LL : Nat) (Z : Int32 → Prop) (k23 : Int32 → xF → xF → xF → (Nat → Int64) → (Nat → Int64) → Prop) (E : xF) (N : xF) (M : xF) (J : (Nat → Int64)) (O : (Nat → Int64)) (x4 : Int32) : Prop := ∀ x4_858 : Int32, x4_858 = x4 + (4 : Int32) → (k23 x4_858 E N M J O)
set_option maxRecDepth 10000 in
theorem wk_law_b858 {κ : Cx} {τ : xT} {b LL : Nat} {xs : Nat → Int32} {Z : Int32 → Prop} {k : Nat × Nat} {k23 : Int32 → xF → xF → xF → (Nat → Int64) → (Nat → Int64) → Prop} {E : xF} {N : xF} {M : xF} {J : (Nat → Int64)} {O : (Nat → Int64)} {x4 : Int32} (c : OKL κ τ b LL xs Z) (hk : k.1 + 1 ≤ 163966 ∧ k.2 + 6 ≤ 8604208) (hk23 : ∀ (x4' : Int32) (E' N' M' : xF) (J' O' : Nat → Int64), x4' = x4 + (4 : Int32) → k23 x4' E' N' M' J' O' → GW κ (wdL τ) 7 (k.1 + 1, k.2 + 6) (lw_Z (kB κ) #[Value.ref b] (kS κ)) ((E', N'), ((M', J'), O')) 23 [(0, .ref (b)), (1, .ref (τ.2.2 30)), (2, .ref (τ.2.2 81)), (3, .ref (τ.2.2 90)), (4, .int x4')] []) (h : law_b858 xs LL Z k23 E N M J O x4) : GW κ (wdL τ) 7 (k.1 + 1, k.2 + 6) (lw_Z (kB κ) #[Value.ref b] (kS κ)) ((E, N), ((M, J), O)) 858 [(0, .ref (b)), (1, .ref (τ.2.2 30)), (2, .ref (τ.2.2 81)), (3, .ref (τ.2.2 90)), (4, .int x4)] [] := by
  unfold law_b858 at h
  have o := c.1
  have hZ := c.2.2.2.2.2.2.2.2.1
  refine gw_iincN (pc := 858) (c := (4 : Int32)) (lw := fun x4_858 => [(4, .int x4_858), (0, .ref (b)), (1, .ref (τ.2.2 30)), (2, .ref (τ.2.2 81)), (3, .ref (τ.2.2 90))]) o d_L_law_858 (by decide) 4 rfl (by decide) (fun _ => rfl) (fun x4_858 ex4_858 => ?_)
  have h := h x4_858 ex4_858
  refine gw_goto (pc := 861) (tgt := 23) o d_L_law_861 (by decide) ?_
  exact gw_sub (lv' := [(0, .ref (b)), (1, .ref (τ.2.2 30)), (2, .ref (τ.2.2 81)), (3, .ref (τ.2.2 90)), (4, .int x4_858)]) [1, 2, 3, 4, 0] rfl (hk23 _ _ _ _ _ _ ex4_858 h)
def law_b108 (xs : Nat → Int32) (LL : Nat) (Z : Int32 → Prop) (k23 : Int32 → xF → xF → xF → (Nat → Int64) → (Nat → Int64) → Prop) (E : xF) (N : xF) (M : xF) (J : (Nat → Int64)) (O : (Nat → Int64)) (x4 : Int32) : Prop := vp_in (x4 + (1 : Int32)) LL ∧ (w_L_gate E N O (xs (x4 + (1 : Int32)).toNatClampNeg) (fun r116 E_116 N_116 O_116 => vp_in (x4 + (1 : Int32)) LL ∧ (w_M_gate M J (xs (x4 + (1 : Int32)).toNatClampNeg) (fun r128 M_128 => w_M_thrown M_128 J (fun r134 => ((r134 = r116) → (((r116 = 0) → ((((O_116 (0 : Int32).toNatClampNeg) = (r128.toInt64)) → (law_b858 xs LL Z k23 E_116 N_116 M_128 J O_116 x4)) ∧ (¬ ((O_116 (0 : Int32).toNatClampNeg) = (r128.toInt64)) → (Z (0 : Int32))))) ∧ (¬ (r116 = 0) → (law_b858 xs LL Z k23 E_116 N_116 M_128 J O_116 x4)))) ∧ (¬ (r134 = r116) → (Z (0 : Int32))))))))
set_option maxRecDepth 10000 in
theorem wk_law_b108 {κ : Cx} {τ : xT} {b LL : Nat} {xs : Nat → Int32} {Z : Int32 → Prop} {k : Nat × Nat} {k23 : Int32 → xF → xF → xF → (Nat → Int64) → (Nat → Int64) → Prop} {E : xF} {N : xF} {M : xF} {J : (Nat → Int64)} {O : (Nat → Int64)} {x4 : Int32} (c : OKL κ τ b LL xs Z) (hk : k.1 + 1 ≤ 163966 ∧ k.2 + 6 ≤ 8604208) (hk23 : ∀ (x4' : Int32) (E' N' M' : xF) (J' O' : Nat → Int64), x4' = x4 + (4 : Int32) → k23 x4' E' N' M' J' O' → GW κ (wdL τ) 7 (k.1 + 1, k.2 + 6) (lw_Z (kB κ) #[Value.ref b] (kS κ)) ((E', N'), ((M', J'), O')) 23 [(0, .ref (b)), (1, .ref (τ.2.2 30)), (2, .ref (τ.2.2 81)), (3, .ref (τ.2.2 90)), (4, .int x4')] []) (h : law_b108 xs LL Z k23 E N M J O x4) : GW κ (wdL τ) 7 k (lw_Z (kB κ) #[Value.ref b] (kS κ)) ((E, N), ((M, J), O)) 108 [(0, .ref (b)), (1, .ref (τ.2.2 30)), (2, .ref (τ.2.2 81)), (3, .ref (τ.2.2 90)), (4, .int x4)] [] := by
  unfold law_b108 at h
  have o := c.1
  have hZ := c.2.2.2.2.2.2.2.2.1
  refine gw_aload_n (pc := 108) o d_L_law_108 rfl 1 rfl ?_
  refine gw_aload_n (pc := 109) o d_L_law_109 rfl 0 rfl ?_
  refine gw_iload (pc := 110) o d_L_law_110 4 rfl ?_
  refine gw_iconst (pc := 112) (v := (1 : Int32)) o d_L_law_112 (by decide) ?_
  refine gw_iadd (pc := 113) o d_L_law_113 ?_
  have hi := h.1
  have h := h.2
  refine gw_sld (pc := 114) o c.2.2.1 c.2.2.2.1 c.2.2.2.2.1 hi d_L_law_114 ?_
  refine gw_aload_n (pc := 115) o d_L_law_115 rfl 3 rfl ?_
  refine gw_callSW (pc := 116) (As := [.ref (τ.2.2 30), .int (xs (x4 + (1 : Int32)).toNatClampNeg), .ref (τ.2.2 90)]) (st := []) o c.2.2.2.2.2.1 c.2.2.2.2.2.2.1 (ct_L_gate o.hD c.2.2.2.2.2.2.2.1 h) mi_L_gate q_332 q_333 ⟨by decide, by decide, hk.1, hk.2⟩ rfl rfl (Nat.le_of_ble_eq_true rfl) d_L_law_116 (kkw_i (k := (k.1 + 1, k.2 + 6)) rfl (fun r116 E_116 N_116 O_116 h => ?_))
  refine gw_istore (pc := 119) (lv' := [(5, .int r116), (0, .ref (b)), (1, .ref (τ.2.2 30)), (2, .ref (τ.2.2 81)), (3, .ref (τ.2.2 90)), (4, .int x4)]) o d_L_law_119 (by decide) rfl ?_
  refine gw_aload_n (pc := 121) o d_L_law_121 rfl 3 rfl ?_
  refine gw_aload_n (pc := 122) o d_L_law_122 rfl 1 rfl ?_
  refine gw_iload (pc := 123) o d_L_law_123 5 rfl ?_
  refine gw_iconst (pc := 125) (v := (1 : Int32)) o d_L_law_125 (by decide) ?_
  refine gw_iadd (pc := 126) o d_L_law_126 ?_
  have hi := h.1
  have h := h.2
  refine gw_sld (pc := 127) o c.2.2.1 c.2.2.2.1 c.2.2.2.2.1 hi d_L_law_127 ?_
  refine gw_callV (pc := 128) (b := τ.2.2 81) (As := [.int (xs (x4 + (1 : Int32)).toNatClampNeg)]) (st := []) o (CT.l2 (CT.l1 (ct_M_gate o.hD.r.l h) o.hD.r) rfl rfl o.hD) mi_M_gate q_615 q_616 q_617 31 rfl rfl ⟨by decide, by decide, hk.1, hk.2⟩ rfl rfl (Nat.le_of_ble_eq_true rfl) d_L_law_128 (kkm_1_i (k := (k.1 + 1, k.2 + 6)) rfl (fun r128 M_128 h => ?_))
  refine gw_istore (pc := 131) (lv' := [(6, .int r128), (5, .int r116), (0, .ref (b)), (1, .ref (τ.2.2 30)), (2, .ref (τ.2.2 81)), (3, .ref (τ.2.2 90)), (4, .int x4)]) o d_L_law_131 (by decide) rfl ?_
  refine gw_aload_n (pc := 133) o d_L_law_133 rfl 4 rfl ?_
  refine gw_callV (pc := 134) (b := τ.2.2 81) (As := []) (st := []) o (CT.l2 (CT.l1 (ct_M_thrown o.hD.r.l h) o.hD.r) rfl rfl o.hD) mi_M_thrown q_611 q_612 q_613 31 rfl rfl ⟨by decide, by decide, hk.1, hk.2⟩ rfl rfl (Nat.le_of_ble_eq_true rfl) d_L_law_134 (kkm_p_i (k := (k.1 + 1, k.2 + 6)) rfl (fun r134 h => ?_))
  refine gw_iload (pc := 137) o d_L_law_137 1 rfl ?_
  refine gw_icmp_eq (pc := 139) (tgt := 144) o d_L_law_139 (by decide) (fun hc => ?_) (fun hc => ?_)
  · have h := h.1 hc
    refine gw_iload (pc := 144) o d_L_law_144 1 rfl ?_
    refine gw_if_ne (pc := 146) (tgt := 161) o d_L_law_146 (by decide) (fun hc => ?_) (fun hc => ?_)
    · have h := h.2 hc
      refine gw_goto (pc := 161) (tgt := 858) o d_L_law_161 (by decide) ?_
      exact gw_sub (lv' := [(0, .ref (b)), (1, .ref (τ.2.2 30)), (2, .ref (τ.2.2 81)), (3, .ref (τ.2.2 90)), (4, .int x4)]) [2, 3, 4, 5, 6] rfl (wk_law_b858 c hk hk23 h)
    · have h := h.1 hc
      refine gw_aload_n (pc := 149) o d_L_law_149 rfl 5 rfl ?_
      refine gw_iconst (pc := 150) (v := (0 : Int32)) o d_L_law_150 (by decide) ?_
      refine gw_lald (pc := 151) o 46 rfl (by unfold vp_in; decide) d_L_law_151 ?_
      refine gw_iload (pc := 152) o d_L_law_152 0 rfl ?_
      refine gw_i2l (pc := 154) o d_L_law_154 ?_
      refine gw_lcmp (pc := 155) o d_L_law_155 ?_
      refine gw_if_eq (pc := 156) (tgt := 161) o d_L_law_156 (by decide) (fun hc => ?_) (fun hc => ?_)
      · have h := h.1 (xcmp0.mp hc)
        refine gw_goto (pc := 161) (tgt := 858) o d_L_law_161 (by decide) ?_
        exact gw_sub (lv' := [(0, .ref (b)), (1, .ref (τ.2.2 30)), (2, .ref (τ.2.2 81)), (3, .ref (τ.2.2 90)), (4, .int x4)]) [2, 3, 4, 5, 6] rfl (wk_law_b858 c hk hk23 h)
      · have h := h.2 (fun e => hc (xcmp0.mpr e))
        refine gw_iconst (pc := 159) (v := (0 : Int32)) o d_L_law_159 (by decide) ?_
        exact gwl_ret (pc := 160) c (hZ _ h) hk d_L_law_160
  · have h := h.2 hc
    refine gw_iconst (pc := 142) (v := (0 : Int32)) o d_L_law_142 (by decide) ?_
    exact gwl_ret (pc := 143) c (hZ _ h) hk d_L_law_143
def law_b224 (xs : Nat → Int32) (LL : Nat) (Z : Int32 → Prop) (k23 : Int32 → xF → xF → xF → (Nat → Int64) → (Nat → Int64) → Prop) (E : xF) (N : xF) (M : xF) (J : (Nat → Int64)) (O : (Nat → Int64)) (x4 : Int32) (x5 : Int32) (s1 : Int32) (s2 : Int32) (s3 : Int32) : Prop := w_M_feed M J s1 s2 s3 (fun r224 M_224 => w_M_thrown M_224 J (fun r230 => ((r230 = x5) → (((x5 = 0) → ((((O (0 : Int32).toNatClampNeg) = (r224.toInt64)) → (law_b858 xs LL Z k23 E N M_224 J O x4)) ∧ (¬ ((O (0 : Int32).toNatClampNeg) = (r224.toInt64)) → (Z (0 : Int32))))) ∧ (¬ (x5 = 0) → (law_b858 xs LL Z k23 E N M_224 J O x4)))) ∧ (¬ (r230 = x5) → (Z (0 : Int32)))))
set_option maxRecDepth 10000 in
theorem wk_law_b224 {κ : Cx} {τ : xT} {b LL : Nat} {xs : Nat → Int32} {Z : Int32 → Prop} {k : Nat × Nat} {k23 : Int32 → xF → xF → xF → (Nat → Int64) → (Nat → Int64) → Prop} {E : xF} {N : xF} {M : xF} {J : (Nat → Int64)} {O : (Nat → Int64)} {x4 : Int32} {x5 : Int32} {s1 : Int32} {s2 : Int32} {s3 : Int32} (c : OKL κ τ b LL xs Z) (hk : k.1 + 1 ≤ 163966 ∧ k.2 + 6 ≤ 8604208) (hk23 : ∀ (x4' : Int32) (E' N' M' : xF) (J' O' : Nat → Int64), x4' = x4 + (4 : Int32) → k23 x4' E' N' M' J' O' → GW κ (wdL τ) 7 (k.1 + 1, k.2 + 6) (lw_Z (kB κ) #[Value.ref b] (kS κ)) ((E', N'), ((M', J'), O')) 23 [(0, .ref (b)), (1, .ref (τ.2.2 30)), (2, .ref (τ.2.2 81)), (3, .ref (τ.2.2 90)), (4, .int x4')] []) (h : law_b224 xs LL Z k23 E N M J O x4 x5 s1 s2 s3) : GW κ (wdL τ) 7 (k.1 + 1, k.2 + 6) (lw_Z (kB κ) #[Value.ref b] (kS κ)) ((E, N), ((M, J), O)) 224 [(0, .ref (b)), (1, .ref (τ.2.2 30)), (2, .ref (τ.2.2 81)), (3, .ref (τ.2.2 90)), (4, .int x4), (5, .int x5)] [.int s3, .int s2, .int s1, .ref (τ.2.2 81)] := by
  unfold law_b224 at h
  have o := c.1
  have hZ := c.2.2.2.2.2.2.2.2.1
  refine gw_callV (pc := 224) (b := τ.2.2 81) (As := [.int s1, .int s2, .int s3]) (st := []) o (CT.l2 (CT.l1 (ct_M_feed o.hD.r.l h) o.hD.r) rfl rfl o.hD) mi_M_feed q_623 q_624 q_625 31 rfl rfl ⟨by decide, by decide, hk.1, hk.2⟩ rfl rfl (Nat.le_of_ble_eq_true rfl) d_L_law_224 (kkm_1_i (k := (k.1 + 1, k.2 + 6)) rfl (fun r224 M_224 h => ?_))
  refine gw_istore (pc := 227) (lv' := [(6, .int r224), (0, .ref (b)), (1, .ref (τ.2.2 30)), (2, .ref (τ.2.2 81)), (3, .ref (τ.2.2 90)), (4, .int x4), (5, .int x5)]) o d_L_law_227 (by decide) rfl ?_
  refine gw_aload_n (pc := 229) o d_L_law_229 rfl 3 rfl ?_
  refine gw_callV (pc := 230) (b := τ.2.2 81) (As := []) (st := []) o (CT.l2 (CT.l1 (ct_M_thrown o.hD.r.l h) o.hD.r) rfl rfl o.hD) mi_M_thrown q_611 q_612 q_613 31 rfl rfl ⟨by decide, by decide, hk.1, hk.2⟩ rfl rfl (Nat.le_of_ble_eq_true rfl) d_L_law_230 (kkm_p_i (k := (k.1 + 1, k.2 + 6)) rfl (fun r230 h => ?_))
  refine gw_iload (pc := 233) o d_L_law_233 6 rfl ?_
  refine gw_icmp_eq (pc := 235) (tgt := 240) o d_L_law_235 (by decide) (fun hc => ?_) (fun hc => ?_)
  · have h := h.1 hc
    refine gw_iload (pc := 240) o d_L_law_240 6 rfl ?_
    refine gw_if_ne (pc := 242) (tgt := 257) o d_L_law_242 (by decide) (fun hc => ?_) (fun hc => ?_)
    · have h := h.2 hc
      refine gw_goto (pc := 257) (tgt := 858) o d_L_law_257 (by decide) ?_
      exact gw_sub (lv' := [(0, .ref (b)), (1, .ref (τ.2.2 30)), (2, .ref (τ.2.2 81)), (3, .ref (τ.2.2 90)), (4, .int x4)]) [1, 2, 3, 4, 5] rfl (wk_law_b858 c hk hk23 h)
    · have h := h.1 hc
      refine gw_aload_n (pc := 245) o d_L_law_245 rfl 4 rfl ?_
      refine gw_iconst (pc := 246) (v := (0 : Int32)) o d_L_law_246 (by decide) ?_
      refine gw_lald (pc := 247) o 46 rfl (by unfold vp_in; decide) d_L_law_247 ?_
      refine gw_iload (pc := 248) o d_L_law_248 0 rfl ?_
      refine gw_i2l (pc := 250) o d_L_law_250 ?_
      refine gw_lcmp (pc := 251) o d_L_law_251 ?_
      refine gw_if_eq (pc := 252) (tgt := 257) o d_L_law_252 (by decide) (fun hc => ?_) (fun hc => ?_)
      · have h := h.1 (xcmp0.mp hc)
        refine gw_goto (pc := 257) (tgt := 858) o d_L_law_257 (by decide) ?_
        exact gw_sub (lv' := [(0, .ref (b)), (1, .ref (τ.2.2 30)), (2, .ref (τ.2.2 81)), (3, .ref (τ.2.2 90)), (4, .int x4)]) [1, 2, 3, 4, 5] rfl (wk_law_b858 c hk hk23 h)
      · have h := h.2 (fun e => hc (xcmp0.mpr e))
        refine gw_iconst (pc := 255) (v := (0 : Int32)) o d_L_law_255 (by decide) ?_
        exact gwl_ret (pc := 256) c (hZ _ h) hk d_L_law_256
  · have h := h.2 hc
    refine gw_iconst (pc := 238) (v := (0 : Int32)) o d_L_law_238 (by decide) ?_
    exact gwl_ret (pc := 239) c (hZ _ h) hk d_L_law_239
def law_b191 (xs : Nat → Int32) (LL : Nat) (Z : Int32 → Prop) (k23 : Int32 → xF → xF → xF → (Nat → Int64) → (Nat → Int64) → Prop) (E : xF) (N : xF) (M : xF) (J : (Nat → Int64)) (O : (Nat → Int64)) (x4 : Int32) (s1 : Int32) (s2 : Int32) (s3 : Int32) : Prop := w_L_feed E N O s1 s2 s3 (fun r192 E_192 N_192 O_192 => vp_in (x4 + (1 : Int32)) LL ∧ (vp_in (x4 + (2 : Int32)) LL ∧ (vp_in (x4 + (3 : Int32)) LL ∧ ((((xs (x4 + (3 : Int32)).toNatClampNeg) = 0) → (law_b224 xs LL Z k23 E_192 N_192 M J O_192 x4 r192 (xs (x4 + (1 : Int32)).toNatClampNeg) (xs (x4 + (2 : Int32)).toNatClampNeg) (0 : Int32))) ∧ (¬ ((xs (x4 + (3 : Int32)).toNatClampNeg) = 0) → (law_b224 xs LL Z k23 E_192 N_192 M J O_192 x4 r192 (xs (x4 + (1 : Int32)).toNatClampNeg) (xs (x4 + (2 : Int32)).toNatClampNeg) (1 : Int32)))))))
set_option maxRecDepth 10000 in
theorem wk_law_b191 {κ : Cx} {τ : xT} {b LL : Nat} {xs : Nat → Int32} {Z : Int32 → Prop} {k : Nat × Nat} {k23 : Int32 → xF → xF → xF → (Nat → Int64) → (Nat → Int64) → Prop} {E : xF} {N : xF} {M : xF} {J : (Nat → Int64)} {O : (Nat → Int64)} {x4 : Int32} {s1 : Int32} {s2 : Int32} {s3 : Int32} (c : OKL κ τ b LL xs Z) (hk : k.1 + 1 ≤ 163966 ∧ k.2 + 6 ≤ 8604208) (hk23 : ∀ (x4' : Int32) (E' N' M' : xF) (J' O' : Nat → Int64), x4' = x4 + (4 : Int32) → k23 x4' E' N' M' J' O' → GW κ (wdL τ) 7 (k.1 + 1, k.2 + 6) (lw_Z (kB κ) #[Value.ref b] (kS κ)) ((E', N'), ((M', J'), O')) 23 [(0, .ref (b)), (1, .ref (τ.2.2 30)), (2, .ref (τ.2.2 81)), (3, .ref (τ.2.2 90)), (4, .int x4')] []) (h : law_b191 xs LL Z k23 E N M J O x4 s1 s2 s3) : GW κ (wdL τ) 7 k (lw_Z (kB κ) #[Value.ref b] (kS κ)) ((E, N), ((M, J), O)) 191 [(0, .ref (b)), (1, .ref (τ.2.2 30)), (2, .ref (τ.2.2 81)), (3, .ref (τ.2.2 90)), (4, .int x4)] [.int s3, .int s2, .int s1, .ref (τ.2.2 30)] := by
  unfold law_b191 at h
  have o := c.1
  have hZ := c.2.2.2.2.2.2.2.2.1
  refine gw_aload_n (pc := 191) o d_L_law_191 rfl 3 rfl ?_
  refine gw_callSW (pc := 192) (As := [.ref (τ.2.2 30), .int s1, .int s2, .int s3, .ref (τ.2.2 90)]) (st := []) o c.2.2.2.2.2.1 c.2.2.2.2.2.2.1 (ct_L_feed o.hD c.2.2.2.2.2.2.2.1 h) mi_L_feed q_403 q_404 ⟨by decide, by decide, hk.1, hk.2⟩ rfl rfl (Nat.le_of_ble_eq_true rfl) d_L_law_192 (kkw_i (k := (k.1 + 1, k.2 + 6)) rfl (fun r192 E_192 N_192 O_192 h => ?_))
  refine gw_istore (pc := 195) (lv' := [(5, .int r192), (0, .ref (b)), (1, .ref (τ.2.2 30)), (2, .ref (τ.2.2 81)), (3, .ref (τ.2.2 90)), (4, .int x4)]) o d_L_law_195 (by decide) rfl ?_
  refine gw_aload_n (pc := 197) o d_L_law_197 rfl 3 rfl ?_
  refine gw_aload_n (pc := 198) o d_L_law_198 rfl 1 rfl ?_
  refine gw_iload (pc := 199) o d_L_law_199 5 rfl ?_
  refine gw_iconst (pc := 201) (v := (1 : Int32)) o d_L_law_201 (by decide) ?_
  refine gw_iadd (pc := 202) o d_L_law_202 ?_
  have hi := h.1
  have h := h.2
  refine gw_sld (pc := 203) o c.2.2.1 c.2.2.2.1 c.2.2.2.2.1 hi d_L_law_203 ?_
  refine gw_aload_n (pc := 204) o d_L_law_204 rfl 1 rfl ?_
  refine gw_iload (pc := 205) o d_L_law_205 5 rfl ?_
  refine gw_iconst (pc := 207) (v := (2 : Int32)) o d_L_law_207 (by decide) ?_
  refine gw_iadd (pc := 208) o d_L_law_208 ?_
  have hi := h.1
  have h := h.2
  refine gw_sld (pc := 209) o c.2.2.1 c.2.2.2.1 c.2.2.2.2.1 hi d_L_law_209 ?_
  refine gw_aload_n (pc := 210) o d_L_law_210 rfl 1 rfl ?_
  refine gw_iload (pc := 211) o d_L_law_211 5 rfl ?_
  refine gw_iconst (pc := 213) (v := (3 : Int32)) o d_L_law_213 (by decide) ?_
  refine gw_iadd (pc := 214) o d_L_law_214 ?_
  have hi := h.1
  have h := h.2
  refine gw_sld (pc := 215) o c.2.2.1 c.2.2.2.1 c.2.2.2.2.1 hi d_L_law_215 ?_
  refine gw_if_eq (pc := 216) (tgt := 223) o d_L_law_216 (by decide) (fun hc => ?_) (fun hc => ?_)
  · have h := h.1 hc
    refine gw_iconst (pc := 223) (v := (0 : Int32)) o d_L_law_223 (by decide) ?_
    exact gw_sub (lv' := [(0, .ref (b)), (1, .ref (τ.2.2 30)), (2, .ref (τ.2.2 81)), (3, .ref (τ.2.2 90)), (4, .int x4), (5, .int r192)]) [1, 2, 3, 4, 5, 0] rfl (wk_law_b224 c hk hk23 h)
  · have h := h.2 hc
    refine gw_iconst (pc := 219) (v := (1 : Int32)) o d_L_law_219 (by decide) ?_
    refine gw_goto (pc := 220) (tgt := 224) o d_L_law_220 (by decide) ?_
    exact gw_sub (lv' := [(0, .ref (b)), (1, .ref (τ.2.2 30)), (2, .ref (τ.2.2 81)), (3, .ref (τ.2.2 90)), (4, .int x4), (5, .int r192)]) [1, 2, 3, 4, 5, 0] rfl (wk_law_b224 c hk hk23 h)
def law_b164 (xs : Nat → Int32) (LL : Nat) (Z : Int32 → Prop) (k23 : Int32 → xF → xF → xF → (Nat → Int64) → (Nat → Int64) → Prop) (E : xF) (N : xF) (M : xF) (J : (Nat → Int64)) (O : (Nat → Int64)) (x4 : Int32) : Prop := vp_in (x4 + (1 : Int32)) LL ∧ (vp_in (x4 + (2 : Int32)) LL ∧ (vp_in (x4 + (3 : Int32)) LL ∧ ((((xs (x4 + (3 : Int32)).toNatClampNeg) = 0) → (law_b191 xs LL Z k23 E N M J O x4 (xs (x4 + (1 : Int32)).toNatClampNeg) (xs (x4 + (2 : Int32)).toNatClampNeg) (0 : Int32))) ∧ (¬ ((xs (x4 + (3 : Int32)).toNatClampNeg) = 0) → (law_b191 xs LL Z k23 E N M J O x4 (xs (x4 + (1 : Int32)).toNatClampNeg) (xs (x4 + (2 : Int32)).toNatClampNeg) (1 : Int32))))))
set_option maxRecDepth 10000 in
theorem wk_law_b164 {κ : Cx} {τ : xT} {b LL : Nat} {xs : Nat → Int32} {Z : Int32 → Prop} {k : Nat × Nat} {k23 : Int32 → xF → xF → xF → (Nat → Int64) → (Nat → Int64) → Prop} {E : xF} {N : xF} {M : xF} {J : (Nat → Int64)} {O : (Nat → Int64)} {x4 : Int32} (c : OKL κ τ b LL xs Z) (hk : k.1 + 1 ≤ 163966 ∧ k.2 + 6 ≤ 8604208) (hk23 : ∀ (x4' : Int32) (E' N' M' : xF) (J' O' : Nat → Int64), x4' = x4 + (4 : Int32) → k23 x4' E' N' M' J' O' → GW κ (wdL τ) 7 (k.1 + 1, k.2 + 6) (lw_Z (kB κ) #[Value.ref b] (kS κ)) ((E', N'), ((M', J'), O')) 23 [(0, .ref (b)), (1, .ref (τ.2.2 30)), (2, .ref (τ.2.2 81)), (3, .ref (τ.2.2 90)), (4, .int x4')] []) (h : law_b164 xs LL Z k23 E N M J O x4) : GW κ (wdL τ) 7 k (lw_Z (kB κ) #[Value.ref b] (kS κ)) ((E, N), ((M, J), O)) 164 [(0, .ref (b)), (1, .ref (τ.2.2 30)), (2, .ref (τ.2.2 81)), (3, .ref (τ.2.2 90)), (4, .int x4)] [] := by
  unfold law_b164 at h
  have o := c.1
  have hZ := c.2.2.2.2.2.2.2.2.1
  refine gw_aload_n (pc := 164) o d_L_law_164 rfl 1 rfl ?_
  refine gw_aload_n (pc := 165) o d_L_law_165 rfl 0 rfl ?_
  refine gw_iload (pc := 166) o d_L_law_166 4 rfl ?_
  refine gw_iconst (pc := 168) (v := (1 : Int32)) o d_L_law_168 (by decide) ?_
  refine gw_iadd (pc := 169) o d_L_law_169 ?_
  have hi := h.1
  have h := h.2
  refine gw_sld (pc := 170) o c.2.2.1 c.2.2.2.1 c.2.2.2.2.1 hi d_L_law_170 ?_
  refine gw_aload_n (pc := 171) o d_L_law_171 rfl 0 rfl ?_
  refine gw_iload (pc := 172) o d_L_law_172 4 rfl ?_
  refine gw_iconst (pc := 174) (v := (2 : Int32)) o d_L_law_174 (by decide) ?_
  refine gw_iadd (pc := 175) o d_L_law_175 ?_
  have hi := h.1
  have h := h.2
  refine gw_sld (pc := 176) o c.2.2.1 c.2.2.2.1 c.2.2.2.2.1 hi d_L_law_176 ?_
  refine gw_aload_n (pc := 177) o d_L_law_177 rfl 0 rfl ?_
  refine gw_iload (pc := 178) o d_L_law_178 4 rfl ?_
  refine gw_iconst (pc := 180) (v := (3 : Int32)) o d_L_law_180 (by decide) ?_
  refine gw_iadd (pc := 181) o d_L_law_181 ?_
  have hi := h.1
  have h := h.2
  refine gw_sld (pc := 182) o c.2.2.1 c.2.2.2.1 c.2.2.2.2.1 hi d_L_law_182 ?_
  refine gw_if_eq (pc := 183) (tgt := 190) o d_L_law_183 (by decide) (fun hc => ?_) (fun hc => ?_)
  · have h := h.1 hc
    refine gw_iconst (pc := 190) (v := (0 : Int32)) o d_L_law_190 (by decide) ?_
    exact gw_sub (lv' := [(0, .ref (b)), (1, .ref (τ.2.2 30)), (2, .ref (τ.2.2 81)), (3, .ref (τ.2.2 90)), (4, .int x4)]) [0, 1, 2, 3, 4] rfl (wk_law_b191 c hk hk23 h)
  · have h := h.2 hc
    refine gw_iconst (pc := 186) (v := (1 : Int32)) o d_L_law_186 (by decide) ?_
    refine gw_goto (pc := 187) (tgt := 191) o d_L_law_187 (by decide) ?_
    exact gw_sub (lv' := [(0, .ref (b)), (1, .ref (τ.2.2 30)), (2, .ref (τ.2.2 81)), (3, .ref (τ.2.2 90)), (4, .int x4)]) [0, 1, 2, 3, 4] rfl (wk_law_b191 c hk hk23 h)
def law_b260 (xs : Nat → Int32) (LL : Nat) (Z : Int32 → Prop) (k23 : Int32 → xF → xF → xF → (Nat → Int64) → (Nat → Int64) → Prop) (E : xF) (N : xF) (M : xF) (J : (Nat → Int64)) (O : (Nat → Int64)) (x4 : Int32) : Prop := vp_in (x4 + (1 : Int32)) LL ∧ (w_L_output E N O (xs (x4 + (1 : Int32)).toNatClampNeg) (fun r268 E_268 N_268 O_268 => vp_in (x4 + (1 : Int32)) LL ∧ (w_M_output M J (xs (x4 + (1 : Int32)).toNatClampNeg) (fun r280 M_280 => w_M_thrown M_280 J (fun r286 => ((r286 = r268) → (((r268 = 0) → ((((O_268 (0 : Int32).toNatClampNeg) = (r280.toInt64)) → (law_b858 xs LL Z k23 E_268 N_268 M_280 J O_268 x4)) ∧ (¬ ((O_268 (0 : Int32).toNatClampNeg) = (r280.toInt64)) → (Z (0 : Int32))))) ∧ (¬ (r268 = 0) → (law_b858 xs LL Z k23 E_268 N_268 M_280 J O_268 x4)))) ∧ (¬ (r286 = r268) → (Z (0 : Int32))))))))
set_option maxRecDepth 10000 in
theorem wk_law_b260 {κ : Cx} {τ : xT} {b LL : Nat} {xs : Nat → Int32} {Z : Int32 → Prop} {k : Nat × Nat} {k23 : Int32 → xF → xF → xF → (Nat → Int64) → (Nat → Int64) → Prop} {E : xF} {N : xF} {M : xF} {J : (Nat → Int64)} {O : (Nat → Int64)} {x4 : Int32} (c : OKL κ τ b LL xs Z) (hk : k.1 + 1 ≤ 163966 ∧ k.2 + 6 ≤ 8604208) (hk23 : ∀ (x4' : Int32) (E' N' M' : xF) (J' O' : Nat → Int64), x4' = x4 + (4 : Int32) → k23 x4' E' N' M' J' O' → GW κ (wdL τ) 7 (k.1 + 1, k.2 + 6) (lw_Z (kB κ) #[Value.ref b] (kS κ)) ((E', N'), ((M', J'), O')) 23 [(0, .ref (b)), (1, .ref (τ.2.2 30)), (2, .ref (τ.2.2 81)), (3, .ref (τ.2.2 90)), (4, .int x4')] []) (h : law_b260 xs LL Z k23 E N M J O x4) : GW κ (wdL τ) 7 k (lw_Z (kB κ) #[Value.ref b] (kS κ)) ((E, N), ((M, J), O)) 260 [(0, .ref (b)), (1, .ref (τ.2.2 30)), (2, .ref (τ.2.2 81)), (3, .ref (τ.2.2 90)), (4, .int x4)] [] := by
  unfold law_b260 at h
  have o := c.1
  have hZ := c.2.2.2.2.2.2.2.2.1
  refine gw_aload_n (pc := 260) o d_L_law_260 rfl 1 rfl ?_
  refine gw_aload_n (pc := 261) o d_L_law_261 rfl 0 rfl ?_
  refine gw_iload (pc := 262) o d_L_law_262 4 rfl ?_
  refine gw_iconst (pc := 264) (v := (1 : Int32)) o d_L_law_264 (by decide) ?_
  refine gw_iadd (pc := 265) o d_L_law_265 ?_
  have hi := h.1
  have h := h.2
  refine gw_sld (pc := 266) o c.2.2.1 c.2.2.2.1 c.2.2.2.2.1 hi d_L_law_266 ?_
  refine gw_aload_n (pc := 267) o d_L_law_267 rfl 3 rfl ?_
  refine gw_callSW (pc := 268) (As := [.ref (τ.2.2 30), .int (xs (x4 + (1 : Int32)).toNatClampNeg), .ref (τ.2.2 90)]) (st := []) o c.2.2.2.2.2.1 c.2.2.2.2.2.2.1 (ct_L_output o.hD c.2.2.2.2.2.2.2.1 h) mi_L_output q_453 q_454 ⟨by decide, by decide, hk.1, hk.2⟩ rfl rfl (Nat.le_of_ble_eq_true rfl) d_L_law_268 (kkw_i (k := (k.1 + 1, k.2 + 6)) rfl (fun r268 E_268 N_268 O_268 h => ?_))
  refine gw_istore (pc := 271) (lv' := [(5, .int r268), (0, .ref (b)), (1, .ref (τ.2.2 30)), (2, .ref (τ.2.2 81)), (3, .ref (τ.2.2 90)), (4, .int x4)]) o d_L_law_271 (by decide) rfl ?_
  refine gw_aload_n (pc := 273) o d_L_law_273 rfl 3 rfl ?_
  refine gw_aload_n (pc := 274) o d_L_law_274 rfl 1 rfl ?_
  refine gw_iload (pc := 275) o d_L_law_275 5 rfl ?_
  refine gw_iconst (pc := 277) (v := (1 : Int32)) o d_L_law_277 (by decide) ?_
  refine gw_iadd (pc := 278) o d_L_law_278 ?_
  have hi := h.1
  have h := h.2
  refine gw_sld (pc := 279) o c.2.2.1 c.2.2.2.1 c.2.2.2.2.1 hi d_L_law_279 ?_
  refine gw_callV (pc := 280) (b := τ.2.2 81) (As := [.int (xs (x4 + (1 : Int32)).toNatClampNeg)]) (st := []) o (CT.l2 (CT.l1 (ct_M_output o.hD.r.l h) o.hD.r) rfl rfl o.hD) mi_M_output q_635 q_636 q_637 31 rfl rfl ⟨by decide, by decide, hk.1, hk.2⟩ rfl rfl (Nat.le_of_ble_eq_true rfl) d_L_law_280 (kkm_1_i (k := (k.1 + 1, k.2 + 6)) rfl (fun r280 M_280 h => ?_))
  refine gw_istore (pc := 283) (lv' := [(6, .int r280), (5, .int r268), (0, .ref (b)), (1, .ref (τ.2.2 30)), (2, .ref (τ.2.2 81)), (3, .ref (τ.2.2 90)), (4, .int x4)]) o d_L_law_283 (by decide) rfl ?_
  refine gw_aload_n (pc := 285) o d_L_law_285 rfl 4 rfl ?_
  refine gw_callV (pc := 286) (b := τ.2.2 81) (As := []) (st := []) o (CT.l2 (CT.l1 (ct_M_thrown o.hD.r.l h) o.hD.r) rfl rfl o.hD) mi_M_thrown q_611 q_612 q_613 31 rfl rfl ⟨by decide, by decide, hk.1, hk.2⟩ rfl rfl (Nat.le_of_ble_eq_true rfl) d_L_law_286 (kkm_p_i (k := (k.1 + 1, k.2 + 6)) rfl (fun r286 h => ?_))
  refine gw_iload (pc := 289) o d_L_law_289 1 rfl ?_
  refine gw_icmp_eq (pc := 291) (tgt := 296) o d_L_law_291 (by decide) (fun hc => ?_) (fun hc => ?_)
  · have h := h.1 hc
    refine gw_iload (pc := 296) o d_L_law_296 1 rfl ?_
    refine gw_if_ne (pc := 298) (tgt := 313) o d_L_law_298 (by decide) (fun hc => ?_) (fun hc => ?_)
    · have h := h.2 hc
      refine gw_goto (pc := 313) (tgt := 858) o d_L_law_313 (by decide) ?_
      exact gw_sub (lv' := [(0, .ref (b)), (1, .ref (τ.2.2 30)), (2, .ref (τ.2.2 81)), (3, .ref (τ.2.2 90)), (4, .int x4)]) [2, 3, 4, 5, 6] rfl (wk_law_b858 c hk hk23 h)
    · have h := h.1 hc
      refine gw_aload_n (pc := 301) o d_L_law_301 rfl 5 rfl ?_
      refine gw_iconst (pc := 302) (v := (0 : Int32)) o d_L_law_302 (by decide) ?_
      refine gw_lald (pc := 303) o 46 rfl (by unfold vp_in; decide) d_L_law_303 ?_
      refine gw_iload (pc := 304) o d_L_law_304 0 rfl ?_
      refine gw_i2l (pc := 306) o d_L_law_306 ?_
      refine gw_lcmp (pc := 307) o d_L_law_307 ?_
      refine gw_if_eq (pc := 308) (tgt := 313) o d_L_law_308 (by decide) (fun hc => ?_) (fun hc => ?_)
      · have h := h.1 (xcmp0.mp hc)
        refine gw_goto (pc := 313) (tgt := 858) o d_L_law_313 (by decide) ?_
        exact gw_sub (lv' := [(0, .ref (b)), (1, .ref (τ.2.2 30)), (2, .ref (τ.2.2 81)), (3, .ref (τ.2.2 90)), (4, .int x4)]) [2, 3, 4, 5, 6] rfl (wk_law_b858 c hk hk23 h)
      · have h := h.2 (fun e => hc (xcmp0.mpr e))
        refine gw_iconst (pc := 311) (v := (0 : Int32)) o d_L_law_311 (by decide) ?_
        exact gwl_ret (pc := 312) c (hZ _ h) hk d_L_law_312
  · have h := h.2 hc
    refine gw_iconst (pc := 294) (v := (0 : Int32)) o d_L_law_294 (by decide) ?_
    exact gwl_ret (pc := 295) c (hZ _ h) hk d_L_law_295
def law_b316 (xs : Nat → Int32) (LL : Nat) (Z : Int32 → Prop) (k23 : Int32 → xF → xF → xF → (Nat → Int64) → (Nat → Int64) → Prop) (E : xF) (N : xF) (M : xF) (J : (Nat → Int64)) (O : (Nat → Int64)) (x4 : Int32) : Prop := w_X_clear E N (fun r317 E_317 => w_M_clear M J (fun r321 M_321 => ((r317 = r321) → (law_b858 xs LL Z k23 E_317 N M_321 J O x4)) ∧ (¬ (r317 = r321) → (Z (0 : Int32)))))
set_option maxRecDepth 10000 in
theorem wk_law_b316 {κ : Cx} {τ : xT} {b LL : Nat} {xs : Nat → Int32} {Z : Int32 → Prop} {k : Nat × Nat} {k23 : Int32 → xF → xF → xF → (Nat → Int64) → (Nat → Int64) → Prop} {E : xF} {N : xF} {M : xF} {J : (Nat → Int64)} {O : (Nat → Int64)} {x4 : Int32} (c : OKL κ τ b LL xs Z) (hk : k.1 + 1 ≤ 163966 ∧ k.2 + 6 ≤ 8604208) (hk23 : ∀ (x4' : Int32) (E' N' M' : xF) (J' O' : Nat → Int64), x4' = x4 + (4 : Int32) → k23 x4' E' N' M' J' O' → GW κ (wdL τ) 7 (k.1 + 1, k.2 + 6) (lw_Z (kB κ) #[Value.ref b] (kS κ)) ((E', N'), ((M', J'), O')) 23 [(0, .ref (b)), (1, .ref (τ.2.2 30)), (2, .ref (τ.2.2 81)), (3, .ref (τ.2.2 90)), (4, .int x4')] []) (h : law_b316 xs LL Z k23 E N M J O x4) : GW κ (wdL τ) 7 k (lw_Z (kB κ) #[Value.ref b] (kS κ)) ((E, N), ((M, J), O)) 316 [(0, .ref (b)), (1, .ref (τ.2.2 30)), (2, .ref (τ.2.2 81)), (3, .ref (τ.2.2 90)), (4, .int x4)] [] := by
  unfold law_b316 at h
  have o := c.1
  have hZ := c.2.2.2.2.2.2.2.2.1
  refine gw_aload_n (pc := 316) o d_L_law_316 rfl 1 rfl ?_
  refine gw_callV (pc := 317) (b := τ.2.2 30) (As := []) (st := []) o (CT.l1 (ct_X_clear o.hD.l h) o.hD) mi_X_clear q_171 q_172 q_173 0 rfl rfl ⟨by decide, by decide, Nat.le_of_succ_le hk.1, Nat.le_trans (Nat.le_add_right _ 6) hk.2⟩ rfl rfl (Nat.le_of_ble_eq_true rfl) d_L_law_317 (kkl_1_i (k := k) rfl (fun r317 E_317 h => ?_))
  refine gw_aload_n (pc := 320) o d_L_law_320 rfl 2 rfl ?_
  refine gw_callV (pc := 321) (b := τ.2.2 81) (As := []) (st := [.int r317]) o (CT.l2 (CT.l1 (ct_M_clear o.hD.r.l h) o.hD.r) rfl rfl o.hD) mi_M_clear q_639 q_640 q_641 31 rfl rfl ⟨by decide, by decide, Nat.le_of_succ_le hk.1, Nat.le_trans (Nat.le_add_right _ 6) hk.2⟩ rfl rfl (Nat.le_of_ble_eq_true rfl) d_L_law_321 (kkm_1_i (k := k) rfl (fun r321 M_321 h => ?_))
  refine gw_icmp_eq (pc := 324) (tgt := 858) o d_L_law_324 (by decide) (fun hc => ?_) (fun hc => ?_)
  · have h := h.1 hc
    exact gw_widen ⟨Nat.le_succ _, Nat.le_add_right _ _⟩ (gw_sub (lv' := [(0, .ref (b)), (1, .ref (τ.2.2 30)), (2, .ref (τ.2.2 81)), (3, .ref (τ.2.2 90)), (4, .int x4)]) [0, 1, 2, 3, 4] rfl (wk_law_b858 c hk hk23 h))
  · have h := h.2 hc
    refine gw_iconst (pc := 327) (v := (0 : Int32)) o d_L_law_327 (by decide) ?_
    exact gwl_ret (pc := 328) c (hZ _ h) ⟨Nat.le_of_succ_le hk.1, Nat.le_trans (Nat.le_add_right _ 6) hk.2⟩ d_L_law_328
def law_b329 (xs : Nat → Int32) (LL : Nat) (Z : Int32 → Prop) (k23 : Int32 → xF → xF → xF → (Nat → Int64) → (Nat → Int64) → Prop) (E : xF) (N : xF) (M : xF) (J : (Nat → Int64)) (O : (Nat → Int64)) (x4 : Int32) : Prop := w_X_explore E N (fun r330 E_330 N_330 => w_M_explore M J (fun r334 M_334 J_334 => ((r330 = r334) → (law_b858 xs LL Z k23 E_330 N_330 M_334 J_334 O x4)) ∧ (¬ (r330 = r334) → (Z (0 : Int32)))))
set_option maxRecDepth 10000 in
theorem wk_law_b329 {κ : Cx} {τ : xT} {b LL : Nat} {xs : Nat → Int32} {Z : Int32 → Prop} {k : Nat × Nat} {k23 : Int32 → xF → xF → xF → (Nat → Int64) → (Nat → Int64) → Prop} {E : xF} {N : xF} {M : xF} {J : (Nat → Int64)} {O : (Nat → Int64)} {x4 : Int32} (c : OKL κ τ b LL xs Z) (hk : k.1 + 1 ≤ 163966 ∧ k.2 + 6 ≤ 8604208) (hk23 : ∀ (x4' : Int32) (E' N' M' : xF) (J' O' : Nat → Int64), x4' = x4 + (4 : Int32) → k23 x4' E' N' M' J' O' → GW κ (wdL τ) 7 (k.1 + 1, k.2 + 6) (lw_Z (kB κ) #[Value.ref b] (kS κ)) ((E', N'), ((M', J'), O')) 23 [(0, .ref (b)), (1, .ref (τ.2.2 30)), (2, .ref (τ.2.2 81)), (3, .ref (τ.2.2 90)), (4, .int x4')] []) (h : law_b329 xs LL Z k23 E N M J O x4) : GW κ (wdL τ) 7 k (lw_Z (kB κ) #[Value.ref b] (kS κ)) ((E, N), ((M, J), O)) 329 [(0, .ref (b)), (1, .ref (τ.2.2 30)), (2, .ref (τ.2.2 81)), (3, .ref (τ.2.2 90)), (4, .int x4)] [] := by
  unfold law_b329 at h
  have o := c.1
  have hZ := c.2.2.2.2.2.2.2.2.1
  refine gw_aload_n (pc := 329) o d_L_law_329 rfl 1 rfl ?_
  refine gw_callV (pc := 330) (b := τ.2.2 30) (As := []) (st := []) o (CT.l1 (ct_X_explore o.hD.l h) o.hD) mi_X_explore q_175 q_176 q_177 0 rfl rfl ⟨by decide, by decide, Nat.le_of_succ_le hk.1, Nat.le_trans (Nat.le_add_right _ 6) hk.2⟩ rfl rfl (Nat.le_of_ble_eq_true rfl) d_L_law_330 (kkl_12_i (k := k) rfl (fun r330 E_330 N_330 h => ?_))
  refine gw_aload_n (pc := 333) o d_L_law_333 rfl 2 rfl ?_
  refine gw_callV (pc := 334) (b := τ.2.2 81) (As := []) (st := [.int r330]) o (CT.l2 (CT.l1 (ct_M_explore o.hD.r.l h) o.hD.r) rfl rfl o.hD) mi_M_explore q_643 q_644 q_645 31 rfl rfl ⟨by decide, by decide, Nat.le_of_succ_le hk.1, Nat.le_trans (Nat.le_add_right _ 6) hk.2⟩ rfl rfl (Nat.le_of_ble_eq_true rfl) d_L_law_334 (kkm_12_i (k := k) rfl (fun r334 M_334 J_334 h => ?_))
  refine gw_icmp_eq (pc := 337) (tgt := 858) o d_L_law_337 (by decide) (fun hc => ?_) (fun hc => ?_)
  · have h := h.1 hc
    exact gw_widen ⟨Nat.le_succ _, Nat.le_add_right _ _⟩ (gw_sub (lv' := [(0, .ref (b)), (1, .ref (τ.2.2 30)), (2, .ref (τ.2.2 81)), (3, .ref (τ.2.2 90)), (4, .int x4)]) [0, 1, 2, 3, 4] rfl (wk_law_b858 c hk hk23 h))
  · have h := h.2 hc
    refine gw_iconst (pc := 340) (v := (0 : Int32)) o d_L_law_340 (by decide) ?_
    exact gwl_ret (pc := 341) c (hZ _ h) ⟨Nat.le_of_succ_le hk.1, Nat.le_trans (Nat.le_add_right _ 6) hk.2⟩ d_L_law_341
def law_b342 (xs : Nat → Int32) (LL : Nat) (Z : Int32 → Prop) (k23 : Int32 → xF → xF → xF → (Nat → Int64) → (Nat → Int64) → Prop) (E : xF) (N : xF) (M : xF) (J : (Nat → Int64)) (O : (Nat → Int64)) (x4 : Int32) : Prop := vp_in (x4 + (1 : Int32)) LL ∧ (w_L_distance E N O (xs (x4 + (1 : Int32)).toNatClampNeg) (fun r350 E_350 N_350 O_350 => vp_in (x4 + (1 : Int32)) LL ∧ (w_M_distance M J (xs (x4 + (1 : Int32)).toNatClampNeg) (fun r362 M_362 => w_M_thrown M_362 J (fun r368 => ((r368 = r350) → (((r350 = 0) → ((((O_350 (0 : Int32).toNatClampNeg) = (r362.toInt64)) → (law_b858 xs LL Z k23 E_350 N_350 M_362 J O_350 x4)) ∧ (¬ ((O_350 (0 : Int32).toNatClampNeg) = (r362.toInt64)) → (Z (0 : Int32))))) ∧ (¬ (r350 = 0) → (law_b858 xs LL Z k23 E_350 N_350 M_362 J O_350 x4)))) ∧ (¬ (r368 = r350) → (Z (0 : Int32))))))))
set_option maxRecDepth 10000 in
theorem wk_law_b342 {κ : Cx} {τ : xT} {b LL : Nat} {xs : Nat → Int32} {Z : Int32 → Prop} {k : Nat × Nat} {k23 : Int32 → xF → xF → xF → (Nat → Int64) → (Nat → Int64) → Prop} {E : xF} {N : xF} {M : xF} {J : (Nat → Int64)} {O : (Nat → Int64)} {x4 : Int32} (c : OKL κ τ b LL xs Z) (hk : k.1 + 1 ≤ 163966 ∧ k.2 + 6 ≤ 8604208) (hk23 : ∀ (x4' : Int32) (E' N' M' : xF) (J' O' : Nat → Int64), x4' = x4 + (4 : Int32) → k23 x4' E' N' M' J' O' → GW κ (wdL τ) 7 (k.1 + 1, k.2 + 6) (lw_Z (kB κ) #[Value.ref b] (kS κ)) ((E', N'), ((M', J'), O')) 23 [(0, .ref (b)), (1, .ref (τ.2.2 30)), (2, .ref (τ.2.2 81)), (3, .ref (τ.2.2 90)), (4, .int x4')] []) (h : law_b342 xs LL Z k23 E N M J O x4) : GW κ (wdL τ) 7 k (lw_Z (kB κ) #[Value.ref b] (kS κ)) ((E, N), ((M, J), O)) 342 [(0, .ref (b)), (1, .ref (τ.2.2 30)), (2, .ref (τ.2.2 81)), (3, .ref (τ.2.2 90)), (4, .int x4)] [] := by
  unfold law_b342 at h
  have o := c.1
  have hZ := c.2.2.2.2.2.2.2.2.1
  refine gw_aload_n (pc := 342) o d_L_law_342 rfl 1 rfl ?_
  refine gw_aload_n (pc := 343) o d_L_law_343 rfl 0 rfl ?_
  refine gw_iload (pc := 344) o d_L_law_344 4 rfl ?_
  refine gw_iconst (pc := 346) (v := (1 : Int32)) o d_L_law_346 (by decide) ?_
  refine gw_iadd (pc := 347) o d_L_law_347 ?_
  have hi := h.1
  have h := h.2
  refine gw_sld (pc := 348) o c.2.2.1 c.2.2.2.1 c.2.2.2.2.1 hi d_L_law_348 ?_
  refine gw_aload_n (pc := 349) o d_L_law_349 rfl 3 rfl ?_
  refine gw_callSW (pc := 350) (As := [.ref (τ.2.2 30), .int (xs (x4 + (1 : Int32)).toNatClampNeg), .ref (τ.2.2 90)]) (st := []) o c.2.2.2.2.2.1 c.2.2.2.2.2.2.1 (ct_L_distance o.hD c.2.2.2.2.2.2.2.1 h) mi_L_distance q_460 q_461 ⟨by decide, by decide, hk.1, hk.2⟩ rfl rfl (Nat.le_of_ble_eq_true rfl) d_L_law_350 (kkw_i (k := (k.1 + 1, k.2 + 6)) rfl (fun r350 E_350 N_350 O_350 h => ?_))
  refine gw_istore (pc := 353) (lv' := [(5, .int r350), (0, .ref (b)), (1, .ref (τ.2.2 30)), (2, .ref (τ.2.2 81)), (3, .ref (τ.2.2 90)), (4, .int x4)]) o d_L_law_353 (by decide) rfl ?_
  refine gw_aload_n (pc := 355) o d_L_law_355 rfl 3 rfl ?_
  refine gw_aload_n (pc := 356) o d_L_law_356 rfl 1 rfl ?_
  refine gw_iload (pc := 357) o d_L_law_357 5 rfl ?_
  refine gw_iconst (pc := 359) (v := (1 : Int32)) o d_L_law_359 (by decide) ?_
  refine gw_iadd (pc := 360) o d_L_law_360 ?_
  have hi := h.1
  have h := h.2
  refine gw_sld (pc := 361) o c.2.2.1 c.2.2.2.1 c.2.2.2.2.1 hi d_L_law_361 ?_
  refine gw_callV (pc := 362) (b := τ.2.2 81) (As := [.int (xs (x4 + (1 : Int32)).toNatClampNeg)]) (st := []) o (CT.l2 (CT.l1 (ct_M_distance o.hD.r.l h) o.hD.r) rfl rfl o.hD) mi_M_distance q_683 q_684 q_685 31 rfl rfl ⟨by decide, by decide, hk.1, hk.2⟩ rfl rfl (Nat.le_of_ble_eq_true rfl) d_L_law_362 (kkm_1_i (k := (k.1 + 1, k.2 + 6)) rfl (fun r362 M_362 h => ?_))
  refine gw_istore (pc := 365) (lv' := [(6, .int r362), (5, .int r350), (0, .ref (b)), (1, .ref (τ.2.2 30)), (2, .ref (τ.2.2 81)), (3, .ref (τ.2.2 90)), (4, .int x4)]) o d_L_law_365 (by decide) rfl ?_
  refine gw_aload_n (pc := 367) o d_L_law_367 rfl 4 rfl ?_
  refine gw_callV (pc := 368) (b := τ.2.2 81) (As := []) (st := []) o (CT.l2 (CT.l1 (ct_M_thrown o.hD.r.l h) o.hD.r) rfl rfl o.hD) mi_M_thrown q_611 q_612 q_613 31 rfl rfl ⟨by decide, by decide, hk.1, hk.2⟩ rfl rfl (Nat.le_of_ble_eq_true rfl) d_L_law_368 (kkm_p_i (k := (k.1 + 1, k.2 + 6)) rfl (fun r368 h => ?_))
  refine gw_iload (pc := 371) o d_L_law_371 1 rfl ?_
  refine gw_icmp_eq (pc := 373) (tgt := 378) o d_L_law_373 (by decide) (fun hc => ?_) (fun hc => ?_)
  · have h := h.1 hc
    refine gw_iload (pc := 378) o d_L_law_378 1 rfl ?_
    refine gw_if_ne (pc := 380) (tgt := 395) o d_L_law_380 (by decide) (fun hc => ?_) (fun hc => ?_)
    · have h := h.2 hc
      refine gw_goto (pc := 395) (tgt := 858) o d_L_law_395 (by decide) ?_
      exact gw_sub (lv' := [(0, .ref (b)), (1, .ref (τ.2.2 30)), (2, .ref (τ.2.2 81)), (3, .ref (τ.2.2 90)), (4, .int x4)]) [2, 3, 4, 5, 6] rfl (wk_law_b858 c hk hk23 h)
    · have h := h.1 hc
      refine gw_aload_n (pc := 383) o d_L_law_383 rfl 5 rfl ?_
      refine gw_iconst (pc := 384) (v := (0 : Int32)) o d_L_law_384 (by decide) ?_
      refine gw_lald (pc := 385) o 46 rfl (by unfold vp_in; decide) d_L_law_385 ?_
      refine gw_iload (pc := 386) o d_L_law_386 0 rfl ?_
      refine gw_i2l (pc := 388) o d_L_law_388 ?_
      refine gw_lcmp (pc := 389) o d_L_law_389 ?_
      refine gw_if_eq (pc := 390) (tgt := 395) o d_L_law_390 (by decide) (fun hc => ?_) (fun hc => ?_)
      · have h := h.1 (xcmp0.mp hc)
        refine gw_goto (pc := 395) (tgt := 858) o d_L_law_395 (by decide) ?_
        exact gw_sub (lv' := [(0, .ref (b)), (1, .ref (τ.2.2 30)), (2, .ref (τ.2.2 81)), (3, .ref (τ.2.2 90)), (4, .int x4)]) [2, 3, 4, 5, 6] rfl (wk_law_b858 c hk hk23 h)
      · have h := h.2 (fun e => hc (xcmp0.mpr e))
        refine gw_iconst (pc := 393) (v := (0 : Int32)) o d_L_law_393 (by decide) ?_
        exact gwl_ret (pc := 394) c (hZ _ h) hk d_L_law_394
  · have h := h.2 hc
    refine gw_iconst (pc := 376) (v := (0 : Int32)) o d_L_law_376 (by decide) ?_
    exact gwl_ret (pc := 377) c (hZ _ h) hk d_L_law_377
def law_b398 (xs : Nat → Int32) (LL : Nat) (Z : Int32 → Prop) (k23 : Int32 → xF → xF → xF → (Nat → Int64) → (Nat → Int64) → Prop) (E : xF) (N : xF) (M : xF) (J : (Nat → Int64)) (O : (Nat → Int64)) (x4 : Int32) : Prop := vp_in (x4 + (1 : Int32)) LL ∧ (vp_in (x4 + (2 : Int32)) LL ∧ (w_L_way E N O (xs (x4 + (1 : Int32)).toNatClampNeg) (xs (x4 + (2 : Int32)).toNatClampNeg) (fun r412 E_412 N_412 O_412 => vp_in (x4 + (1 : Int32)) LL ∧ (vp_in (x4 + (2 : Int32)) LL ∧ (w_M_way M J (xs (x4 + (1 : Int32)).toNatClampNeg) (xs (x4 + (2 : Int32)).toNatClampNeg) (fun r430 M_430 => w_M_thrown M_430 J (fun r436 => ((r436 = r412) → (((r412 = 0) → ((((O_412 (0 : Int32).toNatClampNeg) = (r430.toInt64)) → (law_b858 xs LL Z k23 E_412 N_412 M_430 J O_412 x4)) ∧ (¬ ((O_412 (0 : Int32).toNatClampNeg) = (r430.toInt64)) → (Z (0 : Int32))))) ∧ (¬ (r412 = 0) → (law_b858 xs LL Z k23 E_412 N_412 M_430 J O_412 x4)))) ∧ (¬ (r436 = r412) → (Z (0 : Int32))))))))))
set_option maxRecDepth 10000 in
theorem wk_law_b398 {κ : Cx} {τ : xT} {b LL : Nat} {xs : Nat → Int32} {Z : Int32 → Prop} {k : Nat × Nat} {k23 : Int32 → xF → xF → xF → (Nat → Int64) → (Nat → Int64) → Prop} {E : xF} {N : xF} {M : xF} {J : (Nat → Int64)} {O : (Nat → Int64)} {x4 : Int32} (c : OKL κ τ b LL xs Z) (hk : k.1 + 1 ≤ 163966 ∧ k.2 + 6 ≤ 8604208) (hk23 : ∀ (x4' : Int32) (E' N' M' : xF) (J' O' : Nat → Int64), x4' = x4 + (4 : Int32) → k23 x4' E' N' M' J' O' → GW κ (wdL τ) 7 (k.1 + 1, k.2 + 6) (lw_Z (kB κ) #[Value.ref b] (kS κ)) ((E', N'), ((M', J'), O')) 23 [(0, .ref (b)), (1, .ref (τ.2.2 30)), (2, .ref (τ.2.2 81)), (3, .ref (τ.2.2 90)), (4, .int x4')] []) (h : law_b398 xs LL Z k23 E N M J O x4) : GW κ (wdL τ) 7 k (lw_Z (kB κ) #[Value.ref b] (kS κ)) ((E, N), ((M, J), O)) 398 [(0, .ref (b)), (1, .ref (τ.2.2 30)), (2, .ref (τ.2.2 81)), (3, .ref (τ.2.2 90)), (4, .int x4)] [] := by
  unfold law_b398 at h
  have o := c.1
  have hZ := c.2.2.2.2.2.2.2.2.1
  refine gw_aload_n (pc := 398) o d_L_law_398 rfl 1 rfl ?_
  refine gw_aload_n (pc := 399) o d_L_law_399 rfl 0 rfl ?_
  refine gw_iload (pc := 400) o d_L_law_400 4 rfl ?_
  refine gw_iconst (pc := 402) (v := (1 : Int32)) o d_L_law_402 (by decide) ?_
  refine gw_iadd (pc := 403) o d_L_law_403 ?_
  have hi := h.1
  have h := h.2
  refine gw_sld (pc := 404) o c.2.2.1 c.2.2.2.1 c.2.2.2.2.1 hi d_L_law_404 ?_
  refine gw_aload_n (pc := 405) o d_L_law_405 rfl 0 rfl ?_
  refine gw_iload (pc := 406) o d_L_law_406 4 rfl ?_
  refine gw_iconst (pc := 408) (v := (2 : Int32)) o d_L_law_408 (by decide) ?_
  refine gw_iadd (pc := 409) o d_L_law_409 ?_
  have hi := h.1
  have h := h.2
  refine gw_sld (pc := 410) o c.2.2.1 c.2.2.2.1 c.2.2.2.2.1 hi d_L_law_410 ?_
  refine gw_aload_n (pc := 411) o d_L_law_411 rfl 3 rfl ?_
  refine gw_callSW (pc := 412) (As := [.ref (τ.2.2 30), .int (xs (x4 + (1 : Int32)).toNatClampNeg), .int (xs (x4 + (2 : Int32)).toNatClampNeg), .ref (τ.2.2 90)]) (st := []) o c.2.2.2.2.2.1 c.2.2.2.2.2.2.1 (ct_L_way o.hD c.2.2.2.2.2.2.2.1 h) mi_L_way q_475 q_476 ⟨by decide, by decide, hk.1, hk.2⟩ rfl rfl (Nat.le_of_ble_eq_true rfl) d_L_law_412 (kkw_i (k := (k.1 + 1, k.2 + 6)) rfl (fun r412 E_412 N_412 O_412 h => ?_))
  refine gw_istore (pc := 415) (lv' := [(5, .int r412), (0, .ref (b)), (1, .ref (τ.2.2 30)), (2, .ref (τ.2.2 81)), (3, .ref (τ.2.2 90)), (4, .int x4)]) o d_L_law_415 (by decide) rfl ?_
  refine gw_aload_n (pc := 417) o d_L_law_417 rfl 3 rfl ?_
  refine gw_aload_n (pc := 418) o d_L_law_418 rfl 1 rfl ?_
  refine gw_iload (pc := 419) o d_L_law_419 5 rfl ?_
  refine gw_iconst (pc := 421) (v := (1 : Int32)) o d_L_law_421 (by decide) ?_
  refine gw_iadd (pc := 422) o d_L_law_422 ?_
  have hi := h.1
  have h := h.2
  refine gw_sld (pc := 423) o c.2.2.1 c.2.2.2.1 c.2.2.2.2.1 hi d_L_law_423 ?_
  refine gw_aload_n (pc := 424) o d_L_law_424 rfl 1 rfl ?_
  refine gw_iload (pc := 425) o d_L_law_425 5 rfl ?_
  refine gw_iconst (pc := 427) (v := (2 : Int32)) o d_L_law_427 (by decide) ?_
  refine gw_iadd (pc := 428) o d_L_law_428 ?_
  have hi := h.1
  have h := h.2
  refine gw_sld (pc := 429) o c.2.2.1 c.2.2.2.1 c.2.2.2.2.1 hi d_L_law_429 ?_
  refine gw_callV (pc := 430) (b := τ.2.2 81) (As := [.int (xs (x4 + (1 : Int32)).toNatClampNeg), .int (xs (x4 + (2 : Int32)).toNatClampNeg)]) (st := []) o (CT.l2 (CT.l1 (ct_M_way o.hD.r.l h) o.hD.r) rfl rfl o.hD) mi_M_way q_691 q_692 q_693 31 rfl rfl ⟨by decide, by decide, hk.1, hk.2⟩ rfl rfl (Nat.le_of_ble_eq_true rfl) d_L_law_430 (kkm_1_i (k := (k.1 + 1, k.2 + 6)) rfl (fun r430 M_430 h => ?_))
  refine gw_istore (pc := 433) (lv' := [(6, .int r430), (5, .int r412), (0, .ref (b)), (1, .ref (τ.2.2 30)), (2, .ref (τ.2.2 81)), (3, .ref (τ.2.2 90)), (4, .int x4)]) o d_L_law_433 (by decide) rfl ?_
  refine gw_aload_n (pc := 435) o d_L_law_435 rfl 4 rfl ?_
  refine gw_callV (pc := 436) (b := τ.2.2 81) (As := []) (st := []) o (CT.l2 (CT.l1 (ct_M_thrown o.hD.r.l h) o.hD.r) rfl rfl o.hD) mi_M_thrown q_611 q_612 q_613 31 rfl rfl ⟨by decide, by decide, hk.1, hk.2⟩ rfl rfl (Nat.le_of_ble_eq_true rfl) d_L_law_436 (kkm_p_i (k := (k.1 + 1, k.2 + 6)) rfl (fun r436 h => ?_))
  refine gw_iload (pc := 439) o d_L_law_439 1 rfl ?_
  refine gw_icmp_eq (pc := 441) (tgt := 446) o d_L_law_441 (by decide) (fun hc => ?_) (fun hc => ?_)
  · have h := h.1 hc
    refine gw_iload (pc := 446) o d_L_law_446 1 rfl ?_
    refine gw_if_ne (pc := 448) (tgt := 463) o d_L_law_448 (by decide) (fun hc => ?_) (fun hc => ?_)
    · have h := h.2 hc
      refine gw_goto (pc := 463) (tgt := 858) o d_L_law_463 (by decide) ?_
      exact gw_sub (lv' := [(0, .ref (b)), (1, .ref (τ.2.2 30)), (2, .ref (τ.2.2 81)), (3, .ref (τ.2.2 90)), (4, .int x4)]) [2, 3, 4, 5, 6] rfl (wk_law_b858 c hk hk23 h)
    · have h := h.1 hc
      refine gw_aload_n (pc := 451) o d_L_law_451 rfl 5 rfl ?_
      refine gw_iconst (pc := 452) (v := (0 : Int32)) o d_L_law_452 (by decide) ?_
      refine gw_lald (pc := 453) o 46 rfl (by unfold vp_in; decide) d_L_law_453 ?_
      refine gw_iload (pc := 454) o d_L_law_454 0 rfl ?_
      refine gw_i2l (pc := 456) o d_L_law_456 ?_
      refine gw_lcmp (pc := 457) o d_L_law_457 ?_
      refine gw_if_eq (pc := 458) (tgt := 463) o d_L_law_458 (by decide) (fun hc => ?_) (fun hc => ?_)
      · have h := h.1 (xcmp0.mp hc)
        refine gw_goto (pc := 463) (tgt := 858) o d_L_law_463 (by decide) ?_
        exact gw_sub (lv' := [(0, .ref (b)), (1, .ref (τ.2.2 30)), (2, .ref (τ.2.2 81)), (3, .ref (τ.2.2 90)), (4, .int x4)]) [2, 3, 4, 5, 6] rfl (wk_law_b858 c hk hk23 h)
      · have h := h.2 (fun e => hc (xcmp0.mpr e))
        refine gw_iconst (pc := 461) (v := (0 : Int32)) o d_L_law_461 (by decide) ?_
        exact gwl_ret (pc := 462) c (hZ _ h) hk d_L_law_462
  · have h := h.2 hc
    refine gw_iconst (pc := 444) (v := (0 : Int32)) o d_L_law_444 (by decide) ?_
    exact gwl_ret (pc := 445) c (hZ _ h) hk d_L_law_445
def law_b466 (xs : Nat → Int32) (LL : Nat) (Z : Int32 → Prop) (k23 : Int32 → xF → xF → xF → (Nat → Int64) → (Nat → Int64) → Prop) (E : xF) (N : xF) (M : xF) (J : (Nat → Int64)) (O : (Nat → Int64)) (x4 : Int32) : Prop := vp_in (x4 + (1 : Int32)) LL ∧ (w_L_many E N O (xs (x4 + (1 : Int32)).toNatClampNeg) (fun r474 E_474 N_474 O_474 => vp_in (x4 + (1 : Int32)) LL ∧ (w_M_many M J (xs (x4 + (1 : Int32)).toNatClampNeg) (fun r486 M_486 => w_M_thrown M_486 J (fun r492 => ((r492 = r474) → (((r474 = 0) → ((((O_474 (0 : Int32).toNatClampNeg) = (r486.toInt64)) → (law_b858 xs LL Z k23 E_474 N_474 M_486 J O_474 x4)) ∧ (¬ ((O_474 (0 : Int32).toNatClampNeg) = (r486.toInt64)) → (Z (0 : Int32))))) ∧ (¬ (r474 = 0) → (law_b858 xs LL Z k23 E_474 N_474 M_486 J O_474 x4)))) ∧ (¬ (r492 = r474) → (Z (0 : Int32))))))))
set_option maxRecDepth 10000 in
theorem wk_law_b466 {κ : Cx} {τ : xT} {b LL : Nat} {xs : Nat → Int32} {Z : Int32 → Prop} {k : Nat × Nat} {k23 : Int32 → xF → xF → xF → (Nat → Int64) → (Nat → Int64) → Prop} {E : xF} {N : xF} {M : xF} {J : (Nat → Int64)} {O : (Nat → Int64)} {x4 : Int32} (c : OKL κ τ b LL xs Z) (hk : k.1 + 1 ≤ 163966 ∧ k.2 + 6 ≤ 8604208) (hk23 : ∀ (x4' : Int32) (E' N' M' : xF) (J' O' : Nat → Int64), x4' = x4 + (4 : Int32) → k23 x4' E' N' M' J' O' → GW κ (wdL τ) 7 (k.1 + 1, k.2 + 6) (lw_Z (kB κ) #[Value.ref b] (kS κ)) ((E', N'), ((M', J'), O')) 23 [(0, .ref (b)), (1, .ref (τ.2.2 30)), (2, .ref (τ.2.2 81)), (3, .ref (τ.2.2 90)), (4, .int x4')] []) (h : law_b466 xs LL Z k23 E N M J O x4) : GW κ (wdL τ) 7 k (lw_Z (kB κ) #[Value.ref b] (kS κ)) ((E, N), ((M, J), O)) 466 [(0, .ref (b)), (1, .ref (τ.2.2 30)), (2, .ref (τ.2.2 81)), (3, .ref (τ.2.2 90)), (4, .int x4)] [] := by
  unfold law_b466 at h
  have o := c.1
  have hZ := c.2.2.2.2.2.2.2.2.1
  refine gw_aload_n (pc := 466) o d_L_law_466 rfl 1 rfl ?_
  refine gw_aload_n (pc := 467) o d_L_law_467 rfl 0 rfl ?_
  refine gw_iload (pc := 468) o d_L_law_468 4 rfl ?_
  refine gw_iconst (pc := 470) (v := (1 : Int32)) o d_L_law_470 (by decide) ?_
  refine gw_iadd (pc := 471) o d_L_law_471 ?_
  have hi := h.1
  have h := h.2
  refine gw_sld (pc := 472) o c.2.2.1 c.2.2.2.1 c.2.2.2.2.1 hi d_L_law_472 ?_
  refine gw_aload_n (pc := 473) o d_L_law_473 rfl 3 rfl ?_
  refine gw_callSW (pc := 474) (As := [.ref (τ.2.2 30), .int (xs (x4 + (1 : Int32)).toNatClampNeg), .ref (τ.2.2 90)]) (st := []) o c.2.2.2.2.2.1 c.2.2.2.2.2.2.1 (ct_L_many o.hD c.2.2.2.2.2.2.2.1 h) mi_L_many q_493 q_494 ⟨by decide, by decide, hk.1, hk.2⟩ rfl rfl (Nat.le_of_ble_eq_true rfl) d_L_law_474 (kkw_i (k := (k.1 + 1, k.2 + 6)) rfl (fun r474 E_474 N_474 O_474 h => ?_))
  refine gw_istore (pc := 477) (lv' := [(5, .int r474), (0, .ref (b)), (1, .ref (τ.2.2 30)), (2, .ref (τ.2.2 81)), (3, .ref (τ.2.2 90)), (4, .int x4)]) o d_L_law_477 (by decide) rfl ?_
  refine gw_aload_n (pc := 479) o d_L_law_479 rfl 3 rfl ?_
  refine gw_aload_n (pc := 480) o d_L_law_480 rfl 1 rfl ?_
  refine gw_iload (pc := 481) o d_L_law_481 5 rfl ?_
  refine gw_iconst (pc := 483) (v := (1 : Int32)) o d_L_law_483 (by decide) ?_
  refine gw_iadd (pc := 484) o d_L_law_484 ?_
  have hi := h.1
  have h := h.2
  refine gw_sld (pc := 485) o c.2.2.1 c.2.2.2.1 c.2.2.2.2.1 hi d_L_law_485 ?_
  refine gw_callV (pc := 486) (b := τ.2.2 81) (As := [.int (xs (x4 + (1 : Int32)).toNatClampNeg)]) (st := []) o (CT.l2 (CT.l1 (ct_M_many o.hD.r.l h) o.hD.r) rfl rfl o.hD) mi_M_many q_699 q_700 q_701 31 rfl rfl ⟨by decide, by decide, hk.1, hk.2⟩ rfl rfl (Nat.le_of_ble_eq_true rfl) d_L_law_486 (kkm_1_i (k := (k.1 + 1, k.2 + 6)) rfl (fun r486 M_486 h => ?_))
  refine gw_istore (pc := 489) (lv' := [(6, .int r486), (5, .int r474), (0, .ref (b)), (1, .ref (τ.2.2 30)), (2, .ref (τ.2.2 81)), (3, .ref (τ.2.2 90)), (4, .int x4)]) o d_L_law_489 (by decide) rfl ?_
  refine gw_aload_n (pc := 491) o d_L_law_491 rfl 4 rfl ?_
  refine gw_callV (pc := 492) (b := τ.2.2 81) (As := []) (st := []) o (CT.l2 (CT.l1 (ct_M_thrown o.hD.r.l h) o.hD.r) rfl rfl o.hD) mi_M_thrown q_611 q_612 q_613 31 rfl rfl ⟨by decide, by decide, hk.1, hk.2⟩ rfl rfl (Nat.le_of_ble_eq_true rfl) d_L_law_492 (kkm_p_i (k := (k.1 + 1, k.2 + 6)) rfl (fun r492 h => ?_))
  refine gw_iload (pc := 495) o d_L_law_495 1 rfl ?_
  refine gw_icmp_eq (pc := 497) (tgt := 502) o d_L_law_497 (by decide) (fun hc => ?_) (fun hc => ?_)
  · have h := h.1 hc
    refine gw_iload (pc := 502) o d_L_law_502 1 rfl ?_
    refine gw_if_ne (pc := 504) (tgt := 519) o d_L_law_504 (by decide) (fun hc => ?_) (fun hc => ?_)
    · have h := h.2 hc
      refine gw_goto (pc := 519) (tgt := 858) o d_L_law_519 (by decide) ?_
      exact gw_sub (lv' := [(0, .ref (b)), (1, .ref (τ.2.2 30)), (2, .ref (τ.2.2 81)), (3, .ref (τ.2.2 90)), (4, .int x4)]) [2, 3, 4, 5, 6] rfl (wk_law_b858 c hk hk23 h)
    · have h := h.1 hc
      refine gw_aload_n (pc := 507) o d_L_law_507 rfl 5 rfl ?_
      refine gw_iconst (pc := 508) (v := (0 : Int32)) o d_L_law_508 (by decide) ?_
      refine gw_lald (pc := 509) o 46 rfl (by unfold vp_in; decide) d_L_law_509 ?_
      refine gw_iload (pc := 510) o d_L_law_510 0 rfl ?_
      refine gw_i2l (pc := 512) o d_L_law_512 ?_
      refine gw_lcmp (pc := 513) o d_L_law_513 ?_
      refine gw_if_eq (pc := 514) (tgt := 519) o d_L_law_514 (by decide) (fun hc => ?_) (fun hc => ?_)
      · have h := h.1 (xcmp0.mp hc)
        refine gw_goto (pc := 519) (tgt := 858) o d_L_law_519 (by decide) ?_
        exact gw_sub (lv' := [(0, .ref (b)), (1, .ref (τ.2.2 30)), (2, .ref (τ.2.2 81)), (3, .ref (τ.2.2 90)), (4, .int x4)]) [2, 3, 4, 5, 6] rfl (wk_law_b858 c hk hk23 h)
      · have h := h.2 (fun e => hc (xcmp0.mpr e))
        refine gw_iconst (pc := 517) (v := (0 : Int32)) o d_L_law_517 (by decide) ?_
        exact gwl_ret (pc := 518) c (hZ _ h) hk d_L_law_518
  · have h := h.2 hc
    refine gw_iconst (pc := 500) (v := (0 : Int32)) o d_L_law_500 (by decide) ?_
    exact gwl_ret (pc := 501) c (hZ _ h) hk d_L_law_501
def law_b522 (xs : Nat → Int32) (LL : Nat) (Z : Int32 → Prop) (k23 : Int32 → xF → xF → xF → (Nat → Int64) → (Nat → Int64) → Prop) (E : xF) (N : xF) (M : xF) (J : (Nat → Int64)) (O : (Nat → Int64)) (x4 : Int32) : Prop := vp_in (x4 + (1 : Int32)) LL ∧ (vp_in (x4 + (2 : Int32)) LL ∧ (w_L_next E N O (xs (x4 + (1 : Int32)).toNatClampNeg) (xs (x4 + (2 : Int32)).toNatClampNeg) (fun r536 E_536 N_536 O_536 => vp_in (x4 + (1 : Int32)) LL ∧ (vp_in (x4 + (2 : Int32)) LL ∧ (w_M_next M J (xs (x4 + (1 : Int32)).toNatClampNeg) (xs (x4 + (2 : Int32)).toNatClampNeg) (fun r554 M_554 => w_M_thrown M_554 J (fun r560 => ((r560 = r536) → (((r536 = 0) → ((((O_536 (0 : Int32).toNatClampNeg) = (r554.toInt64)) → (law_b858 xs LL Z k23 E_536 N_536 M_554 J O_536 x4)) ∧ (¬ ((O_536 (0 : Int32).toNatClampNeg) = (r554.toInt64)) → (Z (0 : Int32))))) ∧ (¬ (r536 = 0) → (law_b858 xs LL Z k23 E_536 N_536 M_554 J O_536 x4)))) ∧ (¬ (r560 = r536) → (Z (0 : Int32))))))))))
set_option maxRecDepth 10000 in
theorem wk_law_b522 {κ : Cx} {τ : xT} {b LL : Nat} {xs : Nat → Int32} {Z : Int32 → Prop} {k : Nat × Nat} {k23 : Int32 → xF → xF → xF → (Nat → Int64) → (Nat → Int64) → Prop} {E : xF} {N : xF} {M : xF} {J : (Nat → Int64)} {O : (Nat → Int64)} {x4 : Int32} (c : OKL κ τ b LL xs Z) (hk : k.1 + 1 ≤ 163966 ∧ k.2 + 6 ≤ 8604208) (hk23 : ∀ (x4' : Int32) (E' N' M' : xF) (J' O' : Nat → Int64), x4' = x4 + (4 : Int32) → k23 x4' E' N' M' J' O' → GW κ (wdL τ) 7 (k.1 + 1, k.2 + 6) (lw_Z (kB κ) #[Value.ref b] (kS κ)) ((E', N'), ((M', J'), O')) 23 [(0, .ref (b)), (1, .ref (τ.2.2 30)), (2, .ref (τ.2.2 81)), (3, .ref (τ.2.2 90)), (4, .int x4')] []) (h : law_b522 xs LL Z k23 E N M J O x4) : GW κ (wdL τ) 7 k (lw_Z (kB κ) #[Value.ref b] (kS κ)) ((E, N), ((M, J), O)) 522 [(0, .ref (b)), (1, .ref (τ.2.2 30)), (2, .ref (τ.2.2 81)), (3, .ref (τ.2.2 90)), (4, .int x4)] [] := by
  unfold law_b522 at h
  have o := c.1
  have hZ := c.2.2.2.2.2.2.2.2.1
  refine gw_aload_n (pc := 522) o d_L_law_522 rfl 1 rfl ?_
  refine gw_aload_n (pc := 523) o d_L_law_523 rfl 0 rfl ?_
  refine gw_iload (pc := 524) o d_L_law_524 4 rfl ?_
  refine gw_iconst (pc := 526) (v := (1 : Int32)) o d_L_law_526 (by decide) ?_
  refine gw_iadd (pc := 527) o d_L_law_527 ?_
  have hi := h.1
  have h := h.2
  refine gw_sld (pc := 528) o c.2.2.1 c.2.2.2.1 c.2.2.2.2.1 hi d_L_law_528 ?_
  refine gw_aload_n (pc := 529) o d_L_law_529 rfl 0 rfl ?_
  refine gw_iload (pc := 530) o d_L_law_530 4 rfl ?_
  refine gw_iconst (pc := 532) (v := (2 : Int32)) o d_L_law_532 (by decide) ?_
  refine gw_iadd (pc := 533) o d_L_law_533 ?_
  have hi := h.1
  have h := h.2
  refine gw_sld (pc := 534) o c.2.2.1 c.2.2.2.1 c.2.2.2.2.1 hi d_L_law_534 ?_
  refine gw_aload_n (pc := 535) o d_L_law_535 rfl 3 rfl ?_
  refine gw_callSW (pc := 536) (As := [.ref (τ.2.2 30), .int (xs (x4 + (1 : Int32)).toNatClampNeg), .int (xs (x4 + (2 : Int32)).toNatClampNeg), .ref (τ.2.2 90)]) (st := []) o c.2.2.2.2.2.1 c.2.2.2.2.2.2.1 (ct_L_next o.hD c.2.2.2.2.2.2.2.1 h) mi_L_next q_500 q_501 ⟨by decide, by decide, hk.1, hk.2⟩ rfl rfl (Nat.le_of_ble_eq_true rfl) d_L_law_536 (kkw_i (k := (k.1 + 1, k.2 + 6)) rfl (fun r536 E_536 N_536 O_536 h => ?_))
  refine gw_istore (pc := 539) (lv' := [(5, .int r536), (0, .ref (b)), (1, .ref (τ.2.2 30)), (2, .ref (τ.2.2 81)), (3, .ref (τ.2.2 90)), (4, .int x4)]) o d_L_law_539 (by decide) rfl ?_
  refine gw_aload_n (pc := 541) o d_L_law_541 rfl 3 rfl ?_
  refine gw_aload_n (pc := 542) o d_L_law_542 rfl 1 rfl ?_
  refine gw_iload (pc := 543) o d_L_law_543 5 rfl ?_
  refine gw_iconst (pc := 545) (v := (1 : Int32)) o d_L_law_545 (by decide) ?_
  refine gw_iadd (pc := 546) o d_L_law_546 ?_
  have hi := h.1
  have h := h.2
  refine gw_sld (pc := 547) o c.2.2.1 c.2.2.2.1 c.2.2.2.2.1 hi d_L_law_547 ?_
  refine gw_aload_n (pc := 548) o d_L_law_548 rfl 1 rfl ?_
  refine gw_iload (pc := 549) o d_L_law_549 5 rfl ?_
  refine gw_iconst (pc := 551) (v := (2 : Int32)) o d_L_law_551 (by decide) ?_
  refine gw_iadd (pc := 552) o d_L_law_552 ?_
  have hi := h.1
  have h := h.2
  refine gw_sld (pc := 553) o c.2.2.1 c.2.2.2.1 c.2.2.2.2.1 hi d_L_law_553 ?_
  refine gw_callV (pc := 554) (b := τ.2.2 81) (As := [.int (xs (x4 + (1 : Int32)).toNatClampNeg), .int (xs (x4 + (2 : Int32)).toNatClampNeg)]) (st := []) o (CT.l2 (CT.l1 (ct_M_next o.hD.r.l h) o.hD.r) rfl rfl o.hD) mi_M_next q_703 q_704 q_705 31 rfl rfl ⟨by decide, by decide, hk.1, hk.2⟩ rfl rfl (Nat.le_of_ble_eq_true rfl) d_L_law_554 (kkm_1_i (k := (k.1 + 1, k.2 + 6)) rfl (fun r554 M_554 h => ?_))
  refine gw_istore (pc := 557) (lv' := [(6, .int r554), (5, .int r536), (0, .ref (b)), (1, .ref (τ.2.2 30)), (2, .ref (τ.2.2 81)), (3, .ref (τ.2.2 90)), (4, .int x4)]) o d_L_law_557 (by decide) rfl ?_
  refine gw_aload_n (pc := 559) o d_L_law_559 rfl 4 rfl ?_
  refine gw_callV (pc := 560) (b := τ.2.2 81) (As := []) (st := []) o (CT.l2 (CT.l1 (ct_M_thrown o.hD.r.l h) o.hD.r) rfl rfl o.hD) mi_M_thrown q_611 q_612 q_613 31 rfl rfl ⟨by decide, by decide, hk.1, hk.2⟩ rfl rfl (Nat.le_of_ble_eq_true rfl) d_L_law_560 (kkm_p_i (k := (k.1 + 1, k.2 + 6)) rfl (fun r560 h => ?_))
  refine gw_iload (pc := 563) o d_L_law_563 1 rfl ?_
  refine gw_icmp_eq (pc := 565) (tgt := 570) o d_L_law_565 (by decide) (fun hc => ?_) (fun hc => ?_)
  · have h := h.1 hc
    refine gw_iload (pc := 570) o d_L_law_570 1 rfl ?_
    refine gw_if_ne (pc := 572) (tgt := 587) o d_L_law_572 (by decide) (fun hc => ?_) (fun hc => ?_)
    · have h := h.2 hc
      refine gw_goto (pc := 587) (tgt := 858) o d_L_law_587 (by decide) ?_
      exact gw_sub (lv' := [(0, .ref (b)), (1, .ref (τ.2.2 30)), (2, .ref (τ.2.2 81)), (3, .ref (τ.2.2 90)), (4, .int x4)]) [2, 3, 4, 5, 6] rfl (wk_law_b858 c hk hk23 h)
    · have h := h.1 hc
      refine gw_aload_n (pc := 575) o d_L_law_575 rfl 5 rfl ?_
      refine gw_iconst (pc := 576) (v := (0 : Int32)) o d_L_law_576 (by decide) ?_
      refine gw_lald (pc := 577) o 46 rfl (by unfold vp_in; decide) d_L_law_577 ?_
      refine gw_iload (pc := 578) o d_L_law_578 0 rfl ?_
      refine gw_i2l (pc := 580) o d_L_law_580 ?_
      refine gw_lcmp (pc := 581) o d_L_law_581 ?_
      refine gw_if_eq (pc := 582) (tgt := 587) o d_L_law_582 (by decide) (fun hc => ?_) (fun hc => ?_)
      · have h := h.1 (xcmp0.mp hc)
        refine gw_goto (pc := 587) (tgt := 858) o d_L_law_587 (by decide) ?_
        exact gw_sub (lv' := [(0, .ref (b)), (1, .ref (τ.2.2 30)), (2, .ref (τ.2.2 81)), (3, .ref (τ.2.2 90)), (4, .int x4)]) [2, 3, 4, 5, 6] rfl (wk_law_b858 c hk hk23 h)
      · have h := h.2 (fun e => hc (xcmp0.mpr e))
        refine gw_iconst (pc := 585) (v := (0 : Int32)) o d_L_law_585 (by decide) ?_
        exact gwl_ret (pc := 586) c (hZ _ h) hk d_L_law_586
  · have h := h.2 hc
    refine gw_iconst (pc := 568) (v := (0 : Int32)) o d_L_law_568 (by decide) ?_
    exact gwl_ret (pc := 569) c (hZ _ h) hk d_L_law_569
def law_b590 (xs : Nat → Int32) (LL : Nat) (Z : Int32 → Prop) (k23 : Int32 → xF → xF → xF → (Nat → Int64) → (Nat → Int64) → Prop) (E : xF) (N : xF) (M : xF) (J : (Nat → Int64)) (O : (Nat → Int64)) (x4 : Int32) : Prop := vp_in (x4 + (1 : Int32)) LL ∧ (w_L_doubt E N O (xs (x4 + (1 : Int32)).toNatClampNeg) (fun r598 E_598 N_598 O_598 => vp_in (x4 + (1 : Int32)) LL ∧ (w_M_doubt M J (xs (x4 + (1 : Int32)).toNatClampNeg) (fun r610 M_610 => w_M_thrown M_610 J (fun r616 => ((r616 = r598) → (((r598 = 0) → ((((O_598 (0 : Int32).toNatClampNeg) = (r610.toInt64)) → (law_b858 xs LL Z k23 E_598 N_598 M_610 J O_598 x4)) ∧ (¬ ((O_598 (0 : Int32).toNatClampNeg) = (r610.toInt64)) → (Z (0 : Int32))))) ∧ (¬ (r598 = 0) → (law_b858 xs LL Z k23 E_598 N_598 M_610 J O_598 x4)))) ∧ (¬ (r616 = r598) → (Z (0 : Int32))))))))
set_option maxRecDepth 10000 in
theorem wk_law_b590 {κ : Cx} {τ : xT} {b LL : Nat} {xs : Nat → Int32} {Z : Int32 → Prop} {k : Nat × Nat} {k23 : Int32 → xF → xF → xF → (Nat → Int64) → (Nat → Int64) → Prop} {E : xF} {N : xF} {M : xF} {J : (Nat → Int64)} {O : (Nat → Int64)} {x4 : Int32} (c : OKL κ τ b LL xs Z) (hk : k.1 + 1 ≤ 163966 ∧ k.2 + 6 ≤ 8604208) (hk23 : ∀ (x4' : Int32) (E' N' M' : xF) (J' O' : Nat → Int64), x4' = x4 + (4 : Int32) → k23 x4' E' N' M' J' O' → GW κ (wdL τ) 7 (k.1 + 1, k.2 + 6) (lw_Z (kB κ) #[Value.ref b] (kS κ)) ((E', N'), ((M', J'), O')) 23 [(0, .ref (b)), (1, .ref (τ.2.2 30)), (2, .ref (τ.2.2 81)), (3, .ref (τ.2.2 90)), (4, .int x4')] []) (h : law_b590 xs LL Z k23 E N M J O x4) : GW κ (wdL τ) 7 k (lw_Z (kB κ) #[Value.ref b] (kS κ)) ((E, N), ((M, J), O)) 590 [(0, .ref (b)), (1, .ref (τ.2.2 30)), (2, .ref (τ.2.2 81)), (3, .ref (τ.2.2 90)), (4, .int x4)] [] := by
  unfold law_b590 at h
  have o := c.1
  have hZ := c.2.2.2.2.2.2.2.2.1
  refine gw_aload_n (pc := 590) o d_L_law_590 rfl 1 rfl ?_
  refine gw_aload_n (pc := 591) o d_L_law_591 rfl 0 rfl ?_
  refine gw_iload (pc := 592) o d_L_law_592 4 rfl ?_
  refine gw_iconst (pc := 594) (v := (1 : Int32)) o d_L_law_594 (by decide) ?_
  refine gw_iadd (pc := 595) o d_L_law_595 ?_
  have hi := h.1
  have h := h.2
  refine gw_sld (pc := 596) o c.2.2.1 c.2.2.2.1 c.2.2.2.2.1 hi d_L_law_596 ?_
  refine gw_aload_n (pc := 597) o d_L_law_597 rfl 3 rfl ?_
  refine gw_callSW (pc := 598) (As := [.ref (τ.2.2 30), .int (xs (x4 + (1 : Int32)).toNatClampNeg), .ref (τ.2.2 90)]) (st := []) o c.2.2.2.2.2.1 c.2.2.2.2.2.2.1 (ct_L_doubt o.hD c.2.2.2.2.2.2.2.1 h) mi_L_doubt q_507 q_508 ⟨by decide, by decide, hk.1, hk.2⟩ rfl rfl (Nat.le_of_ble_eq_true rfl) d_L_law_598 (kkw_i (k := (k.1 + 1, k.2 + 6)) rfl (fun r598 E_598 N_598 O_598 h => ?_))
  refine gw_istore (pc := 601) (lv' := [(5, .int r598), (0, .ref (b)), (1, .ref (τ.2.2 30)), (2, .ref (τ.2.2 81)), (3, .ref (τ.2.2 90)), (4, .int x4)]) o d_L_law_601 (by decide) rfl ?_
  refine gw_aload_n (pc := 603) o d_L_law_603 rfl 3 rfl ?_
  refine gw_aload_n (pc := 604) o d_L_law_604 rfl 1 rfl ?_
  refine gw_iload (pc := 605) o d_L_law_605 5 rfl ?_
  refine gw_iconst (pc := 607) (v := (1 : Int32)) o d_L_law_607 (by decide) ?_
  refine gw_iadd (pc := 608) o d_L_law_608 ?_
  have hi := h.1
  have h := h.2
  refine gw_sld (pc := 609) o c.2.2.1 c.2.2.2.1 c.2.2.2.2.1 hi d_L_law_609 ?_
  refine gw_callV (pc := 610) (b := τ.2.2 81) (As := [.int (xs (x4 + (1 : Int32)).toNatClampNeg)]) (st := []) o (CT.l2 (CT.l1 (ct_M_doubt o.hD.r.l h) o.hD.r) rfl rfl o.hD) mi_M_doubt q_707 q_708 q_709 31 rfl rfl ⟨by decide, by decide, hk.1, hk.2⟩ rfl rfl (Nat.le_of_ble_eq_true rfl) d_L_law_610 (kkm_1_i (k := (k.1 + 1, k.2 + 6)) rfl (fun r610 M_610 h => ?_))
  refine gw_istore (pc := 613) (lv' := [(6, .int r610), (5, .int r598), (0, .ref (b)), (1, .ref (τ.2.2 30)), (2, .ref (τ.2.2 81)), (3, .ref (τ.2.2 90)), (4, .int x4)]) o d_L_law_613 (by decide) rfl ?_
  refine gw_aload_n (pc := 615) o d_L_law_615 rfl 4 rfl ?_
  refine gw_callV (pc := 616) (b := τ.2.2 81) (As := []) (st := []) o (CT.l2 (CT.l1 (ct_M_thrown o.hD.r.l h) o.hD.r) rfl rfl o.hD) mi_M_thrown q_611 q_612 q_613 31 rfl rfl ⟨by decide, by decide, hk.1, hk.2⟩ rfl rfl (Nat.le_of_ble_eq_true rfl) d_L_law_616 (kkm_p_i (k := (k.1 + 1, k.2 + 6)) rfl (fun r616 h => ?_))
  refine gw_iload (pc := 619) o d_L_law_619 1 rfl ?_
  refine gw_icmp_eq (pc := 621) (tgt := 626) o d_L_law_621 (by decide) (fun hc => ?_) (fun hc => ?_)
  · have h := h.1 hc
    refine gw_iload (pc := 626) o d_L_law_626 1 rfl ?_
    refine gw_if_ne (pc := 628) (tgt := 643) o d_L_law_628 (by decide) (fun hc => ?_) (fun hc => ?_)
    · have h := h.2 hc
      refine gw_goto (pc := 643) (tgt := 858) o d_L_law_643 (by decide) ?_
      exact gw_sub (lv' := [(0, .ref (b)), (1, .ref (τ.2.2 30)), (2, .ref (τ.2.2 81)), (3, .ref (τ.2.2 90)), (4, .int x4)]) [2, 3, 4, 5, 6] rfl (wk_law_b858 c hk hk23 h)
    · have h := h.1 hc
      refine gw_aload_n (pc := 631) o d_L_law_631 rfl 5 rfl ?_
      refine gw_iconst (pc := 632) (v := (0 : Int32)) o d_L_law_632 (by decide) ?_
      refine gw_lald (pc := 633) o 46 rfl (by unfold vp_in; decide) d_L_law_633 ?_
      refine gw_iload (pc := 634) o d_L_law_634 0 rfl ?_
      refine gw_i2l (pc := 636) o d_L_law_636 ?_
      refine gw_lcmp (pc := 637) o d_L_law_637 ?_
      refine gw_if_eq (pc := 638) (tgt := 643) o d_L_law_638 (by decide) (fun hc => ?_) (fun hc => ?_)
      · have h := h.1 (xcmp0.mp hc)
        refine gw_goto (pc := 643) (tgt := 858) o d_L_law_643 (by decide) ?_
        exact gw_sub (lv' := [(0, .ref (b)), (1, .ref (τ.2.2 30)), (2, .ref (τ.2.2 81)), (3, .ref (τ.2.2 90)), (4, .int x4)]) [2, 3, 4, 5, 6] rfl (wk_law_b858 c hk hk23 h)
      · have h := h.2 (fun e => hc (xcmp0.mpr e))
        refine gw_iconst (pc := 641) (v := (0 : Int32)) o d_L_law_641 (by decide) ?_
        exact gwl_ret (pc := 642) c (hZ _ h) hk d_L_law_642
  · have h := h.2 hc
    refine gw_iconst (pc := 624) (v := (0 : Int32)) o d_L_law_624 (by decide) ?_
    exact gwl_ret (pc := 625) c (hZ _ h) hk d_L_law_625
def law_b646 (xs : Nat → Int32) (LL : Nat) (Z : Int32 → Prop) (k23 : Int32 → xF → xF → xF → (Nat → Int64) → (Nat → Int64) → Prop) (E : xF) (N : xF) (M : xF) (J : (Nat → Int64)) (O : (Nat → Int64)) (x4 : Int32) : Prop := vp_in (x4 + (1 : Int32)) LL ∧ (w_L_always E N O (xs (x4 + (1 : Int32)).toNatClampNeg) (fun r654 E_654 N_654 O_654 => vp_in (x4 + (1 : Int32)) LL ∧ (w_M_always M J (xs (x4 + (1 : Int32)).toNatClampNeg) (fun r666 M_666 => w_M_thrown M_666 J (fun r672 => ((r672 = r654) → (((r654 = 0) → ((((O_654 (0 : Int32).toNatClampNeg) = (r666.toInt64)) → (law_b858 xs LL Z k23 E_654 N_654 M_666 J O_654 x4)) ∧ (¬ ((O_654 (0 : Int32).toNatClampNeg) = (r666.toInt64)) → (Z (0 : Int32))))) ∧ (¬ (r654 = 0) → (law_b858 xs LL Z k23 E_654 N_654 M_666 J O_654 x4)))) ∧ (¬ (r672 = r654) → (Z (0 : Int32))))))))
set_option maxRecDepth 10000 in
theorem wk_law_b646 {κ : Cx} {τ : xT} {b LL : Nat} {xs : Nat → Int32} {Z : Int32 → Prop} {k : Nat × Nat} {k23 : Int32 → xF → xF → xF → (Nat → Int64) → (Nat → Int64) → Prop} {E : xF} {N : xF} {M : xF} {J : (Nat → Int64)} {O : (Nat → Int64)} {x4 : Int32} (c : OKL κ τ b LL xs Z) (hk : k.1 + 1 ≤ 163966 ∧ k.2 + 6 ≤ 8604208) (hk23 : ∀ (x4' : Int32) (E' N' M' : xF) (J' O' : Nat → Int64), x4' = x4 + (4 : Int32) → k23 x4' E' N' M' J' O' → GW κ (wdL τ) 7 (k.1 + 1, k.2 + 6) (lw_Z (kB κ) #[Value.ref b] (kS κ)) ((E', N'), ((M', J'), O')) 23 [(0, .ref (b)), (1, .ref (τ.2.2 30)), (2, .ref (τ.2.2 81)), (3, .ref (τ.2.2 90)), (4, .int x4')] []) (h : law_b646 xs LL Z k23 E N M J O x4) : GW κ (wdL τ) 7 k (lw_Z (kB κ) #[Value.ref b] (kS κ)) ((E, N), ((M, J), O)) 646 [(0, .ref (b)), (1, .ref (τ.2.2 30)), (2, .ref (τ.2.2 81)), (3, .ref (τ.2.2 90)), (4, .int x4)] [] := by
  unfold law_b646 at h
  have o := c.1
  have hZ := c.2.2.2.2.2.2.2.2.1
  refine gw_aload_n (pc := 646) o d_L_law_646 rfl 1 rfl ?_
  refine gw_aload_n (pc := 647) o d_L_law_647 rfl 0 rfl ?_
  refine gw_iload (pc := 648) o d_L_law_648 4 rfl ?_
  refine gw_iconst (pc := 650) (v := (1 : Int32)) o d_L_law_650 (by decide) ?_
  refine gw_iadd (pc := 651) o d_L_law_651 ?_
  have hi := h.1
  have h := h.2
  refine gw_sld (pc := 652) o c.2.2.1 c.2.2.2.1 c.2.2.2.2.1 hi d_L_law_652 ?_
  refine gw_aload_n (pc := 653) o d_L_law_653 rfl 3 rfl ?_
  refine gw_callSW (pc := 654) (As := [.ref (τ.2.2 30), .int (xs (x4 + (1 : Int32)).toNatClampNeg), .ref (τ.2.2 90)]) (st := []) o c.2.2.2.2.2.1 c.2.2.2.2.2.2.1 (ct_L_always o.hD c.2.2.2.2.2.2.2.1 h) mi_L_always q_518 q_519 ⟨by decide, by decide, hk.1, hk.2⟩ rfl rfl (Nat.le_of_ble_eq_true rfl) d_L_law_654 (kkw_i (k := (k.1 + 1, k.2 + 6)) rfl (fun r654 E_654 N_654 O_654 h => ?_))
  refine gw_istore (pc := 657) (lv' := [(5, .int r654), (0, .ref (b)), (1, .ref (τ.2.2 30)), (2, .ref (τ.2.2 81)), (3, .ref (τ.2.2 90)), (4, .int x4)]) o d_L_law_657 (by decide) rfl ?_
  refine gw_aload_n (pc := 659) o d_L_law_659 rfl 3 rfl ?_
  refine gw_aload_n (pc := 660) o d_L_law_660 rfl 1 rfl ?_
  refine gw_iload (pc := 661) o d_L_law_661 5 rfl ?_
  refine gw_iconst (pc := 663) (v := (1 : Int32)) o d_L_law_663 (by decide) ?_
  refine gw_iadd (pc := 664) o d_L_law_664 ?_
  have hi := h.1
  have h := h.2
  refine gw_sld (pc := 665) o c.2.2.1 c.2.2.2.1 c.2.2.2.2.1 hi d_L_law_665 ?_
  refine gw_callV (pc := 666) (b := τ.2.2 81) (As := [.int (xs (x4 + (1 : Int32)).toNatClampNeg)]) (st := []) o (CT.l2 (CT.l1 (ct_M_always o.hD.r.l h) o.hD.r) rfl rfl o.hD) mi_M_always q_711 q_712 q_713 31 rfl rfl ⟨by decide, by decide, hk.1, hk.2⟩ rfl rfl (Nat.le_of_ble_eq_true rfl) d_L_law_666 (kkm_1_i (k := (k.1 + 1, k.2 + 6)) rfl (fun r666 M_666 h => ?_))
  refine gw_istore (pc := 669) (lv' := [(6, .int r666), (5, .int r654), (0, .ref (b)), (1, .ref (τ.2.2 30)), (2, .ref (τ.2.2 81)), (3, .ref (τ.2.2 90)), (4, .int x4)]) o d_L_law_669 (by decide) rfl ?_
  refine gw_aload_n (pc := 671) o d_L_law_671 rfl 4 rfl ?_
  refine gw_callV (pc := 672) (b := τ.2.2 81) (As := []) (st := []) o (CT.l2 (CT.l1 (ct_M_thrown o.hD.r.l h) o.hD.r) rfl rfl o.hD) mi_M_thrown q_611 q_612 q_613 31 rfl rfl ⟨by decide, by decide, hk.1, hk.2⟩ rfl rfl (Nat.le_of_ble_eq_true rfl) d_L_law_672 (kkm_p_i (k := (k.1 + 1, k.2 + 6)) rfl (fun r672 h => ?_))
  refine gw_iload (pc := 675) o d_L_law_675 1 rfl ?_
  refine gw_icmp_eq (pc := 677) (tgt := 682) o d_L_law_677 (by decide) (fun hc => ?_) (fun hc => ?_)
  · have h := h.1 hc
    refine gw_iload (pc := 682) o d_L_law_682 1 rfl ?_
    refine gw_if_ne (pc := 684) (tgt := 699) o d_L_law_684 (by decide) (fun hc => ?_) (fun hc => ?_)
    · have h := h.2 hc
      refine gw_goto (pc := 699) (tgt := 858) o d_L_law_699 (by decide) ?_
      exact gw_sub (lv' := [(0, .ref (b)), (1, .ref (τ.2.2 30)), (2, .ref (τ.2.2 81)), (3, .ref (τ.2.2 90)), (4, .int x4)]) [2, 3, 4, 5, 6] rfl (wk_law_b858 c hk hk23 h)
    · have h := h.1 hc
      refine gw_aload_n (pc := 687) o d_L_law_687 rfl 5 rfl ?_
      refine gw_iconst (pc := 688) (v := (0 : Int32)) o d_L_law_688 (by decide) ?_
      refine gw_lald (pc := 689) o 46 rfl (by unfold vp_in; decide) d_L_law_689 ?_
      refine gw_iload (pc := 690) o d_L_law_690 0 rfl ?_
      refine gw_i2l (pc := 692) o d_L_law_692 ?_
      refine gw_lcmp (pc := 693) o d_L_law_693 ?_
      refine gw_if_eq (pc := 694) (tgt := 699) o d_L_law_694 (by decide) (fun hc => ?_) (fun hc => ?_)
      · have h := h.1 (xcmp0.mp hc)
        refine gw_goto (pc := 699) (tgt := 858) o d_L_law_699 (by decide) ?_
        exact gw_sub (lv' := [(0, .ref (b)), (1, .ref (τ.2.2 30)), (2, .ref (τ.2.2 81)), (3, .ref (τ.2.2 90)), (4, .int x4)]) [2, 3, 4, 5, 6] rfl (wk_law_b858 c hk hk23 h)
      · have h := h.2 (fun e => hc (xcmp0.mpr e))
        refine gw_iconst (pc := 697) (v := (0 : Int32)) o d_L_law_697 (by decide) ?_
        exact gwl_ret (pc := 698) c (hZ _ h) hk d_L_law_698
  · have h := h.2 hc
    refine gw_iconst (pc := 680) (v := (0 : Int32)) o d_L_law_680 (by decide) ?_
    exact gwl_ret (pc := 681) c (hZ _ h) hk d_L_law_681
def law_b768 (xs : Nat → Int32) (LL : Nat) (Z : Int32 → Prop) (k23 : Int32 → xF → xF → xF → (Nat → Int64) → (Nat → Int64) → Prop) (E : xF) (N : xF) (M : xF) (J : (Nat → Int64)) (O : (Nat → Int64)) (x4 : Int32) (s0 : Int64) (s1 : Int64) : Prop := ((s0 = s1) → (law_b858 xs LL Z k23 E N M J O x4)) ∧ (¬ (s0 = s1) → (Z (0 : Int32)))
set_option maxRecDepth 10000 in
theorem wk_law_b768 {κ : Cx} {τ : xT} {b LL : Nat} {xs : Nat → Int32} {Z : Int32 → Prop} {k : Nat × Nat} {k23 : Int32 → xF → xF → xF → (Nat → Int64) → (Nat → Int64) → Prop} {E : xF} {N : xF} {M : xF} {J : (Nat → Int64)} {O : (Nat → Int64)} {x4 : Int32} {s0 : Int64} {s1 : Int64} (c : OKL κ τ b LL xs Z) (hk : k.1 + 1 ≤ 163966 ∧ k.2 + 6 ≤ 8604208) (hk23 : ∀ (x4' : Int32) (E' N' M' : xF) (J' O' : Nat → Int64), x4' = x4 + (4 : Int32) → k23 x4' E' N' M' J' O' → GW κ (wdL τ) 7 (k.1 + 1, k.2 + 6) (lw_Z (kB κ) #[Value.ref b] (kS κ)) ((E', N'), ((M', J'), O')) 23 [(0, .ref (b)), (1, .ref (τ.2.2 30)), (2, .ref (τ.2.2 81)), (3, .ref (τ.2.2 90)), (4, .int x4')] []) (h : law_b768 xs LL Z k23 E N M J O x4 s0 s1) : GW κ (wdL τ) 7 (k.1 + 1, k.2 + 6) (lw_Z (kB κ) #[Value.ref b] (kS κ)) ((E, N), ((M, J), O)) 768 [(0, .ref (b)), (1, .ref (τ.2.2 30)), (2, .ref (τ.2.2 81)), (3, .ref (τ.2.2 90)), (4, .int x4)] [.long s1, .long s0] := by
  unfold law_b768 at h
  have o := c.1
  have hZ := c.2.2.2.2.2.2.2.2.1
  refine gw_lcmp (pc := 768) o d_L_law_768 ?_
  refine gw_if_eq (pc := 769) (tgt := 774) o d_L_law_769 (by decide) (fun hc => ?_) (fun hc => ?_)
  · have h := h.1 (xcmp0.mp hc)
    refine gw_goto (pc := 774) (tgt := 858) o d_L_law_774 (by decide) ?_
    exact gw_sub (lv' := [(0, .ref (b)), (1, .ref (τ.2.2 30)), (2, .ref (τ.2.2 81)), (3, .ref (τ.2.2 90)), (4, .int x4)]) [0, 1, 2, 3, 4] rfl (wk_law_b858 c hk hk23 h)
  · have h := h.2 (fun e => hc (xcmp0.mpr e))
    refine gw_iconst (pc := 772) (v := (0 : Int32)) o d_L_law_772 (by decide) ?_
    exact gwl_ret (pc := 773) c (hZ _ h) hk d_L_law_773
def law_b702 (xs : Nat → Int32) (LL : Nat) (Z : Int32 → Prop) (k23 : Int32 → xF → xF → xF → (Nat → Int64) → (Nat → Int64) → Prop) (E : xF) (N : xF) (M : xF) (J : (Nat → Int64)) (O : (Nat → Int64)) (x4 : Int32) : Prop := vp_in (x4 + (1 : Int32)) LL ∧ (vp_in (x4 + (2 : Int32)) LL ∧ (w_L_isSame E N O (xs (x4 + (1 : Int32)).toNatClampNeg) (xs (x4 + (2 : Int32)).toNatClampNeg) (fun r716 E_716 N_716 O_716 => vp_in (x4 + (1 : Int32)) LL ∧ (vp_in (x4 + (2 : Int32)) LL ∧ (w_M_isSame M J (xs (x4 + (1 : Int32)).toNatClampNeg) (xs (x4 + (2 : Int32)).toNatClampNeg) (fun r734 M_734 => w_M_thrown M_734 J (fun r740 => ((r740 = r716) → (((r716 = 0) → (((r734 = 0) → (law_b768 xs LL Z k23 E_716 N_716 M_734 J O_716 x4 (O_716 (0 : Int32).toNatClampNeg) (0 : Int64))) ∧ (¬ (r734 = 0) → (law_b768 xs LL Z k23 E_716 N_716 M_734 J O_716 x4 (O_716 (0 : Int32).toNatClampNeg) (1 : Int64))))) ∧ (¬ (r716 = 0) → (law_b858 xs LL Z k23 E_716 N_716 M_734 J O_716 x4)))) ∧ (¬ (r740 = r716) → (Z (0 : Int32))))))))))
set_option maxRecDepth 10000 in
theorem wk_law_b702 {κ : Cx} {τ : xT} {b LL : Nat} {xs : Nat → Int32} {Z : Int32 → Prop} {k : Nat × Nat} {k23 : Int32 → xF → xF → xF → (Nat → Int64) → (Nat → Int64) → Prop} {E : xF} {N : xF} {M : xF} {J : (Nat → Int64)} {O : (Nat → Int64)} {x4 : Int32} (c : OKL κ τ b LL xs Z) (hk : k.1 + 1 ≤ 163966 ∧ k.2 + 6 ≤ 8604208) (hk23 : ∀ (x4' : Int32) (E' N' M' : xF) (J' O' : Nat → Int64), x4' = x4 + (4 : Int32) → k23 x4' E' N' M' J' O' → GW κ (wdL τ) 7 (k.1 + 1, k.2 + 6) (lw_Z (kB κ) #[Value.ref b] (kS κ)) ((E', N'), ((M', J'), O')) 23 [(0, .ref (b)), (1, .ref (τ.2.2 30)), (2, .ref (τ.2.2 81)), (3, .ref (τ.2.2 90)), (4, .int x4')] []) (h : law_b702 xs LL Z k23 E N M J O x4) : GW κ (wdL τ) 7 k (lw_Z (kB κ) #[Value.ref b] (kS κ)) ((E, N), ((M, J), O)) 702 [(0, .ref (b)), (1, .ref (τ.2.2 30)), (2, .ref (τ.2.2 81)), (3, .ref (τ.2.2 90)), (4, .int x4)] [] := by
  unfold law_b702 at h
  have o := c.1
  have hZ := c.2.2.2.2.2.2.2.2.1
  refine gw_aload_n (pc := 702) o d_L_law_702 rfl 1 rfl ?_
  refine gw_aload_n (pc := 703) o d_L_law_703 rfl 0 rfl ?_
  refine gw_iload (pc := 704) o d_L_law_704 4 rfl ?_
  refine gw_iconst (pc := 706) (v := (1 : Int32)) o d_L_law_706 (by decide) ?_
  refine gw_iadd (pc := 707) o d_L_law_707 ?_
  have hi := h.1
  have h := h.2
  refine gw_sld (pc := 708) o c.2.2.1 c.2.2.2.1 c.2.2.2.2.1 hi d_L_law_708 ?_
  refine gw_aload_n (pc := 709) o d_L_law_709 rfl 0 rfl ?_
  refine gw_iload (pc := 710) o d_L_law_710 4 rfl ?_
  refine gw_iconst (pc := 712) (v := (2 : Int32)) o d_L_law_712 (by decide) ?_
  refine gw_iadd (pc := 713) o d_L_law_713 ?_
  have hi := h.1
  have h := h.2
  refine gw_sld (pc := 714) o c.2.2.1 c.2.2.2.1 c.2.2.2.2.1 hi d_L_law_714 ?_
  refine gw_aload_n (pc := 715) o d_L_law_715 rfl 3 rfl ?_
  refine gw_callSW (pc := 716) (As := [.ref (τ.2.2 30), .int (xs (x4 + (1 : Int32)).toNatClampNeg), .int (xs (x4 + (2 : Int32)).toNatClampNeg), .ref (τ.2.2 90)]) (st := []) o c.2.2.2.2.2.1 c.2.2.2.2.2.2.1 (ct_L_isSame o.hD c.2.2.2.2.2.2.2.1 h) mi_L_isSame q_525 q_526 ⟨by decide, by decide, hk.1, hk.2⟩ rfl rfl (Nat.le_of_ble_eq_true rfl) d_L_law_716 (kkw_i (k := (k.1 + 1, k.2 + 6)) rfl (fun r716 E_716 N_716 O_716 h => ?_))
  refine gw_istore (pc := 719) (lv' := [(5, .int r716), (0, .ref (b)), (1, .ref (τ.2.2 30)), (2, .ref (τ.2.2 81)), (3, .ref (τ.2.2 90)), (4, .int x4)]) o d_L_law_719 (by decide) rfl ?_
  refine gw_aload_n (pc := 721) o d_L_law_721 rfl 3 rfl ?_
  refine gw_aload_n (pc := 722) o d_L_law_722 rfl 1 rfl ?_
  refine gw_iload (pc := 723) o d_L_law_723 5 rfl ?_
  refine gw_iconst (pc := 725) (v := (1 : Int32)) o d_L_law_725 (by decide) ?_
  refine gw_iadd (pc := 726) o d_L_law_726 ?_
  have hi := h.1
  have h := h.2
  refine gw_sld (pc := 727) o c.2.2.1 c.2.2.2.1 c.2.2.2.2.1 hi d_L_law_727 ?_
  refine gw_aload_n (pc := 728) o d_L_law_728 rfl 1 rfl ?_
  refine gw_iload (pc := 729) o d_L_law_729 5 rfl ?_
  refine gw_iconst (pc := 731) (v := (2 : Int32)) o d_L_law_731 (by decide) ?_
  refine gw_iadd (pc := 732) o d_L_law_732 ?_
  have hi := h.1
  have h := h.2
  refine gw_sld (pc := 733) o c.2.2.1 c.2.2.2.1 c.2.2.2.2.1 hi d_L_law_733 ?_
  refine gw_callV (pc := 734) (b := τ.2.2 81) (As := [.int (xs (x4 + (1 : Int32)).toNatClampNeg), .int (xs (x4 + (2 : Int32)).toNatClampNeg)]) (st := []) o (CT.l2 (CT.l1 (ct_M_isSame o.hD.r.l h) o.hD.r) rfl rfl o.hD) mi_M_isSame q_719 q_720 q_721 31 rfl rfl ⟨by decide, by decide, hk.1, hk.2⟩ rfl rfl (Nat.le_of_ble_eq_true rfl) d_L_law_734 (kkm_1_i (k := (k.1 + 1, k.2 + 6)) rfl (fun r734 M_734 h => ?_))
  refine gw_istore (pc := 737) (lv' := [(6, .int r734), (5, .int r716), (0, .ref (b)), (1, .ref (τ.2.2 30)), (2, .ref (τ.2.2 81)), (3, .ref (τ.2.2 90)), (4, .int x4)]) o d_L_law_737 (by decide) rfl ?_
  refine gw_aload_n (pc := 739) o d_L_law_739 rfl 4 rfl ?_
  refine gw_callV (pc := 740) (b := τ.2.2 81) (As := []) (st := []) o (CT.l2 (CT.l1 (ct_M_thrown o.hD.r.l h) o.hD.r) rfl rfl o.hD) mi_M_thrown q_611 q_612 q_613 31 rfl rfl ⟨by decide, by decide, hk.1, hk.2⟩ rfl rfl (Nat.le_of_ble_eq_true rfl) d_L_law_740 (kkm_p_i (k := (k.1 + 1, k.2 + 6)) rfl (fun r740 h => ?_))
  refine gw_iload (pc := 743) o d_L_law_743 1 rfl ?_
  refine gw_icmp_eq (pc := 745) (tgt := 750) o d_L_law_745 (by decide) (fun hc => ?_) (fun hc => ?_)
  · have h := h.1 hc
    refine gw_iload (pc := 750) o d_L_law_750 1 rfl ?_
    refine gw_if_ne (pc := 752) (tgt := 774) o d_L_law_752 (by decide) (fun hc => ?_) (fun hc => ?_)
    · have h := h.2 hc
      refine gw_goto (pc := 774) (tgt := 858) o d_L_law_774 (by decide) ?_
      exact gw_sub (lv' := [(0, .ref (b)), (1, .ref (τ.2.2 30)), (2, .ref (τ.2.2 81)), (3, .ref (τ.2.2 90)), (4, .int x4)]) [2, 3, 4, 5, 6] rfl (wk_law_b858 c hk hk23 h)
    · have h := h.1 hc
      refine gw_aload_n (pc := 755) o d_L_law_755 rfl 5 rfl ?_
      refine gw_iconst (pc := 756) (v := (0 : Int32)) o d_L_law_756 (by decide) ?_
      refine gw_lald (pc := 757) o 46 rfl (by unfold vp_in; decide) d_L_law_757 ?_
      refine gw_iload (pc := 758) o d_L_law_758 0 rfl ?_
      refine gw_if_eq (pc := 760) (tgt := 767) o d_L_law_760 (by decide) (fun hc => ?_) (fun hc => ?_)
      · have h := h.1 hc
        refine gw_lconst (pc := 767) (v := (0 : Int64)) o d_L_law_767 (by decide) ?_
        exact gw_sub (lv' := [(0, .ref (b)), (1, .ref (τ.2.2 30)), (2, .ref (τ.2.2 81)), (3, .ref (τ.2.2 90)), (4, .int x4)]) [2, 3, 4, 5, 6] rfl (wk_law_b768 c hk hk23 h)
      · have h := h.2 hc
        refine gw_lconst (pc := 763) (v := (1 : Int64)) o d_L_law_763 (by decide) ?_
        refine gw_goto (pc := 764) (tgt := 768) o d_L_law_764 (by decide) ?_
        exact gw_sub (lv' := [(0, .ref (b)), (1, .ref (τ.2.2 30)), (2, .ref (τ.2.2 81)), (3, .ref (τ.2.2 90)), (4, .int x4)]) [2, 3, 4, 5, 6] rfl (wk_law_b768 c hk hk23 h)
  · have h := h.2 hc
    refine gw_iconst (pc := 748) (v := (0 : Int32)) o d_L_law_748 (by decide) ?_
    exact gwl_ret (pc := 749) c (hZ _ h) hk d_L_law_749
def law_b777 (xs : Nat → Int32) (LL : Nat) (Z : Int32 → Prop) (k23 : Int32 → xF → xF → xF → (Nat → Int64) → (Nat → Int64) → Prop) (E : xF) (N : xF) (M : xF) (J : (Nat → Int64)) (O : (Nat → Int64)) (x4 : Int32) : Prop := vp_in (x4 + (1 : Int32)) LL ∧ (w_L_group E N O (xs (x4 + (1 : Int32)).toNatClampNeg) (fun r785 E_785 N_785 O_785 => vp_in (x4 + (1 : Int32)) LL ∧ (w_M_group M J (xs (x4 + (1 : Int32)).toNatClampNeg) (fun r797 M_797 => w_M_thrown M_797 J (fun r803 => ((r803 = r785) → (((r785 = 0) → ((((O_785 (0 : Int32).toNatClampNeg) = (r797.toInt64)) → (law_b858 xs LL Z k23 E_785 N_785 M_797 J O_785 x4)) ∧ (¬ ((O_785 (0 : Int32).toNatClampNeg) = (r797.toInt64)) → (Z (0 : Int32))))) ∧ (¬ (r785 = 0) → (law_b858 xs LL Z k23 E_785 N_785 M_797 J O_785 x4)))) ∧ (¬ (r803 = r785) → (Z (0 : Int32))))))))
set_option maxRecDepth 10000 in
theorem wk_law_b777 {κ : Cx} {τ : xT} {b LL : Nat} {xs : Nat → Int32} {Z : Int32 → Prop} {k : Nat × Nat} {k23 : Int32 → xF → xF → xF → (Nat → Int64) → (Nat → Int64) → Prop} {E : xF} {N : xF} {M : xF} {J : (Nat → Int64)} {O : (Nat → Int64)} {x4 : Int32} (c : OKL κ τ b LL xs Z) (hk : k.1 + 1 ≤ 163966 ∧ k.2 + 6 ≤ 8604208) (hk23 : ∀ (x4' : Int32) (E' N' M' : xF) (J' O' : Nat → Int64), x4' = x4 + (4 : Int32) → k23 x4' E' N' M' J' O' → GW κ (wdL τ) 7 (k.1 + 1, k.2 + 6) (lw_Z (kB κ) #[Value.ref b] (kS κ)) ((E', N'), ((M', J'), O')) 23 [(0, .ref (b)), (1, .ref (τ.2.2 30)), (2, .ref (τ.2.2 81)), (3, .ref (τ.2.2 90)), (4, .int x4')] []) (h : law_b777 xs LL Z k23 E N M J O x4) : GW κ (wdL τ) 7 k (lw_Z (kB κ) #[Value.ref b] (kS κ)) ((E, N), ((M, J), O)) 777 [(0, .ref (b)), (1, .ref (τ.2.2 30)), (2, .ref (τ.2.2 81)), (3, .ref (τ.2.2 90)), (4, .int x4)] [] := by
  unfold law_b777 at h
  have o := c.1
  have hZ := c.2.2.2.2.2.2.2.2.1
  refine gw_aload_n (pc := 777) o d_L_law_777 rfl 1 rfl ?_
  refine gw_aload_n (pc := 778) o d_L_law_778 rfl 0 rfl ?_
  refine gw_iload (pc := 779) o d_L_law_779 4 rfl ?_
  refine gw_iconst (pc := 781) (v := (1 : Int32)) o d_L_law_781 (by decide) ?_
  refine gw_iadd (pc := 782) o d_L_law_782 ?_
  have hi := h.1
  have h := h.2
  refine gw_sld (pc := 783) o c.2.2.1 c.2.2.2.1 c.2.2.2.2.1 hi d_L_law_783 ?_
  refine gw_aload_n (pc := 784) o d_L_law_784 rfl 3 rfl ?_
  refine gw_callSW (pc := 785) (As := [.ref (τ.2.2 30), .int (xs (x4 + (1 : Int32)).toNatClampNeg), .ref (τ.2.2 90)]) (st := []) o c.2.2.2.2.2.1 c.2.2.2.2.2.2.1 (ct_L_group o.hD c.2.2.2.2.2.2.2.1 h) mi_L_group q_532 q_533 ⟨by decide, by decide, hk.1, hk.2⟩ rfl rfl (Nat.le_of_ble_eq_true rfl) d_L_law_785 (kkw_i (k := (k.1 + 1, k.2 + 6)) rfl (fun r785 E_785 N_785 O_785 h => ?_))
  refine gw_istore (pc := 788) (lv' := [(5, .int r785), (0, .ref (b)), (1, .ref (τ.2.2 30)), (2, .ref (τ.2.2 81)), (3, .ref (τ.2.2 90)), (4, .int x4)]) o d_L_law_788 (by decide) rfl ?_
  refine gw_aload_n (pc := 790) o d_L_law_790 rfl 3 rfl ?_
  refine gw_aload_n (pc := 791) o d_L_law_791 rfl 1 rfl ?_
  refine gw_iload (pc := 792) o d_L_law_792 5 rfl ?_
  refine gw_iconst (pc := 794) (v := (1 : Int32)) o d_L_law_794 (by decide) ?_
  refine gw_iadd (pc := 795) o d_L_law_795 ?_
  have hi := h.1
  have h := h.2
  refine gw_sld (pc := 796) o c.2.2.1 c.2.2.2.1 c.2.2.2.2.1 hi d_L_law_796 ?_
  refine gw_callV (pc := 797) (b := τ.2.2 81) (As := [.int (xs (x4 + (1 : Int32)).toNatClampNeg)]) (st := []) o (CT.l2 (CT.l1 (ct_M_group o.hD.r.l h) o.hD.r) rfl rfl o.hD) mi_M_group q_723 q_724 q_725 31 rfl rfl ⟨by decide, by decide, hk.1, hk.2⟩ rfl rfl (Nat.le_of_ble_eq_true rfl) d_L_law_797 (kkm_1_i (k := (k.1 + 1, k.2 + 6)) rfl (fun r797 M_797 h => ?_))
  refine gw_istore (pc := 800) (lv' := [(6, .int r797), (5, .int r785), (0, .ref (b)), (1, .ref (τ.2.2 30)), (2, .ref (τ.2.2 81)), (3, .ref (τ.2.2 90)), (4, .int x4)]) o d_L_law_800 (by decide) rfl ?_
  refine gw_aload_n (pc := 802) o d_L_law_802 rfl 4 rfl ?_
  refine gw_callV (pc := 803) (b := τ.2.2 81) (As := []) (st := []) o (CT.l2 (CT.l1 (ct_M_thrown o.hD.r.l h) o.hD.r) rfl rfl o.hD) mi_M_thrown q_611 q_612 q_613 31 rfl rfl ⟨by decide, by decide, hk.1, hk.2⟩ rfl rfl (Nat.le_of_ble_eq_true rfl) d_L_law_803 (kkm_p_i (k := (k.1 + 1, k.2 + 6)) rfl (fun r803 h => ?_))
  refine gw_iload (pc := 806) o d_L_law_806 1 rfl ?_
  refine gw_icmp_eq (pc := 808) (tgt := 813) o d_L_law_808 (by decide) (fun hc => ?_) (fun hc => ?_)
  · have h := h.1 hc
    refine gw_iload (pc := 813) o d_L_law_813 1 rfl ?_
    refine gw_if_ne (pc := 815) (tgt := 830) o d_L_law_815 (by decide) (fun hc => ?_) (fun hc => ?_)
    · have h := h.2 hc
      refine gw_goto (pc := 830) (tgt := 858) o d_L_law_830 (by decide) ?_
      exact gw_sub (lv' := [(0, .ref (b)), (1, .ref (τ.2.2 30)), (2, .ref (τ.2.2 81)), (3, .ref (τ.2.2 90)), (4, .int x4)]) [2, 3, 4, 5, 6] rfl (wk_law_b858 c hk hk23 h)
    · have h := h.1 hc
      refine gw_aload_n (pc := 818) o d_L_law_818 rfl 5 rfl ?_
      refine gw_iconst (pc := 819) (v := (0 : Int32)) o d_L_law_819 (by decide) ?_
      refine gw_lald (pc := 820) o 46 rfl (by unfold vp_in; decide) d_L_law_820 ?_
      refine gw_iload (pc := 821) o d_L_law_821 0 rfl ?_
      refine gw_i2l (pc := 823) o d_L_law_823 ?_
      refine gw_lcmp (pc := 824) o d_L_law_824 ?_
      refine gw_if_eq (pc := 825) (tgt := 830) o d_L_law_825 (by decide) (fun hc => ?_) (fun hc => ?_)
      · have h := h.1 (xcmp0.mp hc)
        refine gw_goto (pc := 830) (tgt := 858) o d_L_law_830 (by decide) ?_
        exact gw_sub (lv' := [(0, .ref (b)), (1, .ref (τ.2.2 30)), (2, .ref (τ.2.2 81)), (3, .ref (τ.2.2 90)), (4, .int x4)]) [2, 3, 4, 5, 6] rfl (wk_law_b858 c hk hk23 h)
      · have h := h.2 (fun e => hc (xcmp0.mpr e))
        refine gw_iconst (pc := 828) (v := (0 : Int32)) o d_L_law_828 (by decide) ?_
        exact gwl_ret (pc := 829) c (hZ _ h) hk d_L_law_829
  · have h := h.2 hc
    refine gw_iconst (pc := 811) (v := (0 : Int32)) o d_L_law_811 (by decide) ?_
    exact gwl_ret (pc := 812) c (hZ _ h) hk d_L_law_812
def law_b833 (xs : Nat → Int32) (LL : Nat) (Z : Int32 → Prop) (k23 : Int32 → xF → xF → xF → (Nat → Int64) → (Nat → Int64) → Prop) (E : xF) (N : xF) (M : xF) (J : (Nat → Int64)) (O : (Nat → Int64)) (x4 : Int32) : Prop := vp_in (x4 + (1 : Int32)) LL ∧ (w_X_count E N (xs (x4 + (1 : Int32)).toNatClampNeg) (fun r840 E_840 N_840 => vp_in (x4 + (1 : Int32)) LL ∧ (w_M_count M J (xs (x4 + (1 : Int32)).toNatClampNeg) (fun r850 M_850 => ((r840 = r850) → (law_b858 xs LL Z k23 E_840 N_840 M_850 J O x4)) ∧ (¬ (r840 = r850) → (Z (0 : Int32)))))))
set_option maxRecDepth 10000 in
theorem wk_law_b833 {κ : Cx} {τ : xT} {b LL : Nat} {xs : Nat → Int32} {Z : Int32 → Prop} {k : Nat × Nat} {k23 : Int32 → xF → xF → xF → (Nat → Int64) → (Nat → Int64) → Prop} {E : xF} {N : xF} {M : xF} {J : (Nat → Int64)} {O : (Nat → Int64)} {x4 : Int32} (c : OKL κ τ b LL xs Z) (hk : k.1 + 1 ≤ 163966 ∧ k.2 + 6 ≤ 8604208) (hk23 : ∀ (x4' : Int32) (E' N' M' : xF) (J' O' : Nat → Int64), x4' = x4 + (4 : Int32) → k23 x4' E' N' M' J' O' → GW κ (wdL τ) 7 (k.1 + 1, k.2 + 6) (lw_Z (kB κ) #[Value.ref b] (kS κ)) ((E', N'), ((M', J'), O')) 23 [(0, .ref (b)), (1, .ref (τ.2.2 30)), (2, .ref (τ.2.2 81)), (3, .ref (τ.2.2 90)), (4, .int x4')] []) (h : law_b833 xs LL Z k23 E N M J O x4) : GW κ (wdL τ) 7 k (lw_Z (kB κ) #[Value.ref b] (kS κ)) ((E, N), ((M, J), O)) 833 [(0, .ref (b)), (1, .ref (τ.2.2 30)), (2, .ref (τ.2.2 81)), (3, .ref (τ.2.2 90)), (4, .int x4)] [] := by
  unfold law_b833 at h
  have o := c.1
  have hZ := c.2.2.2.2.2.2.2.2.1
  refine gw_aload_n (pc := 833) o d_L_law_833 rfl 1 rfl ?_
  refine gw_aload_n (pc := 834) o d_L_law_834 rfl 0 rfl ?_
  refine gw_iload (pc := 835) o d_L_law_835 4 rfl ?_
  refine gw_iconst (pc := 837) (v := (1 : Int32)) o d_L_law_837 (by decide) ?_
  refine gw_iadd (pc := 838) o d_L_law_838 ?_
  have hi := h.1
  have h := h.2
  refine gw_sld (pc := 839) o c.2.2.1 c.2.2.2.1 c.2.2.2.2.1 hi d_L_law_839 ?_
  refine gw_callV (pc := 840) (b := τ.2.2 30) (As := [.int (xs (x4 + (1 : Int32)).toNatClampNeg)]) (st := []) o (CT.l1 (ct_X_count o.hD.l h) o.hD) mi_X_count q_324 q_325 q_326 0 rfl rfl ⟨by decide, by decide, Nat.le_of_succ_le hk.1, Nat.le_trans (Nat.le_add_right _ 6) hk.2⟩ rfl rfl (Nat.le_of_ble_eq_true rfl) d_L_law_840 (kkl_12_i (k := k) rfl (fun r840 E_840 N_840 h => ?_))
  refine gw_aload_n (pc := 843) o d_L_law_843 rfl 2 rfl ?_
  refine gw_aload_n (pc := 844) o d_L_law_844 rfl 0 rfl ?_
  refine gw_iload (pc := 845) o d_L_law_845 4 rfl ?_
  refine gw_iconst (pc := 847) (v := (1 : Int32)) o d_L_law_847 (by decide) ?_
  refine gw_iadd (pc := 848) o d_L_law_848 ?_
  have hi := h.1
  have h := h.2
  refine gw_sld (pc := 849) o c.2.2.1 c.2.2.2.1 c.2.2.2.2.1 hi d_L_law_849 ?_
  refine gw_callV (pc := 850) (b := τ.2.2 81) (As := [.int (xs (x4 + (1 : Int32)).toNatClampNeg)]) (st := [.int r840]) o (CT.l2 (CT.l1 (ct_M_count o.hD.r.l h) o.hD.r) rfl rfl o.hD) mi_M_count q_731 q_732 q_733 31 rfl rfl ⟨by decide, by decide, Nat.le_of_succ_le hk.1, Nat.le_trans (Nat.le_add_right _ 6) hk.2⟩ rfl rfl (Nat.le_of_ble_eq_true rfl) d_L_law_850 (kkm_1_i (k := k) rfl (fun r850 M_850 h => ?_))
  refine gw_icmp_eq (pc := 853) (tgt := 858) o d_L_law_853 (by decide) (fun hc => ?_) (fun hc => ?_)
  · have h := h.1 hc
    exact gw_widen ⟨Nat.le_succ _, Nat.le_add_right _ _⟩ (gw_sub (lv' := [(0, .ref (b)), (1, .ref (τ.2.2 30)), (2, .ref (τ.2.2 81)), (3, .ref (τ.2.2 90)), (4, .int x4)]) [0, 1, 2, 3, 4] rfl (wk_law_b858 c hk hk23 h))
  · have h := h.2 hc
    refine gw_iconst (pc := 856) (v := (0 : Int32)) o d_L_law_856 (by decide) ?_
    exact gwl_ret (pc := 857) c (hZ _ h) ⟨Nat.le_of_succ_le hk.1, Nat.le_trans (Nat.le_add_right _ 6) hk.2⟩ d_L_law_857
def law_b864 (xs : Nat → Int32) (LL : Nat) (Z : Int32 → Prop) (E : xF) (N : xF) (M : xF) (J : (Nat → Int64)) (O : (Nat → Int64)) : Prop := Z (1 : Int32)
set_option maxRecDepth 10000 in
theorem wk_law_b864 {κ : Cx} {τ : xT} {b LL : Nat} {xs : Nat → Int32} {Z : Int32 → Prop} {k : Nat × Nat} {E : xF} {N : xF} {M : xF} {J : (Nat → Int64)} {O : (Nat → Int64)} (c : OKL κ τ b LL xs Z) (hk : k.1 ≤ 163966 ∧ k.2 ≤ 8604208) (h : law_b864 xs LL Z E N M J O) : GW κ (wdL τ) 7 k (lw_Z (kB κ) #[Value.ref b] (kS κ)) ((E, N), ((M, J), O)) 864 [] [] := by
  unfold law_b864 at h
  have o := c.1
  have hZ := c.2.2.2.2.2.2.2.2.1
  refine gw_iconst (pc := 864) (v := (1 : Int32)) o d_L_law_864 (by decide) ?_
  exact gwl_ret (pc := 865) c (hZ _ h) hk d_L_law_865
def law_b23 (xs : Nat → Int32) (LL : Nat) (Z : Int32 → Prop) (k23 : Int32 → xF → xF → xF → (Nat → Int64) → (Nat → Int64) → Prop) (E : xF) (N : xF) (M : xF) (J : (Nat → Int64)) (O : (Nat → Int64)) (x4 : Int32) : Prop := ((((Int32.ofNat LL) - (4 : Int32)) < x4) → (law_b864 xs LL Z E N M J O)) ∧ (¬ (((Int32.ofNat LL) - (4 : Int32)) < x4) → (vp_in x4 LL ∧ ((((xs x4.toNatClampNeg) &&& (15 : Int32)) = (0 : Int32) → (law_b108 xs LL Z k23 E N M J O x4)) ∧ (¬ ((xs x4.toNatClampNeg) &&& (15 : Int32)) = (0 : Int32) → ((((xs x4.toNatClampNeg) &&& (15 : Int32)) = (1 : Int32) → (law_b164 xs LL Z k23 E N M J O x4)) ∧ (¬ ((xs x4.toNatClampNeg) &&& (15 : Int32)) = (1 : Int32) → ((((xs x4.toNatClampNeg) &&& (15 : Int32)) = (2 : Int32) → (law_b260 xs LL Z k23 E N M J O x4)) ∧ (¬ ((xs x4.toNatClampNeg) &&& (15 : Int32)) = (2 : Int32) → ((((xs x4.toNatClampNeg) &&& (15 : Int32)) = (3 : Int32) → (law_b316 xs LL Z k23 E N M J O x4)) ∧ (¬ ((xs x4.toNatClampNeg) &&& (15 : Int32)) = (3 : Int32) → ((((xs x4.toNatClampNeg) &&& (15 : Int32)) = (4 : Int32) → (law_b329 xs LL Z k23 E N M J O x4)) ∧ (¬ ((xs x4.toNatClampNeg) &&& (15 : Int32)) = (4 : Int32) → ((((xs x4.toNatClampNeg) &&& (15 : Int32)) = (5 : Int32) → (law_b342 xs LL Z k23 E N M J O x4)) ∧ (¬ ((xs x4.toNatClampNeg) &&& (15 : Int32)) = (5 : Int32) → ((((xs x4.toNatClampNeg) &&& (15 : Int32)) = (6 : Int32) → (law_b398 xs LL Z k23 E N M J O x4)) ∧ (¬ ((xs x4.toNatClampNeg) &&& (15 : Int32)) = (6 : Int32) → ((((xs x4.toNatClampNeg) &&& (15 : Int32)) = (7 : Int32) → (law_b466 xs LL Z k23 E N M J O x4)) ∧ (¬ ((xs x4.toNatClampNeg) &&& (15 : Int32)) = (7 : Int32) → ((((xs x4.toNatClampNeg) &&& (15 : Int32)) = (8 : Int32) → (law_b522 xs LL Z k23 E N M J O x4)) ∧ (¬ ((xs x4.toNatClampNeg) &&& (15 : Int32)) = (8 : Int32) → ((((xs x4.toNatClampNeg) &&& (15 : Int32)) = (9 : Int32) → (law_b590 xs LL Z k23 E N M J O x4)) ∧ (¬ ((xs x4.toNatClampNeg) &&& (15 : Int32)) = (9 : Int32) → ((((xs x4.toNatClampNeg) &&& (15 : Int32)) = (10 : Int32) → (law_b646 xs LL Z k23 E N M J O x4)) ∧ (¬ ((xs x4.toNatClampNeg) &&& (15 : Int32)) = (10 : Int32) → ((((xs x4.toNatClampNeg) &&& (15 : Int32)) = (11 : Int32) → (law_b702 xs LL Z k23 E N M J O x4)) ∧ (¬ ((xs x4.toNatClampNeg) &&& (15 : Int32)) = (11 : Int32) → ((((xs x4.toNatClampNeg) &&& (15 : Int32)) = (12 : Int32) → (law_b777 xs LL Z k23 E N M J O x4)) ∧ (¬ ((xs x4.toNatClampNeg) &&& (15 : Int32)) = (12 : Int32) → ((((xs x4.toNatClampNeg) &&& (15 : Int32)) = (13 : Int32) → (law_b833 xs LL Z k23 E N M J O x4)) ∧ (¬ ((xs x4.toNatClampNeg) &&& (15 : Int32)) = (13 : Int32) → (law_b858 xs LL Z k23 E N M J O x4)))))))))))))))))))))))))))))))
set_option maxRecDepth 10000 in
theorem wk_law_b23 {κ : Cx} {τ : xT} {b LL : Nat} {xs : Nat → Int32} {Z : Int32 → Prop} {k : Nat × Nat} {k23 : Int32 → xF → xF → xF → (Nat → Int64) → (Nat → Int64) → Prop} {E : xF} {N : xF} {M : xF} {J : (Nat → Int64)} {O : (Nat → Int64)} {x4 : Int32} (c : OKL κ τ b LL xs Z) (hkb : xBd k x4) (hk23 : ∀ (x4' : Int32) (E' N' M' : xF) (J' O' : Nat → Int64), k23 x4' E' N' M' J' O' → ∀ k' : Nat × Nat, xBd k' x4' → GW κ (wdL τ) 7 k' (lw_Z (kB κ) #[Value.ref b] (kS κ)) ((E', N'), ((M', J'), O')) 23 [(0, .ref (b)), (1, .ref (τ.2.2 30)), (2, .ref (τ.2.2 81)), (3, .ref (τ.2.2 90)), (4, .int x4')] []) (h : law_b23 xs LL Z k23 E N M J O x4) : GW κ (wdL τ) 7 k (lw_Z (kB κ) #[Value.ref b] (kS κ)) ((E, N), ((M, J), O)) 23 [(0, .ref (b)), (1, .ref (τ.2.2 30)), (2, .ref (τ.2.2 81)), (3, .ref (τ.2.2 90)), (4, .int x4)] [] := by
  unfold law_b23 at h
  have o := c.1
  have hZ := c.2.2.2.2.2.2.2.2.1
  refine gw_iload (pc := 23) o d_L_law_23 4 rfl ?_
  refine gw_aload_n (pc := 25) o d_L_law_25 rfl 0 rfl ?_
  refine gw_slen (pc := 26) o c.2.2.1 c.2.2.2.1 c.2.2.2.2.1 d_L_law_26 ?_
  refine gw_iconst (pc := 27) (v := (4 : Int32)) o d_L_law_27 (by decide) ?_
  refine gw_isub (pc := 28) o d_L_law_28 ?_
  refine gw_icmp_gt (pc := 29) (tgt := 864) o d_L_law_29 (by decide) (fun hc => ?_) (fun hc => ?_)
  · have h := h.1 hc
    exact gw_sub (lv' := []) [] rfl (wk_law_b864 c (xbd0 hkb) h)
  · have h := h.2 hc
    refine gw_aload_n (pc := 32) o d_L_law_32 rfl 0 rfl ?_
    refine gw_iload (pc := 33) o d_L_law_33 4 rfl ?_
    have hi := h.1
    have h := h.2
    have hk := xlk hi c.2.1 hkb
    refine gw_sld (pc := 35) o c.2.2.1 c.2.2.2.1 c.2.2.2.2.1 hi d_L_law_35 ?_
    refine gw_bipush (pc := 36) (v := (15 : Int32)) o d_L_law_36 (by decide) ?_
    refine gw_iand (pc := 38) o d_L_law_38 ?_
    rcases Classical.em (((xs x4.toNatClampNeg) &&& (15 : Int32)) = (0 : Int32)) with hc0 | hc0
    · have h := h.1 hc0
      refine gw_tableIn (pc := 39) (tgt := 108) (off := 69) o d_L_law_39 (by rw [hc0]; decide) (by rw [hc0]; decide) (by rw [hc0]; rfl) (by decide) ?_
      exact gw_sub (lv' := [(0, .ref (b)), (1, .ref (τ.2.2 30)), (2, .ref (τ.2.2 81)), (3, .ref (τ.2.2 90)), (4, .int x4)]) [0, 1, 2, 3, 4] rfl (wk_law_b108 c hk (fun x4' E' N' M' J' O' e hkk => hk23 _ _ _ _ _ _ hkk _ (xlk2 hi c.2.1 hkb e)) h)
    · have h := h.2 hc0
      rcases Classical.em (((xs x4.toNatClampNeg) &&& (15 : Int32)) = (1 : Int32)) with hc1 | hc1
      · have h := h.1 hc1
        refine gw_tableIn (pc := 39) (tgt := 164) (off := 125) o d_L_law_39 (by rw [hc1]; decide) (by rw [hc1]; decide) (by rw [hc1]; rfl) (by decide) ?_
        exact gw_sub (lv' := [(0, .ref (b)), (1, .ref (τ.2.2 30)), (2, .ref (τ.2.2 81)), (3, .ref (τ.2.2 90)), (4, .int x4)]) [0, 1, 2, 3, 4] rfl (wk_law_b164 c hk (fun x4' E' N' M' J' O' e hkk => hk23 _ _ _ _ _ _ hkk _ (xlk2 hi c.2.1 hkb e)) h)
      · have h := h.2 hc1
        rcases Classical.em (((xs x4.toNatClampNeg) &&& (15 : Int32)) = (2 : Int32)) with hc2 | hc2
        · have h := h.1 hc2
          refine gw_tableIn (pc := 39) (tgt := 260) (off := 221) o d_L_law_39 (by rw [hc2]; decide) (by rw [hc2]; decide) (by rw [hc2]; rfl) (by decide) ?_
          exact gw_sub (lv' := [(0, .ref (b)), (1, .ref (τ.2.2 30)), (2, .ref (τ.2.2 81)), (3, .ref (τ.2.2 90)), (4, .int x4)]) [0, 1, 2, 3, 4] rfl (wk_law_b260 c hk (fun x4' E' N' M' J' O' e hkk => hk23 _ _ _ _ _ _ hkk _ (xlk2 hi c.2.1 hkb e)) h)
        · have h := h.2 hc2
          rcases Classical.em (((xs x4.toNatClampNeg) &&& (15 : Int32)) = (3 : Int32)) with hc3 | hc3
          · have h := h.1 hc3
            refine gw_tableIn (pc := 39) (tgt := 316) (off := 277) o d_L_law_39 (by rw [hc3]; decide) (by rw [hc3]; decide) (by rw [hc3]; rfl) (by decide) ?_
            exact gw_sub (lv' := [(0, .ref (b)), (1, .ref (τ.2.2 30)), (2, .ref (τ.2.2 81)), (3, .ref (τ.2.2 90)), (4, .int x4)]) [0, 1, 2, 3, 4] rfl (wk_law_b316 c hk (fun x4' E' N' M' J' O' e hkk => hk23 _ _ _ _ _ _ hkk _ (xlk2 hi c.2.1 hkb e)) h)
          · have h := h.2 hc3
            rcases Classical.em (((xs x4.toNatClampNeg) &&& (15 : Int32)) = (4 : Int32)) with hc4 | hc4
            · have h := h.1 hc4
              refine gw_tableIn (pc := 39) (tgt := 329) (off := 290) o d_L_law_39 (by rw [hc4]; decide) (by rw [hc4]; decide) (by rw [hc4]; rfl) (by decide) ?_
              exact gw_sub (lv' := [(0, .ref (b)), (1, .ref (τ.2.2 30)), (2, .ref (τ.2.2 81)), (3, .ref (τ.2.2 90)), (4, .int x4)]) [0, 1, 2, 3, 4] rfl (wk_law_b329 c hk (fun x4' E' N' M' J' O' e hkk => hk23 _ _ _ _ _ _ hkk _ (xlk2 hi c.2.1 hkb e)) h)
            · have h := h.2 hc4
              rcases Classical.em (((xs x4.toNatClampNeg) &&& (15 : Int32)) = (5 : Int32)) with hc5 | hc5
              · have h := h.1 hc5
                refine gw_tableIn (pc := 39) (tgt := 342) (off := 303) o d_L_law_39 (by rw [hc5]; decide) (by rw [hc5]; decide) (by rw [hc5]; rfl) (by decide) ?_
                exact gw_sub (lv' := [(0, .ref (b)), (1, .ref (τ.2.2 30)), (2, .ref (τ.2.2 81)), (3, .ref (τ.2.2 90)), (4, .int x4)]) [0, 1, 2, 3, 4] rfl (wk_law_b342 c hk (fun x4' E' N' M' J' O' e hkk => hk23 _ _ _ _ _ _ hkk _ (xlk2 hi c.2.1 hkb e)) h)
              · have h := h.2 hc5
                rcases Classical.em (((xs x4.toNatClampNeg) &&& (15 : Int32)) = (6 : Int32)) with hc6 | hc6
                · have h := h.1 hc6
                  refine gw_tableIn (pc := 39) (tgt := 398) (off := 359) o d_L_law_39 (by rw [hc6]; decide) (by rw [hc6]; decide) (by rw [hc6]; rfl) (by decide) ?_
                  exact gw_sub (lv' := [(0, .ref (b)), (1, .ref (τ.2.2 30)), (2, .ref (τ.2.2 81)), (3, .ref (τ.2.2 90)), (4, .int x4)]) [0, 1, 2, 3, 4] rfl (wk_law_b398 c hk (fun x4' E' N' M' J' O' e hkk => hk23 _ _ _ _ _ _ hkk _ (xlk2 hi c.2.1 hkb e)) h)
                · have h := h.2 hc6
                  rcases Classical.em (((xs x4.toNatClampNeg) &&& (15 : Int32)) = (7 : Int32)) with hc7 | hc7
                  · have h := h.1 hc7
                    refine gw_tableIn (pc := 39) (tgt := 466) (off := 427) o d_L_law_39 (by rw [hc7]; decide) (by rw [hc7]; decide) (by rw [hc7]; rfl) (by decide) ?_
                    exact gw_sub (lv' := [(0, .ref (b)), (1, .ref (τ.2.2 30)), (2, .ref (τ.2.2 81)), (3, .ref (τ.2.2 90)), (4, .int x4)]) [0, 1, 2, 3, 4] rfl (wk_law_b466 c hk (fun x4' E' N' M' J' O' e hkk => hk23 _ _ _ _ _ _ hkk _ (xlk2 hi c.2.1 hkb e)) h)
                  · have h := h.2 hc7
                    rcases Classical.em (((xs x4.toNatClampNeg) &&& (15 : Int32)) = (8 : Int32)) with hc8 | hc8
                    · have h := h.1 hc8
                      refine gw_tableIn (pc := 39) (tgt := 522) (off := 483) o d_L_law_39 (by rw [hc8]; decide) (by rw [hc8]; decide) (by rw [hc8]; rfl) (by decide) ?_
                      exact gw_sub (lv' := [(0, .ref (b)), (1, .ref (τ.2.2 30)), (2, .ref (τ.2.2 81)), (3, .ref (τ.2.2 90)), (4, .int x4)]) [0, 1, 2, 3, 4] rfl (wk_law_b522 c hk (fun x4' E' N' M' J' O' e hkk => hk23 _ _ _ _ _ _ hkk _ (xlk2 hi c.2.1 hkb e)) h)
                    · have h := h.2 hc8
                      rcases Classical.em (((xs x4.toNatClampNeg) &&& (15 : Int32)) = (9 : Int32)) with hc9 | hc9
                      · have h := h.1 hc9
                        refine gw_tableIn (pc := 39) (tgt := 590) (off := 551) o d_L_law_39 (by rw [hc9]; decide) (by rw [hc9]; decide) (by rw [hc9]; rfl) (by decide) ?_
                        exact gw_sub (lv' := [(0, .ref (b)), (1, .ref (τ.2.2 30)), (2, .ref (τ.2.2 81)), (3, .ref (τ.2.2 90)), (4, .int x4)]) [0, 1, 2, 3, 4] rfl (wk_law_b590 c hk (fun x4' E' N' M' J' O' e hkk => hk23 _ _ _ _ _ _ hkk _ (xlk2 hi c.2.1 hkb e)) h)
                      · have h := h.2 hc9
                        rcases Classical.em (((xs x4.toNatClampNeg) &&& (15 : Int32)) = (10 : Int32)) with hc10 | hc10
                        · have h := h.1 hc10
                          refine gw_tableIn (pc := 39) (tgt := 646) (off := 607) o d_L_law_39 (by rw [hc10]; decide) (by rw [hc10]; decide) (by rw [hc10]; rfl) (by decide) ?_
                          exact gw_sub (lv' := [(0, .ref (b)), (1, .ref (τ.2.2 30)), (2, .ref (τ.2.2 81)), (3, .ref (τ.2.2 90)), (4, .int x4)]) [0, 1, 2, 3, 4] rfl (wk_law_b646 c hk (fun x4' E' N' M' J' O' e hkk => hk23 _ _ _ _ _ _ hkk _ (xlk2 hi c.2.1 hkb e)) h)
                        · have h := h.2 hc10
                          rcases Classical.em (((xs x4.toNatClampNeg) &&& (15 : Int32)) = (11 : Int32)) with hc11 | hc11
                          · have h := h.1 hc11
                            refine gw_tableIn (pc := 39) (tgt := 702) (off := 663) o d_L_law_39 (by rw [hc11]; decide) (by rw [hc11]; decide) (by rw [hc11]; rfl) (by decide) ?_
                            exact gw_sub (lv' := [(0, .ref (b)), (1, .ref (τ.2.2 30)), (2, .ref (τ.2.2 81)), (3, .ref (τ.2.2 90)), (4, .int x4)]) [0, 1, 2, 3, 4] rfl (wk_law_b702 c hk (fun x4' E' N' M' J' O' e hkk => hk23 _ _ _ _ _ _ hkk _ (xlk2 hi c.2.1 hkb e)) h)
                          · have h := h.2 hc11
                            rcases Classical.em (((xs x4.toNatClampNeg) &&& (15 : Int32)) = (12 : Int32)) with hc12 | hc12
                            · have h := h.1 hc12
                              refine gw_tableIn (pc := 39) (tgt := 777) (off := 738) o d_L_law_39 (by rw [hc12]; decide) (by rw [hc12]; decide) (by rw [hc12]; rfl) (by decide) ?_
                              exact gw_sub (lv' := [(0, .ref (b)), (1, .ref (τ.2.2 30)), (2, .ref (τ.2.2 81)), (3, .ref (τ.2.2 90)), (4, .int x4)]) [0, 1, 2, 3, 4] rfl (wk_law_b777 c hk (fun x4' E' N' M' J' O' e hkk => hk23 _ _ _ _ _ _ hkk _ (xlk2 hi c.2.1 hkb e)) h)
                            · have h := h.2 hc12
                              rcases Classical.em (((xs x4.toNatClampNeg) &&& (15 : Int32)) = (13 : Int32)) with hc13 | hc13
                              · have h := h.1 hc13
                                refine gw_tableIn (pc := 39) (tgt := 833) (off := 794) o d_L_law_39 (by rw [hc13]; decide) (by rw [hc13]; decide) (by rw [hc13]; rfl) (by decide) ?_
                                exact gw_sub (lv' := [(0, .ref (b)), (1, .ref (τ.2.2 30)), (2, .ref (τ.2.2 81)), (3, .ref (τ.2.2 90)), (4, .int x4)]) [0, 1, 2, 3, 4] rfl (wk_law_b833 c hk (fun x4' E' N' M' J' O' e hkk => hk23 _ _ _ _ _ _ hkk _ (xlk2 hi c.2.1 hkb e)) h)
                              · have h := h.2 hc13
                                have ho : ((xs x4.toNatClampNeg) &&& (15 : Int32)).toInt < 0 ∨ 13 < ((xs x4.toNatClampNeg) &&& (15 : Int32)).toInt := by
                                  have hn0 : ¬ ((xs x4.toNatClampNeg) &&& (15 : Int32)).toInt = 0 := fun e => hc0 (Int32.toInt_inj.mp e)
                                  have hn1 : ¬ ((xs x4.toNatClampNeg) &&& (15 : Int32)).toInt = 1 := fun e => hc1 (Int32.toInt_inj.mp e)
                                  have hn2 : ¬ ((xs x4.toNatClampNeg) &&& (15 : Int32)).toInt = 2 := fun e => hc2 (Int32.toInt_inj.mp e)
                                  have hn3 : ¬ ((xs x4.toNatClampNeg) &&& (15 : Int32)).toInt = 3 := fun e => hc3 (Int32.toInt_inj.mp e)
                                  have hn4 : ¬ ((xs x4.toNatClampNeg) &&& (15 : Int32)).toInt = 4 := fun e => hc4 (Int32.toInt_inj.mp e)
                                  have hn5 : ¬ ((xs x4.toNatClampNeg) &&& (15 : Int32)).toInt = 5 := fun e => hc5 (Int32.toInt_inj.mp e)
                                  have hn6 : ¬ ((xs x4.toNatClampNeg) &&& (15 : Int32)).toInt = 6 := fun e => hc6 (Int32.toInt_inj.mp e)
                                  have hn7 : ¬ ((xs x4.toNatClampNeg) &&& (15 : Int32)).toInt = 7 := fun e => hc7 (Int32.toInt_inj.mp e)
                                  have hn8 : ¬ ((xs x4.toNatClampNeg) &&& (15 : Int32)).toInt = 8 := fun e => hc8 (Int32.toInt_inj.mp e)
                                  have hn9 : ¬ ((xs x4.toNatClampNeg) &&& (15 : Int32)).toInt = 9 := fun e => hc9 (Int32.toInt_inj.mp e)
                                  have hn10 : ¬ ((xs x4.toNatClampNeg) &&& (15 : Int32)).toInt = 10 := fun e => hc10 (Int32.toInt_inj.mp e)
                                  have hn11 : ¬ ((xs x4.toNatClampNeg) &&& (15 : Int32)).toInt = 11 := fun e => hc11 (Int32.toInt_inj.mp e)
                                  have hn12 : ¬ ((xs x4.toNatClampNeg) &&& (15 : Int32)).toInt = 12 := fun e => hc12 (Int32.toInt_inj.mp e)
                                  have hn13 : ¬ ((xs x4.toNatClampNeg) &&& (15 : Int32)).toInt = 13 := fun e => hc13 (Int32.toInt_inj.mp e)
                                  omega
                                refine gw_tableOut (pc := 39) (tgt := 858) o d_L_law_39 ho (by decide) ?_
                                exact gw_widen ⟨Nat.le_succ _, Nat.le_add_right _ _⟩ (gw_sub (lv' := [(0, .ref (b)), (1, .ref (τ.2.2 30)), (2, .ref (τ.2.2 81)), (3, .ref (τ.2.2 90)), (4, .int x4)]) [0, 1, 2, 3, 4] rfl (wk_law_b858 c hk (fun x4' E' N' M' J' O' e hkk => hk23 _ _ _ _ _ _ hkk _ (xlk2 hi c.2.1 hkb e)) h))
def law_L23 (xs : Nat → Int32) (LL : Nat) (Z : Int32 → Prop) (E : xF) (N : xF) (M : xF) (J : (Nat → Int64)) (O : (Nat → Int64)) (x4 : Int32) : Prop := LOOP6 (fun k23 x4 E N M J O => law_b23 xs LL Z k23 E N M J O x4) x4 E N M J O
theorem wk_law_L23 {κ : Cx} {τ : xT} {b LL : Nat} {xs : Nat → Int32} {Z : Int32 → Prop} {E : xF} {N : xF} {M : xF} {J : (Nat → Int64)} {O : (Nat → Int64)} {x4 : Int32} (c : OKL κ τ b LL xs Z) (h : law_L23 xs LL Z E N M J O x4) : ∀ k : Nat × Nat, xBd k x4 → GW κ (wdL τ) 7 k (lw_Z (kB κ) #[Value.ref b] (kS κ)) ((E, N), ((M, J), O)) 23 [(0, .ref (b)), (1, .ref (τ.2.2 30)), (2, .ref (τ.2.2 81)), (3, .ref (τ.2.2 90)), (4, .int x4)] [] := by
  unfold law_L23 at h
  exact LOOP6.use (G := fun x4 E N M J O => ∀ k : Nat × Nat, xBd k x4 → GW κ (wdL τ) 7 k (lw_Z (kB κ) #[Value.ref b] (kS κ)) ((E, N), ((M, J), O)) 23 [(0, .ref (b)), (1, .ref (τ.2.2 30)), (2, .ref (τ.2.2 81)), (3, .ref (τ.2.2 90)), (4, .int x4)] []) (fun k23 x4 E N M J O hk h k hkb => wk_law_b23 c hkb hk h) h
def law_b20 (xs : Nat → Int32) (LL : Nat) (Z : Int32 → Prop) (E : xF) (N : xF) (M : xF) (J : (Nat → Int64)) (O : (Nat → Int64)) : Prop := law_L23 xs LL Z E N M J O (0 : Int32)
set_option maxRecDepth 10000 in
theorem wk_law_b20 {κ : Cx} {τ : xT} {b LL : Nat} {xs : Nat → Int32} {Z : Int32 → Prop} {k : Nat × Nat} {E : xF} {N : xF} {M : xF} {J : (Nat → Int64)} {O : (Nat → Int64)} (c : OKL κ τ b LL xs Z) (hkb : xBd k 0) (h : law_b20 xs LL Z E N M J O) : GW κ (wdL τ) 7 k (lw_Z (kB κ) #[Value.ref b] (kS κ)) ((E, N), ((M, J), O)) 20 [(0, .ref (b)), (1, .ref (τ.2.2 30)), (2, .ref (τ.2.2 81)), (3, .ref (τ.2.2 90))] [] := by
  unfold law_b20 at h
  have o := c.1
  have hZ := c.2.2.2.2.2.2.2.2.1
  refine gw_iconst (pc := 20) (v := (0 : Int32)) o d_L_law_20 (by decide) ?_
  refine gw_istore (pc := 21) (lv' := [(4, .int (0 : Int32)), (0, .ref (b)), (1, .ref (τ.2.2 30)), (2, .ref (τ.2.2 81)), (3, .ref (τ.2.2 90))]) o d_L_law_21 (by decide) rfl ?_
  exact gw_sub (lv' := [(0, .ref (b)), (1, .ref (τ.2.2 30)), (2, .ref (τ.2.2 81)), (3, .ref (τ.2.2 90)), (4, .int (0 : Int32))]) [1, 2, 3, 4, 0] rfl (wk_law_L23 c h _ hkb)
