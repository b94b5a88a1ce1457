section
-- ===== PART A: goes FIRST, ahead of the names: the tables' words, and 'selects' of the private methods out of them =====
/-- a private method of a class that the tables say can be made, by its rows of tables_1 -/
def lw_okq (q : MethodName × Nat) : Prop := (q.1.cls ≠ "java/lang/invoke/MethodHandle" ∧ q.1.cls ≠ "java/lang/invoke/VarHandle") ∧ Cond.instantiable q.1.cls q.2 ∈ tables_1 ∧ Cond.privateMethod q.1 ∈ tables_1 ∧ Cond.instanceMethod q.1 ∈ tables_1
theorem lw_p0 : lw_okq (⟨"StateExplorer$Nodes", "forget", "()V"⟩, 14) := ⟨⟨by decide +kernel, by decide +kernel⟩, List.mem_of_getElem? (i := 20) (by decide +kernel), List.mem_of_getElem? (i := 29) (by decide +kernel), List.mem_of_getElem? (i := 30) (by decide +kernel)⟩
theorem lw_p1 : lw_okq (⟨"StateExplorer", "spread", "()V"⟩, 30) := ⟨⟨by decide +kernel, by decide +kernel⟩, List.mem_of_getElem? (i := 12) (by decide +kernel), List.mem_of_getElem? (i := 180) (by decide +kernel), List.mem_of_getElem? (i := 181) (by decide +kernel)⟩
theorem lw_p2 : lw_okq (⟨"StateExplorer", "variable", "(I)I"⟩, 30) := ⟨⟨by decide +kernel, by decide +kernel⟩, List.mem_of_getElem? (i := 12) (by decide +kernel), List.mem_of_getElem? (i := 190) (by decide +kernel), List.mem_of_getElem? (i := 191) (by decide +kernel)⟩
theorem lw_p3 : lw_okq (⟨"StateExplorer", "begin", "()V"⟩, 30) := ⟨⟨by decide +kernel, by decide +kernel⟩, List.mem_of_getElem? (i := 12) (by decide +kernel), List.mem_of_getElem? (i := 194) (by decide +kernel), List.mem_of_getElem? (i := 195) (by decide +kernel)⟩
theorem lw_p4 : lw_okq (⟨"StateExplorer", "keep", "([II)V"⟩, 30) := ⟨⟨by decide +kernel, by decide +kernel⟩, List.mem_of_getElem? (i := 12) (by decide +kernel), List.mem_of_getElem? (i := 203) (by decide +kernel), List.mem_of_getElem? (i := 204) (by decide +kernel)⟩
theorem lw_p5 : lw_okq (⟨"StateExplorer$Nodes", "chain", "(III)I"⟩, 14) := ⟨⟨by decide +kernel, by decide +kernel⟩, List.mem_of_getElem? (i := 20) (by decide +kernel), List.mem_of_getElem? (i := 215) (by decide +kernel), List.mem_of_getElem? (i := 216) (by decide +kernel)⟩
theorem lw_p6 : lw_okq (⟨"StateExplorer$Nodes", "take", "()I"⟩, 14) := ⟨⟨by decide +kernel, by decide +kernel⟩, List.mem_of_getElem? (i := 20) (by decide +kernel), List.mem_of_getElem? (i := 233) (by decide +kernel), List.mem_of_getElem? (i := 234) (by decide +kernel)⟩
theorem lw_p7 : lw_okq (⟨"StateExplorer", "not", "(I)I"⟩, 30) := ⟨⟨by decide +kernel, by decide +kernel⟩, List.mem_of_getElem? (i := 12) (by decide +kernel), List.mem_of_getElem? (i := 237) (by decide +kernel), List.mem_of_getElem? (i := 238) (by decide +kernel)⟩
theorem lw_p8 : lw_okq (⟨"StateExplorer$Nodes", "place", "(IIII)I"⟩, 14) := ⟨⟨by decide +kernel, by decide +kernel⟩, List.mem_of_getElem? (i := 20) (by decide +kernel), List.mem_of_getElem? (i := 248) (by decide +kernel), List.mem_of_getElem? (i := 249) (by decide +kernel)⟩
theorem lw_p9 : lw_okq (⟨"StateExplorer", "spread", "(I)Z"⟩, 30) := ⟨⟨by decide +kernel, by decide +kernel⟩, List.mem_of_getElem? (i := 12) (by decide +kernel), List.mem_of_getElem? (i := 270) (by decide +kernel), List.mem_of_getElem? (i := 271) (by decide +kernel)⟩
theorem lw_p10 : lw_okq (⟨"StateExplorer", "and", "(II)I"⟩, 30) := ⟨⟨by decide +kernel, by decide +kernel⟩, List.mem_of_getElem? (i := 12) (by decide +kernel), List.mem_of_getElem? (i := 274) (by decide +kernel), List.mem_of_getElem? (i := 275) (by decide +kernel)⟩
theorem lw_p11 : lw_okq (⟨"StateExplorer", "or", "(II)I"⟩, 30) := ⟨⟨by decide +kernel, by decide +kernel⟩, List.mem_of_getElem? (i := 12) (by decide +kernel), List.mem_of_getElem? (i := 278) (by decide +kernel), List.mem_of_getElem? (i := 279) (by decide +kernel)⟩
theorem lw_p12 : lw_okq (⟨"StateExplorer", "latch", "()V"⟩, 30) := ⟨⟨by decide +kernel, by decide +kernel⟩, List.mem_of_getElem? (i := 12) (by decide +kernel), List.mem_of_getElem? (i := 282) (by decide +kernel), List.mem_of_getElem? (i := 283) (by decide +kernel)⟩
theorem lw_p13 : lw_okq (⟨"StateExplorer", "only", "(I)I"⟩, 30) := ⟨⟨by decide +kernel, by decide +kernel⟩, List.mem_of_getElem? (i := 12) (by decide +kernel), List.mem_of_getElem? (i := 287) (by decide +kernel), List.mem_of_getElem? (i := 288) (by decide +kernel)⟩
theorem lw_p14 : lw_okq (⟨"StateExplorer", "after", "(II)I"⟩, 30) := ⟨⟨by decide +kernel, by decide +kernel⟩, List.mem_of_getElem? (i := 12) (by decide +kernel), List.mem_of_getElem? (i := 294) (by decide +kernel), List.mem_of_getElem? (i := 295) (by decide +kernel)⟩
theorem lw_p15 : lw_okq (⟨"StateExplorer", "gather", "()V"⟩, 30) := ⟨⟨by decide +kernel, by decide +kernel⟩, List.mem_of_getElem? (i := 12) (by decide +kernel), List.mem_of_getElem? (i := 298) (by decide +kernel), List.mem_of_getElem? (i := 299) (by decide +kernel)⟩
def lw_privs_1 : List (MethodName × Nat) := [(⟨"StateExplorer$Nodes", "forget", "()V"⟩, 14), (⟨"StateExplorer", "spread", "()V"⟩, 30), (⟨"StateExplorer", "variable", "(I)I"⟩, 30), (⟨"StateExplorer", "begin", "()V"⟩, 30), (⟨"StateExplorer", "keep", "([II)V"⟩, 30), (⟨"StateExplorer$Nodes", "chain", "(III)I"⟩, 14), (⟨"StateExplorer$Nodes", "take", "()I"⟩, 14), (⟨"StateExplorer", "not", "(I)I"⟩, 30), (⟨"StateExplorer$Nodes", "place", "(IIII)I"⟩, 14), (⟨"StateExplorer", "spread", "(I)Z"⟩, 30), (⟨"StateExplorer", "and", "(II)I"⟩, 30), (⟨"StateExplorer", "or", "(II)I"⟩, 30), (⟨"StateExplorer", "latch", "()V"⟩, 30), (⟨"StateExplorer", "only", "(I)I"⟩, 30), (⟨"StateExplorer", "after", "(II)I"⟩, 30), (⟨"StateExplorer", "gather", "()V"⟩, 30)]
theorem lw_r1 : ∀ q ∈ lw_privs_1, lw_okq q := List.forall_mem_cons.mpr ⟨lw_p0, List.forall_mem_cons.mpr ⟨lw_p1, List.forall_mem_cons.mpr ⟨lw_p2, List.forall_mem_cons.mpr ⟨lw_p3, List.forall_mem_cons.mpr ⟨lw_p4, List.forall_mem_cons.mpr ⟨lw_p5, List.forall_mem_cons.mpr ⟨lw_p6, List.forall_mem_cons.mpr ⟨lw_p7, List.forall_mem_cons.mpr ⟨lw_p8, List.forall_mem_cons.mpr ⟨lw_p9, List.forall_mem_cons.mpr ⟨lw_p10, List.forall_mem_cons.mpr ⟨lw_p11, List.forall_mem_cons.mpr ⟨lw_p12, List.forall_mem_cons.mpr ⟨lw_p13, List.forall_mem_cons.mpr ⟨lw_p14, List.forall_mem_cons.mpr ⟨lw_p15, fun _ h => absurd h List.not_mem_nil⟩⟩⟩⟩⟩⟩⟩⟩⟩⟩⟩⟩⟩⟩⟩⟩
theorem lw_p16 : lw_okq (⟨"StateExplorer", "at", "(III)Z"⟩, 30) := ⟨⟨by decide +kernel, by decide +kernel⟩, List.mem_of_getElem? (i := 12) (by decide +kernel), List.mem_of_getElem? (i := 302) (by decide +kernel), List.mem_of_getElem? (i := 303) (by decide +kernel)⟩
theorem lw_p17 : lw_okq (⟨"StateExplorer", "alike", "(II)Z"⟩, 30) := ⟨⟨by decide +kernel, by decide +kernel⟩, List.mem_of_getElem? (i := 12) (by decide +kernel), List.mem_of_getElem? (i := 306) (by decide +kernel), List.mem_of_getElem? (i := 307) (by decide +kernel)⟩
theorem lw_p18 : lw_okq (⟨"StateExplorer", "seen", "(II)I"⟩, 30) := ⟨⟨by decide +kernel, by decide +kernel⟩, List.mem_of_getElem? (i := 12) (by decide +kernel), List.mem_of_getElem? (i := 310) (by decide +kernel), List.mem_of_getElem? (i := 311) (by decide +kernel)⟩
theorem lw_p19 : lw_okq (⟨"StateExplorer", "nextOf", "(II)I"⟩, 30) := ⟨⟨by decide +kernel, by decide +kernel⟩, List.mem_of_getElem? (i := 12) (by decide +kernel), List.mem_of_getElem? (i := 314) (by decide +kernel), List.mem_of_getElem? (i := 315) (by decide +kernel)⟩
theorem lw_p20 : lw_okq (⟨"StateExplorer", "states", "(I)I"⟩, 30) := ⟨⟨by decide +kernel, by decide +kernel⟩, List.mem_of_getElem? (i := 12) (by decide +kernel), List.mem_of_getElem? (i := 318) (by decide +kernel), List.mem_of_getElem? (i := 319) (by decide +kernel)⟩
theorem lw_p21 : lw_okq (⟨"StateExplorer", "sure", "()I"⟩, 30) := ⟨⟨by decide +kernel, by decide +kernel⟩, List.mem_of_getElem? (i := 12) (by decide +kernel), List.mem_of_getElem? (i := 329) (by decide +kernel), List.mem_of_getElem? (i := 330) (by decide +kernel)⟩
theorem lw_p22 : lw_okq (⟨"java/lang/Throwable", "fillInStackTrace", "(I)Ljava/lang/Throwable;"⟩, 6) := ⟨⟨by decide +kernel, by decide +kernel⟩, List.mem_of_getElem? (i := 379) (by decide +kernel), List.mem_of_getElem? (i := 377) (by decide +kernel), List.mem_of_getElem? (i := 378) (by decide +kernel)⟩
theorem lw_p23 : lw_okq (⟨"StateExplorer", "there", "(I)I"⟩, 30) := ⟨⟨by decide +kernel, by decide +kernel⟩, List.mem_of_getElem? (i := 12) (by decide +kernel), List.mem_of_getElem? (i := 413) (by decide +kernel), List.mem_of_getElem? (i := 414) (by decide +kernel)⟩
theorem lw_p24 : lw_okq (⟨"StateExplorer", "feedsOf", "(I)I"⟩, 30) := ⟨⟨by decide +kernel, by decide +kernel⟩, List.mem_of_getElem? (i := 12) (by decide +kernel), List.mem_of_getElem? (i := 435) (by decide +kernel), List.mem_of_getElem? (i := 436) (by decide +kernel)⟩
theorem lw_p25 : lw_okq (⟨"StateExplorer", "needsState", "(I)V"⟩, 30) := ⟨⟨by decide +kernel, by decide +kernel⟩, List.mem_of_getElem? (i := 12) (by decide +kernel), List.mem_of_getElem? (i := 468) (by decide +kernel), List.mem_of_getElem? (i := 469) (by decide +kernel)⟩
theorem lw_p26 : lw_okq (⟨"StateExplorer", "needsExplored", "()V"⟩, 30) := ⟨⟨by decide +kernel, by decide +kernel⟩, List.mem_of_getElem? (i := 12) (by decide +kernel), List.mem_of_getElem? (i := 472) (by decide +kernel), List.mem_of_getElem? (i := 473) (by decide +kernel)⟩
theorem lw_p27 : lw_okq (⟨"StateExplorer", "find", "(II)V"⟩, 30) := ⟨⟨by decide +kernel, by decide +kernel⟩, List.mem_of_getElem? (i := 12) (by decide +kernel), List.mem_of_getElem? (i := 484) (by decide +kernel), List.mem_of_getElem? (i := 485) (by decide +kernel)⟩
theorem lw_p28 : lw_okq (⟨"StateExplorer", "least", "(I)I"⟩, 30) := ⟨⟨by decide +kernel, by decide +kernel⟩, List.mem_of_getElem? (i := 12) (by decide +kernel), List.mem_of_getElem? (i := 515) (by decide +kernel), List.mem_of_getElem? (i := 516) (by decide +kernel)⟩
theorem lw_p29 : lw_okq (⟨"StateExplorerModel", "fails", "(ZZ)Z"⟩, 21) := ⟨⟨by decide +kernel, by decide +kernel⟩, List.mem_of_getElem? (i := 540) (by decide +kernel), List.mem_of_getElem? (i := 620) (by decide +kernel), List.mem_of_getElem? (i := 621) (by decide +kernel)⟩
theorem lw_p30 : lw_okq (⟨"StateExplorerModel", "isGate", "(I)Z"⟩, 21) := ⟨⟨by decide +kernel, by decide +kernel⟩, List.mem_of_getElem? (i := 540) (by decide +kernel), List.mem_of_getElem? (i := 628) (by decide +kernel), List.mem_of_getElem? (i := 629) (by decide +kernel)⟩
theorem lw_p31 : lw_okq (⟨"StateExplorerModel", "feedsOf", "(I)I"⟩, 21) := ⟨⟨by decide +kernel, by decide +kernel⟩, List.mem_of_getElem? (i := 540) (by decide +kernel), List.mem_of_getElem? (i := 632) (by decide +kernel), List.mem_of_getElem? (i := 633) (by decide +kernel)⟩
def lw_privs_2 : List (MethodName × Nat) := [(⟨"StateExplorer", "at", "(III)Z"⟩, 30), (⟨"StateExplorer", "alike", "(II)Z"⟩, 30), (⟨"StateExplorer", "seen", "(II)I"⟩, 30), (⟨"StateExplorer", "nextOf", "(II)I"⟩, 30), (⟨"StateExplorer", "states", "(I)I"⟩, 30), (⟨"StateExplorer", "sure", "()I"⟩, 30), (⟨"java/lang/Throwable", "fillInStackTrace", "(I)Ljava/lang/Throwable;"⟩, 6), (⟨"StateExplorer", "there", "(I)I"⟩, 30), (⟨"StateExplorer", "feedsOf", "(I)I"⟩, 30), (⟨"StateExplorer", "needsState", "(I)V"⟩, 30), (⟨"StateExplorer", "needsExplored", "()V"⟩, 30), (⟨"StateExplorer", "find", "(II)V"⟩, 30), (⟨"StateExplorer", "least", "(I)I"⟩, 30), (⟨"StateExplorerModel", "fails", "(ZZ)Z"⟩, 21), (⟨"StateExplorerModel", "isGate", "(I)Z"⟩, 21), (⟨"StateExplorerModel", "feedsOf", "(I)I"⟩, 21)]
theorem lw_r2 : ∀ q ∈ lw_privs_2, lw_okq q := List.forall_mem_cons.mpr ⟨lw_p16, List.forall_mem_cons.mpr ⟨lw_p17, List.forall_mem_cons.mpr ⟨lw_p18, List.forall_mem_cons.mpr ⟨lw_p19, List.forall_mem_cons.mpr ⟨lw_p20, List.forall_mem_cons.mpr ⟨lw_p21, List.forall_mem_cons.mpr ⟨lw_p22, List.forall_mem_cons.mpr ⟨lw_p23, List.forall_mem_cons.mpr ⟨lw_p24, List.forall_mem_cons.mpr ⟨lw_p25, List.forall_mem_cons.mpr ⟨lw_p26, List.forall_mem_cons.mpr ⟨lw_p27, List.forall_mem_cons.mpr ⟨lw_p28, List.forall_mem_cons.mpr ⟨lw_p29, List.forall_mem_cons.mpr ⟨lw_p30, List.forall_mem_cons.mpr ⟨lw_p31, fun _ h => absurd h List.not_mem_nil⟩⟩⟩⟩⟩⟩⟩⟩⟩⟩⟩⟩⟩⟩⟩⟩
theorem lw_p32 : lw_okq (⟨"StateExplorerModel", "states", "()I"⟩, 21) := ⟨⟨by decide +kernel, by decide +kernel⟩, List.mem_of_getElem? (i := 540) (by decide +kernel), List.mem_of_getElem? (i := 648) (by decide +kernel), List.mem_of_getElem? (i := 649) (by decide +kernel)⟩
theorem lw_p33 : lw_okq (⟨"StateExplorerModel", "choices", "()I"⟩, 21) := ⟨⟨by decide +kernel, by decide +kernel⟩, List.mem_of_getElem? (i := 540) (by decide +kernel), List.mem_of_getElem? (i := 652) (by decide +kernel), List.mem_of_getElem? (i := 653) (by decide +kernel)⟩
theorem lw_p34 : lw_okq (⟨"StateExplorerModel", "work", "(II)V"⟩, 21) := ⟨⟨by decide +kernel, by decide +kernel⟩, List.mem_of_getElem? (i := 540) (by decide +kernel), List.mem_of_getElem? (i := 656) (by decide +kernel), List.mem_of_getElem? (i := 657) (by decide +kernel)⟩
theorem lw_p35 : lw_okq (⟨"StateExplorerModel", "again", "()Z"⟩, 21) := ⟨⟨by decide +kernel, by decide +kernel⟩, List.mem_of_getElem? (i := 540) (by decide +kernel), List.mem_of_getElem? (i := 660) (by decide +kernel), List.mem_of_getElem? (i := 661) (by decide +kernel)⟩
theorem lw_p36 : lw_okq (⟨"StateExplorerModel", "taken", "(I)I"⟩, 21) := ⟨⟨by decide +kernel, by decide +kernel⟩, List.mem_of_getElem? (i := 540) (by decide +kernel), List.mem_of_getElem? (i := 664) (by decide +kernel), List.mem_of_getElem? (i := 665) (by decide +kernel)⟩
theorem lw_p37 : lw_okq (⟨"StateExplorerModel", "tell", "()V"⟩, 21) := ⟨⟨by decide +kernel, by decide +kernel⟩, List.mem_of_getElem? (i := 540) (by decide +kernel), List.mem_of_getElem? (i := 668) (by decide +kernel), List.mem_of_getElem? (i := 669) (by decide +kernel)⟩
theorem lw_p38 : lw_okq (⟨"StateExplorerModel", "differ", "(II)Z"⟩, 21) := ⟨⟨by decide +kernel, by decide +kernel⟩, List.mem_of_getElem? (i := 540) (by decide +kernel), List.mem_of_getElem? (i := 672) (by decide +kernel), List.mem_of_getElem? (i := 673) (by decide +kernel)⟩
theorem lw_p39 : lw_okq (⟨"StateExplorerModel", "shows", "(III)Z"⟩, 21) := ⟨⟨by decide +kernel, by decide +kernel⟩, List.mem_of_getElem? (i := 540) (by decide +kernel), List.mem_of_getElem? (i := 676) (by decide +kernel), List.mem_of_getElem? (i := 677) (by decide +kernel)⟩
theorem lw_p40 : lw_okq (⟨"StateExplorerModel", "reached", "()I"⟩, 21) := ⟨⟨by decide +kernel, by decide +kernel⟩, List.mem_of_getElem? (i := 540) (by decide +kernel), List.mem_of_getElem? (i := 680) (by decide +kernel), List.mem_of_getElem? (i := 681) (by decide +kernel)⟩
theorem lw_p41 : lw_okq (⟨"StateExplorerModel", "isState", "(I)Z"⟩, 21) := ⟨⟨by decide +kernel, by decide +kernel⟩, List.mem_of_getElem? (i := 540) (by decide +kernel), List.mem_of_getElem? (i := 688) (by decide +kernel), List.mem_of_getElem? (i := 689) (by decide +kernel)⟩
theorem lw_p42 : lw_okq (⟨"StateExplorerModel", "lead", "(II)V"⟩, 21) := ⟨⟨by decide +kernel, by decide +kernel⟩, List.mem_of_getElem? (i := 540) (by decide +kernel), List.mem_of_getElem? (i := 696) (by decide +kernel), List.mem_of_getElem? (i := 697) (by decide +kernel)⟩
theorem lw_p43 : lw_okq (⟨"StateExplorerModel", "held", "(JZ)I"⟩, 21) := ⟨⟨by decide +kernel, by decide +kernel⟩, List.mem_of_getElem? (i := 540) (by decide +kernel), List.mem_of_getElem? (i := 716) (by decide +kernel), List.mem_of_getElem? (i := 717) (by decide +kernel)⟩
theorem lw_p44 : lw_okq (⟨"StateExplorerModel", "least", "(I)I"⟩, 21) := ⟨⟨by decide +kernel, by decide +kernel⟩, List.mem_of_getElem? (i := 540) (by decide +kernel), List.mem_of_getElem? (i := 728) (by decide +kernel), List.mem_of_getElem? (i := 729) (by decide +kernel)⟩
def lw_privs_3 : List (MethodName × Nat) := [(⟨"StateExplorerModel", "states", "()I"⟩, 21), (⟨"StateExplorerModel", "choices", "()I"⟩, 21), (⟨"StateExplorerModel", "work", "(II)V"⟩, 21), (⟨"StateExplorerModel", "again", "()Z"⟩, 21), (⟨"StateExplorerModel", "taken", "(I)I"⟩, 21), (⟨"StateExplorerModel", "tell", "()V"⟩, 21), (⟨"StateExplorerModel", "differ", "(II)Z"⟩, 21), (⟨"StateExplorerModel", "shows", "(III)Z"⟩, 21), (⟨"StateExplorerModel", "reached", "()I"⟩, 21), (⟨"StateExplorerModel", "isState", "(I)Z"⟩, 21), (⟨"StateExplorerModel", "lead", "(II)V"⟩, 21), (⟨"StateExplorerModel", "held", "(JZ)I"⟩, 21), (⟨"StateExplorerModel", "least", "(I)I"⟩, 21)]
theorem lw_r3 : ∀ q ∈ lw_privs_3, lw_okq q := List.forall_mem_cons.mpr ⟨lw_p32, List.forall_mem_cons.mpr ⟨lw_p33, List.forall_mem_cons.mpr ⟨lw_p34, List.forall_mem_cons.mpr ⟨lw_p35, List.forall_mem_cons.mpr ⟨lw_p36, List.forall_mem_cons.mpr ⟨lw_p37, List.forall_mem_cons.mpr ⟨lw_p38, List.forall_mem_cons.mpr ⟨lw_p39, List.forall_mem_cons.mpr ⟨lw_p40, List.forall_mem_cons.mpr ⟨lw_p41, List.forall_mem_cons.mpr ⟨lw_p42, List.forall_mem_cons.mpr ⟨lw_p43, List.forall_mem_cons.mpr ⟨lw_p44, fun _ h => absurd h List.not_mem_nil⟩⟩⟩⟩⟩⟩⟩⟩⟩⟩⟩⟩⟩
def lw_privs : List (MethodName × Nat) := lw_privs_1 ++ (lw_privs_2 ++ (lw_privs_3))
def lw_tbl : List Cond := k2_sels lw_privs ++ tables_1
theorem lw_privs_ok : ∀ q ∈ lw_privs, lw_okq q := by
  show ∀ q ∈ lw_privs_1 ++ (lw_privs_2 ++ (lw_privs_3)), lw_okq q
  exact List.forall_mem_append.mpr ⟨lw_r1, List.forall_mem_append.mpr ⟨lw_r2, lw_r3⟩⟩
end
section
/-! names, printed by names.py -/
def R_X : String := "StateExplorer"
def F_X : u_T := fun k => match k with
  | 0 => ("StateExplorer", "nodes", "LStateExplorer$Nodes;", true)
  | 1 => ("StateExplorer", "gates", "I", false)
  | 2 => ("StateExplorer", "feeds", "I", false)
  | 3 => ("StateExplorer", "inputs", "I", false)
  | 4 => ("StateExplorer", "latches", "I", false)
  | 5 => ("StateExplorer", "outputs", "I", false)
  | 6 => ("StateExplorer", "sorts", "[I", true)
  | 7 => ("StateExplorer", "numbers", "[I", true)
  | 8 => ("StateExplorer", "named", "[I", true)
  | 9 => ("StateExplorer", "latchAt", "[I", true)
  | 10 => ("StateExplorer", "to", "[I", true)
  | 11 => ("StateExplorer", "from", "[I", true)
  | 12 => ("StateExplorer", "negated", "[Z", true)
  | 13 => ("StateExplorer", "explored", "Z", false)
  | 14 => ("StateExplorer", "ones", "[I", true)
  | 15 => ("StateExplorer", "zeros", "[I", true)
  | 16 => ("StateExplorer", "nexts", "[I", true)
  | 17 => ("StateExplorer", "layers", "[I", true)
  | 18 => ("StateExplorer", "groups", "[I", true)
  | 19 => ("StateExplorer", "fresh", "[I", true)
  | 20 => ("StateExplorer", "settles", "I", false)
  | 21 => ("StateExplorer", "reached", "I", false)
  | 22 => ("StateExplorer", "farthest", "I", false)
  | 23 => ("StateExplorer", "grouped", "I", false)
  | 24 => ("StateExplorer", "spare", "[I", true)
  | 25 => ("StateExplorer", "whole", "[I", true)
  | 26 => ("StateExplorer", "halves", "[I", true)
  | 27 => ("StateExplorer", "wayTo", "I", false)
  | 28 => ("StateExplorer", "steps", "[I", true)
  | _ => ("StateExplorer", "through", "[I", true)
def t_X : Nat → FieldType := fun k => match k with
  | 0 => .object "StateExplorer$Nodes"
  | 1 => .int
  | 2 => .int
  | 3 => .int
  | 4 => .int
  | 5 => .int
  | 6 => .array .int
  | 7 => .array .int
  | 8 => .array .int
  | 9 => .array .int
  | 10 => .array .int
  | 11 => .array .int
  | 12 => .array .boolean
  | 13 => .boolean
  | 14 => .array .int
  | 15 => .array .int
  | 16 => .array .int
  | 17 => .array .int
  | 18 => .array .int
  | 19 => .array .int
  | 20 => .int
  | 21 => .int
  | 22 => .int
  | 23 => .int
  | 24 => .array .int
  | 25 => .array .int
  | 26 => .array .int
  | 27 => .int
  | 28 => .array .int
  | _ => .array .int
abbrev w_X : List Cond := u_ws R_X F_X 30
theorem n_X : ∀ a, a < 30 → ∀ b, b < 30 → a ≠ b → (F_X a).2.1 ≠ (F_X b).2.1 := by decide +kernel
theorem t_X_ok : ∀ k, k < 30 → parseFieldDescriptor (F_X k).2.2.1 = some (t_X k) := by decide +kernel
theorem i_X : ∀ w ∈ w_X, w ∈ lw_tbl := by decide +kernel
def R_N : String := "StateExplorer$Nodes"
def F_N : u_T := fun k => match k with
  | 0 => ("StateExplorer$Nodes", "levels", "[B", true)
  | 1 => ("StateExplorer$Nodes", "lows", "[I", true)
  | 2 => ("StateExplorer$Nodes", "highs", "[I", true)
  | 3 => ("StateExplorer$Nodes", "next", "[I", true)
  | 4 => ("StateExplorer$Nodes", "chains", "[I", true)
  | 5 => ("StateExplorer$Nodes", "marked", "[Z", true)
  | 6 => ("StateExplorer$Nodes", "free", "I", false)
  | 7 => ("StateExplorer$Nodes", "used", "I", false)
  | 8 => ("StateExplorer$Nodes", "spare", "I", false)
  | 9 => ("StateExplorer$Nodes", "keyA", "[I", true)
  | 10 => ("StateExplorer$Nodes", "keyB", "[I", true)
  | 11 => ("StateExplorer$Nodes", "keyC", "[I", true)
  | 12 => ("StateExplorer$Nodes", "results", "[I", true)
  | _ => ("StateExplorer$Nodes", "keyKinds", "[B", true)
def t_N : Nat → FieldType := fun k => match k with
  | 0 => .array .byte
  | 1 => .array .int
  | 2 => .array .int
  | 3 => .array .int
  | 4 => .array .int
  | 5 => .array .boolean
  | 6 => .int
  | 7 => .int
  | 8 => .int
  | 9 => .array .int
  | 10 => .array .int
  | 11 => .array .int
  | 12 => .array .int
  | _ => .array .byte
abbrev w_N : List Cond := u_ws R_N F_N 14
theorem n_N : ∀ a, a < 14 → ∀ b, b < 14 → a ≠ b → (F_N a).2.1 ≠ (F_N b).2.1 := by decide +kernel
theorem t_N_ok : ∀ k, k < 14 → parseFieldDescriptor (F_N k).2.2.1 = some (t_N k) := by decide +kernel
theorem i_N : ∀ w ∈ w_N, w ∈ lw_tbl := by decide +kernel
def R_M : String := "StateExplorerModel"
def F_M : u_T := fun k => match k with
  | 0 => ("StateExplorerModel", "code", "I", false)
  | 1 => ("StateExplorerModel", "gates", "I", false)
  | 2 => ("StateExplorerModel", "feeds", "I", false)
  | 3 => ("StateExplorerModel", "inputs", "I", false)
  | 4 => ("StateExplorerModel", "latches", "I", false)
  | 5 => ("StateExplorerModel", "outputs", "I", false)
  | 6 => ("StateExplorerModel", "sort", "[I", true)
  | 7 => ("StateExplorerModel", "number", "[I", true)
  | 8 => ("StateExplorerModel", "value", "[I", true)
  | 9 => ("StateExplorerModel", "made", "[I", true)
  | 10 => ("StateExplorerModel", "to", "[I", true)
  | 11 => ("StateExplorerModel", "from", "[I", true)
  | 12 => ("StateExplorerModel", "outputOf", "[I", true)
  | 13 => ("StateExplorerModel", "negated", "[Z", true)
  | 14 => ("StateExplorerModel", "explored", "Z", false)
  | 15 => ("StateExplorerModel", "settles", "[Z", true)
  | 16 => ("StateExplorerModel", "next", "[I", true)
  | 17 => ("StateExplorerModel", "ones", "[J", true)
  | 18 => ("StateExplorerModel", "distance", "[I", true)
  | 19 => ("StateExplorerModel", "apart", "[Z", true)
  | _ => ("StateExplorerModel", "leads", "[Z", true)
def t_M : Nat → FieldType := fun k => match k with
  | 0 => .int
  | 1 => .int
  | 2 => .int
  | 3 => .int
  | 4 => .int
  | 5 => .int
  | 6 => .array .int
  | 7 => .array .int
  | 8 => .array .int
  | 9 => .array .int
  | 10 => .array .int
  | 11 => .array .int
  | 12 => .array .int
  | 13 => .array .boolean
  | 14 => .boolean
  | 15 => .array .boolean
  | 16 => .array .int
  | 17 => .array .long
  | 18 => .array .int
  | 19 => .array .boolean
  | _ => .array .boolean
abbrev w_M : List Cond := u_ws R_M F_M 21
theorem n_M : ∀ a, a < 21 → ∀ b, b < 21 → a ≠ b → (F_M a).2.1 ≠ (F_M b).2.1 := by decide +kernel
theorem t_M_ok : ∀ k, k < 21 → parseFieldDescriptor (F_M k).2.2.1 = some (t_M k) := by decide +kernel
theorem i_M : ∀ w ∈ w_M, w ∈ lw_tbl := by decide +kernel
def R_EA : String := "java/lang/IllegalArgumentException"
def F_EA : u_T := fun k => match k with
  | 0 => ("java/lang/Throwable", "cause", "Ljava/lang/Throwable;", false)
  | 1 => ("java/lang/Throwable", "stackTrace", "[Ljava/lang/StackTraceElement;", false)
  | 2 => ("java/lang/Throwable", "suppressedExceptions", "Ljava/util/List;", false)
  | 3 => ("java/lang/Throwable", "detailMessage", "Ljava/lang/String;", false)
  | 4 => ("java/lang/Throwable", "backtrace", "Ljava/lang/Object;", false)
  | _ => ("java/lang/Throwable", "depth", "I", false)
def t_EA : Nat → FieldType := fun k => match k with
  | 0 => .object "java/lang/Throwable"
  | 1 => .array (.object "java/lang/StackTraceElement")
  | 2 => .object "java/util/List"
  | 3 => .object "java/lang/String"
  | 4 => .object "java/lang/Object"
  | _ => .int
abbrev w_EA : List Cond := u_ws R_EA F_EA 6
theorem n_EA : ∀ a, a < 6 → ∀ b, b < 6 → a ≠ b → (F_EA a).2.1 ≠ (F_EA b).2.1 := by decide +kernel
theorem t_EA_ok : ∀ k, k < 6 → parseFieldDescriptor (F_EA k).2.2.1 = some (t_EA k) := by decide +kernel
theorem i_EA : ∀ w ∈ w_EA, w ∈ lw_tbl := by decide +kernel
def R_EB : String := "java/lang/IndexOutOfBoundsException"
def F_EB : u_T := fun k => match k with
  | 0 => ("java/lang/Throwable", "cause", "Ljava/lang/Throwable;", false)
  | 1 => ("java/lang/Throwable", "stackTrace", "[Ljava/lang/StackTraceElement;", false)
  | 2 => ("java/lang/Throwable", "suppressedExceptions", "Ljava/util/List;", false)
  | 3 => ("java/lang/Throwable", "detailMessage", "Ljava/lang/String;", false)
  | 4 => ("java/lang/Throwable", "backtrace", "Ljava/lang/Object;", false)
  | _ => ("java/lang/Throwable", "depth", "I", false)
def t_EB : Nat → FieldType := fun k => match k with
  | 0 => .object "java/lang/Throwable"
  | 1 => .array (.object "java/lang/StackTraceElement")
  | 2 => .object "java/util/List"
  | 3 => .object "java/lang/String"
  | 4 => .object "java/lang/Object"
  | _ => .int
abbrev w_EB : List Cond := u_ws R_EB F_EB 6
theorem n_EB : ∀ a, a < 6 → ∀ b, b < 6 → a ≠ b → (F_EB a).2.1 ≠ (F_EB b).2.1 := by decide +kernel
theorem t_EB_ok : ∀ k, k < 6 → parseFieldDescriptor (F_EB k).2.2.1 = some (t_EB k) := by decide +kernel
theorem i_EB : ∀ w ∈ w_EB, w ∈ lw_tbl := by decide +kernel
def R_ES : String := "java/lang/IllegalStateException"
def F_ES : u_T := fun k => match k with
  | 0 => ("java/lang/Throwable", "cause", "Ljava/lang/Throwable;", false)
  | 1 => ("java/lang/Throwable", "stackTrace", "[Ljava/lang/StackTraceElement;", false)
  | 2 => ("java/lang/Throwable", "suppressedExceptions", "Ljava/util/List;", false)
  | 3 => ("java/lang/Throwable", "detailMessage", "Ljava/lang/String;", false)
  | 4 => ("java/lang/Throwable", "backtrace", "Ljava/lang/Object;", false)
  | _ => ("java/lang/Throwable", "depth", "I", false)
def t_ES : Nat → FieldType := fun k => match k with
  | 0 => .object "java/lang/Throwable"
  | 1 => .array (.object "java/lang/StackTraceElement")
  | 2 => .object "java/util/List"
  | 3 => .object "java/lang/String"
  | 4 => .object "java/lang/Object"
  | _ => .int
abbrev w_ES : List Cond := u_ws R_ES F_ES 6
theorem n_ES : ∀ a, a < 6 → ∀ b, b < 6 → a ≠ b → (F_ES a).2.1 ≠ (F_ES b).2.1 := by decide +kernel
theorem t_ES_ok : ∀ k, k < 6 → parseFieldDescriptor (F_ES k).2.2.1 = some (t_ES k) := by decide +kernel
theorem i_ES : ∀ w ∈ w_ES, w ∈ lw_tbl := by decide +kernel
def R_L : String := "StateExplorerLaw"
abbrev classes : List vw_C := [(R_X, F_X, 30), (R_N, F_N, 14), (R_M, F_M, 21), (R_EA, F_EA, 6), (R_EB, F_EB, 6), (R_ES, F_ES, 6)]
end
section
/-! the layer GW over the kit's W: a world is a function of a state of type σ -/
def xw_ok : List Cond := lw_tbl.filter goodWord
theorem xw_mem {w : Cond} (h : w ∈ lw_tbl) (hg : goodWord w = true) : w ∈ xw_ok := List.mem_filter.mpr ⟨h, hg⟩
theorem xw_good {w : Cond} (h : w ∈ xw_ok) : (w.onTables && w.keeps) = true ∨ ∃ ty, w = .arrayClass ty := good_of_word (List.mem_filter.mp h).2
theorem xw_in {cw : Cond} (h : cw ∈ xw_ok) : GoodIn xw_ok (cw :: xw_ok) := by
  intro w hw
  rcases List.mem_cons.mp hw with rfl | hw
  · exact ⟨h, xw_good h⟩
  · exact ⟨hw, xw_good hw⟩
/-- what stays of the tables beside the good words -/
def xG (U : State) : Prop :=
  va_Nw (.fieldLinkNest "StateExplorer" 168 "StateExplorer$Nodes" "lows" "[I" "StateExplorer") U ∧
  va_Nw (.fieldLinkNest "StateExplorer" 174 "StateExplorer$Nodes" "highs" "[I" "StateExplorer") U ∧
  va_Nw (.methodLinkNest "StateExplorer" 222 ⟨"StateExplorer$Nodes", "forget", "()V"⟩ "StateExplorer") U
theorem xG.warm {s U : State} (hW : s.WarmedH U.vm) (h : xG s) : xG U := ⟨h.1.warmF hW, h.2.1.warmF hW, h.2.2.warmM hW⟩
theorem xG.same {s U : State} (hv : s.vm = U.vm) (h : xG s) : xG U := ⟨h.1.same rfl hv, h.2.1.same rfl hv, h.2.2.same rfl hv⟩
/-- the types of the arrays -/
abbrev xCa : Type := Nat → ClassId
def xTy (ca : xCa) : List (ClassId × FieldType) := [(ca 0, .int), (ca 1, .byte), (ca 2, .boolean), (ca 3, .long)]
/-- a world: how classes and array classes are numbered, what the cells are -/
abbrev xWd (σ : Type) : Type := va_G × xCa × (σ → va_W)
abbrev xDg {σ : Type} (ω : xWd σ) : va_G := ω.1
abbrev xCg {σ : Type} (ω : xWd σ) : xCa := ω.2.1
abbrev xWf {σ : Type} (ω : xWd σ) : σ → va_W := ω.2.2
/-- the world's own cells, and all that come from sz on -/
def xA {σ : Type} (ω : xWd σ) (sz : Nat) : Nat → Prop := fun q => (∃ (X : σ) (k : Nat) (e : va_E), (xWf ω X)[k]? = some (q, e)) ∨ sz ≤ q
def xH {σ : Type} (ω : xWd σ) (X : σ) (H : Heap) : Prop := va_P (xDg ω) classes (xWf ω X) H
def xK {σ : Type} (ω : xWd σ) (U : State) : Prop := va_K (xDg ω) classes (xTy (xCg ω)) U ∧ xG U
theorem xK.warm {σ : Type} {ω : xWd σ} {s U : State} (hW : s.WarmedH U.vm) (h : xK ω s) : xK ω U := ⟨va_K.moved hW.alike h.1, xG.warm hW h.2⟩
/-- the cells are apart -/
def xD {σ : Type} (ω : xWd σ) : Prop := ∀ X : σ, va_D (fun _ => True) (xWf ω X)
theorem xD.at {σ : Type} {ω : xWd σ} (h : xD ω) (sz : Nat) (X : σ) : va_D (xA ω sz) (xWf ω X) :=
  (h X).weaken (fun k q hk _ => Or.inl ⟨X, k, q.2, hk⟩)
abbrev Cx : Type := Program × Launch × Env × Room × State × MethodId × Array Value × List Frame × Method × Code
abbrev kP (κ : Cx) : Program := κ.1
abbrev kL (κ : Cx) : Launch := κ.2.1
abbrev kE (κ : Cx) : Env := κ.2.2.1
abbrev kR (κ : Cx) : Room := κ.2.2.2.1
abbrev kS (κ : Cx) : State := κ.2.2.2.2.1
abbrev kM (κ : Cx) : MethodId := κ.2.2.2.2.2.1
abbrev kA (κ : Cx) : Array Value := κ.2.2.2.2.2.2.1
abbrev kB (κ : Cx) : List Frame := κ.2.2.2.2.2.2.2.1
abbrev kMe (κ : Cx) : Method := κ.2.2.2.2.2.2.2.2.1
abbrev kC (κ : Cx) : Code := κ.2.2.2.2.2.2.2.2.2
abbrev WK (κ : Cx) (H : Heap) (locs : List Loc) (cells slots : Nat) (Q : State → Prop) (g : JFrame) : Prop := W (kP κ) (kL κ) (kE κ) (kR κ) (kS κ) (kM κ) (kA κ) (kB κ) (kMe κ) (kC κ) H locs cells slots Q g
def GW {σ : Type} (κ : Cx) (ω : xWd σ) (nL : Nat) (k : Nat × Nat) (Q : State → Prop) (X : σ) (pc : Nat) (lv : List (Nat × Value)) (st : List Value) : Prop :=
  ∀ (H : Heap) (locs : List Loc) (ls : Array Slot), xH ω X H → va_S (xA ω (kS κ).heap.size) (kS κ).heap H locs → lv_has ls nL lv → WK κ H locs k.1 k.2 Q (F0 (kM κ) pc ls st)
/-- what is fixed in a walk -/
def OKc {σ : Type} (κ : Cx) (ω : xWd σ) (nL : Nat) (cc : ByteArray) (own : String) (ret : Option FieldType) (rm : Room) : Prop :=
  (kP κ).tables.exec = Jvm.exec ∧ (kC κ).code = cc ∧ (kC κ).maxLocals = nL ∧ (kS κ).vm.findClass own = some (kM κ).cls ∧ (∀ w ∈ xw_ok, w.before (kA κ) (kS κ) = true) ∧ xK ω (kS κ) ∧ xD ω ∧ (kMe κ).sig.returnType = ret ∧ (kMe κ).locks = false ∧ kR κ = rm
/-- the room of a method over n frames -/
def xR (n : Nat) : Room := { frames := n, cells := 0, slots := 0, locals := 40 * n }
/-- behind a method: what it answers and the world -/
def xQ {σ : Type} (ω : xWd σ) (sz : Nat) (Z : Option Value → σ → Prop) : Array Value → State → Outcome → State → Prop := fun _ st o t =>
  (∃ (v : Option Value) (X : σ), o = .returned v ∧ Z v X ∧ xH ω X t.heap) ∧ va_F (xA ω sz) st t
def xPc {σ : Type} (ω : xWd σ) (sz : Nat) (av : List Value) (X : σ) : Array Value → State → Prop := va_Pc av (fun U => U.heap.size = sz ∧ xH ω X U.heap ∧ xK ω U)
/-- a contract: from the world X, with these arguments, the method returns, with Z -/
def CT {σ : Type} (l : Launch) (ω : xWd σ) (y : MethodName) (cw : Cond) (rm : Room) (av : List Value) (X : σ) (Z : Option Value → σ → Prop) : Prop :=
  ∀ sz : Nat, Met l y (cw :: xw_ok) rm (xPc ω sz av X) (xQ ω sz Z) rm.cells rm.slots (xA ω sz)
abbrev xZi {σ : Type} (Z : Int32 → σ → Prop) : Option Value → σ → Prop := fun v X => ∃ r : Int32, v = some (.int r) ∧ Z r X
abbrev xZv {σ : Type} (Z : σ → Prop) : Option Value → σ → Prop := fun v X => v = none ∧ Z X
theorem xPc.blind {σ : Type} {ω : xWd σ} {sz : Nat} {av : List Value} {X : σ} : FrameBlind (xPc ω sz av X) := by
  intro a U g mk q
  obtain ⟨q0, q1, qP, qK⟩ := q
  exact ⟨q0, q1, qP, va_K.moved (u := U) (U := U.calling g mk a) (Vm.Alike.refl U.vm) qK.1, xG.same rfl qK.2⟩
/-- the end of a walk of a contract -/
abbrev xMQ {σ : Type} (κ : Cx) (ω : xWd σ) (rm : Room) (Z : Option Value → σ → Prop) : State → Prop :=
  MQ (kB κ) (xQ ω (kS κ).heap.size Z) (kA κ) (kS κ) rm.cells rm.slots (xA ω (kS κ).heap.size)
theorem CT.of {σ : Type} {l : Launch} {ω : xWd σ} {y : MethodName} {cc : ByteArray} {nL : Nat} {ret : Option FieldType} {rm : Room} {av : List Value} {X : σ} {Z : Option Value → σ → Prop}
    (hy : plainName y.cls = true) (hn : (lg_sl av).length ≤ nL) (hD : xD ω)
    (body : ∀ κ : Cx, kL κ = l → kA κ = av.toArray → OKc κ ω nL cc y.cls ret rm → GW κ ω nL (0, 0) (xMQ κ ω rm Z) X 0 (lv_args 0 av) []) : CT l ω y (.code y cc nL ret) rm av X Z := by
  intro sz
  refine Met.ofW (cc := cc) (maxL := nL) (ret := ret) hy rfl ?_
  intro p e s m args below meth c s₁ B hml hv
  obtain ⟨rfl, hsz, hP, hK⟩ := hv
  have hts := atoms_spec (ws := Cond.code y cc nL ret :: xw_ok) B.pre
  have hown : s.vm.findClass y.cls = some m.cls := findClass_of_methodNamed B.named
  subst hsz
  have hl := lv_entry av (n := nL) hn
  rw [lg_entry_eq]
  generalize (lg_sl av ++ List.replicate (nL - (lg_sl av).length) Slot.unset).toArray = ls at hl ⊢
  exact body (p, l, e, rm, s, m, av.toArray, below, meth, c) rfl rfl ⟨B.exec, B.bytes, hml, hown, fun w hw => hts w (List.mem_cons_of_mem _ hw), hK, hD, B.returns, B.notSynchronized, rfl⟩ s.heap [] ls hP va_S.rf hl
section rows
variable {σ : Type} {κ : Cx} {ω : xWd σ} {nL : Nat} {k : Nat × Nat} {Q : State → Prop} {X : σ} {pc : Nat} {lv lv' : List (Nat × Value)} {st : List Value} {cc : ByteArray} {own : String} {ret : Option FieldType} {rm : Room}
theorem gw_iret {Z : Option Value → σ → Prop} {v : Int32} (o : OKc κ ω nL cc own (some .int) rm) (hk : k.1 ≤ rm.cells ∧ k.2 ≤ rm.slots) (hz : Z (some (.int v)) X) (hd : decode cc pc = .ok (.ireturn, 1)) : GW κ ω nL k (xMQ κ ω rm Z) X pc lv [.int v] := by
  intro H locs ls hP hS hl
  obtain ⟨hx, hb, hml, hown, hts, hK, hD, hr, hlocks, hR⟩ := o
  refine W.widen hk.1 hk.2 ?_
  exact W.iret hx hb hr (fun t ht hW => ⟨⟨_, X, rfl, hz, by rw [ht]; exact hP⟩, hS.F ht⟩) hS.2.2 hd hlocks
theorem gw_zret {Z : Option Value → σ → Prop} {v : Int32} (o : OKc κ ω nL cc own (some .boolean) rm) (hk : k.1 ≤ rm.cells ∧ k.2 ≤ rm.slots) (hb01 : v = 0 ∨ v = 1) (hz : Z (some (.int v)) X) (hd : decode cc pc = .ok (.ireturn, 1)) : GW κ ω nL k (xMQ κ ω rm Z) X pc lv [.int v] := by
  intro H locs ls hP hS hl
  obtain ⟨hx, hb, hml, hown, hts, hK, hD, hr, hlocks, hR⟩ := o
  refine W.widen hk.1 hk.2 ?_
  exact W.zret hx hb hr (by rcases hb01 with rfl | rfl <;> rfl) (fun t ht hW => ⟨⟨_, X, rfl, hz, by rw [ht]; exact hP⟩, hS.F ht⟩) hS.2.2 hd hlocks
theorem gw_vret {Z : Option Value → σ → Prop} (o : OKc κ ω nL cc own none rm) (hk : k.1 ≤ rm.cells ∧ k.2 ≤ rm.slots) (hz : Z none X) (hd : decode cc pc = .ok (.return_, 1)) : GW κ ω nL k (xMQ κ ω rm Z) X pc lv [] := by
  intro H locs ls hP hS hl
  obtain ⟨hx, hb, hml, hown, hts, hK, hD, hr, hlocks, hR⟩ := o
  refine W.widen hk.1 hk.2 ?_
  exact W.vret hx hb hr (fun t ht hW => ⟨⟨_, X, rfl, hz, by rw [ht]; exact hP⟩, hS.F ht⟩) hS.2.2 hd hlocks
theorem gw_sub (ks : List Nat) (h : lv_pick lv ks = lv') (kk : GW κ ω nL k Q X pc lv' st) : GW κ ω nL k Q X pc lv st := fun H locs ls hP hS hl => kk H locs ls hP hS (lv_sub hl ks h)
theorem gw_nm (kk : ∀ Y : σ, Y = X → GW κ ω nL k Q Y pc lv st) : GW κ ω nL k Q X pc lv st := kk X rfl
theorem gw_topi {x : Int32} (kk : ∀ y : Int32, y = x → GW κ ω nL k Q X pc lv (.int y :: st)) : GW κ ω nL k Q X pc lv (.int x :: st) := kk x rfl
theorem gw_topl {x : Int64} (kk : ∀ y : Int64, y = x → GW κ ω nL k Q X pc lv (.long y :: st)) : GW κ ω nL k Q X pc lv (.long x :: st) := kk x rfl
theorem gw_eqi {x y : Int32} (h : x = y) (kk : GW κ ω nL k Q X pc lv (.int y :: st)) : GW κ ω nL k Q X pc lv (.int x :: st) := h ▸ kk
end rows
end
section
section irows
variable {σ : Type} {κ : Cx} {ω : xWd σ} {nL : Nat} {k : Nat × Nat} {Q : State → Prop} {X : σ} {pc : Nat} {lv lv' : List (Nat × Value)} {st : List Value} {cc : ByteArray} {own : String} {ret : Option FieldType} {rm : Room}
theorem gw_iconst {n : Int} {v : Int32} (o : OKc κ ω nL cc own ret rm) (hd : decode cc pc = .ok (.iconst n, 1)) (hv : Int32.ofInt n = v) (kk : GW κ ω nL k Q X (pc + 1) lv (.int v :: st)) : GW κ ω nL k Q X pc lv (st) := fun H locs ls hP hS hl => lv_iconst o.1 o.2.1 hd hv (kk H locs ls hP hS hl)
theorem gw_bipush {n : Int} {v : Int32} (o : OKc κ ω nL cc own ret rm) (hd : decode cc pc = .ok (.bipush n, 2)) (hv : (Int8.ofInt n).toInt32 = v) (kk : GW κ ω nL k Q X (pc + 2) lv (.int v :: st)) : GW κ ω nL k Q X pc lv (st) := fun H locs ls hP hS hl => lv_bipush o.1 o.2.1 hd hv (kk H locs ls hP hS hl)
theorem gw_sipush {n : Int} {v : Int32} (o : OKc κ ω nL cc own ret rm) (hd : decode cc pc = .ok (.sipush n, 3)) (hv : (Int16.ofInt n).toInt32 = v) (kk : GW κ ω nL k Q X (pc + 3) lv (.int v :: st)) : GW κ ω nL k Q X pc lv (st) := fun H locs ls hP hS hl => lv_sipush o.1 o.2.1 hd hv (kk H locs ls hP hS hl)
theorem gw_lconst {n : Fin 2} {v : Int64} (o : OKc κ ω nL cc own ret rm) (hd : decode cc pc = .ok (.lconst n, 1)) (hv : Int64.ofNat (n : Nat) = v) (kk : GW κ ω nL k Q X (pc + 1) lv (.long v :: st)) : GW κ ω nL k Q X pc lv (st) := fun H locs ls hP hS hl => lv_lconst o.1 o.2.1 hd hv (kk H locs ls hP hS hl)
theorem gw_ldc {index : Nat} {v : Int32} (o : OKc κ ω nL cc own ret rm) (hc : Cond.constant own index v ∈ xw_ok) (hd : decode cc pc = .ok (.ldc index, 2)) (kk : GW κ ω nL k Q X (pc + 2) lv (.int v :: st)) : GW κ ω nL k Q X pc lv st := fun H locs ls hP hS hl => lv_ldc o.1 o.2.1 o.2.2.2.1 (o.2.2.2.2.1 _ hc) hd (kk H locs ls hP hS hl)
theorem gw_iload_n {kf : Fin 4} {i : Nat} {x : Int32} (o : OKc κ ω nL cc own ret rm) (hd : decode cc pc = .ok (.iload_n kf, 1)) (hi : (kf : Nat) = i) (j : Nat) (hj : lv[j]? = some (i, .int x)) (kk : GW κ ω nL k Q X (pc + 1) lv (.int x :: st)) : GW κ ω nL k Q X pc lv (st) := fun H locs ls hP hS hl => lv_iload_n o.1 o.2.1 hd hi (lv_at hl j hj) (kk H locs ls hP hS hl)
theorem gw_iload {i : Nat} {x : Int32} (o : OKc κ ω nL cc own ret rm) (hd : decode cc pc = .ok (.iload i, 2)) (j : Nat) (hj : lv[j]? = some (i, .int x)) (kk : GW κ ω nL k Q X (pc + 2) lv (.int x :: st)) : GW κ ω nL k Q X pc lv (st) := fun H locs ls hP hS hl => lv_iload o.1 o.2.1 hd (lv_at hl j hj) (kk H locs ls hP hS hl)
theorem gw_istore_n {i : Nat} {kf : Fin 4} {x : Int32} (o : OKc κ ω nL cc own ret rm) (hd : decode cc pc = .ok (.istore_n kf, 1)) (hi : (kf : Nat) = i) (hn : i < nL) (hl2 : (i, Value.int x) :: lv.filter (fun q => !(q.1 == i) && !(q.1 + 1 == i && q.2.category == 2)) = lv') (kk : GW κ ω nL k Q X (pc + 1) lv' st) : GW κ ω nL k Q X pc lv (.int x :: st) := fun H locs ls hP hS hl => lv_istore_n o.1 o.2.1 hd hi hl hn hl2 (fun ls' hl' => kk H locs ls' hP hS hl')
theorem gw_istore {i : Nat} {x : Int32} (o : OKc κ ω nL cc own ret rm) (hd : decode cc pc = .ok (.istore i, 2)) (hn : i < nL) (hl2 : (i, Value.int x) :: lv.filter (fun q => !(q.1 == i) && !(q.1 + 1 == i && q.2.category == 2)) = lv') (kk : GW κ ω nL k Q X (pc + 2) lv' st) : GW κ ω nL k Q X pc lv (.int x :: st) := fun H locs ls hP hS hl => lv_istore o.1 o.2.1 hd hl hn hl2 (fun ls' hl' => kk H locs ls' hP hS hl')
theorem gw_lload_n {kf : Fin 4} {i : Nat} {x : Int64} (o : OKc κ ω nL cc own ret rm) (hd : decode cc pc = .ok (.lload_n kf, 1)) (hi : (kf : Nat) = i) (j : Nat) (hj : lv[j]? = some (i, .long x)) (kk : GW κ ω nL k Q X (pc + 1) lv (.long x :: st)) : GW κ ω nL k Q X pc lv (st) := fun H locs ls hP hS hl => lv_lload_n o.1 o.2.1 hd hi (lv_at hl j hj) (kk H locs ls hP hS hl)
theorem gw_lload {i : Nat} {x : Int64} (o : OKc κ ω nL cc own ret rm) (hd : decode cc pc = .ok (.lload i, 2)) (j : Nat) (hj : lv[j]? = some (i, .long x)) (kk : GW κ ω nL k Q X (pc + 2) lv (.long x :: st)) : GW κ ω nL k Q X pc lv (st) := fun H locs ls hP hS hl => lv_lload o.1 o.2.1 hd (lv_at hl j hj) (kk H locs ls hP hS hl)
theorem gw_lstore_n {i : Nat} {kf : Fin 4} {x : Int64} (o : OKc κ ω nL cc own ret rm) (hd : decode cc pc = .ok (.lstore_n kf, 1)) (hi : (kf : Nat) = i) (hn : i + 1 < nL) (hl2 : (i, Value.long x) :: lv.filter (fun q => !(q.1 == i) && (!(q.1 == i + 1) && !(q.1 + 1 == i && q.2.category == 2))) = lv') (kk : GW κ ω nL k Q X (pc + 1) lv' st) : GW κ ω nL k Q X pc lv (.long x :: st) := fun H locs ls hP hS hl => lv_lstore_n o.1 o.2.1 hd hi hl hn hl2 (fun ls' hl' => kk H locs ls' hP hS hl')
theorem gw_lstore {i : Nat} {x : Int64} (o : OKc κ ω nL cc own ret rm) (hd : decode cc pc = .ok (.lstore i, 2)) (hn : i + 1 < nL) (hl2 : (i, Value.long x) :: lv.filter (fun q => !(q.1 == i) && (!(q.1 == i + 1) && !(q.1 + 1 == i && q.2.category == 2))) = lv') (kk : GW κ ω nL k Q X (pc + 2) lv' st) : GW κ ω nL k Q X pc lv (.long x :: st) := fun H locs ls hP hS hl => lv_lstore o.1 o.2.1 hd hl hn hl2 (fun ls' hl' => kk H locs ls' hP hS hl')
theorem gw_aload_n {kf : Fin 4} {i : Nat} {x : Nat} (o : OKc κ ω nL cc own ret rm) (hd : decode cc pc = .ok (.aload_n kf, 1)) (hi : (kf : Nat) = i) (j : Nat) (hj : lv[j]? = some (i, .ref x)) (kk : GW κ ω nL k Q X (pc + 1) lv (.ref x :: st)) : GW κ ω nL k Q X pc lv (st) := fun H locs ls hP hS hl => lv_aload_n o.1 o.2.1 hd hi (lv_at hl j hj) (kk H locs ls hP hS hl)
theorem gw_aload {i : Nat} {x : Nat} (o : OKc κ ω nL cc own ret rm) (hd : decode cc pc = .ok (.aload i, 2)) (j : Nat) (hj : lv[j]? = some (i, .ref x)) (kk : GW κ ω nL k Q X (pc + 2) lv (.ref x :: st)) : GW κ ω nL k Q X pc lv (st) := fun H locs ls hP hS hl => lv_aload o.1 o.2.1 hd (lv_at hl j hj) (kk H locs ls hP hS hl)
theorem gw_astore_n {i : Nat} {kf : Fin 4} {x : Nat} (o : OKc κ ω nL cc own ret rm) (hd : decode cc pc = .ok (.astore_n kf, 1)) (hi : (kf : Nat) = i) (hn : i < nL) (hl2 : (i, Value.ref x) :: lv.filter (fun q => !(q.1 == i) && !(q.1 + 1 == i && q.2.category == 2)) = lv') (kk : GW κ ω nL k Q X (pc + 1) lv' st) : GW κ ω nL k Q X pc lv (.ref x :: st) := fun H locs ls hP hS hl => lv_astore_n o.1 o.2.1 hd hi hl hn hl2 (fun ls' hl' => kk H locs ls' hP hS hl')
theorem gw_astore {i : Nat} {x : Nat} (o : OKc κ ω nL cc own ret rm) (hd : decode cc pc = .ok (.astore i, 2)) (hn : i < nL) (hl2 : (i, Value.ref x) :: lv.filter (fun q => !(q.1 == i) && !(q.1 + 1 == i && q.2.category == 2)) = lv') (kk : GW κ ω nL k Q X (pc + 2) lv' st) : GW κ ω nL k Q X pc lv (.ref x :: st) := fun H locs ls hP hS hl => lv_astore o.1 o.2.1 hd hl hn hl2 (fun ls' hl' => kk H locs ls' hP hS hl')
theorem gw_iincN {i : Nat} {n : Int} {x c : Int32} {lw : Int32 → List (Nat × Value)} (o : OKc κ ω nL cc own ret rm) (hd : decode cc pc = .ok (.iinc i n, 3)) (hc : Int32.ofInt n = c) (j : Nat) (hj : lv[j]? = some (i, .int x)) (hn : i < nL) (hl2 : ∀ y, (i, Value.int y) :: lv.filter (fun q => !(q.1 == i) && !(q.1 + 1 == i && q.2.category == 2)) = lw y) (kk : ∀ y, y = x + c → GW κ ω nL k Q X (pc + 3) (lw y) st) : GW κ ω nL k Q X pc lv st := fun H locs ls hP hS hl => lv_iinc o.1 o.2.1 hd hl hj (by rw [hc]) hn (hl2 _) (fun ls' hl' => kk _ rfl H locs ls' hP hS hl')
theorem gw_iinc {i : Nat} {n : Int} {x v : Int32} (o : OKc κ ω nL cc own ret rm) (hd : decode cc pc = .ok (.iinc i n, 3)) (j : Nat) (hj : lv[j]? = some (i, .int x)) (hv : x + Int32.ofInt n = v) (hn : i < nL) (hl2 : (i, Value.int v) :: lv.filter (fun q => !(q.1 == i) && !(q.1 + 1 == i && q.2.category == 2)) = lv') (kk : GW κ ω nL k Q X (pc + 3) lv' st) : GW κ ω nL k Q X pc lv st := fun H locs ls hP hS hl => lv_iinc o.1 o.2.1 hd hl hj hv hn hl2 (fun ls' hl' => kk H locs ls' hP hS hl')
theorem gw_iadd {x y : Int32} (o : OKc κ ω nL cc own ret rm) (hd : decode cc pc = .ok (.iadd, 1)) (kk : GW κ ω nL k Q X (pc + 1) lv (.int (x + y) :: st)) : GW κ ω nL k Q X pc lv (.int y :: .int x :: st) := fun H locs ls hP hS hl => lv_iadd o.1 o.2.1 hd (kk H locs ls hP hS hl)
theorem gw_isub {x y : Int32} (o : OKc κ ω nL cc own ret rm) (hd : decode cc pc = .ok (.isub, 1)) (kk : GW κ ω nL k Q X (pc + 1) lv (.int (x - y) :: st)) : GW κ ω nL k Q X pc lv (.int y :: .int x :: st) := fun H locs ls hP hS hl => lv_isub o.1 o.2.1 hd (kk H locs ls hP hS hl)
theorem gw_imul {x y : Int32} (o : OKc κ ω nL cc own ret rm) (hd : decode cc pc = .ok (.imul, 1)) (kk : GW κ ω nL k Q X (pc + 1) lv (.int (x * y) :: st)) : GW κ ω nL k Q X pc lv (.int y :: .int x :: st) := fun H locs ls hP hS hl => lv_imul o.1 o.2.1 hd (kk H locs ls hP hS hl)
theorem gw_iand {x y : Int32} (o : OKc κ ω nL cc own ret rm) (hd : decode cc pc = .ok (.iand, 1)) (kk : GW κ ω nL k Q X (pc + 1) lv (.int (x &&& y) :: st)) : GW κ ω nL k Q X pc lv (.int y :: .int x :: st) := fun H locs ls hP hS hl => lv_iand o.1 o.2.1 hd (kk H locs ls hP hS hl)
theorem gw_ior {x y : Int32} (o : OKc κ ω nL cc own ret rm) (hd : decode cc pc = .ok (.ior, 1)) (kk : GW κ ω nL k Q X (pc + 1) lv (.int (x ||| y) :: st)) : GW κ ω nL k Q X pc lv (.int y :: .int x :: st) := fun H locs ls hP hS hl => lv_ior o.1 o.2.1 hd (kk H locs ls hP hS hl)
theorem gw_ixor {x y : Int32} (o : OKc κ ω nL cc own ret rm) (hd : decode cc pc = .ok (.ixor, 1)) (kk : GW κ ω nL k Q X (pc + 1) lv (.int (x ^^^ y) :: st)) : GW κ ω nL k Q X pc lv (.int y :: .int x :: st) := fun H locs ls hP hS hl => lv_ixor o.1 o.2.1 hd (kk H locs ls hP hS hl)
theorem gw_ishl {x y : Int32} (o : OKc κ ω nL cc own ret rm) (hd : decode cc pc = .ok (.ishl, 1)) (kk : GW κ ω nL k Q X (pc + 1) lv (.int (x <<< (y &&& 31)) :: st)) : GW κ ω nL k Q X pc lv (.int y :: .int x :: st) := fun H locs ls hP hS hl => lv_ishl o.1 o.2.1 hd (kk H locs ls hP hS hl)
theorem gw_ishr {x y : Int32} (o : OKc κ ω nL cc own ret rm) (hd : decode cc pc = .ok (.ishr, 1)) (kk : GW κ ω nL k Q X (pc + 1) lv (.int (x >>> (y &&& 31)) :: st)) : GW κ ω nL k Q X pc lv (.int y :: .int x :: st) := fun H locs ls hP hS hl => lv_ishr o.1 o.2.1 hd (kk H locs ls hP hS hl)
theorem gw_idiv {x y : Int32} (o : OKc κ ω nL cc own ret rm) (hd : decode cc pc = .ok (.idiv, 1)) (hne : ¬ y = 0) (kk : GW κ ω nL k Q X (pc + 1) lv (.int (x / y) :: st)) : GW κ ω nL k Q X pc lv (.int y :: .int x :: st) := fun H locs ls hP hS hl => lv_idiv o.1 o.2.1 hd hne (kk H locs ls hP hS hl)
theorem gw_irem {x y : Int32} (o : OKc κ ω nL cc own ret rm) (hd : decode cc pc = .ok (.irem, 1)) (hne : ¬ y = 0) (kk : GW κ ω nL k Q X (pc + 1) lv (.int (x - x / y * y) :: st)) : GW κ ω nL k Q X pc lv (.int y :: .int x :: st) := fun H locs ls hP hS hl => lv_irem o.1 o.2.1 hd hne (kk H locs ls hP hS hl)
theorem gw_iushr {x y : Int32} (o : OKc κ ω nL cc own ret rm) (hd : decode cc pc = .ok (.iushr, 1)) (kk : GW κ ω nL k Q X (pc + 1) lv (.int ((x.toUInt32 >>> (y.toUInt32 &&& Int32.toUInt32 31)).toInt32) :: st)) : GW κ ω nL k Q X pc lv (.int y :: .int x :: st) := fun H locs ls hP hS hl => lv_iushr o.1 o.2.1 hd rfl (kk H locs ls hP hS hl)
theorem gw_land {x y : Int64} (o : OKc κ ω nL cc own ret rm) (hd : decode cc pc = .ok (.land, 1)) (kk : GW κ ω nL k Q X (pc + 1) lv (.long (x &&& y) :: st)) : GW κ ω nL k Q X pc lv (.long y :: .long x :: st) := fun H locs ls hP hS hl => lv_land o.1 o.2.1 hd (kk H locs ls hP hS hl)
theorem gw_lor {x y : Int64} (o : OKc κ ω nL cc own ret rm) (hd : decode cc pc = .ok (.lor, 1)) (kk : GW κ ω nL k Q X (pc + 1) lv (.long (x ||| y) :: st)) : GW κ ω nL k Q X pc lv (.long y :: .long x :: st) := fun H locs ls hP hS hl => lv_lor o.1 o.2.1 hd (kk H locs ls hP hS hl)
theorem gw_lshl {x : Int64} {y : Int32} (o : OKc κ ω nL cc own ret rm) (hd : decode cc pc = .ok (.lshl, 1)) (kk : GW κ ω nL k Q X (pc + 1) lv (.long (x <<< (y.toInt64 &&& 63)) :: st)) : GW κ ω nL k Q X pc lv (.int y :: .long x :: st) := fun H locs ls hP hS hl => lv_lshl o.1 o.2.1 hd rfl (kk H locs ls hP hS hl)
theorem gw_lshr {x : Int64} {y : Int32} (o : OKc κ ω nL cc own ret rm) (hd : decode cc pc = .ok (.lshr, 1)) (kk : GW κ ω nL k Q X (pc + 1) lv (.long (x >>> (y.toInt64 &&& 63)) :: st)) : GW κ ω nL k Q X pc lv (.int y :: .long x :: st) := fun H locs ls hP hS hl => lv_lshr o.1 o.2.1 hd rfl (kk H locs ls hP hS hl)
theorem gw_i2l {x : Int32} (o : OKc κ ω nL cc own ret rm) (hd : decode cc pc = .ok (.i2l, 1)) (kk : GW κ ω nL k Q X (pc + 1) lv (.long x.toInt64 :: st)) : GW κ ω nL k Q X pc lv (.int x :: st) := fun H locs ls hP hS hl => lv_i2l o.1 o.2.1 hd rfl (kk H locs ls hP hS hl)
theorem gw_i2b {x : Int32} (o : OKc κ ω nL cc own ret rm) (hd : decode cc pc = .ok (.i2b, 1)) (kk : GW κ ω nL k Q X (pc + 1) lv (.int x.toInt8.toInt32 :: st)) : GW κ ω nL k Q X pc lv (.int x :: st) := fun H locs ls hP hS hl => lv_i2b o.1 o.2.1 hd rfl (kk H locs ls hP hS hl)
theorem gw_lcmp {x y : Int64} (o : OKc κ ω nL cc own ret rm) (hd : decode cc pc = .ok (.lcmp, 1)) (kk : GW κ ω nL k Q X (pc + 1) lv (.int (lg_cmp x y) :: st)) : GW κ ω nL k Q X pc lv (.long y :: .long x :: st) := fun H locs ls hP hS hl => W.lcmp o.1 o.2.1 hd (kk H locs ls hP hS hl)
theorem xcmp0 {x y : Int64} : lg_cmp x y = 0 ↔ x = y := by unfold lg_cmp; constructor <;> intro h <;> (repeat' split at *) <;> simp_all
theorem gw_dup {va : Value} (o : OKc κ ω nL cc own ret rm) (hd : decode cc pc = .ok (.dup, 1)) (hva : va.category = 1) (kk : GW κ ω nL k Q X (pc + 1) lv (va :: va :: st)) : GW κ ω nL k Q X pc lv (va :: st) := fun H locs ls hP hS hl => lv_dup o.1 o.2.1 hd hva (kk H locs ls hP hS hl)
theorem gw_pop {va : Value} (o : OKc κ ω nL cc own ret rm) (hd : decode cc pc = .ok (.pop, 1)) (hva : va.category = 1) (kk : GW κ ω nL k Q X (pc + 1) lv (st)) : GW κ ω nL k Q X pc lv (va :: st) := fun H locs ls hP hS hl => lv_pop o.1 o.2.1 hd hva (kk H locs ls hP hS hl)
theorem gw_dup_x1 {va vb : Value} (o : OKc κ ω nL cc own ret rm) (hd : decode cc pc = .ok (.dup_x1, 1)) (hva : va.category = 1) (hvb : vb.category = 1) (kk : GW κ ω nL k Q X (pc + 1) lv (va :: vb :: va :: st)) : GW κ ω nL k Q X pc lv (va :: vb :: st) := fun H locs ls hP hS hl => lv_dup_x1 o.1 o.2.1 hd hva hvb (kk H locs ls hP hS hl)
theorem gw_if_eq {x : Int32} {off : Int} {tgt : Nat} (o : OKc κ ω nL cc own ret rm) (hd : decode cc pc = .ok (.ifCond .eq off, 3)) (ht : (pc : Int) + off = (tgt : Int)) (kt : x = 0 → GW κ ω nL k Q X tgt lv st) (kf : ¬ x = 0 → GW κ ω nL k Q X (pc + 3) lv st) : GW κ ω nL k Q X pc lv (.int x :: st) := fun H locs ls hP hS hl => lv_if_eq o.1 o.2.1 hd ht (fun h => kt h H locs ls hP hS hl) (fun h => kf h H locs ls hP hS hl)
theorem gw_if_ne {x : Int32} {off : Int} {tgt : Nat} (o : OKc κ ω nL cc own ret rm) (hd : decode cc pc = .ok (.ifCond .ne off, 3)) (ht : (pc : Int) + off = (tgt : Int)) (kt : ¬ x = 0 → GW κ ω nL k Q X tgt lv st) (kf : x = 0 → GW κ ω nL k Q X (pc + 3) lv st) : GW κ ω nL k Q X pc lv (.int x :: st) := fun H locs ls hP hS hl => lv_if_ne o.1 o.2.1 hd ht (fun h => kt h H locs ls hP hS hl) (fun h => kf h H locs ls hP hS hl)
theorem gw_if_lt {x : Int32} {off : Int} {tgt : Nat} (o : OKc κ ω nL cc own ret rm) (hd : decode cc pc = .ok (.ifCond .lt off, 3)) (ht : (pc : Int) + off = (tgt : Int)) (kt : x < 0 → GW κ ω nL k Q X tgt lv st) (kf : ¬ x < 0 → GW κ ω nL k Q X (pc + 3) lv st) : GW κ ω nL k Q X pc lv (.int x :: st) := fun H locs ls hP hS hl => lv_if_lt o.1 o.2.1 hd ht (fun h => kt h H locs ls hP hS hl) (fun h => kf h H locs ls hP hS hl)
theorem gw_if_ge {x : Int32} {off : Int} {tgt : Nat} (o : OKc κ ω nL cc own ret rm) (hd : decode cc pc = .ok (.ifCond .ge off, 3)) (ht : (pc : Int) + off = (tgt : Int)) (kt : 0 ≤ x → GW κ ω nL k Q X tgt lv st) (kf : ¬ 0 ≤ x → GW κ ω nL k Q X (pc + 3) lv st) : GW κ ω nL k Q X pc lv (.int x :: st) := fun H locs ls hP hS hl => lv_if_ge o.1 o.2.1 hd ht (fun h => kt h H locs ls hP hS hl) (fun h => kf h H locs ls hP hS hl)
theorem gw_if_gt {x : Int32} {off : Int} {tgt : Nat} (o : OKc κ ω nL cc own ret rm) (hd : decode cc pc = .ok (.ifCond .gt off, 3)) (ht : (pc : Int) + off = (tgt : Int)) (kt : 0 < x → GW κ ω nL k Q X tgt lv st) (kf : ¬ 0 < x → GW κ ω nL k Q X (pc + 3) lv st) : GW κ ω nL k Q X pc lv (.int x :: st) := fun H locs ls hP hS hl => lv_if_gt o.1 o.2.1 hd ht (fun h => kt h H locs ls hP hS hl) (fun h => kf h H locs ls hP hS hl)
theorem gw_if_le {x : Int32} {off : Int} {tgt : Nat} (o : OKc κ ω nL cc own ret rm) (hd : decode cc pc = .ok (.ifCond .le off, 3)) (ht : (pc : Int) + off = (tgt : Int)) (kt : x ≤ 0 → GW κ ω nL k Q X tgt lv st) (kf : ¬ x ≤ 0 → GW κ ω nL k Q X (pc + 3) lv st) : GW κ ω nL k Q X pc lv (.int x :: st) := fun H locs ls hP hS hl => lv_if_le o.1 o.2.1 hd ht (fun h => kt h H locs ls hP hS hl) (fun h => kf h H locs ls hP hS hl)
theorem gw_icmp_eq {x y : Int32} {off : Int} {tgt : Nat} (o : OKc κ ω nL cc own ret rm) (hd : decode cc pc = .ok (.if_icmp .eq off, 3)) (ht : (pc : Int) + off = (tgt : Int)) (kt : x = y → GW κ ω nL k Q X tgt lv st) (kf : ¬ x = y → GW κ ω nL k Q X (pc + 3) lv st) : GW κ ω nL k Q X pc lv (.int y :: .int x :: st) := fun H locs ls hP hS hl => lv_icmp_eq o.1 o.2.1 hd ht (fun h => kt h H locs ls hP hS hl) (fun h => kf h H locs ls hP hS hl)
theorem gw_icmp_ne {x y : Int32} {off : Int} {tgt : Nat} (o : OKc κ ω nL cc own ret rm) (hd : decode cc pc = .ok (.if_icmp .ne off, 3)) (ht : (pc : Int) + off = (tgt : Int)) (kt : ¬ x = y → GW κ ω nL k Q X tgt lv st) (kf : x = y → GW κ ω nL k Q X (pc + 3) lv st) : GW κ ω nL k Q X pc lv (.int y :: .int x :: st) := fun H locs ls hP hS hl => lv_icmp_ne o.1 o.2.1 hd ht (fun h => kt h H locs ls hP hS hl) (fun h => kf h H locs ls hP hS hl)
theorem gw_icmp_lt {x y : Int32} {off : Int} {tgt : Nat} (o : OKc κ ω nL cc own ret rm) (hd : decode cc pc = .ok (.if_icmp .lt off, 3)) (ht : (pc : Int) + off = (tgt : Int)) (kt : x < y → GW κ ω nL k Q X tgt lv st) (kf : ¬ x < y → GW κ ω nL k Q X (pc + 3) lv st) : GW κ ω nL k Q X pc lv (.int y :: .int x :: st) := fun H locs ls hP hS hl => lv_icmp_lt o.1 o.2.1 hd ht (fun h => kt h H locs ls hP hS hl) (fun h => kf h H locs ls hP hS hl)
theorem gw_icmp_ge {x y : Int32} {off : Int} {tgt : Nat} (o : OKc κ ω nL cc own ret rm) (hd : decode cc pc = .ok (.if_icmp .ge off, 3)) (ht : (pc : Int) + off = (tgt : Int)) (kt : y ≤ x → GW κ ω nL k Q X tgt lv st) (kf : ¬ y ≤ x → GW κ ω nL k Q X (pc + 3) lv st) : GW κ ω nL k Q X pc lv (.int y :: .int x :: st) := fun H locs ls hP hS hl => lv_icmp_ge o.1 o.2.1 hd ht (fun h => kt h H locs ls hP hS hl) (fun h => kf h H locs ls hP hS hl)
theorem gw_icmp_gt {x y : Int32} {off : Int} {tgt : Nat} (o : OKc κ ω nL cc own ret rm) (hd : decode cc pc = .ok (.if_icmp .gt off, 3)) (ht : (pc : Int) + off = (tgt : Int)) (kt : y < x → GW κ ω nL k Q X tgt lv st) (kf : ¬ y < x → GW κ ω nL k Q X (pc + 3) lv st) : GW κ ω nL k Q X pc lv (.int y :: .int x :: st) := fun H locs ls hP hS hl => lv_icmp_gt o.1 o.2.1 hd ht (fun h => kt h H locs ls hP hS hl) (fun h => kf h H locs ls hP hS hl)
theorem gw_icmp_le {x y : Int32} {off : Int} {tgt : Nat} (o : OKc κ ω nL cc own ret rm) (hd : decode cc pc = .ok (.if_icmp .le off, 3)) (ht : (pc : Int) + off = (tgt : Int)) (kt : x ≤ y → GW κ ω nL k Q X tgt lv st) (kf : ¬ x ≤ y → GW κ ω nL k Q X (pc + 3) lv st) : GW κ ω nL k Q X pc lv (.int y :: .int x :: st) := fun H locs ls hP hS hl => lv_icmp_le o.1 o.2.1 hd ht (fun h => kt h H locs ls hP hS hl) (fun h => kf h H locs ls hP hS hl)
theorem gw_goto {off : Int} {tgt : Nat} (o : OKc κ ω nL cc own ret rm) (hd : decode cc pc = .ok (.goto off, 3)) (ht : (pc : Int) + off = (tgt : Int)) (kk : GW κ ω nL k Q X tgt lv st) : GW κ ω nL k Q X pc lv st := fun H locs ls hP hS hl => lv_goto o.1 o.2.1 hd ht (kk H locs ls hP hS hl)
theorem gw_tableIn {dflt lo hi : Int} {offs : Array Int} {len : Nat} {x : Int32} {off : Int} {tgt : Nat} (o : OKc κ ω nL cc own ret rm) (hd : decode cc pc = .ok (.tableswitch dflt lo hi offs, len)) (h1 : ¬ x.toInt < lo) (h2 : ¬ hi < x.toInt) (ho : offs[(x.toInt - lo).toNat]? = some off) (ht : (pc : Int) + off = (tgt : Int)) (kk : GW κ ω nL k Q X tgt lv st) : GW κ ω nL k Q X pc lv (.int x :: st) := fun H locs ls hP hS hl => lv_tableIn o.1 o.2.1 hd h1 h2 ho ht (kk H locs ls hP hS hl)
theorem gw_tableOut {dflt lo hi : Int} {offs : Array Int} {len : Nat} {x : Int32} {tgt : Nat} (o : OKc κ ω nL cc own ret rm) (hd : decode cc pc = .ok (.tableswitch dflt lo hi offs, len)) (h : x.toInt < lo ∨ hi < x.toInt) (ht : (pc : Int) + dflt = (tgt : Int)) (kk : GW κ ω nL k Q X tgt lv st) : GW κ ω nL k Q X pc lv (.int x :: st) := fun H locs ls hP hS hl => lv_tableOut o.1 o.2.1 hd h ht (kk H locs ls hP hS hl)
/-- Math.min -/
theorem gw_min {index : Nat} {x y : Int32} (o : OKc κ ω nL cc own ret rm) (hl1 : Cond.methodLink own index Lib.Math.min.name ∈ xw_ok) (hl2 : Cond.static Lib.Math.min.name ∈ xw_ok) (hl3 : Cond.initialized "java/lang/Math" ∈ xw_ok) (hl4 : Cond.code Lib.Math.min.name Lib.Math.min.code 2 (some .int) ∈ xw_ok) (hf : 1 ≤ rm.frames) (hlo : (st.map fun v => v.category).sum + 13 ≤ rm.locals) (hk : k.1 ≤ rm.cells ∧ k.2 ≤ rm.slots) (hd : decode cc pc = .ok (.invokestatic index, 3)) (kk : GW κ ω nL k Q X (pc + 3) lv (.int (if y < x then y else x) :: st)) : GW κ ω nL k Q X pc lv (.int y :: .int x :: st) := by
  intro H locs ls hP hS hl
  obtain ⟨hx, hb, hml, hown, hts, hK, hD, hr, hlocks, hR⟩ := o
  exact va_mmin hx hb (hml.trans hl.1.symm) hown (hts _ hl1) (hts _ hl2) (hts _ hl3) (hts _ hl4) (by rw [hR]; exact hf) (by rw [hR]; exact hlo) (by rw [hR]; exact hk.1) (by rw [hR]; exact hk.2) hd (kk H locs ls hP hS hl)
theorem gw_get {C : String} {T : u_T} {N ci idx : Nat} {a : Nat} {fs : List Value} {v : Value} (o : OKc κ ω nL cc own ret rm) (hin : ∀ w ∈ u_ws C T N, w ∈ xw_ok) (q0 : Nat) (he : (xWf ω X)[q0]? = some (a, .inr (ci, fs))) (hc : classes[ci]? = some (C, T, N)) (kf : Nat) (hk : kf < N) (hlink : Cond.fieldLink own idx (T kf).1 (T kf).2.1 (T kf).2.2.1 ∈ xw_ok) (hv : fs[kf]? = some v) (hd : decode cc pc = .ok (.getfield idx, 3)) (kk : GW κ ω nL k Q X (pc + 3) lv (v :: st)) : GW κ ω nL k Q X pc lv (.ref a :: st) := fun H locs ls hP hS hl =>
  va_get o.1 o.2.1 o.2.2.2.2.1 hin o.2.2.2.1 o.2.2.2.2.2.1.1 hP q0 he hc kf hk (o.2.2.2.2.1 _ hlink) (fun _ h9 => h9) hv hd (kk H locs ls hP hS hl)
theorem gw_getN {C host : String} {T : u_T} {N ci idx : Nat} {a : Nat} {fs : List Value} {v : Value} (o : OKc κ ω nL cc own ret rm) (hin : ∀ w ∈ u_ws C T N, w ∈ xw_ok) (q0 : Nat) (he : (xWf ω X)[q0]? = some (a, .inr (ci, fs))) (hc : classes[ci]? = some (C, T, N)) (kf : Nat) (hk : kf < N) (hlink : va_Nw (.fieldLinkNest own idx (T kf).1 (T kf).2.1 (T kf).2.2.1 host) (kS κ)) (hv : fs[kf]? = some v) (hd : decode cc pc = .ok (.getfield idx, 3)) (kk : GW κ ω nL k Q X (pc + 3) lv (v :: st)) : GW κ ω nL k Q X pc lv (.ref a :: st) := fun H locs ls hP hS hl =>
  va_getN o.1 o.2.1 o.2.2.2.2.1 hin o.2.2.2.1 o.2.2.2.2.2.1.1 hP q0 he hc kf hk (hlink.use rfl) (fun _ h9 => h9) hv hd (kk H locs ls hP hS hl)
theorem gw_put {X' : σ} {C : String} {T : u_T} {N ci idx : Nat} {a : Nat} {fs : List Value} {v : Value} {ty : FieldType} (o : OKc κ ω nL cc own ret rm) (hin : ∀ w ∈ u_ws C T N, w ∈ xw_ok) (ty0 : Nat → FieldType) (hty : ∀ k, k < N → parseFieldDescriptor (T k).2.2.1 = some (ty0 k)) (hnm : ∀ a, a < N → ∀ b, b < N → a ≠ b → (T a).2.1 ≠ (T b).2.1) (q0 : Nat) (he : (xWf ω X)[q0]? = some (a, .inr (ci, fs))) (hc : classes[ci]? = some (C, T, N)) (kf : Nat) (hk : kf < N) (hlink : Cond.fieldLink own idx (T kf).1 (T kf).2.1 (T kf).2.2.1 ∈ xw_ok) (hfin : (T kf).2.2.2 = false) (hde : parseFieldDescriptor (T kf).2.2.1 = some ty) (hn : narrow ty v = v) (hfit : fits ty v = true) (hlen : kf < fs.length) (hX : (xWf ω X).set q0 (a, .inr (ci, fs.set kf v)) = xWf ω X') (hd : decode cc pc = .ok (.putfield idx, 3)) (kk : GW κ ω nL k Q X' (pc + 3) lv st) : GW κ ω nL k Q X pc lv (v :: .ref a :: st) := fun H locs ls hP hS hl =>
  va_put o.1 o.2.1 o.2.2.2.2.1 hin ty0 hty hnm o.2.2.2.1 o.2.2.2.2.2.1.1 hP (o.2.2.2.2.2.2.1.at _ X) hS q0 he hc kf hk (o.2.2.2.2.1 _ hlink) (fun _ h9 => h9) hfin hde hn hfit hlen hd (fun H1 locs1 hP1 _ hS1 => kk H1 locs1 ls (by rw [hX] at hP1; exact hP1) hS1 hl)
theorem gw_iald {a : Nat} {n : Nat} {f : Nat → Int32} {i : Int32} (o : OKc κ ω nL cc own ret rm) (q0 : Nat) (he : (xWf ω X)[q0]? = some (a, .inl (xCg ω 0, n, .inl f))) (hin : vp_in i n) (hd : decode cc pc = .ok (.iaload, 1)) (kk : GW κ ω nL k Q X (pc + 1) lv (.int (f i.toNatClampNeg) :: st)) : GW κ ω nL k Q X pc lv (.int i :: .ref a :: st) := fun H locs ls hP hS hl =>
  va_iald o.1 o.2.1 o.2.2.2.2.2.1.1 hP q0 0 he rfl hin hd (kk H locs ls hP hS hl)
theorem gw_bald {a : Nat} {n : Nat} {f : Nat → Int32} {i : Int32} (o : OKc κ ω nL cc own ret rm) (q0 : Nat) (he : (xWf ω X)[q0]? = some (a, .inl (xCg ω 1, n, .inl f))) (hin : vp_in i n) (hd : decode cc pc = .ok (.baload, 1)) (kk : GW κ ω nL k Q X (pc + 1) lv (.int (f i.toNatClampNeg) :: st)) : GW κ ω nL k Q X pc lv (.int i :: .ref a :: st) := fun H locs ls hP hS hl =>
  va_bald o.1 o.2.1 o.2.2.2.2.2.1.1 hP q0 1 he rfl hin hd (kk H locs ls hP hS hl)
theorem gw_zald {a : Nat} {n : Nat} {f : Nat → Int32} {i : Int32} (o : OKc κ ω nL cc own ret rm) (q0 : Nat) (he : (xWf ω X)[q0]? = some (a, .inl (xCg ω 2, n, .inl f))) (hin : vp_in i n) (hd : decode cc pc = .ok (.baload, 1)) (kk : GW κ ω nL k Q X (pc + 1) lv (.int (f i.toNatClampNeg) :: st)) : GW κ ω nL k Q X pc lv (.int i :: .ref a :: st) := fun H locs ls hP hS hl =>
  va_zald o.1 o.2.1 o.2.2.2.2.2.1.1 hP q0 2 he rfl hin hd (kk H locs ls hP hS hl)
theorem gw_lald {a : Nat} {n : Nat} {f : Nat → Int64} {i : Int32} (o : OKc κ ω nL cc own ret rm) (q0 : Nat) (he : (xWf ω X)[q0]? = some (a, .inl (xCg ω 3, n, .inr (.inl f)))) (hin : vp_in i n) (hd : decode cc pc = .ok (.laload, 1)) (kk : GW κ ω nL k Q X (pc + 1) lv (.long (f i.toNatClampNeg) :: st)) : GW κ ω nL k Q X pc lv (.int i :: .ref a :: st) := fun H locs ls hP hS hl =>
  va_lald o.1 o.2.1 o.2.2.2.2.2.1.1 hP q0 3 he rfl hin hd (kk H locs ls hP hS hl)
theorem gw_iast {X' : σ} {a : Nat} {n : Nat} {f : Nat → Int32} {i x : Int32} (o : OKc κ ω nL cc own ret rm) (q0 : Nat) (he : (xWf ω X)[q0]? = some (a, .inl (xCg ω 0, n, .inl f))) (hin : vp_in i n) (hX : (xWf ω X).set q0 (a, .inl (xCg ω 0, n, .inl (upd f i.toNatClampNeg x))) = xWf ω X') (hd : decode cc pc = .ok (.iastore, 1)) (kk : GW κ ω nL k Q X' (pc + 1) lv st) : GW κ ω nL k Q X pc lv (.int x :: .int i :: .ref a :: st) := fun H locs ls hP hS hl =>
  va_iast o.1 o.2.1 o.2.2.2.2.2.1.1 hP (o.2.2.2.2.2.2.1.at _ X) hS q0 0 he rfl hin hd (fun H1 locs1 hP1 _ hS1 => kk H1 locs1 ls (by rw [hX] at hP1; exact hP1) hS1 hl)
theorem gw_bast {X' : σ} {a : Nat} {n : Nat} {f : Nat → Int32} {i x y : Int32} (o : OKc κ ω nL cc own ret rm) (q0 : Nat) (he : (xWf ω X)[q0]? = some (a, .inl (xCg ω 1, n, .inl f))) (hin : vp_in i n) (hv : vp_nar .byte x = y) (hX : (xWf ω X).set q0 (a, .inl (xCg ω 1, n, .inl (upd f i.toNatClampNeg y))) = xWf ω X') (hd : decode cc pc = .ok (.bastore, 1)) (kk : GW κ ω nL k Q X' (pc + 1) lv st) : GW κ ω nL k Q X pc lv (.int x :: .int i :: .ref a :: st) := fun H locs ls hP hS hl =>
  va_bast o.1 o.2.1 o.2.2.2.2.2.1.1 hP (o.2.2.2.2.2.2.1.at _ X) hS q0 1 he rfl hin hd (fun H1 locs1 hP1 _ hS1 => kk H1 locs1 ls (by rw [hv] at hP1; rw [hX] at hP1; exact hP1) hS1 hl)
theorem gw_zast {X' : σ} {a : Nat} {n : Nat} {f : Nat → Int32} {i x y : Int32} (o : OKc κ ω nL cc own ret rm) (q0 : Nat) (he : (xWf ω X)[q0]? = some (a, .inl (xCg ω 2, n, .inl f))) (hin : vp_in i n) (hv : vp_nar .boolean x = y) (hX : (xWf ω X).set q0 (a, .inl (xCg ω 2, n, .inl (upd f i.toNatClampNeg y))) = xWf ω X') (hd : decode cc pc = .ok (.bastore, 1)) (kk : GW κ ω nL k Q X' (pc + 1) lv st) : GW κ ω nL k Q X pc lv (.int x :: .int i :: .ref a :: st) := fun H locs ls hP hS hl =>
  va_zast o.1 o.2.1 o.2.2.2.2.2.1.1 hP (o.2.2.2.2.2.2.1.at _ X) hS q0 2 he rfl hin hd (fun H1 locs1 hP1 _ hS1 => kk H1 locs1 ls (by rw [hv] at hP1; rw [hX] at hP1; exact hP1) hS1 hl)
theorem gw_last {X' : σ} {a : Nat} {n : Nat} {f : Nat → Int64} {i : Int32} {x : Int64} (o : OKc κ ω nL cc own ret rm) (q0 : Nat) (he : (xWf ω X)[q0]? = some (a, .inl (xCg ω 3, n, .inr (.inl f)))) (hin : vp_in i n) (hX : (xWf ω X).set q0 (a, .inl (xCg ω 3, n, .inr (.inl (vp_updL f i.toNatClampNeg x)))) = xWf ω X') (hd : decode cc pc = .ok (.lastore, 1)) (kk : GW κ ω nL k Q X' (pc + 1) lv st) : GW κ ω nL k Q X pc lv (.long x :: .int i :: .ref a :: st) := fun H locs ls hP hS hl =>
  va_last o.1 o.2.1 o.2.2.2.2.2.1.1 hP (o.2.2.2.2.2.2.1.at _ X) hS q0 3 he rfl hin hd (fun H1 locs1 hP1 _ hS1 => kk H1 locs1 ls (by rw [hX] at hP1; exact hP1) hS1 hl)
theorem gw_alen {a : Nat} {x : vp_A} {t0 : Nat} {cA : ClassId} {ty : FieldType} {v : Int32} (o : OKc κ ω nL cc own ret rm) (q0 : Nat) (he : (xWf ω X)[q0]? = some (a, .inl (cA, x))) (ht : (xTy (xCg ω))[t0]? = some (cA, ty)) (hv : Int32.ofNat x.1 = v) (hd : decode cc pc = .ok (.arraylength, 1)) (kk : GW κ ω nL k Q X (pc + 1) lv (.int v :: st)) : GW κ ω nL k Q X pc lv (.ref a :: st) := fun H locs ls hP hS hl =>
  va_alen o.1 o.2.1 o.2.2.2.2.2.1.1 hP q0 t0 he ht hv hd (kk H locs ls hP hS hl)
/-- what a call finds of its callee in the tables -/
def xMi (y : MethodName) (cw : Cond) (n : Nat) : Prop := cw ∈ xw_ok ∧ Cond.initialized y.cls ∈ xw_ok ∧ y.cls ≠ "java/lang/invoke/MethodHandle" ∧ y.cls ≠ "java/lang/invoke/VarHandle" ∧ (parseMethodDescriptor y.desc).map (fun d => d.parameters.length) = some n
def xRo (rm : Room) (k : Nat × Nat) (rmY : Room) (maxL : Nat) : Prop := rmY.frames + 1 ≤ rm.frames ∧ 8 + (maxL + 11) + rmY.locals ≤ rm.locals ∧ k.1 + rmY.cells ≤ rm.cells ∧ k.2 + rmY.slots ≤ rm.slots
theorem gw_back {Z : Option Value → σ → Prop} {mc ms : Nat} {st0 rest : List Value} {a : Array Value}
    (hr : ∀ (H : Heap) (locs : List Loc) (ls : Array Slot), xH ω X H → lv_has ls nL lv → va_Run (kP κ) (kL κ) (kE κ) (kR κ) (kS κ) (kM κ) (kA κ) (kB κ) (kMe κ) (kC κ) H locs k.1 k.2 mc ms (F0 (kM κ) pc ls st0) rest (xQ ω H.size Z a) (xA ω H.size))
    (kk : ∀ (v : Option Value) (Y : σ), Z v Y → GW κ ω nL (k.1 + mc, k.2 + ms) Q Y (pc + 3) lv (v.toList ++ rest)) : GW κ ω nL k Q X pc lv st0 := by
  intro H locs ls hP hS hl T hT XX
  obtain ⟨v, st₀, t, T', L, h0, X', hL, e1, e2, ⟨⟨v', Y, hv, hz, hP'⟩, hF⟩, stp⟩ := hr H locs ls hP hl T hT XX
  cases hv
  have hAA : ∀ q, xA ω H.size q → xA ω (kS κ).heap.size q := fun q h => h.elim Or.inl (fun h2 => Or.inr (Nat.le_trans hS.1 h2))
  have hS2 : va_S (xA ω (kS κ).heap.size) (kS κ).heap t.heap (locs ++ L) := by
    refine ⟨Nat.le_trans hS.1 (by have := hF.1; rw [h0] at this; exact this), fun q hq hA => ?_, fun q hq => ?_⟩
    · have h1 := hF.2 q (by rw [h0]; exact Nat.lt_of_lt_of_le hq hS.1) (fun h => hA (hAA q h))
      rw [h1, h0]; exact hS.2.1 q hq hA
    · rcases List.mem_append.mp hq with h | h
      · exact hS.2.2 q h
      · exact hAA _ (hL q h)
  obtain ⟨t2, a1, b1⟩ := kk v Y hz t.heap (locs ++ L) ls hP' hS2 hl T' e1 X'
  exact ⟨t2, stp t2 a1, b1⟩
theorem gw_callV {Z : Option Value → σ → Prop} {y : MethodName} {bytes : ByteArray} {maxL idx n ci N : Nat} {retY : Option FieldType} {rmY : Room} {b : Nat} {As st0 : List Value} {C : String} {T : u_T} {fs : List Value} (o : OKc κ ω nL cc own ret rm)
    (ct : CT (kL κ) ω y (.code y bytes maxL retY) rmY (.ref b :: As) X Z) (mi : xMi y (.code y bytes maxL retY) n) (hl1 : Cond.methodLink own idx y ∈ xw_ok) (hl2 : Cond.instanceMethod y ∈ xw_ok) (hl3 : Cond.selects C y y ∈ xw_ok)
    (q0 : Nat) (he : (xWf ω X)[q0]? = some (b, .inr (ci, fs))) (hc : classes[ci]? = some (C, T, N)) (hro : xRo rm k rmY maxL) (hs : st0 = As.reverse ++ .ref b :: st) (hn : As.length = n) (hst : (st.map fun v => v.category).sum ≤ 8) (hd : decode cc pc = .ok (.invokevirtual idx, 3))
    (kk : ∀ (v : Option Value) (Y : σ), Z v Y → GW κ ω nL (k.1 + rmY.cells, k.2 + rmY.slots) Q Y (pc + 3) lv (v.toList ++ st)) : GW κ ω nL k Q X pc lv st0 := by
  subst hs
  obtain ⟨hx, hb, hml, hown, hts, hK, hD, hr, hlocks, hR⟩ := o
  refine gw_back (Z := Z) (mc := rmY.cells) (ms := rmY.slots) (a := (Value.ref b :: As).toArray) (fun H locs ls hP hl => ?_) kk
  exact va_runV (own := own) (index := idx) ⟨hx, hb, hml, hown, hts⟩ (ct H.size) ⟨callB_of n hts (xw_in mi.1) rfl rfl rfl (hts _ mi.2.1) (hts _ hl1) mi.2.2 ⟨by rw [hR]; exact hro.1, by rw [hR]; exact hro.2.1⟩, hts _ hl2, hts _ hl3⟩
    ⟨xPc.blind, va_recv hK.1 hP hc he, fun U hU hW => ⟨rfl, by rw [hU], by rw [hU]; exact hP, hK.warm hW⟩⟩ rfl hn hl.1 rfl (lv_room hst) hd ⟨by rw [hR]; exact hro.2.2.1, by rw [hR]; exact hro.2.2.2⟩
theorem gw_callVN {Z : Option Value → σ → Prop} {y : MethodName} {bytes : ByteArray} {maxL idx n ci N : Nat} {retY : Option FieldType} {rmY : Room} {b : Nat} {As st0 : List Value} {C host : String} {T : u_T} {fs : List Value} (o : OKc κ ω nL cc own ret rm)
    (ct : CT (kL κ) ω y (.code y bytes maxL retY) rmY (.ref b :: As) X Z) (mi : xMi y (.code y bytes maxL retY) n) (hl1 : va_Nw (.methodLinkNest own idx y host) (kS κ)) (hl2 : Cond.instanceMethod y ∈ xw_ok) (hl3 : Cond.selects C y y ∈ xw_ok)
    (q0 : Nat) (he : (xWf ω X)[q0]? = some (b, .inr (ci, fs))) (hc : classes[ci]? = some (C, T, N)) (hro : xRo rm k rmY maxL) (hs : st0 = As.reverse ++ .ref b :: st) (hn : As.length = n) (hst : (st.map fun v => v.category).sum ≤ 8) (hd : decode cc pc = .ok (.invokevirtual idx, 3))
    (kk : ∀ (v : Option Value) (Y : σ), Z v Y → GW κ ω nL (k.1 + rmY.cells, k.2 + rmY.slots) Q Y (pc + 3) lv (v.toList ++ st)) : GW κ ω nL k Q X pc lv st0 := by
  subst hs
  obtain ⟨hx, hb, hml, hown, hts, hK, hD, hr, hlocks, hR⟩ := o
  refine gw_back (Z := Z) (mc := rmY.cells) (ms := rmY.slots) (a := (Value.ref b :: As).toArray) (fun H locs ls hP hl => ?_) kk
  exact va_runVN (own := own) (host := host) (index := idx) ⟨hx, hb, hml, hown, hts⟩ (ct H.size) ⟨va_cnB n hts (xw_in mi.1) rfl rfl rfl hl1 (hts _ mi.2.1) mi.2.2 ⟨by rw [hR]; exact hro.1, by rw [hR]; exact hro.2.1⟩, hts _ hl2, hts _ hl3⟩
    ⟨xPc.blind, va_recv hK.1 hP hc he, fun U hU hW => ⟨rfl, by rw [hU], by rw [hU]; exact hP, hK.warm hW⟩⟩ rfl hn hl.1 rfl (lv_room hst) hd ⟨by rw [hR]; exact hro.2.2.1, by rw [hR]; exact hro.2.2.2⟩
theorem gw_callS {Z : Option Value → σ → Prop} {y : MethodName} {bytes : ByteArray} {maxL idx n : Nat} {retY : Option FieldType} {rmY : Room} {As st0 : List Value} (o : OKc κ ω nL cc own ret rm)
    (ct : CT (kL κ) ω y (.code y bytes maxL retY) rmY As X Z) (mi : xMi y (.code y bytes maxL retY) n) (hl1 : Cond.methodLink own idx y ∈ xw_ok) (hl2 : Cond.static y ∈ xw_ok)
    (hro : xRo rm k rmY maxL) (hs : st0 = As.reverse ++ st) (hn : As.length = n) (hst : (st.map fun v => v.category).sum ≤ 8) (hd : decode cc pc = .ok (.invokestatic idx, 3))
    (kk : ∀ (v : Option Value) (Y : σ), Z v Y → GW κ ω nL (k.1 + rmY.cells, k.2 + rmY.slots) Q Y (pc + 3) lv (v.toList ++ st)) : GW κ ω nL k Q X pc lv st0 := by
  subst hs
  obtain ⟨hx, hb, hml, hown, hts, hK, hD, hr, hlocks, hR⟩ := o
  refine gw_back (Z := Z) (mc := rmY.cells) (ms := rmY.slots) (a := As.toArray) (fun H locs ls hP hl => ?_) kk
  exact va_runS (own := own) (index := idx) ⟨hx, hb, hml, hown, hts⟩ (ct H.size) ⟨callB_of n hts (xw_in mi.1) rfl rfl rfl (hts _ mi.2.1) (hts _ hl1) mi.2.2 ⟨by rw [hR]; exact hro.1, by rw [hR]; exact hro.2.1⟩, hts _ hl2⟩
    ⟨xPc.blind, fun U hU hW => ⟨rfl, by rw [hU], by rw [hU]; exact hP, hK.warm hW⟩⟩ rfl hn hl.1 rfl (lv_room hst) hd ⟨by rw [hR]; exact hro.2.2.1, by rw [hR]; exact hro.2.2.2⟩
end irows
/-! loops: there is an invariant and a measure -/
def LOOP1 {A1 : Type} (body : (A1 → Prop) → A1 → Prop) (a1 : A1) : Prop := ∃ (I : A1 → Prop) (μ : A1 → Nat), I a1 ∧ ∀ a1, I a1 → body (fun b1 => I b1 ∧ μ b1 < μ a1) a1
theorem LOOP1.use {A1 : Type} {body : (A1 → Prop) → A1 → Prop} {G : A1 → Prop} (hb : ∀ (k : A1 → Prop) (a1 : A1), (∀ b1, k b1 → G b1) → body k a1 → G a1) {a1 : A1} (h : LOOP1 body a1) : G a1 := by
  obtain ⟨I, μ, h0, hs⟩ := h
  have main : ∀ (n : Nat) (a1 : A1), I a1 → μ a1 < n → G a1 := by
    intro n
    induction n with
    | zero => intro _ _ h; exact absurd h (Nat.not_lt_zero _)
    | succ n ih =>
      intro a1 hi hm
      exact hb _ a1 (fun b1 hk => ih b1 hk.1 (by have := hk.2; omega)) (hs a1 hi)
  exact main (μ a1 + 1) a1 h0 (Nat.lt_succ_self _)
def LOOP2 {A1 A2 : Type} (body : (A1 → A2 → Prop) → A1 → A2 → Prop) (a1 : A1) (a2 : A2) : Prop := ∃ (I : A1 → A2 → Prop) (μ : A1 → A2 → Nat), I a1 a2 ∧ ∀ a1 a2, I a1 a2 → body (fun b1 b2 => I b1 b2 ∧ μ b1 b2 < μ a1 a2) a1 a2
theorem LOOP2.use {A1 A2 : Type} {body : (A1 → A2 → Prop) → A1 → A2 → Prop} {G : A1 → A2 → Prop} (hb : ∀ (k : A1 → A2 → Prop) (a1 : A1) (a2 : A2), (∀ b1 b2, k b1 b2 → G b1 b2) → body k a1 a2 → G a1 a2) {a1 : A1} {a2 : A2} (h : LOOP2 body a1 a2) : G a1 a2 := by
  obtain ⟨I, μ, h0, hs⟩ := h
  have main : ∀ (n : Nat) (a1 : A1) (a2 : A2), I a1 a2 → μ a1 a2 < n → G a1 a2 := by
    intro n
    induction n with
    | zero => intro _ _ _ h; exact absurd h (Nat.not_lt_zero _)
    | succ n ih =>
      intro a1 a2 hi hm
      exact hb _ a1 a2 (fun b1 b2 hk => ih b1 b2 hk.1 (by have := hk.2; omega)) (hs a1 a2 hi)
  exact main (μ a1 a2 + 1) a1 a2 h0 (Nat.lt_succ_self _)
def LOOP3 {A1 A2 A3 : Type} (body : (A1 → A2 → A3 → Prop) → A1 → A2 → A3 → Prop) (a1 : A1) (a2 : A2) (a3 : A3) : Prop := ∃ (I : A1 → A2 → A3 → Prop) (μ : A1 → A2 → A3 → Nat), I a1 a2 a3 ∧ ∀ a1 a2 a3, I a1 a2 a3 → body (fun b1 b2 b3 => I b1 b2 b3 ∧ μ b1 b2 b3 < μ a1 a2 a3) a1 a2 a3
theorem LOOP3.use {A1 A2 A3 : Type} {body : (A1 → A2 → A3 → Prop) → A1 → A2 → A3 → Prop} {G : A1 → A2 → A3 → Prop} (hb : ∀ (k : A1 → A2 → A3 → Prop) (a1 : A1) (a2 : A2) (a3 : A3), (∀ b1 b2 b3, k b1 b2 b3 → G b1 b2 b3) → body k a1 a2 a3 → G a1 a2 a3) {a1 : A1} {a2 : A2} {a3 : A3} (h : LOOP3 body a1 a2 a3) : G a1 a2 a3 := by
  obtain ⟨I, μ, h0, hs⟩ := h
  have main : ∀ (n : Nat) (a1 : A1) (a2 : A2) (a3 : A3), I a1 a2 a3 → μ a1 a2 a3 < n → G a1 a2 a3 := by
    intro n
    induction n with
    | zero => intro _ _ _ _ h; exact absurd h (Nat.not_lt_zero _)
    | succ n ih =>
      intro a1 a2 a3 hi hm
      exact hb _ a1 a2 a3 (fun b1 b2 b3 hk => ih b1 b2 b3 hk.1 (by have := hk.2; omega)) (hs a1 a2 a3 hi)
  exact main (μ a1 a2 a3 + 1) a1 a2 a3 h0 (Nat.lt_succ_self _)
def LOOP4 {A1 A2 A3 A4 : Type} (body : (A1 → A2 → A3 → A4 → Prop) → A1 → A2 → A3 → A4 → Prop) (a1 : A1) (a2 : A2) (a3 : A3) (a4 : A4) : Prop := ∃ (I : A1 → A2 → A3 → A4 → Prop) (μ : A1 → A2 → A3 → A4 → Nat), I a1 a2 a3 a4 ∧ ∀ a1 a2 a3 a4, I a1 a2 a3 a4 → body (fun b1 b2 b3 b4 => I b1 b2 b3 b4 ∧ μ b1 b2 b3 b4 < μ a1 a2 a3 a4) a1 a2 a3 a4
theorem LOOP4.use {A1 A2 A3 A4 : Type} {body : (A1 → A2 → A3 → A4 → Prop) → A1 → A2 → A3 → A4 → Prop} {G : A1 → A2 → A3 → A4 → Prop} (hb : ∀ (k : A1 → A2 → A3 → A4 → Prop) (a1 : A1) (a2 : A2) (a3 : A3) (a4 : A4), (∀ b1 b2 b3 b4, k b1 b2 b3 b4 → G b1 b2 b3 b4) → body k a1 a2 a3 a4 → G a1 a2 a3 a4) {a1 : A1} {a2 : A2} {a3 : A3} {a4 : A4} (h : LOOP4 body a1 a2 a3 a4) : G a1 a2 a3 a4 := by
  obtain ⟨I, μ, h0, hs⟩ := h
  have main : ∀ (n : Nat) (a1 : A1) (a2 : A2) (a3 : A3) (a4 : A4), I a1 a2 a3 a4 → μ a1 a2 a3 a4 < n → G a1 a2 a3 a4 := by
    intro n
    induction n with
    | zero => intro _ _ _ _ _ h; exact absurd h (Nat.not_lt_zero _)
    | succ n ih =>
      intro a1 a2 a3 a4 hi hm
      exact hb _ a1 a2 a3 a4 (fun b1 b2 b3 b4 hk => ih b1 b2 b3 b4 hk.1 (by have := hk.2; omega)) (hs a1 a2 a3 a4 hi)
  exact main (μ a1 a2 a3 a4 + 1) a1 a2 a3 a4 h0 (Nat.lt_succ_self _)
def LOOP5 {A1 A2 A3 A4 A5 : Type} (body : (A1 → A2 → A3 → A4 → A5 → Prop) → A1 → A2 → A3 → A4 → A5 → Prop) (a1 : A1) (a2 : A2) (a3 : A3) (a4 : A4) (a5 : A5) : Prop := ∃ (I : A1 → A2 → A3 → A4 → A5 → Prop) (μ : A1 → A2 → A3 → A4 → A5 → Nat), I a1 a2 a3 a4 a5 ∧ ∀ a1 a2 a3 a4 a5, I a1 a2 a3 a4 a5 → body (fun b1 b2 b3 b4 b5 => I b1 b2 b3 b4 b5 ∧ μ b1 b2 b3 b4 b5 < μ a1 a2 a3 a4 a5) a1 a2 a3 a4 a5
theorem LOOP5.use {A1 A2 A3 A4 A5 : Type} {body : (A1 → A2 → A3 → A4 → A5 → Prop) → A1 → A2 → A3 → A4 → A5 → Prop} {G : A1 → A2 → A3 → A4 → A5 → Prop} (hb : ∀ (k : A1 → A2 → A3 → A4 → A5 → Prop) (a1 : A1) (a2 : A2) (a3 : A3) (a4 : A4) (a5 : A5), (∀ b1 b2 b3 b4 b5, k b1 b2 b3 b4 b5 → G b1 b2 b3 b4 b5) → body k a1 a2 a3 a4 a5 → G a1 a2 a3 a4 a5) {a1 : A1} {a2 : A2} {a3 : A3} {a4 : A4} {a5 : A5} (h : LOOP5 body a1 a2 a3 a4 a5) : G a1 a2 a3 a4 a5 := by
  obtain ⟨I, μ, h0, hs⟩ := h
  have main : ∀ (n : Nat) (a1 : A1) (a2 : A2) (a3 : A3) (a4 : A4) (a5 : A5), I a1 a2 a3 a4 a5 → μ a1 a2 a3 a4 a5 < n → G a1 a2 a3 a4 a5 := by
    intro n
    induction n with
    | zero => intro _ _ _ _ _ _ h; exact absurd h (Nat.not_lt_zero _)
    | succ n ih =>
      intro a1 a2 a3 a4 a5 hi hm
      exact hb _ a1 a2 a3 a4 a5 (fun b1 b2 b3 b4 b5 hk => ih b1 b2 b3 b4 b5 hk.1 (by have := hk.2; omega)) (hs a1 a2 a3 a4 a5 hi)
  exact main (μ a1 a2 a3 a4 a5 + 1) a1 a2 a3 a4 a5 h0 (Nat.lt_succ_self _)
def LOOP6 {A1 A2 A3 A4 A5 A6 : Type} (body : (A1 → A2 → A3 → A4 → A5 → A6 → Prop) → A1 → A2 → A3 → A4 → A5 → A6 → Prop) (a1 : A1) (a2 : A2) (a3 : A3) (a4 : A4) (a5 : A5) (a6 : A6) : Prop := ∃ (I : A1 → A2 → A3 → A4 → A5 → A6 → Prop) (μ : A1 → A2 → A3 → A4 → A5 → A6 → Nat), I a1 a2 a3 a4 a5 a6 ∧ ∀ a1 a2 a3 a4 a5 a6, I a1 a2 a3 a4 a5 a6 → body (fun b1 b2 b3 b4 b5 b6 => I b1 b2 b3 b4 b5 b6 ∧ μ b1 b2 b3 b4 b5 b6 < μ a1 a2 a3 a4 a5 a6) a1 a2 a3 a4 a5 a6
theorem LOOP6.use {A1 A2 A3 A4 A5 A6 : Type} {body : (A1 → A2 → A3 → A4 → A5 → A6 → Prop) → A1 → A2 → A3 → A4 → A5 → A6 → Prop} {G : A1 → A2 → A3 → A4 → A5 → A6 → Prop} (hb : ∀ (k : A1 → A2 → A3 → A4 → A5 → A6 → Prop) (a1 : A1) (a2 : A2) (a3 : A3) (a4 : A4) (a5 : A5) (a6 : A6), (∀ b1 b2 b3 b4 b5 b6, k b1 b2 b3 b4 b5 b6 → G b1 b2 b3 b4 b5 b6) → body k a1 a2 a3 a4 a5 a6 → G a1 a2 a3 a4 a5 a6) {a1 : A1} {a2 : A2} {a3 : A3} {a4 : A4} {a5 : A5} {a6 : A6} (h : LOOP6 body a1 a2 a3 a4 a5 a6) : G a1 a2 a3 a4 a5 a6 := by
  obtain ⟨I, μ, h0, hs⟩ := h
  have main : ∀ (n : Nat) (a1 : A1) (a2 : A2) (a3 : A3) (a4 : A4) (a5 : A5) (a6 : A6), I a1 a2 a3 a4 a5 a6 → μ a1 a2 a3 a4 a5 a6 < n → G a1 a2 a3 a4 a5 a6 := by
    intro n
    induction n with
    | zero => intro _ _ _ _ _ _ _ h; exact absurd h (Nat.not_lt_zero _)
    | succ n ih =>
      intro a1 a2 a3 a4 a5 a6 hi hm
      exact hb _ a1 a2 a3 a4 a5 a6 (fun b1 b2 b3 b4 b5 b6 hk => ih b1 b2 b3 b4 b5 b6 hk.1 (by have := hk.2; omega)) (hs a1 a2 a3 a4 a5 a6 hi)
  exact main (μ a1 a2 a3 a4 a5 a6 + 1) a1 a2 a3 a4 a5 a6 h0 (Nat.lt_succ_self _)
def LOOP7 {A1 A2 A3 A4 A5 A6 A7 : Type} (body : (A1 → A2 → A3 → A4 → A5 → A6 → A7 → Prop) → A1 → A2 → A3 → A4 → A5 → A6 → A7 → Prop) (a1 : A1) (a2 : A2) (a3 : A3) (a4 : A4) (a5 : A5) (a6 : A6) (a7 : A7) : Prop := ∃ (I : A1 → A2 → A3 → A4 → A5 → A6 → A7 → Prop) (μ : A1 → A2 → A3 → A4 → A5 → A6 → A7 → Nat), I a1 a2 a3 a4 a5 a6 a7 ∧ ∀ a1 a2 a3 a4 a5 a6 a7, I a1 a2 a3 a4 a5 a6 a7 → body (fun b1 b2 b3 b4 b5 b6 b7 => I b1 b2 b3 b4 b5 b6 b7 ∧ μ b1 b2 b3 b4 b5 b6 b7 < μ a1 a2 a3 a4 a5 a6 a7) a1 a2 a3 a4 a5 a6 a7
theorem LOOP7.use {A1 A2 A3 A4 A5 A6 A7 : Type} {body : (A1 → A2 → A3 → A4 → A5 → A6 → A7 → Prop) → A1 → A2 → A3 → A4 → A5 → A6 → A7 → Prop} {G : A1 → A2 → A3 → A4 → A5 → A6 → A7 → Prop} (hb : ∀ (k : A1 → A2 → A3 → A4 → A5 → A6 → A7 → Prop) (a1 : A1) (a2 : A2) (a3 : A3) (a4 : A4) (a5 : A5) (a6 : A6) (a7 : A7), (∀ b1 b2 b3 b4 b5 b6 b7, k b1 b2 b3 b4 b5 b6 b7 → G b1 b2 b3 b4 b5 b6 b7) → body k a1 a2 a3 a4 a5 a6 a7 → G a1 a2 a3 a4 a5 a6 a7) {a1 : A1} {a2 : A2} {a3 : A3} {a4 : A4} {a5 : A5} {a6 : A6} {a7 : A7} (h : LOOP7 body a1 a2 a3 a4 a5 a6 a7) : G a1 a2 a3 a4 a5 a6 a7 := by
  obtain ⟨I, μ, h0, hs⟩ := h
  have main : ∀ (n : Nat) (a1 : A1) (a2 : A2) (a3 : A3) (a4 : A4) (a5 : A5) (a6 : A6) (a7 : A7), I a1 a2 a3 a4 a5 a6 a7 → μ a1 a2 a3 a4 a5 a6 a7 < n → G a1 a2 a3 a4 a5 a6 a7 := by
    intro n
    induction n with
    | zero => intro _ _ _ _ _ _ _ _ h; exact absurd h (Nat.not_lt_zero _)
    | succ n ih =>
      intro a1 a2 a3 a4 a5 a6 a7 hi hm
      exact hb _ a1 a2 a3 a4 a5 a6 a7 (fun b1 b2 b3 b4 b5 b6 b7 hk => ih b1 b2 b3 b4 b5 b6 b7 hk.1 (by have := hk.2; omega)) (hs a1 a2 a3 a4 a5 a6 a7 hi)
  exact main (μ a1 a2 a3 a4 a5 a6 a7 + 1) a1 a2 a3 a4 a5 a6 a7 h0 (Nat.lt_succ_self _)
end
section
/-! worlds, printed by worlds.py -/
abbrev xF : Type := Nat → Nat → Int32
def xs (F : xF) (a i : Nat) (v : Int32) : xF := fun b => if b = a then upd (F a) i v else F b
abbrev xT : Type := va_G × xCa × (Nat → Nat)
def wN (τ : xT) (N : xF) : va_W := [(τ.2.2 54, .inr (1, [.ref (τ.2.2 40), .ref (τ.2.2 41), .ref (τ.2.2 42), .ref (τ.2.2 43), .ref (τ.2.2 44), .ref (τ.2.2 45), .int (N 14 6), .int (N 14 7), .int (N 14 8), .ref (τ.2.2 49), .ref (τ.2.2 50), .ref (τ.2.2 51), .ref (τ.2.2 52), .ref (τ.2.2 53)])),
  (τ.2.2 40, .inl (τ.2.1 1, 262144, .inl (N 0))),
  (τ.2.2 41, .inl (τ.2.1 0, 262144, .inl (N 1))),
  (τ.2.2 42, .inl (τ.2.1 0, 262144, .inl (N 2))),
  (τ.2.2 43, .inl (τ.2.1 0, 262144, .inl (N 3))),
  (τ.2.2 44, .inl (τ.2.1 0, 32768, .inl (N 4))),
  (τ.2.2 45, .inl (τ.2.1 2, 262144, .inl (N 5))),
  (τ.2.2 49, .inl (τ.2.1 0, 16384, .inl (N 9))),
  (τ.2.2 50, .inl (τ.2.1 0, 16384, .inl (N 10))),
  (τ.2.2 51, .inl (τ.2.1 0, 16384, .inl (N 11))),
  (τ.2.2 52, .inl (τ.2.1 0, 16384, .inl (N 12))),
  (τ.2.2 53, .inl (τ.2.1 1, 16384, .inl (N 13)))]
def wE (τ : xT) (E : xF) : va_W := [(τ.2.2 30, .inr (0, [.ref (τ.2.2 54), .int (E 30 1), .int (E 30 2), .int (E 30 3), .int (E 30 4), .int (E 30 5), .ref (τ.2.2 6), .ref (τ.2.2 7), .ref (τ.2.2 8), .ref (τ.2.2 9), .ref (τ.2.2 10), .ref (τ.2.2 11), .ref (τ.2.2 12), .int (E 30 13), .ref (τ.2.2 14), .ref (τ.2.2 15), .ref (τ.2.2 16), .ref (τ.2.2 17), .ref (τ.2.2 18), .ref (τ.2.2 19), .int (E 30 20), .int (E 30 21), .int (E 30 22), .int (E 30 23), .ref (τ.2.2 24), .ref (τ.2.2 25), .ref (τ.2.2 26), .int (E 30 27), .ref (τ.2.2 28), .ref (τ.2.2 29)])),
  (τ.2.2 6, .inl (τ.2.1 0, 60, .inl (E 6))),
  (τ.2.2 7, .inl (τ.2.1 0, 60, .inl (E 7))),
  (τ.2.2 8, .inl (τ.2.1 0, 6, .inl (E 8))),
  (τ.2.2 9, .inl (τ.2.1 0, 8, .inl (E 9))),
  (τ.2.2 10, .inl (τ.2.1 0, 240, .inl (E 10))),
  (τ.2.2 11, .inl (τ.2.1 0, 240, .inl (E 11))),
  (τ.2.2 12, .inl (τ.2.1 2, 240, .inl (E 12))),
  (τ.2.2 14, .inl (τ.2.1 0, 60, .inl (E 14))),
  (τ.2.2 15, .inl (τ.2.1 0, 60, .inl (E 15))),
  (τ.2.2 16, .inl (τ.2.1 0, 8, .inl (E 16))),
  (τ.2.2 17, .inl (τ.2.1 0, 256, .inl (E 17))),
  (τ.2.2 18, .inl (τ.2.1 0, 256, .inl (E 18))),
  (τ.2.2 19, .inl (τ.2.1 0, 256, .inl (E 19))),
  (τ.2.2 24, .inl (τ.2.1 0, 4, .inl (E 24))),
  (τ.2.2 25, .inl (τ.2.1 0, 8, .inl (E 25))),
  (τ.2.2 26, .inl (τ.2.1 0, 8, .inl (E 26))),
  (τ.2.2 28, .inl (τ.2.1 0, 256, .inl (E 28))),
  (τ.2.2 29, .inl (τ.2.1 0, 256, .inl (E 29)))]
def wM (τ : xT) (M : xF) (J : Nat → Int64) : va_W := [(τ.2.2 81, .inr (2, [.int (M 21 0), .int (M 21 1), .int (M 21 2), .int (M 21 3), .int (M 21 4), .int (M 21 5), .ref (τ.2.2 66), .ref (τ.2.2 67), .ref (τ.2.2 68), .ref (τ.2.2 69), .ref (τ.2.2 70), .ref (τ.2.2 71), .ref (τ.2.2 72), .ref (τ.2.2 73), .int (M 21 14), .ref (τ.2.2 75), .ref (τ.2.2 76), .ref (τ.2.2 77), .ref (τ.2.2 78), .ref (τ.2.2 79), .ref (τ.2.2 80)])),
  (τ.2.2 66, .inl (τ.2.1 0, 60, .inl (M 6))),
  (τ.2.2 67, .inl (τ.2.1 0, 60, .inl (M 7))),
  (τ.2.2 68, .inl (τ.2.1 0, 60, .inl (M 8))),
  (τ.2.2 69, .inl (τ.2.1 0, 60, .inl (M 9))),
  (τ.2.2 70, .inl (τ.2.1 0, 240, .inl (M 10))),
  (τ.2.2 71, .inl (τ.2.1 0, 240, .inl (M 11))),
  (τ.2.2 72, .inl (τ.2.1 0, 6, .inl (M 12))),
  (τ.2.2 73, .inl (τ.2.1 2, 240, .inl (M 13))),
  (τ.2.2 75, .inl (τ.2.1 2, 4096, .inl (M 15))),
  (τ.2.2 76, .inl (τ.2.1 0, 4096, .inl (M 16))),
  (τ.2.2 77, .inl (τ.2.1 3, 4096, .inr (.inl J))),
  (τ.2.2 78, .inl (τ.2.1 0, 256, .inl (M 18))),
  (τ.2.2 79, .inl (τ.2.1 2, 65536, .inl (M 19))),
  (τ.2.2 80, .inl (τ.2.1 2, 65536, .inl (M 20)))]
def wdN (τ : xT) : xWd xF := (τ.1, τ.2.1, wN τ)
def wdX (τ : xT) : xWd (xF × xF) := (τ.1, τ.2.1, fun X => wE τ X.1 ++ wN τ X.2)
def wdM (τ : xT) : xWd (xF × (Nat → Int64)) := (τ.1, τ.2.1, fun X => wM τ X.1 X.2)
theorem ix_X : ∀ w ∈ w_X, w ∈ xw_ok := fun w h => xw_mem (i_X w h) (by revert w; decide +kernel)
theorem ix_N : ∀ w ∈ w_N, w ∈ xw_ok := fun w h => xw_mem (i_N w h) (by revert w; decide +kernel)
theorem ix_M : ∀ w ∈ w_M, w ∈ xw_ok := fun w h => xw_mem (i_M w h) (by revert w; decide +kernel)
theorem gN_get_levels {τ : xT} {κ : Cx} {nL : Nat} {k : Nat × Nat} {Q : State → Prop} {N : xF} {pc : Nat} {lv : List (Nat × Value)} {st : List Value} {cc : ByteArray} {own : String} {ret : Option FieldType} {rm : Room} {idx : Nat} (o : OKc κ (wdN τ) nL cc own ret rm) (hl : Cond.fieldLink own idx "StateExplorer$Nodes" "levels" "[B" ∈ xw_ok) (hd : decode cc pc = .ok (.getfield idx, 3)) (kk : GW κ (wdN τ) nL k Q N (pc + 3) lv (.ref (τ.2.2 40) :: st)) : GW κ (wdN τ) nL k Q N pc lv (.ref (τ.2.2 54) :: st) := gw_get o ix_N 0 rfl rfl 0 (by decide) hl rfl hd kk
theorem gN_ald_levels {τ : xT} {κ : Cx} {nL : Nat} {k : Nat × Nat} {Q : State → Prop} {N : xF} {pc : Nat} {lv : List (Nat × Value)} {st : List Value} {cc : ByteArray} {own : String} {ret : Option FieldType} {rm : Room} {i : Int32} (o : OKc κ (wdN τ) nL cc own ret rm) (hin : vp_in i 262144) (hd : decode cc pc = .ok (.baload, 1)) (kk : GW κ (wdN τ) nL k Q N (pc + 1) lv (.int (N 0 i.toNatClampNeg) :: st)) : GW κ (wdN τ) nL k Q N pc lv (.int i :: .ref (τ.2.2 40) :: st) := gw_bald o 1 rfl hin hd kk
theorem gN_ast_levels {τ : xT} {κ : Cx} {nL : Nat} {k : Nat × Nat} {Q : State → Prop} {N : xF} {pc : Nat} {lv : List (Nat × Value)} {st : List Value} {cc : ByteArray} {own : String} {ret : Option FieldType} {rm : Room} {i x y : Int32} (o : OKc κ (wdN τ) nL cc own ret rm) (hin : vp_in i 262144) (hv : vp_nar .byte x = y) (hd : decode cc pc = .ok (.bastore, 1)) (kk : ∀ Y : xF, Y = xs N 0 i.toNatClampNeg y → GW κ (wdN τ) nL k Q Y (pc + 1) lv st) : GW κ (wdN τ) nL k Q N pc lv (.int x :: .int i :: .ref (τ.2.2 40) :: st) := gw_bast (X' := (xs N 0 i.toNatClampNeg y)) o 1 rfl hin hv rfl hd (kk _ rfl)
theorem gN_get_lows {τ : xT} {κ : Cx} {nL : Nat} {k : Nat × Nat} {Q : State → Prop} {N : xF} {pc : Nat} {lv : List (Nat × Value)} {st : List Value} {cc : ByteArray} {own : String} {ret : Option FieldType} {rm : Room} {idx : Nat} (o : OKc κ (wdN τ) nL cc own ret rm) (hl : Cond.fieldLink own idx "StateExplorer$Nodes" "lows" "[I" ∈ xw_ok) (hd : decode cc pc = .ok (.getfield idx, 3)) (kk : GW κ (wdN τ) nL k Q N (pc + 3) lv (.ref (τ.2.2 41) :: st)) : GW κ (wdN τ) nL k Q N pc lv (.ref (τ.2.2 54) :: st) := gw_get o ix_N 0 rfl rfl 1 (by decide) hl rfl hd kk
theorem gN_ald_lows {τ : xT} {κ : Cx} {nL : Nat} {k : Nat × Nat} {Q : State → Prop} {N : xF} {pc : Nat} {lv : List (Nat × Value)} {st : List Value} {cc : ByteArray} {own : String} {ret : Option FieldType} {rm : Room} {i : Int32} (o : OKc κ (wdN τ) nL cc own ret rm) (hin : vp_in i 262144) (hd : decode cc pc = .ok (.iaload, 1)) (kk : GW κ (wdN τ) nL k Q N (pc + 1) lv (.int (N 1 i.toNatClampNeg) :: st)) : GW κ (wdN τ) nL k Q N pc lv (.int i :: .ref (τ.2.2 41) :: st) := gw_iald o 2 rfl hin hd kk
theorem gN_ast_lows {τ : xT} {κ : Cx} {nL : Nat} {k : Nat × Nat} {Q : State → Prop} {N : xF} {pc : Nat} {lv : List (Nat × Value)} {st : List Value} {cc : ByteArray} {own : String} {ret : Option FieldType} {rm : Room} {i x : Int32} (o : OKc κ (wdN τ) nL cc own ret rm) (hin : vp_in i 262144) (hd : decode cc pc = .ok (.iastore, 1)) (kk : ∀ Y : xF, Y = xs N 1 i.toNatClampNeg x → GW κ (wdN τ) nL k Q Y (pc + 1) lv st) : GW κ (wdN τ) nL k Q N pc lv (.int x :: .int i :: .ref (τ.2.2 41) :: st) := gw_iast (X' := (xs N 1 i.toNatClampNeg x)) o 2 rfl hin rfl hd (kk _ rfl)
theorem gN_get_highs {τ : xT} {κ : Cx} {nL : Nat} {k : Nat × Nat} {Q : State → Prop} {N : xF} {pc : Nat} {lv : List (Nat × Value)} {st : List Value} {cc : ByteArray} {own : String} {ret : Option FieldType} {rm : Room} {idx : Nat} (o : OKc κ (wdN τ) nL cc own ret rm) (hl : Cond.fieldLink own idx "StateExplorer$Nodes" "highs" "[I" ∈ xw_ok) (hd : decode cc pc = .ok (.getfield idx, 3)) (kk : GW κ (wdN τ) nL k Q N (pc + 3) lv (.ref (τ.2.2 42) :: st)) : GW κ (wdN τ) nL k Q N pc lv (.ref (τ.2.2 54) :: st) := gw_get o ix_N 0 rfl rfl 2 (by decide) hl rfl hd kk
theorem gN_ald_highs {τ : xT} {κ : Cx} {nL : Nat} {k : Nat × Nat} {Q : State → Prop} {N : xF} {pc : Nat} {lv : List (Nat × Value)} {st : List Value} {cc : ByteArray} {own : String} {ret : Option FieldType} {rm : Room} {i : Int32} (o : OKc κ (wdN τ) nL cc own ret rm) (hin : vp_in i 262144) (hd : decode cc pc = .ok (.iaload, 1)) (kk : GW κ (wdN τ) nL k Q N (pc + 1) lv (.int (N 2 i.toNatClampNeg) :: st)) : GW κ (wdN τ) nL k Q N pc lv (.int i :: .ref (τ.2.2 42) :: st) := gw_iald o 3 rfl hin hd kk
theorem gN_ast_highs {τ : xT} {κ : Cx} {nL : Nat} {k : Nat × Nat} {Q : State → Prop} {N : xF} {pc : Nat} {lv : List (Nat × Value)} {st : List Value} {cc : ByteArray} {own : String} {ret : Option FieldType} {rm : Room} {i x : Int32} (o : OKc κ (wdN τ) nL cc own ret rm) (hin : vp_in i 262144) (hd : decode cc pc = .ok (.iastore, 1)) (kk : ∀ Y : xF, Y = xs N 2 i.toNatClampNeg x → GW κ (wdN τ) nL k Q Y (pc + 1) lv st) : GW κ (wdN τ) nL k Q N pc lv (.int x :: .int i :: .ref (τ.2.2 42) :: st) := gw_iast (X' := (xs N 2 i.toNatClampNeg x)) o 3 rfl hin rfl hd (kk _ rfl)
theorem gN_get_next {τ : xT} {κ : Cx} {nL : Nat} {k : Nat × Nat} {Q : State → Prop} {N : xF} {pc : Nat} {lv : List (Nat × Value)} {st : List Value} {cc : ByteArray} {own : String} {ret : Option FieldType} {rm : Room} {idx : Nat} (o : OKc κ (wdN τ) nL cc own ret rm) (hl : Cond.fieldLink own idx "StateExplorer$Nodes" "next" "[I" ∈ xw_ok) (hd : decode cc pc = .ok (.getfield idx, 3)) (kk : GW κ (wdN τ) nL k Q N (pc + 3) lv (.ref (τ.2.2 43) :: st)) : GW κ (wdN τ) nL k Q N pc lv (.ref (τ.2.2 54) :: st) := gw_get o ix_N 0 rfl rfl 3 (by decide) hl rfl hd kk
theorem gN_ald_next {τ : xT} {κ : Cx} {nL : Nat} {k : Nat × Nat} {Q : State → Prop} {N : xF} {pc : Nat} {lv : List (Nat × Value)} {st : List Value} {cc : ByteArray} {own : String} {ret : Option FieldType} {rm : Room} {i : Int32} (o : OKc κ (wdN τ) nL cc own ret rm) (hin : vp_in i 262144) (hd : decode cc pc = .ok (.iaload, 1)) (kk : GW κ (wdN τ) nL k Q N (pc + 1) lv (.int (N 3 i.toNatClampNeg) :: st)) : GW κ (wdN τ) nL k Q N pc lv (.int i :: .ref (τ.2.2 43) :: st) := gw_iald o 4 rfl hin hd kk
theorem gN_ast_next {τ : xT} {κ : Cx} {nL : Nat} {k : Nat × Nat} {Q : State → Prop} {N : xF} {pc : Nat} {lv : List (Nat × Value)} {st : List Value} {cc : ByteArray} {own : String} {ret : Option FieldType} {rm : Room} {i x : Int32} (o : OKc κ (wdN τ) nL cc own ret rm) (hin : vp_in i 262144) (hd : decode cc pc = .ok (.iastore, 1)) (kk : ∀ Y : xF, Y = xs N 3 i.toNatClampNeg x → GW κ (wdN τ) nL k Q Y (pc + 1) lv st) : GW κ (wdN τ) nL k Q N pc lv (.int x :: .int i :: .ref (τ.2.2 43) :: st) := gw_iast (X' := (xs N 3 i.toNatClampNeg x)) o 4 rfl hin rfl hd (kk _ rfl)
theorem gN_get_chains {τ : xT} {κ : Cx} {nL : Nat} {k : Nat × Nat} {Q : State → Prop} {N : xF} {pc : Nat} {lv : List (Nat × Value)} {st : List Value} {cc : ByteArray} {own : String} {ret : Option FieldType} {rm : Room} {idx : Nat} (o : OKc κ (wdN τ) nL cc own ret rm) (hl : Cond.fieldLink own idx "StateExplorer$Nodes" "chains" "[I" ∈ xw_ok) (hd : decode cc pc = .ok (.getfield idx, 3)) (kk : GW κ (wdN τ) nL k Q N (pc + 3) lv (.ref (τ.2.2 44) :: st)) : GW κ (wdN τ) nL k Q N pc lv (.ref (τ.2.2 54) :: st) := gw_get o ix_N 0 rfl rfl 4 (by decide) hl rfl hd kk
theorem gN_ald_chains {τ : xT} {κ : Cx} {nL : Nat} {k : Nat × Nat} {Q : State → Prop} {N : xF} {pc : Nat} {lv : List (Nat × Value)} {st : List Value} {cc : ByteArray} {own : String} {ret : Option FieldType} {rm : Room} {i : Int32} (o : OKc κ (wdN τ) nL cc own ret rm) (hin : vp_in i 32768) (hd : decode cc pc = .ok (.iaload, 1)) (kk : GW κ (wdN τ) nL k Q N (pc + 1) lv (.int (N 4 i.toNatClampNeg) :: st)) : GW κ (wdN τ) nL k Q N pc lv (.int i :: .ref (τ.2.2 44) :: st) := gw_iald o 5 rfl hin hd kk
theorem gN_ast_chains {τ : xT} {κ : Cx} {nL : Nat} {k : Nat × Nat} {Q : State → Prop} {N : xF} {pc : Nat} {lv : List (Nat × Value)} {st : List Value} {cc : ByteArray} {own : String} {ret : Option FieldType} {rm : Room} {i x : Int32} (o : OKc κ (wdN τ) nL cc own ret rm) (hin : vp_in i 32768) (hd : decode cc pc = .ok (.iastore, 1)) (kk : ∀ Y : xF, Y = xs N 4 i.toNatClampNeg x → GW κ (wdN τ) nL k Q Y (pc + 1) lv st) : GW κ (wdN τ) nL k Q N pc lv (.int x :: .int i :: .ref (τ.2.2 44) :: st) := gw_iast (X' := (xs N 4 i.toNatClampNeg x)) o 5 rfl hin rfl hd (kk _ rfl)
theorem gN_get_marked {τ : xT} {κ : Cx} {nL : Nat} {k : Nat × Nat} {Q : State → Prop} {N : xF} {pc : Nat} {lv : List (Nat × Value)} {st : List Value} {cc : ByteArray} {own : String} {ret : Option FieldType} {rm : Room} {idx : Nat} (o : OKc κ (wdN τ) nL cc own ret rm) (hl : Cond.fieldLink own idx "StateExplorer$Nodes" "marked" "[Z" ∈ xw_ok) (hd : decode cc pc = .ok (.getfield idx, 3)) (kk : GW κ (wdN τ) nL k Q N (pc + 3) lv (.ref (τ.2.2 45) :: st)) : GW κ (wdN τ) nL k Q N pc lv (.ref (τ.2.2 54) :: st) := gw_get o ix_N 0 rfl rfl 5 (by decide) hl rfl hd kk
theorem gN_ald_marked {τ : xT} {κ : Cx} {nL : Nat} {k : Nat × Nat} {Q : State → Prop} {N : xF} {pc : Nat} {lv : List (Nat × Value)} {st : List Value} {cc : ByteArray} {own : String} {ret : Option FieldType} {rm : Room} {i : Int32} (o : OKc κ (wdN τ) nL cc own ret rm) (hin : vp_in i 262144) (hd : decode cc pc = .ok (.baload, 1)) (kk : GW κ (wdN τ) nL k Q N (pc + 1) lv (.int (N 5 i.toNatClampNeg) :: st)) : GW κ (wdN τ) nL k Q N pc lv (.int i :: .ref (τ.2.2 45) :: st) := gw_zald o 6 rfl hin hd kk
theorem gN_ast_marked {τ : xT} {κ : Cx} {nL : Nat} {k : Nat × Nat} {Q : State → Prop} {N : xF} {pc : Nat} {lv : List (Nat × Value)} {st : List Value} {cc : ByteArray} {own : String} {ret : Option FieldType} {rm : Room} {i x y : Int32} (o : OKc κ (wdN τ) nL cc own ret rm) (hin : vp_in i 262144) (hv : vp_nar .boolean x = y) (hd : decode cc pc = .ok (.bastore, 1)) (kk : ∀ Y : xF, Y = xs N 5 i.toNatClampNeg y → GW κ (wdN τ) nL k Q Y (pc + 1) lv st) : GW κ (wdN τ) nL k Q N pc lv (.int x :: .int i :: .ref (τ.2.2 45) :: st) := gw_zast (X' := (xs N 5 i.toNatClampNeg y)) o 6 rfl hin hv rfl hd (kk _ rfl)
theorem gN_get_free {τ : xT} {κ : Cx} {nL : Nat} {k : Nat × Nat} {Q : State → Prop} {N : xF} {pc : Nat} {lv : List (Nat × Value)} {st : List Value} {cc : ByteArray} {own : String} {ret : Option FieldType} {rm : Room} {idx : Nat} (o : OKc κ (wdN τ) nL cc own ret rm) (hl : Cond.fieldLink own idx "StateExplorer$Nodes" "free" "I" ∈ xw_ok) (hd : decode cc pc = .ok (.getfield idx, 3)) (kk : GW κ (wdN τ) nL k Q N (pc + 3) lv (.int (N 14 6) :: st)) : GW κ (wdN τ) nL k Q N pc lv (.ref (τ.2.2 54) :: st) := gw_get o ix_N 0 rfl rfl 6 (by decide) hl rfl hd kk
theorem gN_put_free {τ : xT} {κ : Cx} {nL : Nat} {k : Nat × Nat} {Q : State → Prop} {N : xF} {pc : Nat} {lv : List (Nat × Value)} {st : List Value} {cc : ByteArray} {own : String} {ret : Option FieldType} {rm : Room} {idx : Nat} {x : Int32} (o : OKc κ (wdN τ) nL cc own ret rm) (hl : Cond.fieldLink own idx "StateExplorer$Nodes" "free" "I" ∈ xw_ok) (hd : decode cc pc = .ok (.putfield idx, 3)) (kk : ∀ Y : xF, Y = xs N 14 6 x → GW κ (wdN τ) nL k Q Y (pc + 3) lv st) : GW κ (wdN τ) nL k Q N pc lv (.int x :: .ref (τ.2.2 54) :: st) := gw_put (X' := (xs N 14 6 x)) (ty := .int) o ix_N t_N t_N_ok n_N 0 rfl rfl 6 (by decide) hl rfl (by decide +kernel) rfl rfl (Nat.le_of_ble_eq_true rfl) rfl hd (kk _ rfl)
theorem gN_get_used {τ : xT} {κ : Cx} {nL : Nat} {k : Nat × Nat} {Q : State → Prop} {N : xF} {pc : Nat} {lv : List (Nat × Value)} {st : List Value} {cc : ByteArray} {own : String} {ret : Option FieldType} {rm : Room} {idx : Nat} (o : OKc κ (wdN τ) nL cc own ret rm) (hl : Cond.fieldLink own idx "StateExplorer$Nodes" "used" "I" ∈ xw_ok) (hd : decode cc pc = .ok (.getfield idx, 3)) (kk : GW κ (wdN τ) nL k Q N (pc + 3) lv (.int (N 14 7) :: st)) : GW κ (wdN τ) nL k Q N pc lv (.ref (τ.2.2 54) :: st) := gw_get o ix_N 0 rfl rfl 7 (by decide) hl rfl hd kk
theorem gN_put_used {τ : xT} {κ : Cx} {nL : Nat} {k : Nat × Nat} {Q : State → Prop} {N : xF} {pc : Nat} {lv : List (Nat × Value)} {st : List Value} {cc : ByteArray} {own : String} {ret : Option FieldType} {rm : Room} {idx : Nat} {x : Int32} (o : OKc κ (wdN τ) nL cc own ret rm) (hl : Cond.fieldLink own idx "StateExplorer$Nodes" "used" "I" ∈ xw_ok) (hd : decode cc pc = .ok (.putfield idx, 3)) (kk : ∀ Y : xF, Y = xs N 14 7 x → GW κ (wdN τ) nL k Q Y (pc + 3) lv st) : GW κ (wdN τ) nL k Q N pc lv (.int x :: .ref (τ.2.2 54) :: st) := gw_put (X' := (xs N 14 7 x)) (ty := .int) o ix_N t_N t_N_ok n_N 0 rfl rfl 7 (by decide) hl rfl (by decide +kernel) rfl rfl (Nat.le_of_ble_eq_true rfl) rfl hd (kk _ rfl)
theorem gN_get_spare {τ : xT} {κ : Cx} {nL : Nat} {k : Nat × Nat} {Q : State → Prop} {N : xF} {pc : Nat} {lv : List (Nat × Value)} {st : List Value} {cc : ByteArray} {own : String} {ret : Option FieldType} {rm : Room} {idx : Nat} (o : OKc κ (wdN τ) nL cc own ret rm) (hl : Cond.fieldLink own idx "StateExplorer$Nodes" "spare" "I" ∈ xw_ok) (hd : decode cc pc = .ok (.getfield idx, 3)) (kk : GW κ (wdN τ) nL k Q N (pc + 3) lv (.int (N 14 8) :: st)) : GW κ (wdN τ) nL k Q N pc lv (.ref (τ.2.2 54) :: st) := gw_get o ix_N 0 rfl rfl 8 (by decide) hl rfl hd kk
theorem gN_put_spare {τ : xT} {κ : Cx} {nL : Nat} {k : Nat × Nat} {Q : State → Prop} {N : xF} {pc : Nat} {lv : List (Nat × Value)} {st : List Value} {cc : ByteArray} {own : String} {ret : Option FieldType} {rm : Room} {idx : Nat} {x : Int32} (o : OKc κ (wdN τ) nL cc own ret rm) (hl : Cond.fieldLink own idx "StateExplorer$Nodes" "spare" "I" ∈ xw_ok) (hd : decode cc pc = .ok (.putfield idx, 3)) (kk : ∀ Y : xF, Y = xs N 14 8 x → GW κ (wdN τ) nL k Q Y (pc + 3) lv st) : GW κ (wdN τ) nL k Q N pc lv (.int x :: .ref (τ.2.2 54) :: st) := gw_put (X' := (xs N 14 8 x)) (ty := .int) o ix_N t_N t_N_ok n_N 0 rfl rfl 8 (by decide) hl rfl (by decide +kernel) rfl rfl (Nat.le_of_ble_eq_true rfl) rfl hd (kk _ rfl)
theorem gN_get_keyA {τ : xT} {κ : Cx} {nL : Nat} {k : Nat × Nat} {Q : State → Prop} {N : xF} {pc : Nat} {lv : List (Nat × Value)} {st : List Value} {cc : ByteArray} {own : String} {ret : Option FieldType} {rm : Room} {idx : Nat} (o : OKc κ (wdN τ) nL cc own ret rm) (hl : Cond.fieldLink own idx "StateExplorer$Nodes" "keyA" "[I" ∈ xw_ok) (hd : decode cc pc = .ok (.getfield idx, 3)) (kk : GW κ (wdN τ) nL k Q N (pc + 3) lv (.ref (τ.2.2 49) :: st)) : GW κ (wdN τ) nL k Q N pc lv (.ref (τ.2.2 54) :: st) := gw_get o ix_N 0 rfl rfl 9 (by decide) hl rfl hd kk
theorem gN_ald_keyA {τ : xT} {κ : Cx} {nL : Nat} {k : Nat × Nat} {Q : State → Prop} {N : xF} {pc : Nat} {lv : List (Nat × Value)} {st : List Value} {cc : ByteArray} {own : String} {ret : Option FieldType} {rm : Room} {i : Int32} (o : OKc κ (wdN τ) nL cc own ret rm) (hin : vp_in i 16384) (hd : decode cc pc = .ok (.iaload, 1)) (kk : GW κ (wdN τ) nL k Q N (pc + 1) lv (.int (N 9 i.toNatClampNeg) :: st)) : GW κ (wdN τ) nL k Q N pc lv (.int i :: .ref (τ.2.2 49) :: st) := gw_iald o 7 rfl hin hd kk
theorem gN_ast_keyA {τ : xT} {κ : Cx} {nL : Nat} {k : Nat × Nat} {Q : State → Prop} {N : xF} {pc : Nat} {lv : List (Nat × Value)} {st : List Value} {cc : ByteArray} {own : String} {ret : Option FieldType} {rm : Room} {i x : Int32} (o : OKc κ (wdN τ) nL cc own ret rm) (hin : vp_in i 16384) (hd : decode cc pc = .ok (.iastore, 1)) (kk : ∀ Y : xF, Y = xs N 9 i.toNatClampNeg x → GW κ (wdN τ) nL k Q Y (pc + 1) lv st) : GW κ (wdN τ) nL k Q N pc lv (.int x :: .int i :: .ref (τ.2.2 49) :: st) := gw_iast (X' := (xs N 9 i.toNatClampNeg x)) o 7 rfl hin rfl hd (kk _ rfl)
theorem gN_get_keyB {τ : xT} {κ : Cx} {nL : Nat} {k : Nat × Nat} {Q : State → Prop} {N : xF} {pc : Nat} {lv : List (Nat × Value)} {st : List Value} {cc : ByteArray} {own : String} {ret : Option FieldType} {rm : Room} {idx : Nat} (o : OKc κ (wdN τ) nL cc own ret rm) (hl : Cond.fieldLink own idx "StateExplorer$Nodes" "keyB" "[I" ∈ xw_ok) (hd : decode cc pc = .ok (.getfield idx, 3)) (kk : GW κ (wdN τ) nL k Q N (pc + 3) lv (.ref (τ.2.2 50) :: st)) : GW κ (wdN τ) nL k Q N pc lv (.ref (τ.2.2 54) :: st) := gw_get o ix_N 0 rfl rfl 10 (by decide) hl rfl hd kk
theorem gN_ald_keyB {τ : xT} {κ : Cx} {nL : Nat} {k : Nat × Nat} {Q : State → Prop} {N : xF} {pc : Nat} {lv : List (Nat × Value)} {st : List Value} {cc : ByteArray} {own : String} {ret : Option FieldType} {rm : Room} {i : Int32} (o : OKc κ (wdN τ) nL cc own ret rm) (hin : vp_in i 16384) (hd : decode cc pc = .ok (.iaload, 1)) (kk : GW κ (wdN τ) nL k Q N (pc + 1) lv (.int (N 10 i.toNatClampNeg) :: st)) : GW κ (wdN τ) nL k Q N pc lv (.int i :: .ref (τ.2.2 50) :: st) := gw_iald o 8 rfl hin hd kk
theorem gN_ast_keyB {τ : xT} {κ : Cx} {nL : Nat} {k : Nat × Nat} {Q : State → Prop} {N : xF} {pc : Nat} {lv : List (Nat × Value)} {st : List Value} {cc : ByteArray} {own : String} {ret : Option FieldType} {rm : Room} {i x : Int32} (o : OKc κ (wdN τ) nL cc own ret rm) (hin : vp_in i 16384) (hd : decode cc pc = .ok (.iastore, 1)) (kk : ∀ Y : xF, Y = xs N 10 i.toNatClampNeg x → GW κ (wdN τ) nL k Q Y (pc + 1) lv st) : GW κ (wdN τ) nL k Q N pc lv (.int x :: .int i :: .ref (τ.2.2 50) :: st) := gw_iast (X' := (xs N 10 i.toNatClampNeg x)) o 8 rfl hin rfl hd (kk _ rfl)
theorem gN_get_keyC {τ : xT} {κ : Cx} {nL : Nat} {k : Nat × Nat} {Q : State → Prop} {N : xF} {pc : Nat} {lv : List (Nat × Value)} {st : List Value} {cc : ByteArray} {own : String} {ret : Option FieldType} {rm : Room} {idx : Nat} (o : OKc κ (wdN τ) nL cc own ret rm) (hl : Cond.fieldLink own idx "StateExplorer$Nodes" "keyC" "[I" ∈ xw_ok) (hd : decode cc pc = .ok (.getfield idx, 3)) (kk : GW κ (wdN τ) nL k Q N (pc + 3) lv (.ref (τ.2.2 51) :: st)) : GW κ (wdN τ) nL k Q N pc lv (.ref (τ.2.2 54) :: st) := gw_get o ix_N 0 rfl rfl 11 (by decide) hl rfl hd kk
theorem gN_ald_keyC {τ : xT} {κ : Cx} {nL : Nat} {k : Nat × Nat} {Q : State → Prop} {N : xF} {pc : Nat} {lv : List (Nat × Value)} {st : List Value} {cc : ByteArray} {own : String} {ret : Option FieldType} {rm : Room} {i : Int32} (o : OKc κ (wdN τ) nL cc own ret rm) (hin : vp_in i 16384) (hd : decode cc pc = .ok (.iaload, 1)) (kk : GW κ (wdN τ) nL k Q N (pc + 1) lv (.int (N 11 i.toNatClampNeg) :: st)) : GW κ (wdN τ) nL k Q N pc lv (.int i :: .ref (τ.2.2 51) :: st) := gw_iald o 9 rfl hin hd kk
theorem gN_ast_keyC {τ : xT} {κ : Cx} {nL : Nat} {k : Nat × Nat} {Q : State → Prop} {N : xF} {pc : Nat} {lv : List (Nat × Value)} {st : List Value} {cc : ByteArray} {own : String} {ret : Option FieldType} {rm : Room} {i x : Int32} (o : OKc κ (wdN τ) nL cc own ret rm) (hin : vp_in i 16384) (hd : decode cc pc = .ok (.iastore, 1)) (kk : ∀ Y : xF, Y = xs N 11 i.toNatClampNeg x → GW κ (wdN τ) nL k Q Y (pc + 1) lv st) : GW κ (wdN τ) nL k Q N pc lv (.int x :: .int i :: .ref (τ.2.2 51) :: st) := gw_iast (X' := (xs N 11 i.toNatClampNeg x)) o 9 rfl hin rfl hd (kk _ rfl)
theorem gN_get_results {τ : xT} {κ : Cx} {nL : Nat} {k : Nat × Nat} {Q : State → Prop} {N : xF} {pc : Nat} {lv : List (Nat × Value)} {st : List Value} {cc : ByteArray} {own : String} {ret : Option FieldType} {rm : Room} {idx : Nat} (o : OKc κ (wdN τ) nL cc own ret rm) (hl : Cond.fieldLink own idx "StateExplorer$Nodes" "results" "[I" ∈ xw_ok) (hd : decode cc pc = .ok (.getfield idx, 3)) (kk : GW κ (wdN τ) nL k Q N (pc + 3) lv (.ref (τ.2.2 52) :: st)) : GW κ (wdN τ) nL k Q N pc lv (.ref (τ.2.2 54) :: st) := gw_get o ix_N 0 rfl rfl 12 (by decide) hl rfl hd kk
theorem gN_ald_results {τ : xT} {κ : Cx} {nL : Nat} {k : Nat × Nat} {Q : State → Prop} {N : xF} {pc : Nat} {lv : List (Nat × Value)} {st : List Value} {cc : ByteArray} {own : String} {ret : Option FieldType} {rm : Room} {i : Int32} (o : OKc κ (wdN τ) nL cc own ret rm) (hin : vp_in i 16384) (hd : decode cc pc = .ok (.iaload, 1)) (kk : GW κ (wdN τ) nL k Q N (pc + 1) lv (.int (N 12 i.toNatClampNeg) :: st)) : GW κ (wdN τ) nL k Q N pc lv (.int i :: .ref (τ.2.2 52) :: st) := gw_iald o 10 rfl hin hd kk
theorem gN_ast_results {τ : xT} {κ : Cx} {nL : Nat} {k : Nat × Nat} {Q : State → Prop} {N : xF} {pc : Nat} {lv : List (Nat × Value)} {st : List Value} {cc : ByteArray} {own : String} {ret : Option FieldType} {rm : Room} {i x : Int32} (o : OKc κ (wdN τ) nL cc own ret rm) (hin : vp_in i 16384) (hd : decode cc pc = .ok (.iastore, 1)) (kk : ∀ Y : xF, Y = xs N 12 i.toNatClampNeg x → GW κ (wdN τ) nL k Q Y (pc + 1) lv st) : GW κ (wdN τ) nL k Q N pc lv (.int x :: .int i :: .ref (τ.2.2 52) :: st) := gw_iast (X' := (xs N 12 i.toNatClampNeg x)) o 10 rfl hin rfl hd (kk _ rfl)
theorem gN_get_keyKinds {τ : xT} {κ : Cx} {nL : Nat} {k : Nat × Nat} {Q : State → Prop} {N : xF} {pc : Nat} {lv : List (Nat × Value)} {st : List Value} {cc : ByteArray} {own : String} {ret : Option FieldType} {rm : Room} {idx : Nat} (o : OKc κ (wdN τ) nL cc own ret rm) (hl : Cond.fieldLink own idx "StateExplorer$Nodes" "keyKinds" "[B" ∈ xw_ok) (hd : decode cc pc = .ok (.getfield idx, 3)) (kk : GW κ (wdN τ) nL k Q N (pc + 3) lv (.ref (τ.2.2 53) :: st)) : GW κ (wdN τ) nL k Q N pc lv (.ref (τ.2.2 54) :: st) := gw_get o ix_N 0 rfl rfl 13 (by decide) hl rfl hd kk
theorem gN_ald_keyKinds {τ : xT} {κ : Cx} {nL : Nat} {k : Nat × Nat} {Q : State → Prop} {N : xF} {pc : Nat} {lv : List (Nat × Value)} {st : List Value} {cc : ByteArray} {own : String} {ret : Option FieldType} {rm : Room} {i : Int32} (o : OKc κ (wdN τ) nL cc own ret rm) (hin : vp_in i 16384) (hd : decode cc pc = .ok (.baload, 1)) (kk : GW κ (wdN τ) nL k Q N (pc + 1) lv (.int (N 13 i.toNatClampNeg) :: st)) : GW κ (wdN τ) nL k Q N pc lv (.int i :: .ref (τ.2.2 53) :: st) := gw_bald o 11 rfl hin hd kk
theorem gN_ast_keyKinds {τ : xT} {κ : Cx} {nL : Nat} {k : Nat × Nat} {Q : State → Prop} {N : xF} {pc : Nat} {lv : List (Nat × Value)} {st : List Value} {cc : ByteArray} {own : String} {ret : Option FieldType} {rm : Room} {i x y : Int32} (o : OKc κ (wdN τ) nL cc own ret rm) (hin : vp_in i 16384) (hv : vp_nar .byte x = y) (hd : decode cc pc = .ok (.bastore, 1)) (kk : ∀ Y : xF, Y = xs N 13 i.toNatClampNeg y → GW κ (wdN τ) nL k Q Y (pc + 1) lv st) : GW κ (wdN τ) nL k Q N pc lv (.int x :: .int i :: .ref (τ.2.2 53) :: st) := gw_bast (X' := (xs N 13 i.toNatClampNeg y)) o 11 rfl hin hv rfl hd (kk _ rfl)
theorem gE_get_nodes {τ : xT} {κ : Cx} {nL : Nat} {k : Nat × Nat} {Q : State → Prop} {E N : xF} {pc : Nat} {lv : List (Nat × Value)} {st : List Value} {cc : ByteArray} {own : String} {ret : Option FieldType} {rm : Room} {idx : Nat} (o : OKc κ (wdX τ) nL cc own ret rm) (hl : Cond.fieldLink own idx "StateExplorer" "nodes" "LStateExplorer$Nodes;" ∈ xw_ok) (hd : decode cc pc = .ok (.getfield idx, 3)) (kk : GW κ (wdX τ) nL k Q (E, N) (pc + 3) lv (.ref (τ.2.2 54) :: st)) : GW κ (wdX τ) nL k Q (E, N) pc lv (.ref (τ.2.2 30) :: st) := gw_get o ix_X 0 rfl rfl 0 (by decide) hl rfl hd kk
theorem gE_get_gates {τ : xT} {κ : Cx} {nL : Nat} {k : Nat × Nat} {Q : State → Prop} {E N : xF} {pc : Nat} {lv : List (Nat × Value)} {st : List Value} {cc : ByteArray} {own : String} {ret : Option FieldType} {rm : Room} {idx : Nat} (o : OKc κ (wdX τ) nL cc own ret rm) (hl : Cond.fieldLink own idx "StateExplorer" "gates" "I" ∈ xw_ok) (hd : decode cc pc = .ok (.getfield idx, 3)) (kk : GW κ (wdX τ) nL k Q (E, N) (pc + 3) lv (.int (E 30 1) :: st)) : GW κ (wdX τ) nL k Q (E, N) pc lv (.ref (τ.2.2 30) :: st) := gw_get o ix_X 0 rfl rfl 1 (by decide) hl rfl hd kk
theorem gE_put_gates {τ : xT} {κ : Cx} {nL : Nat} {k : Nat × Nat} {Q : State → Prop} {E N : xF} {pc : Nat} {lv : List (Nat × Value)} {st : List Value} {cc : ByteArray} {own : String} {ret : Option FieldType} {rm : Room} {idx : Nat} {x : Int32} (o : OKc κ (wdX τ) nL cc own ret rm) (hl : Cond.fieldLink own idx "StateExplorer" "gates" "I" ∈ xw_ok) (hd : decode cc pc = .ok (.putfield idx, 3)) (kk : ∀ Y : xF, Y = xs E 30 1 x → GW κ (wdX τ) nL k Q (Y, N) (pc + 3) lv st) : GW κ (wdX τ) nL k Q (E, N) pc lv (.int x :: .ref (τ.2.2 30) :: st) := gw_put (X' := ((xs E 30 1 x), N)) (ty := .int) o ix_X t_X t_X_ok n_X 0 rfl rfl 1 (by decide) hl rfl (by decide +kernel) rfl rfl (Nat.le_of_ble_eq_true rfl) rfl hd (kk _ rfl)
theorem gE_get_feeds {τ : xT} {κ : Cx} {nL : Nat} {k : Nat × Nat} {Q : State → Prop} {E N : xF} {pc : Nat} {lv : List (Nat × Value)} {st : List Value} {cc : ByteArray} {own : String} {ret : Option FieldType} {rm : Room} {idx : Nat} (o : OKc κ (wdX τ) nL cc own ret rm) (hl : Cond.fieldLink own idx "StateExplorer" "feeds" "I" ∈ xw_ok) (hd : decode cc pc = .ok (.getfield idx, 3)) (kk : GW κ (wdX τ) nL k Q (E, N) (pc + 3) lv (.int (E 30 2) :: st)) : GW κ (wdX τ) nL k Q (E, N) pc lv (.ref (τ.2.2 30) :: st) := gw_get o ix_X 0 rfl rfl 2 (by decide) hl rfl hd kk
theorem gE_put_feeds {τ : xT} {κ : Cx} {nL : Nat} {k : Nat × Nat} {Q : State → Prop} {E N : xF} {pc : Nat} {lv : List (Nat × Value)} {st : List Value} {cc : ByteArray} {own : String} {ret : Option FieldType} {rm : Room} {idx : Nat} {x : Int32} (o : OKc κ (wdX τ) nL cc own ret rm) (hl : Cond.fieldLink own idx "StateExplorer" "feeds" "I" ∈ xw_ok) (hd : decode cc pc = .ok (.putfield idx, 3)) (kk : ∀ Y : xF, Y = xs E 30 2 x → GW κ (wdX τ) nL k Q (Y, N) (pc + 3) lv st) : GW κ (wdX τ) nL k Q (E, N) pc lv (.int x :: .ref (τ.2.2 30) :: st) := gw_put (X' := ((xs E 30 2 x), N)) (ty := .int) o ix_X t_X t_X_ok n_X 0 rfl rfl 2 (by decide) hl rfl (by decide +kernel) rfl rfl (Nat.le_of_ble_eq_true rfl) rfl hd (kk _ rfl)
theorem gE_get_inputs {τ : xT} {κ : Cx} {nL : Nat} {k : Nat × Nat} {Q : State → Prop} {E N : xF} {pc : Nat} {lv : List (Nat × Value)} {st : List Value} {cc : ByteArray} {own : String} {ret : Option FieldType} {rm : Room} {idx : Nat} (o : OKc κ (wdX τ) nL cc own ret rm) (hl : Cond.fieldLink own idx "StateExplorer" "inputs" "I" ∈ xw_ok) (hd : decode cc pc = .ok (.getfield idx, 3)) (kk : GW κ (wdX τ) nL k Q (E, N) (pc + 3) lv (.int (E 30 3) :: st)) : GW κ (wdX τ) nL k Q (E, N) pc lv (.ref (τ.2.2 30) :: st) := gw_get o ix_X 0 rfl rfl 3 (by decide) hl rfl hd kk
theorem gE_put_inputs {τ : xT} {κ : Cx} {nL : Nat} {k : Nat × Nat} {Q : State → Prop} {E N : xF} {pc : Nat} {lv : List (Nat × Value)} {st : List Value} {cc : ByteArray} {own : String} {ret : Option FieldType} {rm : Room} {idx : Nat} {x : Int32} (o : OKc κ (wdX τ) nL cc own ret rm) (hl : Cond.fieldLink own idx "StateExplorer" "inputs" "I" ∈ xw_ok) (hd : decode cc pc = .ok (.putfield idx, 3)) (kk : ∀ Y : xF, Y = xs E 30 3 x → GW κ (wdX τ) nL k Q (Y, N) (pc + 3) lv st) : GW κ (wdX τ) nL k Q (E, N) pc lv (.int x :: .ref (τ.2.2 30) :: st) := gw_put (X' := ((xs E 30 3 x), N)) (ty := .int) o ix_X t_X t_X_ok n_X 0 rfl rfl 3 (by decide) hl rfl (by decide +kernel) rfl rfl (Nat.le_of_ble_eq_true rfl) rfl hd (kk _ rfl)
theorem gE_get_latches {τ : xT} {κ : Cx} {nL : Nat} {k : Nat × Nat} {Q : State → Prop} {E N : xF} {pc : Nat} {lv : List (Nat × Value)} {st : List Value} {cc : ByteArray} {own : String} {ret : Option FieldType} {rm : Room} {idx : Nat} (o : OKc κ (wdX τ) nL cc own ret rm) (hl : Cond.fieldLink own idx "StateExplorer" "latches" "I" ∈ xw_ok) (hd : decode cc pc = .ok (.getfield idx, 3)) (kk : GW κ (wdX τ) nL k Q (E, N) (pc + 3) lv (.int (E 30 4) :: st)) : GW κ (wdX τ) nL k Q (E, N) pc lv (.ref (τ.2.2 30) :: st) := gw_get o ix_X 0 rfl rfl 4 (by decide) hl rfl hd kk
theorem gE_put_latches {τ : xT} {κ : Cx} {nL : Nat} {k : Nat × Nat} {Q : State → Prop} {E N : xF} {pc : Nat} {lv : List (Nat × Value)} {st : List Value} {cc : ByteArray} {own : String} {ret : Option FieldType} {rm : Room} {idx : Nat} {x : Int32} (o : OKc κ (wdX τ) nL cc own ret rm) (hl : Cond.fieldLink own idx "StateExplorer" "latches" "I" ∈ xw_ok) (hd : decode cc pc = .ok (.putfield idx, 3)) (kk : ∀ Y : xF, Y = xs E 30 4 x → GW κ (wdX τ) nL k Q (Y, N) (pc + 3) lv st) : GW κ (wdX τ) nL k Q (E, N) pc lv (.int x :: .ref (τ.2.2 30) :: st) := gw_put (X' := ((xs E 30 4 x), N)) (ty := .int) o ix_X t_X t_X_ok n_X 0 rfl rfl 4 (by decide) hl rfl (by decide +kernel) rfl rfl (Nat.le_of_ble_eq_true rfl) rfl hd (kk _ rfl)
theorem gE_get_outputs {τ : xT} {κ : Cx} {nL : Nat} {k : Nat × Nat} {Q : State → Prop} {E N : xF} {pc : Nat} {lv : List (Nat × Value)} {st : List Value} {cc : ByteArray} {own : String} {ret : Option FieldType} {rm : Room} {idx : Nat} (o : OKc κ (wdX τ) nL cc own ret rm) (hl : Cond.fieldLink own idx "StateExplorer" "outputs" "I" ∈ xw_ok) (hd : decode cc pc = .ok (.getfield idx, 3)) (kk : GW κ (wdX τ) nL k Q (E, N) (pc + 3) lv (.int (E 30 5) :: st)) : GW κ (wdX τ) nL k Q (E, N) pc lv (.ref (τ.2.2 30) :: st) := gw_get o ix_X 0 rfl rfl 5 (by decide) hl rfl hd kk
theorem gE_put_outputs {τ : xT} {κ : Cx} {nL : Nat} {k : Nat × Nat} {Q : State → Prop} {E N : xF} {pc : Nat} {lv : List (Nat × Value)} {st : List Value} {cc : ByteArray} {own : String} {ret : Option FieldType} {rm : Room} {idx : Nat} {x : Int32} (o : OKc κ (wdX τ) nL cc own ret rm) (hl : Cond.fieldLink own idx "StateExplorer" "outputs" "I" ∈ xw_ok) (hd : decode cc pc = .ok (.putfield idx, 3)) (kk : ∀ Y : xF, Y = xs E 30 5 x → GW κ (wdX τ) nL k Q (Y, N) (pc + 3) lv st) : GW κ (wdX τ) nL k Q (E, N) pc lv (.int x :: .ref (τ.2.2 30) :: st) := gw_put (X' := ((xs E 30 5 x), N)) (ty := .int) o ix_X t_X t_X_ok n_X 0 rfl rfl 5 (by decide) hl rfl (by decide +kernel) rfl rfl (Nat.le_of_ble_eq_true rfl) rfl hd (kk _ rfl)
theorem gE_get_sorts {τ : xT} {κ : Cx} {nL : Nat} {k : Nat × Nat} {Q : State → Prop} {E N : xF} {pc : Nat} {lv : List (Nat × Value)} {st : List Value} {cc : ByteArray} {own : String} {ret : Option FieldType} {rm : Room} {idx : Nat} (o : OKc κ (wdX τ) nL cc own ret rm) (hl : Cond.fieldLink own idx "StateExplorer" "sorts" "[I" ∈ xw_ok) (hd : decode cc pc = .ok (.getfield idx, 3)) (kk : GW κ (wdX τ) nL k Q (E, N) (pc + 3) lv (.ref (τ.2.2 6) :: st)) : GW κ (wdX τ) nL k Q (E, N) pc lv (.ref (τ.2.2 30) :: st) := gw_get o ix_X 0 rfl rfl 6 (by decide) hl rfl hd kk
theorem gE_ald_sorts {τ : xT} {κ : Cx} {nL : Nat} {k : Nat × Nat} {Q : State → Prop} {E N : xF} {pc : Nat} {lv : List (Nat × Value)} {st : List Value} {cc : ByteArray} {own : String} {ret : Option FieldType} {rm : Room} {i : Int32} (o : OKc κ (wdX τ) nL cc own ret rm) (hin : vp_in i 60) (hd : decode cc pc = .ok (.iaload, 1)) (kk : GW κ (wdX τ) nL k Q (E, N) (pc + 1) lv (.int (E 6 i.toNatClampNeg) :: st)) : GW κ (wdX τ) nL k Q (E, N) pc lv (.int i :: .ref (τ.2.2 6) :: st) := gw_iald o 1 rfl hin hd kk
theorem gE_ast_sorts {τ : xT} {κ : Cx} {nL : Nat} {k : Nat × Nat} {Q : State → Prop} {E N : xF} {pc : Nat} {lv : List (Nat × Value)} {st : List Value} {cc : ByteArray} {own : String} {ret : Option FieldType} {rm : Room} {i x : Int32} (o : OKc κ (wdX τ) nL cc own ret rm) (hin : vp_in i 60) (hd : decode cc pc = .ok (.iastore, 1)) (kk : ∀ Y : xF, Y = xs E 6 i.toNatClampNeg x → GW κ (wdX τ) nL k Q (Y, N) (pc + 1) lv st) : GW κ (wdX τ) nL k Q (E, N) pc lv (.int x :: .int i :: .ref (τ.2.2 6) :: st) := gw_iast (X' := ((xs E 6 i.toNatClampNeg x), N)) o 1 rfl hin rfl hd (kk _ rfl)
theorem gE_get_numbers {τ : xT} {κ : Cx} {nL : Nat} {k : Nat × Nat} {Q : State → Prop} {E N : xF} {pc : Nat} {lv : List (Nat × Value)} {st : List Value} {cc : ByteArray} {own : String} {ret : Option FieldType} {rm : Room} {idx : Nat} (o : OKc κ (wdX τ) nL cc own ret rm) (hl : Cond.fieldLink own idx "StateExplorer" "numbers" "[I" ∈ xw_ok) (hd : decode cc pc = .ok (.getfield idx, 3)) (kk : GW κ (wdX τ) nL k Q (E, N) (pc + 3) lv (.ref (τ.2.2 7) :: st)) : GW κ (wdX τ) nL k Q (E, N) pc lv (.ref (τ.2.2 30) :: st) := gw_get o ix_X 0 rfl rfl 7 (by decide) hl rfl hd kk
theorem gE_ald_numbers {τ : xT} {κ : Cx} {nL : Nat} {k : Nat × Nat} {Q : State → Prop} {E N : xF} {pc : Nat} {lv : List (Nat × Value)} {st : List Value} {cc : ByteArray} {own : String} {ret : Option FieldType} {rm : Room} {i : Int32} (o : OKc κ (wdX τ) nL cc own ret rm) (hin : vp_in i 60) (hd : decode cc pc = .ok (.iaload, 1)) (kk : GW κ (wdX τ) nL k Q (E, N) (pc + 1) lv (.int (E 7 i.toNatClampNeg) :: st)) : GW κ (wdX τ) nL k Q (E, N) pc lv (.int i :: .ref (τ.2.2 7) :: st) := gw_iald o 2 rfl hin hd kk
theorem gE_ast_numbers {τ : xT} {κ : Cx} {nL : Nat} {k : Nat × Nat} {Q : State → Prop} {E N : xF} {pc : Nat} {lv : List (Nat × Value)} {st : List Value} {cc : ByteArray} {own : String} {ret : Option FieldType} {rm : Room} {i x : Int32} (o : OKc κ (wdX τ) nL cc own ret rm) (hin : vp_in i 60) (hd : decode cc pc = .ok (.iastore, 1)) (kk : ∀ Y : xF, Y = xs E 7 i.toNatClampNeg x → GW κ (wdX τ) nL k Q (Y, N) (pc + 1) lv st) : GW κ (wdX τ) nL k Q (E, N) pc lv (.int x :: .int i :: .ref (τ.2.2 7) :: st) := gw_iast (X' := ((xs E 7 i.toNatClampNeg x), N)) o 2 rfl hin rfl hd (kk _ rfl)
theorem gE_get_named {τ : xT} {κ : Cx} {nL : Nat} {k : Nat × Nat} {Q : State → Prop} {E N : xF} {pc : Nat} {lv : List (Nat × Value)} {st : List Value} {cc : ByteArray} {own : String} {ret : Option FieldType} {rm : Room} {idx : Nat} (o : OKc κ (wdX τ) nL cc own ret rm) (hl : Cond.fieldLink own idx "StateExplorer" "named" "[I" ∈ xw_ok) (hd : decode cc pc = .ok (.getfield idx, 3)) (kk : GW κ (wdX τ) nL k Q (E, N) (pc + 3) lv (.ref (τ.2.2 8) :: st)) : GW κ (wdX τ) nL k Q (E, N) pc lv (.ref (τ.2.2 30) :: st) := gw_get o ix_X 0 rfl rfl 8 (by decide) hl rfl hd kk
theorem gE_ald_named {τ : xT} {κ : Cx} {nL : Nat} {k : Nat × Nat} {Q : State → Prop} {E N : xF} {pc : Nat} {lv : List (Nat × Value)} {st : List Value} {cc : ByteArray} {own : String} {ret : Option FieldType} {rm : Room} {i : Int32} (o : OKc κ (wdX τ) nL cc own ret rm) (hin : vp_in i 6) (hd : decode cc pc = .ok (.iaload, 1)) (kk : GW κ (wdX τ) nL k Q (E, N) (pc + 1) lv (.int (E 8 i.toNatClampNeg) :: st)) : GW κ (wdX τ) nL k Q (E, N) pc lv (.int i :: .ref (τ.2.2 8) :: st) := gw_iald o 3 rfl hin hd kk
theorem gE_ast_named {τ : xT} {κ : Cx} {nL : Nat} {k : Nat × Nat} {Q : State → Prop} {E N : xF} {pc : Nat} {lv : List (Nat × Value)} {st : List Value} {cc : ByteArray} {own : String} {ret : Option FieldType} {rm : Room} {i x : Int32} (o : OKc κ (wdX τ) nL cc own ret rm) (hin : vp_in i 6) (hd : decode cc pc = .ok (.iastore, 1)) (kk : ∀ Y : xF, Y = xs E 8 i.toNatClampNeg x → GW κ (wdX τ) nL k Q (Y, N) (pc + 1) lv st) : GW κ (wdX τ) nL k Q (E, N) pc lv (.int x :: .int i :: .ref (τ.2.2 8) :: st) := gw_iast (X' := ((xs E 8 i.toNatClampNeg x), N)) o 3 rfl hin rfl hd (kk _ rfl)
theorem gE_get_latchAt {τ : xT} {κ : Cx} {nL : Nat} {k : Nat × Nat} {Q : State → Prop} {E N : xF} {pc : Nat} {lv : List (Nat × Value)} {st : List Value} {cc : ByteArray} {own : String} {ret : Option FieldType} {rm : Room} {idx : Nat} (o : OKc κ (wdX τ) nL cc own ret rm) (hl : Cond.fieldLink own idx "StateExplorer" "latchAt" "[I" ∈ xw_ok) (hd : decode cc pc = .ok (.getfield idx, 3)) (kk : GW κ (wdX τ) nL k Q (E, N) (pc + 3) lv (.ref (τ.2.2 9) :: st)) : GW κ (wdX τ) nL k Q (E, N) pc lv (.ref (τ.2.2 30) :: st) := gw_get o ix_X 0 rfl rfl 9 (by decide) hl rfl hd kk
theorem gE_ald_latchAt {τ : xT} {κ : Cx} {nL : Nat} {k : Nat × Nat} {Q : State → Prop} {E N : xF} {pc : Nat} {lv : List (Nat × Value)} {st : List Value} {cc : ByteArray} {own : String} {ret : Option FieldType} {rm : Room} {i : Int32} (o : OKc κ (wdX τ) nL cc own ret rm) (hin : vp_in i 8) (hd : decode cc pc = .ok (.iaload, 1)) (kk : GW κ (wdX τ) nL k Q (E, N) (pc + 1) lv (.int (E 9 i.toNatClampNeg) :: st)) : GW κ (wdX τ) nL k Q (E, N) pc lv (.int i :: .ref (τ.2.2 9) :: st) := gw_iald o 4 rfl hin hd kk
theorem gE_ast_latchAt {τ : xT} {κ : Cx} {nL : Nat} {k : Nat × Nat} {Q : State → Prop} {E N : xF} {pc : Nat} {lv : List (Nat × Value)} {st : List Value} {cc : ByteArray} {own : String} {ret : Option FieldType} {rm : Room} {i x : Int32} (o : OKc κ (wdX τ) nL cc own ret rm) (hin : vp_in i 8) (hd : decode cc pc = .ok (.iastore, 1)) (kk : ∀ Y : xF, Y = xs E 9 i.toNatClampNeg x → GW κ (wdX τ) nL k Q (Y, N) (pc + 1) lv st) : GW κ (wdX τ) nL k Q (E, N) pc lv (.int x :: .int i :: .ref (τ.2.2 9) :: st) := gw_iast (X' := ((xs E 9 i.toNatClampNeg x), N)) o 4 rfl hin rfl hd (kk _ rfl)
theorem gE_get_to {τ : xT} {κ : Cx} {nL : Nat} {k : Nat × Nat} {Q : State → Prop} {E N : xF} {pc : Nat} {lv : List (Nat × Value)} {st : List Value} {cc : ByteArray} {own : String} {ret : Option FieldType} {rm : Room} {idx : Nat} (o : OKc κ (wdX τ) nL cc own ret rm) (hl : Cond.fieldLink own idx "StateExplorer" "to" "[I" ∈ xw_ok) (hd : decode cc pc = .ok (.getfield idx, 3)) (kk : GW κ (wdX τ) nL k Q (E, N) (pc + 3) lv (.ref (τ.2.2 10) :: st)) : GW κ (wdX τ) nL k Q (E, N) pc lv (.ref (τ.2.2 30) :: st) := gw_get o ix_X 0 rfl rfl 10 (by decide) hl rfl hd kk
theorem gE_ald_to {τ : xT} {κ : Cx} {nL : Nat} {k : Nat × Nat} {Q : State → Prop} {E N : xF} {pc : Nat} {lv : List (Nat × Value)} {st : List Value} {cc : ByteArray} {own : String} {ret : Option FieldType} {rm : Room} {i : Int32} (o : OKc κ (wdX τ) nL cc own ret rm) (hin : vp_in i 240) (hd : decode cc pc = .ok (.iaload, 1)) (kk : GW κ (wdX τ) nL k Q (E, N) (pc + 1) lv (.int (E 10 i.toNatClampNeg) :: st)) : GW κ (wdX τ) nL k Q (E, N) pc lv (.int i :: .ref (τ.2.2 10) :: st) := gw_iald o 5 rfl hin hd kk
theorem gE_ast_to {τ : xT} {κ : Cx} {nL : Nat} {k : Nat × Nat} {Q : State → Prop} {E N : xF} {pc : Nat} {lv : List (Nat × Value)} {st : List Value} {cc : ByteArray} {own : String} {ret : Option FieldType} {rm : Room} {i x : Int32} (o : OKc κ (wdX τ) nL cc own ret rm) (hin : vp_in i 240) (hd : decode cc pc = .ok (.iastore, 1)) (kk : ∀ Y : xF, Y = xs E 10 i.toNatClampNeg x → GW κ (wdX τ) nL k Q (Y, N) (pc + 1) lv st) : GW κ (wdX τ) nL k Q (E, N) pc lv (.int x :: .int i :: .ref (τ.2.2 10) :: st) := gw_iast (X' := ((xs E 10 i.toNatClampNeg x), N)) o 5 rfl hin rfl hd (kk _ rfl)
theorem gE_get_from {τ : xT} {κ : Cx} {nL : Nat} {k : Nat × Nat} {Q : State → Prop} {E N : xF} {pc : Nat} {lv : List (Nat × Value)} {st : List Value} {cc : ByteArray} {own : String} {ret : Option FieldType} {rm : Room} {idx : Nat} (o : OKc κ (wdX τ) nL cc own ret rm) (hl : Cond.fieldLink own idx "StateExplorer" "from" "[I" ∈ xw_ok) (hd : decode cc pc = .ok (.getfield idx, 3)) (kk : GW κ (wdX τ) nL k Q (E, N) (pc + 3) lv (.ref (τ.2.2 11) :: st)) : GW κ (wdX τ) nL k Q (E, N) pc lv (.ref (τ.2.2 30) :: st) := gw_get o ix_X 0 rfl rfl 11 (by decide) hl rfl hd kk
theorem gE_ald_from {τ : xT} {κ : Cx} {nL : Nat} {k : Nat × Nat} {Q : State → Prop} {E N : xF} {pc : Nat} {lv : List (Nat × Value)} {st : List Value} {cc : ByteArray} {own : String} {ret : Option FieldType} {rm : Room} {i : Int32} (o : OKc κ (wdX τ) nL cc own ret rm) (hin : vp_in i 240) (hd : decode cc pc = .ok (.iaload, 1)) (kk : GW κ (wdX τ) nL k Q (E, N) (pc + 1) lv (.int (E 11 i.toNatClampNeg) :: st)) : GW κ (wdX τ) nL k Q (E, N) pc lv (.int i :: .ref (τ.2.2 11) :: st) := gw_iald o 6 rfl hin hd kk
theorem gE_ast_from {τ : xT} {κ : Cx} {nL : Nat} {k : Nat × Nat} {Q : State → Prop} {E N : xF} {pc : Nat} {lv : List (Nat × Value)} {st : List Value} {cc : ByteArray} {own : String} {ret : Option FieldType} {rm : Room} {i x : Int32} (o : OKc κ (wdX τ) nL cc own ret rm) (hin : vp_in i 240) (hd : decode cc pc = .ok (.iastore, 1)) (kk : ∀ Y : xF, Y = xs E 11 i.toNatClampNeg x → GW κ (wdX τ) nL k Q (Y, N) (pc + 1) lv st) : GW κ (wdX τ) nL k Q (E, N) pc lv (.int x :: .int i :: .ref (τ.2.2 11) :: st) := gw_iast (X' := ((xs E 11 i.toNatClampNeg x), N)) o 6 rfl hin rfl hd (kk _ rfl)
theorem gE_get_negated {τ : xT} {κ : Cx} {nL : Nat} {k : Nat × Nat} {Q : State → Prop} {E N : xF} {pc : Nat} {lv : List (Nat × Value)} {st : List Value} {cc : ByteArray} {own : String} {ret : Option FieldType} {rm : Room} {idx : Nat} (o : OKc κ (wdX τ) nL cc own ret rm) (hl : Cond.fieldLink own idx "StateExplorer" "negated" "[Z" ∈ xw_ok) (hd : decode cc pc = .ok (.getfield idx, 3)) (kk : GW κ (wdX τ) nL k Q (E, N) (pc + 3) lv (.ref (τ.2.2 12) :: st)) : GW κ (wdX τ) nL k Q (E, N) pc lv (.ref (τ.2.2 30) :: st) := gw_get o ix_X 0 rfl rfl 12 (by decide) hl rfl hd kk
theorem gE_ald_negated {τ : xT} {κ : Cx} {nL : Nat} {k : Nat × Nat} {Q : State → Prop} {E N : xF} {pc : Nat} {lv : List (Nat × Value)} {st : List Value} {cc : ByteArray} {own : String} {ret : Option FieldType} {rm : Room} {i : Int32} (o : OKc κ (wdX τ) nL cc own ret rm) (hin : vp_in i 240) (hd : decode cc pc = .ok (.baload, 1)) (kk : GW κ (wdX τ) nL k Q (E, N) (pc + 1) lv (.int (E 12 i.toNatClampNeg) :: st)) : GW κ (wdX τ) nL k Q (E, N) pc lv (.int i :: .ref (τ.2.2 12) :: st) := gw_zald o 7 rfl hin hd kk
theorem gE_ast_negated {τ : xT} {κ : Cx} {nL : Nat} {k : Nat × Nat} {Q : State → Prop} {E N : xF} {pc : Nat} {lv : List (Nat × Value)} {st : List Value} {cc : ByteArray} {own : String} {ret : Option FieldType} {rm : Room} {i x y : Int32} (o : OKc κ (wdX τ) nL cc own ret rm) (hin : vp_in i 240) (hv : vp_nar .boolean x = y) (hd : decode cc pc = .ok (.bastore, 1)) (kk : ∀ Y : xF, Y = xs E 12 i.toNatClampNeg y → GW κ (wdX τ) nL k Q (Y, N) (pc + 1) lv st) : GW κ (wdX τ) nL k Q (E, N) pc lv (.int x :: .int i :: .ref (τ.2.2 12) :: st) := gw_zast (X' := ((xs E 12 i.toNatClampNeg y), N)) o 7 rfl hin hv rfl hd (kk _ rfl)
theorem gE_get_explored {τ : xT} {κ : Cx} {nL : Nat} {k : Nat × Nat} {Q : State → Prop} {E N : xF} {pc : Nat} {lv : List (Nat × Value)} {st : List Value} {cc : ByteArray} {own : String} {ret : Option FieldType} {rm : Room} {idx : Nat} (o : OKc κ (wdX τ) nL cc own ret rm) (hl : Cond.fieldLink own idx "StateExplorer" "explored" "Z" ∈ xw_ok) (hd : decode cc pc = .ok (.getfield idx, 3)) (kk : GW κ (wdX τ) nL k Q (E, N) (pc + 3) lv (.int (E 30 13) :: st)) : GW κ (wdX τ) nL k Q (E, N) pc lv (.ref (τ.2.2 30) :: st) := gw_get o ix_X 0 rfl rfl 13 (by decide) hl rfl hd kk
theorem gE_put_explored {τ : xT} {κ : Cx} {nL : Nat} {k : Nat × Nat} {Q : State → Prop} {E N : xF} {pc : Nat} {lv : List (Nat × Value)} {st : List Value} {cc : ByteArray} {own : String} {ret : Option FieldType} {rm : Room} {idx : Nat} {x : Int32} (o : OKc κ (wdX τ) nL cc own ret rm) (hl : Cond.fieldLink own idx "StateExplorer" "explored" "Z" ∈ xw_ok) (hv : x = 0 ∨ x = 1) (hd : decode cc pc = .ok (.putfield idx, 3)) (kk : ∀ Y : xF, Y = xs E 30 13 x → GW κ (wdX τ) nL k Q (Y, N) (pc + 3) lv st) : GW κ (wdX τ) nL k Q (E, N) pc lv (.int x :: .ref (τ.2.2 30) :: st) := gw_put (X' := ((xs E 30 13 x), N)) (ty := .boolean) o ix_X t_X t_X_ok n_X 0 rfl rfl 13 (by decide) hl rfl (by decide +kernel) (by rcases hv with rfl | rfl <;> rfl) (by rcases hv with rfl | rfl <;> rfl) (Nat.le_of_ble_eq_true rfl) rfl hd (kk _ rfl)
theorem gE_get_ones {τ : xT} {κ : Cx} {nL : Nat} {k : Nat × Nat} {Q : State → Prop} {E N : xF} {pc : Nat} {lv : List (Nat × Value)} {st : List Value} {cc : ByteArray} {own : String} {ret : Option FieldType} {rm : Room} {idx : Nat} (o : OKc κ (wdX τ) nL cc own ret rm) (hl : Cond.fieldLink own idx "StateExplorer" "ones" "[I" ∈ xw_ok) (hd : decode cc pc = .ok (.getfield idx, 3)) (kk : GW κ (wdX τ) nL k Q (E, N) (pc + 3) lv (.ref (τ.2.2 14) :: st)) : GW κ (wdX τ) nL k Q (E, N) pc lv (.ref (τ.2.2 30) :: st) := gw_get o ix_X 0 rfl rfl 14 (by decide) hl rfl hd kk
theorem gE_ald_ones {τ : xT} {κ : Cx} {nL : Nat} {k : Nat × Nat} {Q : State → Prop} {E N : xF} {pc : Nat} {lv : List (Nat × Value)} {st : List Value} {cc : ByteArray} {own : String} {ret : Option FieldType} {rm : Room} {i : Int32} (o : OKc κ (wdX τ) nL cc own ret rm) (hin : vp_in i 60) (hd : decode cc pc = .ok (.iaload, 1)) (kk : GW κ (wdX τ) nL k Q (E, N) (pc + 1) lv (.int (E 14 i.toNatClampNeg) :: st)) : GW κ (wdX τ) nL k Q (E, N) pc lv (.int i :: .ref (τ.2.2 14) :: st) := gw_iald o 8 rfl hin hd kk
theorem gE_ast_ones {τ : xT} {κ : Cx} {nL : Nat} {k : Nat × Nat} {Q : State → Prop} {E N : xF} {pc : Nat} {lv : List (Nat × Value)} {st : List Value} {cc : ByteArray} {own : String} {ret : Option FieldType} {rm : Room} {i x : Int32} (o : OKc κ (wdX τ) nL cc own ret rm) (hin : vp_in i 60) (hd : decode cc pc = .ok (.iastore, 1)) (kk : ∀ Y : xF, Y = xs E 14 i.toNatClampNeg x → GW κ (wdX τ) nL k Q (Y, N) (pc + 1) lv st) : GW κ (wdX τ) nL k Q (E, N) pc lv (.int x :: .int i :: .ref (τ.2.2 14) :: st) := gw_iast (X' := ((xs E 14 i.toNatClampNeg x), N)) o 8 rfl hin rfl hd (kk _ rfl)
theorem gE_get_zeros {τ : xT} {κ : Cx} {nL : Nat} {k : Nat × Nat} {Q : State → Prop} {E N : xF} {pc : Nat} {lv : List (Nat × Value)} {st : List Value} {cc : ByteArray} {own : String} {ret : Option FieldType} {rm : Room} {idx : Nat} (o : OKc κ (wdX τ) nL cc own ret rm) (hl : Cond.fieldLink own idx "StateExplorer" "zeros" "[I" ∈ xw_ok) (hd : decode cc pc = .ok (.getfield idx, 3)) (kk : GW κ (wdX τ) nL k Q (E, N) (pc + 3) lv (.ref (τ.2.2 15) :: st)) : GW κ (wdX τ) nL k Q (E, N) pc lv (.ref (τ.2.2 30) :: st) := gw_get o ix_X 0 rfl rfl 15 (by decide) hl rfl hd kk
theorem gE_ald_zeros {τ : xT} {κ : Cx} {nL : Nat} {k : Nat × Nat} {Q : State → Prop} {E N : xF} {pc : Nat} {lv : List (Nat × Value)} {st : List Value} {cc : ByteArray} {own : String} {ret : Option FieldType} {rm : Room} {i : Int32} (o : OKc κ (wdX τ) nL cc own ret rm) (hin : vp_in i 60) (hd : decode cc pc = .ok (.iaload, 1)) (kk : GW κ (wdX τ) nL k Q (E, N) (pc + 1) lv (.int (E 15 i.toNatClampNeg) :: st)) : GW κ (wdX τ) nL k Q (E, N) pc lv (.int i :: .ref (τ.2.2 15) :: st) := gw_iald o 9 rfl hin hd kk
theorem gE_ast_zeros {τ : xT} {κ : Cx} {nL : Nat} {k : Nat × Nat} {Q : State → Prop} {E N : xF} {pc : Nat} {lv : List (Nat × Value)} {st : List Value} {cc : ByteArray} {own : String} {ret : Option FieldType} {rm : Room} {i x : Int32} (o : OKc κ (wdX τ) nL cc own ret rm) (hin : vp_in i 60) (hd : decode cc pc = .ok (.iastore, 1)) (kk : ∀ Y : xF, Y = xs E 15 i.toNatClampNeg x → GW κ (wdX τ) nL k Q (Y, N) (pc + 1) lv st) : GW κ (wdX τ) nL k Q (E, N) pc lv (.int x :: .int i :: .ref (τ.2.2 15) :: st) := gw_iast (X' := ((xs E 15 i.toNatClampNeg x), N)) o 9 rfl hin rfl hd (kk _ rfl)
theorem gE_get_nexts {τ : xT} {κ : Cx} {nL : Nat} {k : Nat × Nat} {Q : State → Prop} {E N : xF} {pc : Nat} {lv : List (Nat × Value)} {st : List Value} {cc : ByteArray} {own : String} {ret : Option FieldType} {rm : Room} {idx : Nat} (o : OKc κ (wdX τ) nL cc own ret rm) (hl : Cond.fieldLink own idx "StateExplorer" "nexts" "[I" ∈ xw_ok) (hd : decode cc pc = .ok (.getfield idx, 3)) (kk : GW κ (wdX τ) nL k Q (E, N) (pc + 3) lv (.ref (τ.2.2 16) :: st)) : GW κ (wdX τ) nL k Q (E, N) pc lv (.ref (τ.2.2 30) :: st) := gw_get o ix_X 0 rfl rfl 16 (by decide) hl rfl hd kk
theorem gE_ald_nexts {τ : xT} {κ : Cx} {nL : Nat} {k : Nat × Nat} {Q : State → Prop} {E N : xF} {pc : Nat} {lv : List (Nat × Value)} {st : List Value} {cc : ByteArray} {own : String} {ret : Option FieldType} {rm : Room} {i : Int32} (o : OKc κ (wdX τ) nL cc own ret rm) (hin : vp_in i 8) (hd : decode cc pc = .ok (.iaload, 1)) (kk : GW κ (wdX τ) nL k Q (E, N) (pc + 1) lv (.int (E 16 i.toNatClampNeg) :: st)) : GW κ (wdX τ) nL k Q (E, N) pc lv (.int i :: .ref (τ.2.2 16) :: st) := gw_iald o 10 rfl hin hd kk
theorem gE_ast_nexts {τ : xT} {κ : Cx} {nL : Nat} {k : Nat × Nat} {Q : State → Prop} {E N : xF} {pc : Nat} {lv : List (Nat × Value)} {st : List Value} {cc : ByteArray} {own : String} {ret : Option FieldType} {rm : Room} {i x : Int32} (o : OKc κ (wdX τ) nL cc own ret rm) (hin : vp_in i 8) (hd : decode cc pc = .ok (.iastore, 1)) (kk : ∀ Y : xF, Y = xs E 16 i.toNatClampNeg x → GW κ (wdX τ) nL k Q (Y, N) (pc + 1) lv st) : GW κ (wdX τ) nL k Q (E, N) pc lv (.int x :: .int i :: .ref (τ.2.2 16) :: st) := gw_iast (X' := ((xs E 16 i.toNatClampNeg x), N)) o 10 rfl hin rfl hd (kk _ rfl)
theorem gE_get_layers {τ : xT} {κ : Cx} {nL : Nat} {k : Nat × Nat} {Q : State → Prop} {E N : xF} {pc : Nat} {lv : List (Nat × Value)} {st : List Value} {cc : ByteArray} {own : String} {ret : Option FieldType} {rm : Room} {idx : Nat} (o : OKc κ (wdX τ) nL cc own ret rm) (hl : Cond.fieldLink own idx "StateExplorer" "layers" "[I" ∈ xw_ok) (hd : decode cc pc = .ok (.getfield idx, 3)) (kk : GW κ (wdX τ) nL k Q (E, N) (pc + 3) lv (.ref (τ.2.2 17) :: st)) : GW κ (wdX τ) nL k Q (E, N) pc lv (.ref (τ.2.2 30) :: st) := gw_get o ix_X 0 rfl rfl 17 (by decide) hl rfl hd kk
theorem gE_ald_layers {τ : xT} {κ : Cx} {nL : Nat} {k : Nat × Nat} {Q : State → Prop} {E N : xF} {pc : Nat} {lv : List (Nat × Value)} {st : List Value} {cc : ByteArray} {own : String} {ret : Option FieldType} {rm : Room} {i : Int32} (o : OKc κ (wdX τ) nL cc own ret rm) (hin : vp_in i 256) (hd : decode cc pc = .ok (.iaload, 1)) (kk : GW κ (wdX τ) nL k Q (E, N) (pc + 1) lv (.int (E 17 i.toNatClampNeg) :: st)) : GW κ (wdX τ) nL k Q (E, N) pc lv (.int i :: .ref (τ.2.2 17) :: st) := gw_iald o 11 rfl hin hd kk
theorem gE_ast_layers {τ : xT} {κ : Cx} {nL : Nat} {k : Nat × Nat} {Q : State → Prop} {E N : xF} {pc : Nat} {lv : List (Nat × Value)} {st : List Value} {cc : ByteArray} {own : String} {ret : Option FieldType} {rm : Room} {i x : Int32} (o : OKc κ (wdX τ) nL cc own ret rm) (hin : vp_in i 256) (hd : decode cc pc = .ok (.iastore, 1)) (kk : ∀ Y : xF, Y = xs E 17 i.toNatClampNeg x → GW κ (wdX τ) nL k Q (Y, N) (pc + 1) lv st) : GW κ (wdX τ) nL k Q (E, N) pc lv (.int x :: .int i :: .ref (τ.2.2 17) :: st) := gw_iast (X' := ((xs E 17 i.toNatClampNeg x), N)) o 11 rfl hin rfl hd (kk _ rfl)
theorem gE_get_groups {τ : xT} {κ : Cx} {nL : Nat} {k : Nat × Nat} {Q : State → Prop} {E N : xF} {pc : Nat} {lv : List (Nat × Value)} {st : List Value} {cc : ByteArray} {own : String} {ret : Option FieldType} {rm : Room} {idx : Nat} (o : OKc κ (wdX τ) nL cc own ret rm) (hl : Cond.fieldLink own idx "StateExplorer" "groups" "[I" ∈ xw_ok) (hd : decode cc pc = .ok (.getfield idx, 3)) (kk : GW κ (wdX τ) nL k Q (E, N) (pc + 3) lv (.ref (τ.2.2 18) :: st)) : GW κ (wdX τ) nL k Q (E, N) pc lv (.ref (τ.2.2 30) :: st) := gw_get o ix_X 0 rfl rfl 18 (by decide) hl rfl hd kk
theorem gE_ald_groups {τ : xT} {κ : Cx} {nL : Nat} {k : Nat × Nat} {Q : State → Prop} {E N : xF} {pc : Nat} {lv : List (Nat × Value)} {st : List Value} {cc : ByteArray} {own : String} {ret : Option FieldType} {rm : Room} {i : Int32} (o : OKc κ (wdX τ) nL cc own ret rm) (hin : vp_in i 256) (hd : decode cc pc = .ok (.iaload, 1)) (kk : GW κ (wdX τ) nL k Q (E, N) (pc + 1) lv (.int (E 18 i.toNatClampNeg) :: st)) : GW κ (wdX τ) nL k Q (E, N) pc lv (.int i :: .ref (τ.2.2 18) :: st) := gw_iald o 12 rfl hin hd kk
theorem gE_ast_groups {τ : xT} {κ : Cx} {nL : Nat} {k : Nat × Nat} {Q : State → Prop} {E N : xF} {pc : Nat} {lv : List (Nat × Value)} {st : List Value} {cc : ByteArray} {own : String} {ret : Option FieldType} {rm : Room} {i x : Int32} (o : OKc κ (wdX τ) nL cc own ret rm) (hin : vp_in i 256) (hd : decode cc pc = .ok (.iastore, 1)) (kk : ∀ Y : xF, Y = xs E 18 i.toNatClampNeg x → GW κ (wdX τ) nL k Q (Y, N) (pc + 1) lv st) : GW κ (wdX τ) nL k Q (E, N) pc lv (.int x :: .int i :: .ref (τ.2.2 18) :: st) := gw_iast (X' := ((xs E 18 i.toNatClampNeg x), N)) o 12 rfl hin rfl hd (kk _ rfl)
theorem gE_get_fresh {τ : xT} {κ : Cx} {nL : Nat} {k : Nat × Nat} {Q : State → Prop} {E N : xF} {pc : Nat} {lv : List (Nat × Value)} {st : List Value} {cc : ByteArray} {own : String} {ret : Option FieldType} {rm : Room} {idx : Nat} (o : OKc κ (wdX τ) nL cc own ret rm) (hl : Cond.fieldLink own idx "StateExplorer" "fresh" "[I" ∈ xw_ok) (hd : decode cc pc = .ok (.getfield idx, 3)) (kk : GW κ (wdX τ) nL k Q (E, N) (pc + 3) lv (.ref (τ.2.2 19) :: st)) : GW κ (wdX τ) nL k Q (E, N) pc lv (.ref (τ.2.2 30) :: st) := gw_get o ix_X 0 rfl rfl 19 (by decide) hl rfl hd kk
theorem gE_ald_fresh {τ : xT} {κ : Cx} {nL : Nat} {k : Nat × Nat} {Q : State → Prop} {E N : xF} {pc : Nat} {lv : List (Nat × Value)} {st : List Value} {cc : ByteArray} {own : String} {ret : Option FieldType} {rm : Room} {i : Int32} (o : OKc κ (wdX τ) nL cc own ret rm) (hin : vp_in i 256) (hd : decode cc pc = .ok (.iaload, 1)) (kk : GW κ (wdX τ) nL k Q (E, N) (pc + 1) lv (.int (E 19 i.toNatClampNeg) :: st)) : GW κ (wdX τ) nL k Q (E, N) pc lv (.int i :: .ref (τ.2.2 19) :: st) := gw_iald o 13 rfl hin hd kk
theorem gE_ast_fresh {τ : xT} {κ : Cx} {nL : Nat} {k : Nat × Nat} {Q : State → Prop} {E N : xF} {pc : Nat} {lv : List (Nat × Value)} {st : List Value} {cc : ByteArray} {own : String} {ret : Option FieldType} {rm : Room} {i x : Int32} (o : OKc κ (wdX τ) nL cc own ret rm) (hin : vp_in i 256) (hd : decode cc pc = .ok (.iastore, 1)) (kk : ∀ Y : xF, Y = xs E 19 i.toNatClampNeg x → GW κ (wdX τ) nL k Q (Y, N) (pc + 1) lv st) : GW κ (wdX τ) nL k Q (E, N) pc lv (.int x :: .int i :: .ref (τ.2.2 19) :: st) := gw_iast (X' := ((xs E 19 i.toNatClampNeg x), N)) o 13 rfl hin rfl hd (kk _ rfl)
theorem gE_get_settles {τ : xT} {κ : Cx} {nL : Nat} {k : Nat × Nat} {Q : State → Prop} {E N : xF} {pc : Nat} {lv : List (Nat × Value)} {st : List Value} {cc : ByteArray} {own : String} {ret : Option FieldType} {rm : Room} {idx : Nat} (o : OKc κ (wdX τ) nL cc own ret rm) (hl : Cond.fieldLink own idx "StateExplorer" "settles" "I" ∈ xw_ok) (hd : decode cc pc = .ok (.getfield idx, 3)) (kk : GW κ (wdX τ) nL k Q (E, N) (pc + 3) lv (.int (E 30 20) :: st)) : GW κ (wdX τ) nL k Q (E, N) pc lv (.ref (τ.2.2 30) :: st) := gw_get o ix_X 0 rfl rfl 20 (by decide) hl rfl hd kk
theorem gE_put_settles {τ : xT} {κ : Cx} {nL : Nat} {k : Nat × Nat} {Q : State → Prop} {E N : xF} {pc : Nat} {lv : List (Nat × Value)} {st : List Value} {cc : ByteArray} {own : String} {ret : Option FieldType} {rm : Room} {idx : Nat} {x : Int32} (o : OKc κ (wdX τ) nL cc own ret rm) (hl : Cond.fieldLink own idx "StateExplorer" "settles" "I" ∈ xw_ok) (hd : decode cc pc = .ok (.putfield idx, 3)) (kk : ∀ Y : xF, Y = xs E 30 20 x → GW κ (wdX τ) nL k Q (Y, N) (pc + 3) lv st) : GW κ (wdX τ) nL k Q (E, N) pc lv (.int x :: .ref (τ.2.2 30) :: st) := gw_put (X' := ((xs E 30 20 x), N)) (ty := .int) o ix_X t_X t_X_ok n_X 0 rfl rfl 20 (by decide) hl rfl (by decide +kernel) rfl rfl (Nat.le_of_ble_eq_true rfl) rfl hd (kk _ rfl)
theorem gE_get_reached {τ : xT} {κ : Cx} {nL : Nat} {k : Nat × Nat} {Q : State → Prop} {E N : xF} {pc : Nat} {lv : List (Nat × Value)} {st : List Value} {cc : ByteArray} {own : String} {ret : Option FieldType} {rm : Room} {idx : Nat} (o : OKc κ (wdX τ) nL cc own ret rm) (hl : Cond.fieldLink own idx "StateExplorer" "reached" "I" ∈ xw_ok) (hd : decode cc pc = .ok (.getfield idx, 3)) (kk : GW κ (wdX τ) nL k Q (E, N) (pc + 3) lv (.int (E 30 21) :: st)) : GW κ (wdX τ) nL k Q (E, N) pc lv (.ref (τ.2.2 30) :: st) := gw_get o ix_X 0 rfl rfl 21 (by decide) hl rfl hd kk
theorem gE_put_reached {τ : xT} {κ : Cx} {nL : Nat} {k : Nat × Nat} {Q : State → Prop} {E N : xF} {pc : Nat} {lv : List (Nat × Value)} {st : List Value} {cc : ByteArray} {own : String} {ret : Option FieldType} {rm : Room} {idx : Nat} {x : Int32} (o : OKc κ (wdX τ) nL cc own ret rm) (hl : Cond.fieldLink own idx "StateExplorer" "reached" "I" ∈ xw_ok) (hd : decode cc pc = .ok (.putfield idx, 3)) (kk : ∀ Y : xF, Y = xs E 30 21 x → GW κ (wdX τ) nL k Q (Y, N) (pc + 3) lv st) : GW κ (wdX τ) nL k Q (E, N) pc lv (.int x :: .ref (τ.2.2 30) :: st) := gw_put (X' := ((xs E 30 21 x), N)) (ty := .int) o ix_X t_X t_X_ok n_X 0 rfl rfl 21 (by decide) hl rfl (by decide +kernel) rfl rfl (Nat.le_of_ble_eq_true rfl) rfl hd (kk _ rfl)
theorem gE_get_farthest {τ : xT} {κ : Cx} {nL : Nat} {k : Nat × Nat} {Q : State → Prop} {E N : xF} {pc : Nat} {lv : List (Nat × Value)} {st : List Value} {cc : ByteArray} {own : String} {ret : Option FieldType} {rm : Room} {idx : Nat} (o : OKc κ (wdX τ) nL cc own ret rm) (hl : Cond.fieldLink own idx "StateExplorer" "farthest" "I" ∈ xw_ok) (hd : decode cc pc = .ok (.getfield idx, 3)) (kk : GW κ (wdX τ) nL k Q (E, N) (pc + 3) lv (.int (E 30 22) :: st)) : GW κ (wdX τ) nL k Q (E, N) pc lv (.ref (τ.2.2 30) :: st) := gw_get o ix_X 0 rfl rfl 22 (by decide) hl rfl hd kk
theorem gE_put_farthest {τ : xT} {κ : Cx} {nL : Nat} {k : Nat × Nat} {Q : State → Prop} {E N : xF} {pc : Nat} {lv : List (Nat × Value)} {st : List Value} {cc : ByteArray} {own : String} {ret : Option FieldType} {rm : Room} {idx : Nat} {x : Int32} (o : OKc κ (wdX τ) nL cc own ret rm) (hl : Cond.fieldLink own idx "StateExplorer" "farthest" "I" ∈ xw_ok) (hd : decode cc pc = .ok (.putfield idx, 3)) (kk : ∀ Y : xF, Y = xs E 30 22 x → GW κ (wdX τ) nL k Q (Y, N) (pc + 3) lv st) : GW κ (wdX τ) nL k Q (E, N) pc lv (.int x :: .ref (τ.2.2 30) :: st) := gw_put (X' := ((xs E 30 22 x), N)) (ty := .int) o ix_X t_X t_X_ok n_X 0 rfl rfl 22 (by decide) hl rfl (by decide +kernel) rfl rfl (Nat.le_of_ble_eq_true rfl) rfl hd (kk _ rfl)
theorem gE_get_grouped {τ : xT} {κ : Cx} {nL : Nat} {k : Nat × Nat} {Q : State → Prop} {E N : xF} {pc : Nat} {lv : List (Nat × Value)} {st : List Value} {cc : ByteArray} {own : String} {ret : Option FieldType} {rm : Room} {idx : Nat} (o : OKc κ (wdX τ) nL cc own ret rm) (hl : Cond.fieldLink own idx "StateExplorer" "grouped" "I" ∈ xw_ok) (hd : decode cc pc = .ok (.getfield idx, 3)) (kk : GW κ (wdX τ) nL k Q (E, N) (pc + 3) lv (.int (E 30 23) :: st)) : GW κ (wdX τ) nL k Q (E, N) pc lv (.ref (τ.2.2 30) :: st) := gw_get o ix_X 0 rfl rfl 23 (by decide) hl rfl hd kk
theorem gE_put_grouped {τ : xT} {κ : Cx} {nL : Nat} {k : Nat × Nat} {Q : State → Prop} {E N : xF} {pc : Nat} {lv : List (Nat × Value)} {st : List Value} {cc : ByteArray} {own : String} {ret : Option FieldType} {rm : Room} {idx : Nat} {x : Int32} (o : OKc κ (wdX τ) nL cc own ret rm) (hl : Cond.fieldLink own idx "StateExplorer" "grouped" "I" ∈ xw_ok) (hd : decode cc pc = .ok (.putfield idx, 3)) (kk : ∀ Y : xF, Y = xs E 30 23 x → GW κ (wdX τ) nL k Q (Y, N) (pc + 3) lv st) : GW κ (wdX τ) nL k Q (E, N) pc lv (.int x :: .ref (τ.2.2 30) :: st) := gw_put (X' := ((xs E 30 23 x), N)) (ty := .int) o ix_X t_X t_X_ok n_X 0 rfl rfl 23 (by decide) hl rfl (by decide +kernel) rfl rfl (Nat.le_of_ble_eq_true rfl) rfl hd (kk _ rfl)
theorem gE_get_spare {τ : xT} {κ : Cx} {nL : Nat} {k : Nat × Nat} {Q : State → Prop} {E N : xF} {pc : Nat} {lv : List (Nat × Value)} {st : List Value} {cc : ByteArray} {own : String} {ret : Option FieldType} {rm : Room} {idx : Nat} (o : OKc κ (wdX τ) nL cc own ret rm) (hl : Cond.fieldLink own idx "StateExplorer" "spare" "[I" ∈ xw_ok) (hd : decode cc pc = .ok (.getfield idx, 3)) (kk : GW κ (wdX τ) nL k Q (E, N) (pc + 3) lv (.ref (τ.2.2 24) :: st)) : GW κ (wdX τ) nL k Q (E, N) pc lv (.ref (τ.2.2 30) :: st) := gw_get o ix_X 0 rfl rfl 24 (by decide) hl rfl hd kk
theorem gE_ald_spare {τ : xT} {κ : Cx} {nL : Nat} {k : Nat × Nat} {Q : State → Prop} {E N : xF} {pc : Nat} {lv : List (Nat × Value)} {st : List Value} {cc : ByteArray} {own : String} {ret : Option FieldType} {rm : Room} {i : Int32} (o : OKc κ (wdX τ) nL cc own ret rm) (hin : vp_in i 4) (hd : decode cc pc = .ok (.iaload, 1)) (kk : GW κ (wdX τ) nL k Q (E, N) (pc + 1) lv (.int (E 24 i.toNatClampNeg) :: st)) : GW κ (wdX τ) nL k Q (E, N) pc lv (.int i :: .ref (τ.2.2 24) :: st) := gw_iald o 14 rfl hin hd kk
theorem gE_ast_spare {τ : xT} {κ : Cx} {nL : Nat} {k : Nat × Nat} {Q : State → Prop} {E N : xF} {pc : Nat} {lv : List (Nat × Value)} {st : List Value} {cc : ByteArray} {own : String} {ret : Option FieldType} {rm : Room} {i x : Int32} (o : OKc κ (wdX τ) nL cc own ret rm) (hin : vp_in i 4) (hd : decode cc pc = .ok (.iastore, 1)) (kk : ∀ Y : xF, Y = xs E 24 i.toNatClampNeg x → GW κ (wdX τ) nL k Q (Y, N) (pc + 1) lv st) : GW κ (wdX τ) nL k Q (E, N) pc lv (.int x :: .int i :: .ref (τ.2.2 24) :: st) := gw_iast (X' := ((xs E 24 i.toNatClampNeg x), N)) o 14 rfl hin rfl hd (kk _ rfl)
theorem gE_get_whole {τ : xT} {κ : Cx} {nL : Nat} {k : Nat × Nat} {Q : State → Prop} {E N : xF} {pc : Nat} {lv : List (Nat × Value)} {st : List Value} {cc : ByteArray} {own : String} {ret : Option FieldType} {rm : Room} {idx : Nat} (o : OKc κ (wdX τ) nL cc own ret rm) (hl : Cond.fieldLink own idx "StateExplorer" "whole" "[I" ∈ xw_ok) (hd : decode cc pc = .ok (.getfield idx, 3)) (kk : GW κ (wdX τ) nL k Q (E, N) (pc + 3) lv (.ref (τ.2.2 25) :: st)) : GW κ (wdX τ) nL k Q (E, N) pc lv (.ref (τ.2.2 30) :: st) := gw_get o ix_X 0 rfl rfl 25 (by decide) hl rfl hd kk
theorem gE_ald_whole {τ : xT} {κ : Cx} {nL : Nat} {k : Nat × Nat} {Q : State → Prop} {E N : xF} {pc : Nat} {lv : List (Nat × Value)} {st : List Value} {cc : ByteArray} {own : String} {ret : Option FieldType} {rm : Room} {i : Int32} (o : OKc κ (wdX τ) nL cc own ret rm) (hin : vp_in i 8) (hd : decode cc pc = .ok (.iaload, 1)) (kk : GW κ (wdX τ) nL k Q (E, N) (pc + 1) lv (.int (E 25 i.toNatClampNeg) :: st)) : GW κ (wdX τ) nL k Q (E, N) pc lv (.int i :: .ref (τ.2.2 25) :: st) := gw_iald o 15 rfl hin hd kk
theorem gE_ast_whole {τ : xT} {κ : Cx} {nL : Nat} {k : Nat × Nat} {Q : State → Prop} {E N : xF} {pc : Nat} {lv : List (Nat × Value)} {st : List Value} {cc : ByteArray} {own : String} {ret : Option FieldType} {rm : Room} {i x : Int32} (o : OKc κ (wdX τ) nL cc own ret rm) (hin : vp_in i 8) (hd : decode cc pc = .ok (.iastore, 1)) (kk : ∀ Y : xF, Y = xs E 25 i.toNatClampNeg x → GW κ (wdX τ) nL k Q (Y, N) (pc + 1) lv st) : GW κ (wdX τ) nL k Q (E, N) pc lv (.int x :: .int i :: .ref (τ.2.2 25) :: st) := gw_iast (X' := ((xs E 25 i.toNatClampNeg x), N)) o 15 rfl hin rfl hd (kk _ rfl)
theorem gE_get_halves {τ : xT} {κ : Cx} {nL : Nat} {k : Nat × Nat} {Q : State → Prop} {E N : xF} {pc : Nat} {lv : List (Nat × Value)} {st : List Value} {cc : ByteArray} {own : String} {ret : Option FieldType} {rm : Room} {idx : Nat} (o : OKc κ (wdX τ) nL cc own ret rm) (hl : Cond.fieldLink own idx "StateExplorer" "halves" "[I" ∈ xw_ok) (hd : decode cc pc = .ok (.getfield idx, 3)) (kk : GW κ (wdX τ) nL k Q (E, N) (pc + 3) lv (.ref (τ.2.2 26) :: st)) : GW κ (wdX τ) nL k Q (E, N) pc lv (.ref (τ.2.2 30) :: st) := gw_get o ix_X 0 rfl rfl 26 (by decide) hl rfl hd kk
theorem gE_ald_halves {τ : xT} {κ : Cx} {nL : Nat} {k : Nat × Nat} {Q : State → Prop} {E N : xF} {pc : Nat} {lv : List (Nat × Value)} {st : List Value} {cc : ByteArray} {own : String} {ret : Option FieldType} {rm : Room} {i : Int32} (o : OKc κ (wdX τ) nL cc own ret rm) (hin : vp_in i 8) (hd : decode cc pc = .ok (.iaload, 1)) (kk : GW κ (wdX τ) nL k Q (E, N) (pc + 1) lv (.int (E 26 i.toNatClampNeg) :: st)) : GW κ (wdX τ) nL k Q (E, N) pc lv (.int i :: .ref (τ.2.2 26) :: st) := gw_iald o 16 rfl hin hd kk
theorem gE_ast_halves {τ : xT} {κ : Cx} {nL : Nat} {k : Nat × Nat} {Q : State → Prop} {E N : xF} {pc : Nat} {lv : List (Nat × Value)} {st : List Value} {cc : ByteArray} {own : String} {ret : Option FieldType} {rm : Room} {i x : Int32} (o : OKc κ (wdX τ) nL cc own ret rm) (hin : vp_in i 8) (hd : decode cc pc = .ok (.iastore, 1)) (kk : ∀ Y : xF, Y = xs E 26 i.toNatClampNeg x → GW κ (wdX τ) nL k Q (Y, N) (pc + 1) lv st) : GW κ (wdX τ) nL k Q (E, N) pc lv (.int x :: .int i :: .ref (τ.2.2 26) :: st) := gw_iast (X' := ((xs E 26 i.toNatClampNeg x), N)) o 16 rfl hin rfl hd (kk _ rfl)
theorem gE_get_wayTo {τ : xT} {κ : Cx} {nL : Nat} {k : Nat × Nat} {Q : State → Prop} {E N : xF} {pc : Nat} {lv : List (Nat × Value)} {st : List Value} {cc : ByteArray} {own : String} {ret : Option FieldType} {rm : Room} {idx : Nat} (o : OKc κ (wdX τ) nL cc own ret rm) (hl : Cond.fieldLink own idx "StateExplorer" "wayTo" "I" ∈ xw_ok) (hd : decode cc pc = .ok (.getfield idx, 3)) (kk : GW κ (wdX τ) nL k Q (E, N) (pc + 3) lv (.int (E 30 27) :: st)) : GW κ (wdX τ) nL k Q (E, N) pc lv (.ref (τ.2.2 30) :: st) := gw_get o ix_X 0 rfl rfl 27 (by decide) hl rfl hd kk
theorem gE_put_wayTo {τ : xT} {κ : Cx} {nL : Nat} {k : Nat × Nat} {Q : State → Prop} {E N : xF} {pc : Nat} {lv : List (Nat × Value)} {st : List Value} {cc : ByteArray} {own : String} {ret : Option FieldType} {rm : Room} {idx : Nat} {x : Int32} (o : OKc κ (wdX τ) nL cc own ret rm) (hl : Cond.fieldLink own idx "StateExplorer" "wayTo" "I" ∈ xw_ok) (hd : decode cc pc = .ok (.putfield idx, 3)) (kk : ∀ Y : xF, Y = xs E 30 27 x → GW κ (wdX τ) nL k Q (Y, N) (pc + 3) lv st) : GW κ (wdX τ) nL k Q (E, N) pc lv (.int x :: .ref (τ.2.2 30) :: st) := gw_put (X' := ((xs E 30 27 x), N)) (ty := .int) o ix_X t_X t_X_ok n_X 0 rfl rfl 27 (by decide) hl rfl (by decide +kernel) rfl rfl (Nat.le_of_ble_eq_true rfl) rfl hd (kk _ rfl)
theorem gE_get_steps {τ : xT} {κ : Cx} {nL : Nat} {k : Nat × Nat} {Q : State → Prop} {E N : xF} {pc : Nat} {lv : List (Nat × Value)} {st : List Value} {cc : ByteArray} {own : String} {ret : Option FieldType} {rm : Room} {idx : Nat} (o : OKc κ (wdX τ) nL cc own ret rm) (hl : Cond.fieldLink own idx "StateExplorer" "steps" "[I" ∈ xw_ok) (hd : decode cc pc = .ok (.getfield idx, 3)) (kk : GW κ (wdX τ) nL k Q (E, N) (pc + 3) lv (.ref (τ.2.2 28) :: st)) : GW κ (wdX τ) nL k Q (E, N) pc lv (.ref (τ.2.2 30) :: st) := gw_get o ix_X 0 rfl rfl 28 (by decide) hl rfl hd kk
theorem gE_ald_steps {τ : xT} {κ : Cx} {nL : Nat} {k : Nat × Nat} {Q : State → Prop} {E N : xF} {pc : Nat} {lv : List (Nat × Value)} {st : List Value} {cc : ByteArray} {own : String} {ret : Option FieldType} {rm : Room} {i : Int32} (o : OKc κ (wdX τ) nL cc own ret rm) (hin : vp_in i 256) (hd : decode cc pc = .ok (.iaload, 1)) (kk : GW κ (wdX τ) nL k Q (E, N) (pc + 1) lv (.int (E 28 i.toNatClampNeg) :: st)) : GW κ (wdX τ) nL k Q (E, N) pc lv (.int i :: .ref (τ.2.2 28) :: st) := gw_iald o 17 rfl hin hd kk
theorem gE_ast_steps {τ : xT} {κ : Cx} {nL : Nat} {k : Nat × Nat} {Q : State → Prop} {E N : xF} {pc : Nat} {lv : List (Nat × Value)} {st : List Value} {cc : ByteArray} {own : String} {ret : Option FieldType} {rm : Room} {i x : Int32} (o : OKc κ (wdX τ) nL cc own ret rm) (hin : vp_in i 256) (hd : decode cc pc = .ok (.iastore, 1)) (kk : ∀ Y : xF, Y = xs E 28 i.toNatClampNeg x → GW κ (wdX τ) nL k Q (Y, N) (pc + 1) lv st) : GW κ (wdX τ) nL k Q (E, N) pc lv (.int x :: .int i :: .ref (τ.2.2 28) :: st) := gw_iast (X' := ((xs E 28 i.toNatClampNeg x), N)) o 17 rfl hin rfl hd (kk _ rfl)
theorem gE_get_through {τ : xT} {κ : Cx} {nL : Nat} {k : Nat × Nat} {Q : State → Prop} {E N : xF} {pc : Nat} {lv : List (Nat × Value)} {st : List Value} {cc : ByteArray} {own : String} {ret : Option FieldType} {rm : Room} {idx : Nat} (o : OKc κ (wdX τ) nL cc own ret rm) (hl : Cond.fieldLink own idx "StateExplorer" "through" "[I" ∈ xw_ok) (hd : decode cc pc = .ok (.getfield idx, 3)) (kk : GW κ (wdX τ) nL k Q (E, N) (pc + 3) lv (.ref (τ.2.2 29) :: st)) : GW κ (wdX τ) nL k Q (E, N) pc lv (.ref (τ.2.2 30) :: st) := gw_get o ix_X 0 rfl rfl 29 (by decide) hl rfl hd kk
theorem gE_ald_through {τ : xT} {κ : Cx} {nL : Nat} {k : Nat × Nat} {Q : State → Prop} {E N : xF} {pc : Nat} {lv : List (Nat × Value)} {st : List Value} {cc : ByteArray} {own : String} {ret : Option FieldType} {rm : Room} {i : Int32} (o : OKc κ (wdX τ) nL cc own ret rm) (hin : vp_in i 256) (hd : decode cc pc = .ok (.iaload, 1)) (kk : GW κ (wdX τ) nL k Q (E, N) (pc + 1) lv (.int (E 29 i.toNatClampNeg) :: st)) : GW κ (wdX τ) nL k Q (E, N) pc lv (.int i :: .ref (τ.2.2 29) :: st) := gw_iald o 18 rfl hin hd kk
theorem gE_ast_through {τ : xT} {κ : Cx} {nL : Nat} {k : Nat × Nat} {Q : State → Prop} {E N : xF} {pc : Nat} {lv : List (Nat × Value)} {st : List Value} {cc : ByteArray} {own : String} {ret : Option FieldType} {rm : Room} {i x : Int32} (o : OKc κ (wdX τ) nL cc own ret rm) (hin : vp_in i 256) (hd : decode cc pc = .ok (.iastore, 1)) (kk : ∀ Y : xF, Y = xs E 29 i.toNatClampNeg x → GW κ (wdX τ) nL k Q (Y, N) (pc + 1) lv st) : GW κ (wdX τ) nL k Q (E, N) pc lv (.int x :: .int i :: .ref (τ.2.2 29) :: st) := gw_iast (X' := ((xs E 29 i.toNatClampNeg x), N)) o 18 rfl hin rfl hd (kk _ rfl)
theorem gX_get_levels {τ : xT} {κ : Cx} {nL : Nat} {k : Nat × Nat} {Q : State → Prop} {E N : xF} {pc : Nat} {lv : List (Nat × Value)} {st : List Value} {cc : ByteArray} {own : String} {ret : Option FieldType} {rm : Room} {idx : Nat} (o : OKc κ (wdX τ) nL cc own ret rm) (hl : Cond.fieldLink own idx "StateExplorer$Nodes" "levels" "[B" ∈ xw_ok) (hd : decode cc pc = .ok (.getfield idx, 3)) (kk : GW κ (wdX τ) nL k Q (E, N) (pc + 3) lv (.ref (τ.2.2 40) :: st)) : GW κ (wdX τ) nL k Q (E, N) pc lv (.ref (τ.2.2 54) :: st) := gw_get o ix_N 19 rfl rfl 0 (by decide) hl rfl hd kk
theorem gX_ald_levels {τ : xT} {κ : Cx} {nL : Nat} {k : Nat × Nat} {Q : State → Prop} {E N : xF} {pc : Nat} {lv : List (Nat × Value)} {st : List Value} {cc : ByteArray} {own : String} {ret : Option FieldType} {rm : Room} {i : Int32} (o : OKc κ (wdX τ) nL cc own ret rm) (hin : vp_in i 262144) (hd : decode cc pc = .ok (.baload, 1)) (kk : GW κ (wdX τ) nL k Q (E, N) (pc + 1) lv (.int (N 0 i.toNatClampNeg) :: st)) : GW κ (wdX τ) nL k Q (E, N) pc lv (.int i :: .ref (τ.2.2 40) :: st) := gw_bald o 20 rfl hin hd kk
theorem gX_ast_levels {τ : xT} {κ : Cx} {nL : Nat} {k : Nat × Nat} {Q : State → Prop} {E N : xF} {pc : Nat} {lv : List (Nat × Value)} {st : List Value} {cc : ByteArray} {own : String} {ret : Option FieldType} {rm : Room} {i x y : Int32} (o : OKc κ (wdX τ) nL cc own ret rm) (hin : vp_in i 262144) (hv : vp_nar .byte x = y) (hd : decode cc pc = .ok (.bastore, 1)) (kk : ∀ Y : xF, Y = xs N 0 i.toNatClampNeg y → GW κ (wdX τ) nL k Q (E, Y) (pc + 1) lv st) : GW κ (wdX τ) nL k Q (E, N) pc lv (.int x :: .int i :: .ref (τ.2.2 40) :: st) := gw_bast (X' := (E, (xs N 0 i.toNatClampNeg y))) o 20 rfl hin hv rfl hd (kk _ rfl)
theorem gX_get_lows {τ : xT} {κ : Cx} {nL : Nat} {k : Nat × Nat} {Q : State → Prop} {E N : xF} {pc : Nat} {lv : List (Nat × Value)} {st : List Value} {cc : ByteArray} {own : String} {ret : Option FieldType} {rm : Room} {idx : Nat} (o : OKc κ (wdX τ) nL cc own ret rm) (hl : Cond.fieldLink own idx "StateExplorer$Nodes" "lows" "[I" ∈ xw_ok) (hd : decode cc pc = .ok (.getfield idx, 3)) (kk : GW κ (wdX τ) nL k Q (E, N) (pc + 3) lv (.ref (τ.2.2 41) :: st)) : GW κ (wdX τ) nL k Q (E, N) pc lv (.ref (τ.2.2 54) :: st) := gw_get o ix_N 19 rfl rfl 1 (by decide) hl rfl hd kk
theorem gX_ald_lows {τ : xT} {κ : Cx} {nL : Nat} {k : Nat × Nat} {Q : State → Prop} {E N : xF} {pc : Nat} {lv : List (Nat × Value)} {st : List Value} {cc : ByteArray} {own : String} {ret : Option FieldType} {rm : Room} {i : Int32} (o : OKc κ (wdX τ) nL cc own ret rm) (hin : vp_in i 262144) (hd : decode cc pc = .ok (.iaload, 1)) (kk : GW κ (wdX τ) nL k Q (E, N) (pc + 1) lv (.int (N 1 i.toNatClampNeg) :: st)) : GW κ (wdX τ) nL k Q (E, N) pc lv (.int i :: .ref (τ.2.2 41) :: st) := gw_iald o 21 rfl hin hd kk
theorem gX_ast_lows {τ : xT} {κ : Cx} {nL : Nat} {k : Nat × Nat} {Q : State → Prop} {E N : xF} {pc : Nat} {lv : List (Nat × Value)} {st : List Value} {cc : ByteArray} {own : String} {ret : Option FieldType} {rm : Room} {i x : Int32} (o : OKc κ (wdX τ) nL cc own ret rm) (hin : vp_in i 262144) (hd : decode cc pc = .ok (.iastore, 1)) (kk : ∀ Y : xF, Y = xs N 1 i.toNatClampNeg x → GW κ (wdX τ) nL k Q (E, Y) (pc + 1) lv st) : GW κ (wdX τ) nL k Q (E, N) pc lv (.int x :: .int i :: .ref (τ.2.2 41) :: st) := gw_iast (X' := (E, (xs N 1 i.toNatClampNeg x))) o 21 rfl hin rfl hd (kk _ rfl)
theorem gX_get_highs {τ : xT} {κ : Cx} {nL : Nat} {k : Nat × Nat} {Q : State → Prop} {E N : xF} {pc : Nat} {lv : List (Nat × Value)} {st : List Value} {cc : ByteArray} {own : String} {ret : Option FieldType} {rm : Room} {idx : Nat} (o : OKc κ (wdX τ) nL cc own ret rm) (hl : Cond.fieldLink own idx "StateExplorer$Nodes" "highs" "[I" ∈ xw_ok) (hd : decode cc pc = .ok (.getfield idx, 3)) (kk : GW κ (wdX τ) nL k Q (E, N) (pc + 3) lv (.ref (τ.2.2 42) :: st)) : GW κ (wdX τ) nL k Q (E, N) pc lv (.ref (τ.2.2 54) :: st) := gw_get o ix_N 19 rfl rfl 2 (by decide) hl rfl hd kk
theorem gX_ald_highs {τ : xT} {κ : Cx} {nL : Nat} {k : Nat × Nat} {Q : State → Prop} {E N : xF} {pc : Nat} {lv : List (Nat × Value)} {st : List Value} {cc : ByteArray} {own : String} {ret : Option FieldType} {rm : Room} {i : Int32} (o : OKc κ (wdX τ) nL cc own ret rm) (hin : vp_in i 262144) (hd : decode cc pc = .ok (.iaload, 1)) (kk : GW κ (wdX τ) nL k Q (E, N) (pc + 1) lv (.int (N 2 i.toNatClampNeg) :: st)) : GW κ (wdX τ) nL k Q (E, N) pc lv (.int i :: .ref (τ.2.2 42) :: st) := gw_iald o 22 rfl hin hd kk
theorem gX_ast_highs {τ : xT} {κ : Cx} {nL : Nat} {k : Nat × Nat} {Q : State → Prop} {E N : xF} {pc : Nat} {lv : List (Nat × Value)} {st : List Value} {cc : ByteArray} {own : String} {ret : Option FieldType} {rm : Room} {i x : Int32} (o : OKc κ (wdX τ) nL cc own ret rm) (hin : vp_in i 262144) (hd : decode cc pc = .ok (.iastore, 1)) (kk : ∀ Y : xF, Y = xs N 2 i.toNatClampNeg x → GW κ (wdX τ) nL k Q (E, Y) (pc + 1) lv st) : GW κ (wdX τ) nL k Q (E, N) pc lv (.int x :: .int i :: .ref (τ.2.2 42) :: st) := gw_iast (X' := (E, (xs N 2 i.toNatClampNeg x))) o 22 rfl hin rfl hd (kk _ rfl)
theorem gX_get_next {τ : xT} {κ : Cx} {nL : Nat} {k : Nat × Nat} {Q : State → Prop} {E N : xF} {pc : Nat} {lv : List (Nat × Value)} {st : List Value} {cc : ByteArray} {own : String} {ret : Option FieldType} {rm : Room} {idx : Nat} (o : OKc κ (wdX τ) nL cc own ret rm) (hl : Cond.fieldLink own idx "StateExplorer$Nodes" "next" "[I" ∈ xw_ok) (hd : decode cc pc = .ok (.getfield idx, 3)) (kk : GW κ (wdX τ) nL k Q (E, N) (pc + 3) lv (.ref (τ.2.2 43) :: st)) : GW κ (wdX τ) nL k Q (E, N) pc lv (.ref (τ.2.2 54) :: st) := gw_get o ix_N 19 rfl rfl 3 (by decide) hl rfl hd kk
theorem gX_ald_next {τ : xT} {κ : Cx} {nL : Nat} {k : Nat × Nat} {Q : State → Prop} {E N : xF} {pc : Nat} {lv : List (Nat × Value)} {st : List Value} {cc : ByteArray} {own : String} {ret : Option FieldType} {rm : Room} {i : Int32} (o : OKc κ (wdX τ) nL cc own ret rm) (hin : vp_in i 262144) (hd : decode cc pc = .ok (.iaload, 1)) (kk : GW κ (wdX τ) nL k Q (E, N) (pc + 1) lv (.int (N 3 i.toNatClampNeg) :: st)) : GW κ (wdX τ) nL k Q (E, N) pc lv (.int i :: .ref (τ.2.2 43) :: st) := gw_iald o 23 rfl hin hd kk
theorem gX_ast_next {τ : xT} {κ : Cx} {nL : Nat} {k : Nat × Nat} {Q : State → Prop} {E N : xF} {pc : Nat} {lv : List (Nat × Value)} {st : List Value} {cc : ByteArray} {own : String} {ret : Option FieldType} {rm : Room} {i x : Int32} (o : OKc κ (wdX τ) nL cc own ret rm) (hin : vp_in i 262144) (hd : decode cc pc = .ok (.iastore, 1)) (kk : ∀ Y : xF, Y = xs N 3 i.toNatClampNeg x → GW κ (wdX τ) nL k Q (E, Y) (pc + 1) lv st) : GW κ (wdX τ) nL k Q (E, N) pc lv (.int x :: .int i :: .ref (τ.2.2 43) :: st) := gw_iast (X' := (E, (xs N 3 i.toNatClampNeg x))) o 23 rfl hin rfl hd (kk _ rfl)
theorem gX_get_chains {τ : xT} {κ : Cx} {nL : Nat} {k : Nat × Nat} {Q : State → Prop} {E N : xF} {pc : Nat} {lv : List (Nat × Value)} {st : List Value} {cc : ByteArray} {own : String} {ret : Option FieldType} {rm : Room} {idx : Nat} (o : OKc κ (wdX τ) nL cc own ret rm) (hl : Cond.fieldLink own idx "StateExplorer$Nodes" "chains" "[I" ∈ xw_ok) (hd : decode cc pc = .ok (.getfield idx, 3)) (kk : GW κ (wdX τ) nL k Q (E, N) (pc + 3) lv (.ref (τ.2.2 44) :: st)) : GW κ (wdX τ) nL k Q (E, N) pc lv (.ref (τ.2.2 54) :: st) := gw_get o ix_N 19 rfl rfl 4 (by decide) hl rfl hd kk
theorem gX_ald_chains {τ : xT} {κ : Cx} {nL : Nat} {k : Nat × Nat} {Q : State → Prop} {E N : xF} {pc : Nat} {lv : List (Nat × Value)} {st : List Value} {cc : ByteArray} {own : String} {ret : Option FieldType} {rm : Room} {i : Int32} (o : OKc κ (wdX τ) nL cc own ret rm) (hin : vp_in i 32768) (hd : decode cc pc = .ok (.iaload, 1)) (kk : GW κ (wdX τ) nL k Q (E, N) (pc + 1) lv (.int (N 4 i.toNatClampNeg) :: st)) : GW κ (wdX τ) nL k Q (E, N) pc lv (.int i :: .ref (τ.2.2 44) :: st) := gw_iald o 24 rfl hin hd kk
theorem gX_ast_chains {τ : xT} {κ : Cx} {nL : Nat} {k : Nat × Nat} {Q : State → Prop} {E N : xF} {pc : Nat} {lv : List (Nat × Value)} {st : List Value} {cc : ByteArray} {own : String} {ret : Option FieldType} {rm : Room} {i x : Int32} (o : OKc κ (wdX τ) nL cc own ret rm) (hin : vp_in i 32768) (hd : decode cc pc = .ok (.iastore, 1)) (kk : ∀ Y : xF, Y = xs N 4 i.toNatClampNeg x → GW κ (wdX τ) nL k Q (E, Y) (pc + 1) lv st) : GW κ (wdX τ) nL k Q (E, N) pc lv (.int x :: .int i :: .ref (τ.2.2 44) :: st) := gw_iast (X' := (E, (xs N 4 i.toNatClampNeg x))) o 24 rfl hin rfl hd (kk _ rfl)
theorem gX_get_marked {τ : xT} {κ : Cx} {nL : Nat} {k : Nat × Nat} {Q : State → Prop} {E N : xF} {pc : Nat} {lv : List (Nat × Value)} {st : List Value} {cc : ByteArray} {own : String} {ret : Option FieldType} {rm : Room} {idx : Nat} (o : OKc κ (wdX τ) nL cc own ret rm) (hl : Cond.fieldLink own idx "StateExplorer$Nodes" "marked" "[Z" ∈ xw_ok) (hd : decode cc pc = .ok (.getfield idx, 3)) (kk : GW κ (wdX τ) nL k Q (E, N) (pc + 3) lv (.ref (τ.2.2 45) :: st)) : GW κ (wdX τ) nL k Q (E, N) pc lv (.ref (τ.2.2 54) :: st) := gw_get o ix_N 19 rfl rfl 5 (by decide) hl rfl hd kk
theorem gX_ald_marked {τ : xT} {κ : Cx} {nL : Nat} {k : Nat × Nat} {Q : State → Prop} {E N : xF} {pc : Nat} {lv : List (Nat × Value)} {st : List Value} {cc : ByteArray} {own : String} {ret : Option FieldType} {rm : Room} {i : Int32} (o : OKc κ (wdX τ) nL cc own ret rm) (hin : vp_in i 262144) (hd : decode cc pc = .ok (.baload, 1)) (kk : GW κ (wdX τ) nL k Q (E, N) (pc + 1) lv (.int (N 5 i.toNatClampNeg) :: st)) : GW κ (wdX τ) nL k Q (E, N) pc lv (.int i :: .ref (τ.2.2 45) :: st) := gw_zald o 25 rfl hin hd kk
theorem gX_ast_marked {τ : xT} {κ : Cx} {nL : Nat} {k : Nat × Nat} {Q : State → Prop} {E N : xF} {pc : Nat} {lv : List (Nat × Value)} {st : List Value} {cc : ByteArray} {own : String} {ret : Option FieldType} {rm : Room} {i x y : Int32} (o : OKc κ (wdX τ) nL cc own ret rm) (hin : vp_in i 262144) (hv : vp_nar .boolean x = y) (hd : decode cc pc = .ok (.bastore, 1)) (kk : ∀ Y : xF, Y = xs N 5 i.toNatClampNeg y → GW κ (wdX τ) nL k Q (E, Y) (pc + 1) lv st) : GW κ (wdX τ) nL k Q (E, N) pc lv (.int x :: .int i :: .ref (τ.2.2 45) :: st) := gw_zast (X' := (E, (xs N 5 i.toNatClampNeg y))) o 25 rfl hin hv rfl hd (kk _ rfl)
theorem gX_get_free {τ : xT} {κ : Cx} {nL : Nat} {k : Nat × Nat} {Q : State → Prop} {E N : xF} {pc : Nat} {lv : List (Nat × Value)} {st : List Value} {cc : ByteArray} {own : String} {ret : Option FieldType} {rm : Room} {idx : Nat} (o : OKc κ (wdX τ) nL cc own ret rm) (hl : Cond.fieldLink own idx "StateExplorer$Nodes" "free" "I" ∈ xw_ok) (hd : decode cc pc = .ok (.getfield idx, 3)) (kk : GW κ (wdX τ) nL k Q (E, N) (pc + 3) lv (.int (N 14 6) :: st)) : GW κ (wdX τ) nL k Q (E, N) pc lv (.ref (τ.2.2 54) :: st) := gw_get o ix_N 19 rfl rfl 6 (by decide) hl rfl hd kk
theorem gX_put_free {τ : xT} {κ : Cx} {nL : Nat} {k : Nat × Nat} {Q : State → Prop} {E N : xF} {pc : Nat} {lv : List (Nat × Value)} {st : List Value} {cc : ByteArray} {own : String} {ret : Option FieldType} {rm : Room} {idx : Nat} {x : Int32} (o : OKc κ (wdX τ) nL cc own ret rm) (hl : Cond.fieldLink own idx "StateExplorer$Nodes" "free" "I" ∈ xw_ok) (hd : decode cc pc = .ok (.putfield idx, 3)) (kk : ∀ Y : xF, Y = xs N 14 6 x → GW κ (wdX τ) nL k Q (E, Y) (pc + 3) lv st) : GW κ (wdX τ) nL k Q (E, N) pc lv (.int x :: .ref (τ.2.2 54) :: st) := gw_put (X' := (E, (xs N 14 6 x))) (ty := .int) o ix_N t_N t_N_ok n_N 19 rfl rfl 6 (by decide) hl rfl (by decide +kernel) rfl rfl (Nat.le_of_ble_eq_true rfl) rfl hd (kk _ rfl)
theorem gX_get_used {τ : xT} {κ : Cx} {nL : Nat} {k : Nat × Nat} {Q : State → Prop} {E N : xF} {pc : Nat} {lv : List (Nat × Value)} {st : List Value} {cc : ByteArray} {own : String} {ret : Option FieldType} {rm : Room} {idx : Nat} (o : OKc κ (wdX τ) nL cc own ret rm) (hl : Cond.fieldLink own idx "StateExplorer$Nodes" "used" "I" ∈ xw_ok) (hd : decode cc pc = .ok (.getfield idx, 3)) (kk : GW κ (wdX τ) nL k Q (E, N) (pc + 3) lv (.int (N 14 7) :: st)) : GW κ (wdX τ) nL k Q (E, N) pc lv (.ref (τ.2.2 54) :: st) := gw_get o ix_N 19 rfl rfl 7 (by decide) hl rfl hd kk
theorem gX_put_used {τ : xT} {κ : Cx} {nL : Nat} {k : Nat × Nat} {Q : State → Prop} {E N : xF} {pc : Nat} {lv : List (Nat × Value)} {st : List Value} {cc : ByteArray} {own : String} {ret : Option FieldType} {rm : Room} {idx : Nat} {x : Int32} (o : OKc κ (wdX τ) nL cc own ret rm) (hl : Cond.fieldLink own idx "StateExplorer$Nodes" "used" "I" ∈ xw_ok) (hd : decode cc pc = .ok (.putfield idx, 3)) (kk : ∀ Y : xF, Y = xs N 14 7 x → GW κ (wdX τ) nL k Q (E, Y) (pc + 3) lv st) : GW κ (wdX τ) nL k Q (E, N) pc lv (.int x :: .ref (τ.2.2 54) :: st) := gw_put (X' := (E, (xs N 14 7 x))) (ty := .int) o ix_N t_N t_N_ok n_N 19 rfl rfl 7 (by decide) hl rfl (by decide +kernel) rfl rfl (Nat.le_of_ble_eq_true rfl) rfl hd (kk _ rfl)
theorem gX_get_spare {τ : xT} {κ : Cx} {nL : Nat} {k : Nat × Nat} {Q : State → Prop} {E N : xF} {pc : Nat} {lv : List (Nat × Value)} {st : List Value} {cc : ByteArray} {own : String} {ret : Option FieldType} {rm : Room} {idx : Nat} (o : OKc κ (wdX τ) nL cc own ret rm) (hl : Cond.fieldLink own idx "StateExplorer$Nodes" "spare" "I" ∈ xw_ok) (hd : decode cc pc = .ok (.getfield idx, 3)) (kk : GW κ (wdX τ) nL k Q (E, N) (pc + 3) lv (.int (N 14 8) :: st)) : GW κ (wdX τ) nL k Q (E, N) pc lv (.ref (τ.2.2 54) :: st) := gw_get o ix_N 19 rfl rfl 8 (by decide) hl rfl hd kk
theorem gX_put_spare {τ : xT} {κ : Cx} {nL : Nat} {k : Nat × Nat} {Q : State → Prop} {E N : xF} {pc : Nat} {lv : List (Nat × Value)} {st : List Value} {cc : ByteArray} {own : String} {ret : Option FieldType} {rm : Room} {idx : Nat} {x : Int32} (o : OKc κ (wdX τ) nL cc own ret rm) (hl : Cond.fieldLink own idx "StateExplorer$Nodes" "spare" "I" ∈ xw_ok) (hd : decode cc pc = .ok (.putfield idx, 3)) (kk : ∀ Y : xF, Y = xs N 14 8 x → GW κ (wdX τ) nL k Q (E, Y) (pc + 3) lv st) : GW κ (wdX τ) nL k Q (E, N) pc lv (.int x :: .ref (τ.2.2 54) :: st) := gw_put (X' := (E, (xs N 14 8 x))) (ty := .int) o ix_N t_N t_N_ok n_N 19 rfl rfl 8 (by decide) hl rfl (by decide +kernel) rfl rfl (Nat.le_of_ble_eq_true rfl) rfl hd (kk _ rfl)
theorem gX_get_keyA {τ : xT} {κ : Cx} {nL : Nat} {k : Nat × Nat} {Q : State → Prop} {E N : xF} {pc : Nat} {lv : List (Nat × Value)} {st : List Value} {cc : ByteArray} {own : String} {ret : Option FieldType} {rm : Room} {idx : Nat} (o : OKc κ (wdX τ) nL cc own ret rm) (hl : Cond.fieldLink own idx "StateExplorer$Nodes" "keyA" "[I" ∈ xw_ok) (hd : decode cc pc = .ok (.getfield idx, 3)) (kk : GW κ (wdX τ) nL k Q (E, N) (pc + 3) lv (.ref (τ.2.2 49) :: st)) : GW κ (wdX τ) nL k Q (E, N) pc lv (.ref (τ.2.2 54) :: st) := gw_get o ix_N 19 rfl rfl 9 (by decide) hl rfl hd kk
theorem gX_ald_keyA {τ : xT} {κ : Cx} {nL : Nat} {k : Nat × Nat} {Q : State → Prop} {E N : xF} {pc : Nat} {lv : List (Nat × Value)} {st : List Value} {cc : ByteArray} {own : String} {ret : Option FieldType} {rm : Room} {i : Int32} (o : OKc κ (wdX τ) nL cc own ret rm) (hin : vp_in i 16384) (hd : decode cc pc = .ok (.iaload, 1)) (kk : GW κ (wdX τ) nL k Q (E, N) (pc + 1) lv (.int (N 9 i.toNatClampNeg) :: st)) : GW κ (wdX τ) nL k Q (E, N) pc lv (.int i :: .ref (τ.2.2 49) :: st) := gw_iald o 26 rfl hin hd kk
theorem gX_ast_keyA {τ : xT} {κ : Cx} {nL : Nat} {k : Nat × Nat} {Q : State → Prop} {E N : xF} {pc : Nat} {lv : List (Nat × Value)} {st : List Value} {cc : ByteArray} {own : String} {ret : Option FieldType} {rm : Room} {i x : Int32} (o : OKc κ (wdX τ) nL cc own ret rm) (hin : vp_in i 16384) (hd : decode cc pc = .ok (.iastore, 1)) (kk : ∀ Y : xF, Y = xs N 9 i.toNatClampNeg x → GW κ (wdX τ) nL k Q (E, Y) (pc + 1) lv st) : GW κ (wdX τ) nL k Q (E, N) pc lv (.int x :: .int i :: .ref (τ.2.2 49) :: st) := gw_iast (X' := (E, (xs N 9 i.toNatClampNeg x))) o 26 rfl hin rfl hd (kk _ rfl)
theorem gX_get_keyB {τ : xT} {κ : Cx} {nL : Nat} {k : Nat × Nat} {Q : State → Prop} {E N : xF} {pc : Nat} {lv : List (Nat × Value)} {st : List Value} {cc : ByteArray} {own : String} {ret : Option FieldType} {rm : Room} {idx : Nat} (o : OKc κ (wdX τ) nL cc own ret rm) (hl : Cond.fieldLink own idx "StateExplorer$Nodes" "keyB" "[I" ∈ xw_ok) (hd : decode cc pc = .ok (.getfield idx, 3)) (kk : GW κ (wdX τ) nL k Q (E, N) (pc + 3) lv (.ref (τ.2.2 50) :: st)) : GW κ (wdX τ) nL k Q (E, N) pc lv (.ref (τ.2.2 54) :: st) := gw_get o ix_N 19 rfl rfl 10 (by decide) hl rfl hd kk
theorem gX_ald_keyB {τ : xT} {κ : Cx} {nL : Nat} {k : Nat × Nat} {Q : State → Prop} {E N : xF} {pc : Nat} {lv : List (Nat × Value)} {st : List Value} {cc : ByteArray} {own : String} {ret : Option FieldType} {rm : Room} {i : Int32} (o : OKc κ (wdX τ) nL cc own ret rm) (hin : vp_in i 16384) (hd : decode cc pc = .ok (.iaload, 1)) (kk : GW κ (wdX τ) nL k Q (E, N) (pc + 1) lv (.int (N 10 i.toNatClampNeg) :: st)) : GW κ (wdX τ) nL k Q (E, N) pc lv (.int i :: .ref (τ.2.2 50) :: st) := gw_iald o 27 rfl hin hd kk
theorem gX_ast_keyB {τ : xT} {κ : Cx} {nL : Nat} {k : Nat × Nat} {Q : State → Prop} {E N : xF} {pc : Nat} {lv : List (Nat × Value)} {st : List Value} {cc : ByteArray} {own : String} {ret : Option FieldType} {rm : Room} {i x : Int32} (o : OKc κ (wdX τ) nL cc own ret rm) (hin : vp_in i 16384) (hd : decode cc pc = .ok (.iastore, 1)) (kk : ∀ Y : xF, Y = xs N 10 i.toNatClampNeg x → GW κ (wdX τ) nL k Q (E, Y) (pc + 1) lv st) : GW κ (wdX τ) nL k Q (E, N) pc lv (.int x :: .int i :: .ref (τ.2.2 50) :: st) := gw_iast (X' := (E, (xs N 10 i.toNatClampNeg x))) o 27 rfl hin rfl hd (kk _ rfl)
theorem gX_get_keyC {τ : xT} {κ : Cx} {nL : Nat} {k : Nat × Nat} {Q : State → Prop} {E N : xF} {pc : Nat} {lv : List (Nat × Value)} {st : List Value} {cc : ByteArray} {own : String} {ret : Option FieldType} {rm : Room} {idx : Nat} (o : OKc κ (wdX τ) nL cc own ret rm) (hl : Cond.fieldLink own idx "StateExplorer$Nodes" "keyC" "[I" ∈ xw_ok) (hd : decode cc pc = .ok (.getfield idx, 3)) (kk : GW κ (wdX τ) nL k Q (E, N) (pc + 3) lv (.ref (τ.2.2 51) :: st)) : GW κ (wdX τ) nL k Q (E, N) pc lv (.ref (τ.2.2 54) :: st) := gw_get o ix_N 19 rfl rfl 11 (by decide) hl rfl hd kk
theorem gX_ald_keyC {τ : xT} {κ : Cx} {nL : Nat} {k : Nat × Nat} {Q : State → Prop} {E N : xF} {pc : Nat} {lv : List (Nat × Value)} {st : List Value} {cc : ByteArray} {own : String} {ret : Option FieldType} {rm : Room} {i : Int32} (o : OKc κ (wdX τ) nL cc own ret rm) (hin : vp_in i 16384) (hd : decode cc pc = .ok (.iaload, 1)) (kk : GW κ (wdX τ) nL k Q (E, N) (pc + 1) lv (.int (N 11 i.toNatClampNeg) :: st)) : GW κ (wdX τ) nL k Q (E, N) pc lv (.int i :: .ref (τ.2.2 51) :: st) := gw_iald o 28 rfl hin hd kk
theorem gX_ast_keyC {τ : xT} {κ : Cx} {nL : Nat} {k : Nat × Nat} {Q : State → Prop} {E N : xF} {pc : Nat} {lv : List (Nat × Value)} {st : List Value} {cc : ByteArray} {own : String} {ret : Option FieldType} {rm : Room} {i x : Int32} (o : OKc κ (wdX τ) nL cc own ret rm) (hin : vp_in i 16384) (hd : decode cc pc = .ok (.iastore, 1)) (kk : ∀ Y : xF, Y = xs N 11 i.toNatClampNeg x → GW κ (wdX τ) nL k Q (E, Y) (pc + 1) lv st) : GW κ (wdX τ) nL k Q (E, N) pc lv (.int x :: .int i :: .ref (τ.2.2 51) :: st) := gw_iast (X' := (E, (xs N 11 i.toNatClampNeg x))) o 28 rfl hin rfl hd (kk _ rfl)
theorem gX_get_results {τ : xT} {κ : Cx} {nL : Nat} {k : Nat × Nat} {Q : State → Prop} {E N : xF} {pc : Nat} {lv : List (Nat × Value)} {st : List Value} {cc : ByteArray} {own : String} {ret : Option FieldType} {rm : Room} {idx : Nat} (o : OKc κ (wdX τ) nL cc own ret rm) (hl : Cond.fieldLink own idx "StateExplorer$Nodes" "results" "[I" ∈ xw_ok) (hd : decode cc pc = .ok (.getfield idx, 3)) (kk : GW κ (wdX τ) nL k Q (E, N) (pc + 3) lv (.ref (τ.2.2 52) :: st)) : GW κ (wdX τ) nL k Q (E, N) pc lv (.ref (τ.2.2 54) :: st) := gw_get o ix_N 19 rfl rfl 12 (by decide) hl rfl hd kk
theorem gX_ald_results {τ : xT} {κ : Cx} {nL : Nat} {k : Nat × Nat} {Q : State → Prop} {E N : xF} {pc : Nat} {lv : List (Nat × Value)} {st : List Value} {cc : ByteArray} {own : String} {ret : Option FieldType} {rm : Room} {i : Int32} (o : OKc κ (wdX τ) nL cc own ret rm) (hin : vp_in i 16384) (hd : decode cc pc = .ok (.iaload, 1)) (kk : GW κ (wdX τ) nL k Q (E, N) (pc + 1) lv (.int (N 12 i.toNatClampNeg) :: st)) : GW κ (wdX τ) nL k Q (E, N) pc lv (.int i :: .ref (τ.2.2 52) :: st) := gw_iald o 29 rfl hin hd kk
theorem gX_ast_results {τ : xT} {κ : Cx} {nL : Nat} {k : Nat × Nat} {Q : State → Prop} {E N : xF} {pc : Nat} {lv : List (Nat × Value)} {st : List Value} {cc : ByteArray} {own : String} {ret : Option FieldType} {rm : Room} {i x : Int32} (o : OKc κ (wdX τ) nL cc own ret rm) (hin : vp_in i 16384) (hd : decode cc pc = .ok (.iastore, 1)) (kk : ∀ Y : xF, Y = xs N 12 i.toNatClampNeg x → GW κ (wdX τ) nL k Q (E, Y) (pc + 1) lv st) : GW κ (wdX τ) nL k Q (E, N) pc lv (.int x :: .int i :: .ref (τ.2.2 52) :: st) := gw_iast (X' := (E, (xs N 12 i.toNatClampNeg x))) o 29 rfl hin rfl hd (kk _ rfl)
theorem gX_get_keyKinds {τ : xT} {κ : Cx} {nL : Nat} {k : Nat × Nat} {Q : State → Prop} {E N : xF} {pc : Nat} {lv : List (Nat × Value)} {st : List Value} {cc : ByteArray} {own : String} {ret : Option FieldType} {rm : Room} {idx : Nat} (o : OKc κ (wdX τ) nL cc own ret rm) (hl : Cond.fieldLink own idx "StateExplorer$Nodes" "keyKinds" "[B" ∈ xw_ok) (hd : decode cc pc = .ok (.getfield idx, 3)) (kk : GW κ (wdX τ) nL k Q (E, N) (pc + 3) lv (.ref (τ.2.2 53) :: st)) : GW κ (wdX τ) nL k Q (E, N) pc lv (.ref (τ.2.2 54) :: st) := gw_get o ix_N 19 rfl rfl 13 (by decide) hl rfl hd kk
theorem gX_ald_keyKinds {τ : xT} {κ : Cx} {nL : Nat} {k : Nat × Nat} {Q : State → Prop} {E N : xF} {pc : Nat} {lv : List (Nat × Value)} {st : List Value} {cc : ByteArray} {own : String} {ret : Option FieldType} {rm : Room} {i : Int32} (o : OKc κ (wdX τ) nL cc own ret rm) (hin : vp_in i 16384) (hd : decode cc pc = .ok (.baload, 1)) (kk : GW κ (wdX τ) nL k Q (E, N) (pc + 1) lv (.int (N 13 i.toNatClampNeg) :: st)) : GW κ (wdX τ) nL k Q (E, N) pc lv (.int i :: .ref (τ.2.2 53) :: st) := gw_bald o 30 rfl hin hd kk
theorem gX_ast_keyKinds {τ : xT} {κ : Cx} {nL : Nat} {k : Nat × Nat} {Q : State → Prop} {E N : xF} {pc : Nat} {lv : List (Nat × Value)} {st : List Value} {cc : ByteArray} {own : String} {ret : Option FieldType} {rm : Room} {i x y : Int32} (o : OKc κ (wdX τ) nL cc own ret rm) (hin : vp_in i 16384) (hv : vp_nar .byte x = y) (hd : decode cc pc = .ok (.bastore, 1)) (kk : ∀ Y : xF, Y = xs N 13 i.toNatClampNeg y → GW κ (wdX τ) nL k Q (E, Y) (pc + 1) lv st) : GW κ (wdX τ) nL k Q (E, N) pc lv (.int x :: .int i :: .ref (τ.2.2 53) :: st) := gw_bast (X' := (E, (xs N 13 i.toNatClampNeg y))) o 30 rfl hin hv rfl hd (kk _ rfl)
theorem gM_get_code {τ : xT} {κ : Cx} {nL : Nat} {k : Nat × Nat} {Q : State → Prop} {M : xF} {J : Nat → Int64} {pc : Nat} {lv : List (Nat × Value)} {st : List Value} {cc : ByteArray} {own : String} {ret : Option FieldType} {rm : Room} {idx : Nat} (o : OKc κ (wdM τ) nL cc own ret rm) (hl : Cond.fieldLink own idx "StateExplorerModel" "code" "I" ∈ xw_ok) (hd : decode cc pc = .ok (.getfield idx, 3)) (kk : GW κ (wdM τ) nL k Q (M, J) (pc + 3) lv (.int (M 21 0) :: st)) : GW κ (wdM τ) nL k Q (M, J) pc lv (.ref (τ.2.2 81) :: st) := gw_get o ix_M 0 rfl rfl 0 (by decide) hl rfl hd kk
theorem gM_put_code {τ : xT} {κ : Cx} {nL : Nat} {k : Nat × Nat} {Q : State → Prop} {M : xF} {J : Nat → Int64} {pc : Nat} {lv : List (Nat × Value)} {st : List Value} {cc : ByteArray} {own : String} {ret : Option FieldType} {rm : Room} {idx : Nat} {x : Int32} (o : OKc κ (wdM τ) nL cc own ret rm) (hl : Cond.fieldLink own idx "StateExplorerModel" "code" "I" ∈ xw_ok) (hd : decode cc pc = .ok (.putfield idx, 3)) (kk : ∀ Y : xF, Y = xs M 21 0 x → GW κ (wdM τ) nL k Q (Y, J) (pc + 3) lv st) : GW κ (wdM τ) nL k Q (M, J) pc lv (.int x :: .ref (τ.2.2 81) :: st) := gw_put (X' := ((xs M 21 0 x), J)) (ty := .int) o ix_M t_M t_M_ok n_M 0 rfl rfl 0 (by decide) hl rfl (by decide +kernel) rfl rfl (Nat.le_of_ble_eq_true rfl) rfl hd (kk _ rfl)
theorem gM_get_gates {τ : xT} {κ : Cx} {nL : Nat} {k : Nat × Nat} {Q : State → Prop} {M : xF} {J : Nat → Int64} {pc : Nat} {lv : List (Nat × Value)} {st : List Value} {cc : ByteArray} {own : String} {ret : Option FieldType} {rm : Room} {idx : Nat} (o : OKc κ (wdM τ) nL cc own ret rm) (hl : Cond.fieldLink own idx "StateExplorerModel" "gates" "I" ∈ xw_ok) (hd : decode cc pc = .ok (.getfield idx, 3)) (kk : GW κ (wdM τ) nL k Q (M, J) (pc + 3) lv (.int (M 21 1) :: st)) : GW κ (wdM τ) nL k Q (M, J) pc lv (.ref (τ.2.2 81) :: st) := gw_get o ix_M 0 rfl rfl 1 (by decide) hl rfl hd kk
theorem gM_put_gates {τ : xT} {κ : Cx} {nL : Nat} {k : Nat × Nat} {Q : State → Prop} {M : xF} {J : Nat → Int64} {pc : Nat} {lv : List (Nat × Value)} {st : List Value} {cc : ByteArray} {own : String} {ret : Option FieldType} {rm : Room} {idx : Nat} {x : Int32} (o : OKc κ (wdM τ) nL cc own ret rm) (hl : Cond.fieldLink own idx "StateExplorerModel" "gates" "I" ∈ xw_ok) (hd : decode cc pc = .ok (.putfield idx, 3)) (kk : ∀ Y : xF, Y = xs M 21 1 x → GW κ (wdM τ) nL k Q (Y, J) (pc + 3) lv st) : GW κ (wdM τ) nL k Q (M, J) pc lv (.int x :: .ref (τ.2.2 81) :: st) := gw_put (X' := ((xs M 21 1 x), J)) (ty := .int) o ix_M t_M t_M_ok n_M 0 rfl rfl 1 (by decide) hl rfl (by decide +kernel) rfl rfl (Nat.le_of_ble_eq_true rfl) rfl hd (kk _ rfl)
theorem gM_get_feeds {τ : xT} {κ : Cx} {nL : Nat} {k : Nat × Nat} {Q : State → Prop} {M : xF} {J : Nat → Int64} {pc : Nat} {lv : List (Nat × Value)} {st : List Value} {cc : ByteArray} {own : String} {ret : Option FieldType} {rm : Room} {idx : Nat} (o : OKc κ (wdM τ) nL cc own ret rm) (hl : Cond.fieldLink own idx "StateExplorerModel" "feeds" "I" ∈ xw_ok) (hd : decode cc pc = .ok (.getfield idx, 3)) (kk : GW κ (wdM τ) nL k Q (M, J) (pc + 3) lv (.int (M 21 2) :: st)) : GW κ (wdM τ) nL k Q (M, J) pc lv (.ref (τ.2.2 81) :: st) := gw_get o ix_M 0 rfl rfl 2 (by decide) hl rfl hd kk
theorem gM_put_feeds {τ : xT} {κ : Cx} {nL : Nat} {k : Nat × Nat} {Q : State → Prop} {M : xF} {J : Nat → Int64} {pc : Nat} {lv : List (Nat × Value)} {st : List Value} {cc : ByteArray} {own : String} {ret : Option FieldType} {rm : Room} {idx : Nat} {x : Int32} (o : OKc κ (wdM τ) nL cc own ret rm) (hl : Cond.fieldLink own idx "StateExplorerModel" "feeds" "I" ∈ xw_ok) (hd : decode cc pc = .ok (.putfield idx, 3)) (kk : ∀ Y : xF, Y = xs M 21 2 x → GW κ (wdM τ) nL k Q (Y, J) (pc + 3) lv st) : GW κ (wdM τ) nL k Q (M, J) pc lv (.int x :: .ref (τ.2.2 81) :: st) := gw_put (X' := ((xs M 21 2 x), J)) (ty := .int) o ix_M t_M t_M_ok n_M 0 rfl rfl 2 (by decide) hl rfl (by decide +kernel) rfl rfl (Nat.le_of_ble_eq_true rfl) rfl hd (kk _ rfl)
theorem gM_get_inputs {τ : xT} {κ : Cx} {nL : Nat} {k : Nat × Nat} {Q : State → Prop} {M : xF} {J : Nat → Int64} {pc : Nat} {lv : List (Nat × Value)} {st : List Value} {cc : ByteArray} {own : String} {ret : Option FieldType} {rm : Room} {idx : Nat} (o : OKc κ (wdM τ) nL cc own ret rm) (hl : Cond.fieldLink own idx "StateExplorerModel" "inputs" "I" ∈ xw_ok) (hd : decode cc pc = .ok (.getfield idx, 3)) (kk : GW κ (wdM τ) nL k Q (M, J) (pc + 3) lv (.int (M 21 3) :: st)) : GW κ (wdM τ) nL k Q (M, J) pc lv (.ref (τ.2.2 81) :: st) := gw_get o ix_M 0 rfl rfl 3 (by decide) hl rfl hd kk
theorem gM_put_inputs {τ : xT} {κ : Cx} {nL : Nat} {k : Nat × Nat} {Q : State → Prop} {M : xF} {J : Nat → Int64} {pc : Nat} {lv : List (Nat × Value)} {st : List Value} {cc : ByteArray} {own : String} {ret : Option FieldType} {rm : Room} {idx : Nat} {x : Int32} (o : OKc κ (wdM τ) nL cc own ret rm) (hl : Cond.fieldLink own idx "StateExplorerModel" "inputs" "I" ∈ xw_ok) (hd : decode cc pc = .ok (.putfield idx, 3)) (kk : ∀ Y : xF, Y = xs M 21 3 x → GW κ (wdM τ) nL k Q (Y, J) (pc + 3) lv st) : GW κ (wdM τ) nL k Q (M, J) pc lv (.int x :: .ref (τ.2.2 81) :: st) := gw_put (X' := ((xs M 21 3 x), J)) (ty := .int) o ix_M t_M t_M_ok n_M 0 rfl rfl 3 (by decide) hl rfl (by decide +kernel) rfl rfl (Nat.le_of_ble_eq_true rfl) rfl hd (kk _ rfl)
theorem gM_get_latches {τ : xT} {κ : Cx} {nL : Nat} {k : Nat × Nat} {Q : State → Prop} {M : xF} {J : Nat → Int64} {pc : Nat} {lv : List (Nat × Value)} {st : List Value} {cc : ByteArray} {own : String} {ret : Option FieldType} {rm : Room} {idx : Nat} (o : OKc κ (wdM τ) nL cc own ret rm) (hl : Cond.fieldLink own idx "StateExplorerModel" "latches" "I" ∈ xw_ok) (hd : decode cc pc = .ok (.getfield idx, 3)) (kk : GW κ (wdM τ) nL k Q (M, J) (pc + 3) lv (.int (M 21 4) :: st)) : GW κ (wdM τ) nL k Q (M, J) pc lv (.ref (τ.2.2 81) :: st) := gw_get o ix_M 0 rfl rfl 4 (by decide) hl rfl hd kk
theorem gM_put_latches {τ : xT} {κ : Cx} {nL : Nat} {k : Nat × Nat} {Q : State → Prop} {M : xF} {J : Nat → Int64} {pc : Nat} {lv : List (Nat × Value)} {st : List Value} {cc : ByteArray} {own : String} {ret : Option FieldType} {rm : Room} {idx : Nat} {x : Int32} (o : OKc κ (wdM τ) nL cc own ret rm) (hl : Cond.fieldLink own idx "StateExplorerModel" "latches" "I" ∈ xw_ok) (hd : decode cc pc = .ok (.putfield idx, 3)) (kk : ∀ Y : xF, Y = xs M 21 4 x → GW κ (wdM τ) nL k Q (Y, J) (pc + 3) lv st) : GW κ (wdM τ) nL k Q (M, J) pc lv (.int x :: .ref (τ.2.2 81) :: st) := gw_put (X' := ((xs M 21 4 x), J)) (ty := .int) o ix_M t_M t_M_ok n_M 0 rfl rfl 4 (by decide) hl rfl (by decide +kernel) rfl rfl (Nat.le_of_ble_eq_true rfl) rfl hd (kk _ rfl)
theorem gM_get_outputs {τ : xT} {κ : Cx} {nL : Nat} {k : Nat × Nat} {Q : State → Prop} {M : xF} {J : Nat → Int64} {pc : Nat} {lv : List (Nat × Value)} {st : List Value} {cc : ByteArray} {own : String} {ret : Option FieldType} {rm : Room} {idx : Nat} (o : OKc κ (wdM τ) nL cc own ret rm) (hl : Cond.fieldLink own idx "StateExplorerModel" "outputs" "I" ∈ xw_ok) (hd : decode cc pc = .ok (.getfield idx, 3)) (kk : GW κ (wdM τ) nL k Q (M, J) (pc + 3) lv (.int (M 21 5) :: st)) : GW κ (wdM τ) nL k Q (M, J) pc lv (.ref (τ.2.2 81) :: st) := gw_get o ix_M 0 rfl rfl 5 (by decide) hl rfl hd kk
theorem gM_put_outputs {τ : xT} {κ : Cx} {nL : Nat} {k : Nat × Nat} {Q : State → Prop} {M : xF} {J : Nat → Int64} {pc : Nat} {lv : List (Nat × Value)} {st : List Value} {cc : ByteArray} {own : String} {ret : Option FieldType} {rm : Room} {idx : Nat} {x : Int32} (o : OKc κ (wdM τ) nL cc own ret rm) (hl : Cond.fieldLink own idx "StateExplorerModel" "outputs" "I" ∈ xw_ok) (hd : decode cc pc = .ok (.putfield idx, 3)) (kk : ∀ Y : xF, Y = xs M 21 5 x → GW κ (wdM τ) nL k Q (Y, J) (pc + 3) lv st) : GW κ (wdM τ) nL k Q (M, J) pc lv (.int x :: .ref (τ.2.2 81) :: st) := gw_put (X' := ((xs M 21 5 x), J)) (ty := .int) o ix_M t_M t_M_ok n_M 0 rfl rfl 5 (by decide) hl rfl (by decide +kernel) rfl rfl (Nat.le_of_ble_eq_true rfl) rfl hd (kk _ rfl)
theorem gM_get_sort {τ : xT} {κ : Cx} {nL : Nat} {k : Nat × Nat} {Q : State → Prop} {M : xF} {J : Nat → Int64} {pc : Nat} {lv : List (Nat × Value)} {st : List Value} {cc : ByteArray} {own : String} {ret : Option FieldType} {rm : Room} {idx : Nat} (o : OKc κ (wdM τ) nL cc own ret rm) (hl : Cond.fieldLink own idx "StateExplorerModel" "sort" "[I" ∈ xw_ok) (hd : decode cc pc = .ok (.getfield idx, 3)) (kk : GW κ (wdM τ) nL k Q (M, J) (pc + 3) lv (.ref (τ.2.2 66) :: st)) : GW κ (wdM τ) nL k Q (M, J) pc lv (.ref (τ.2.2 81) :: st) := gw_get o ix_M 0 rfl rfl 6 (by decide) hl rfl hd kk
theorem gM_ald_sort {τ : xT} {κ : Cx} {nL : Nat} {k : Nat × Nat} {Q : State → Prop} {M : xF} {J : Nat → Int64} {pc : Nat} {lv : List (Nat × Value)} {st : List Value} {cc : ByteArray} {own : String} {ret : Option FieldType} {rm : Room} {i : Int32} (o : OKc κ (wdM τ) nL cc own ret rm) (hin : vp_in i 60) (hd : decode cc pc = .ok (.iaload, 1)) (kk : GW κ (wdM τ) nL k Q (M, J) (pc + 1) lv (.int (M 6 i.toNatClampNeg) :: st)) : GW κ (wdM τ) nL k Q (M, J) pc lv (.int i :: .ref (τ.2.2 66) :: st) := gw_iald o 1 rfl hin hd kk
theorem gM_ast_sort {τ : xT} {κ : Cx} {nL : Nat} {k : Nat × Nat} {Q : State → Prop} {M : xF} {J : Nat → Int64} {pc : Nat} {lv : List (Nat × Value)} {st : List Value} {cc : ByteArray} {own : String} {ret : Option FieldType} {rm : Room} {i x : Int32} (o : OKc κ (wdM τ) nL cc own ret rm) (hin : vp_in i 60) (hd : decode cc pc = .ok (.iastore, 1)) (kk : ∀ Y : xF, Y = xs M 6 i.toNatClampNeg x → GW κ (wdM τ) nL k Q (Y, J) (pc + 1) lv st) : GW κ (wdM τ) nL k Q (M, J) pc lv (.int x :: .int i :: .ref (τ.2.2 66) :: st) := gw_iast (X' := ((xs M 6 i.toNatClampNeg x), J)) o 1 rfl hin rfl hd (kk _ rfl)
theorem gM_get_number {τ : xT} {κ : Cx} {nL : Nat} {k : Nat × Nat} {Q : State → Prop} {M : xF} {J : Nat → Int64} {pc : Nat} {lv : List (Nat × Value)} {st : List Value} {cc : ByteArray} {own : String} {ret : Option FieldType} {rm : Room} {idx : Nat} (o : OKc κ (wdM τ) nL cc own ret rm) (hl : Cond.fieldLink own idx "StateExplorerModel" "number" "[I" ∈ xw_ok) (hd : decode cc pc = .ok (.getfield idx, 3)) (kk : GW κ (wdM τ) nL k Q (M, J) (pc + 3) lv (.ref (τ.2.2 67) :: st)) : GW κ (wdM τ) nL k Q (M, J) pc lv (.ref (τ.2.2 81) :: st) := gw_get o ix_M 0 rfl rfl 7 (by decide) hl rfl hd kk
theorem gM_ald_number {τ : xT} {κ : Cx} {nL : Nat} {k : Nat × Nat} {Q : State → Prop} {M : xF} {J : Nat → Int64} {pc : Nat} {lv : List (Nat × Value)} {st : List Value} {cc : ByteArray} {own : String} {ret : Option FieldType} {rm : Room} {i : Int32} (o : OKc κ (wdM τ) nL cc own ret rm) (hin : vp_in i 60) (hd : decode cc pc = .ok (.iaload, 1)) (kk : GW κ (wdM τ) nL k Q (M, J) (pc + 1) lv (.int (M 7 i.toNatClampNeg) :: st)) : GW κ (wdM τ) nL k Q (M, J) pc lv (.int i :: .ref (τ.2.2 67) :: st) := gw_iald o 2 rfl hin hd kk
theorem gM_ast_number {τ : xT} {κ : Cx} {nL : Nat} {k : Nat × Nat} {Q : State → Prop} {M : xF} {J : Nat → Int64} {pc : Nat} {lv : List (Nat × Value)} {st : List Value} {cc : ByteArray} {own : String} {ret : Option FieldType} {rm : Room} {i x : Int32} (o : OKc κ (wdM τ) nL cc own ret rm) (hin : vp_in i 60) (hd : decode cc pc = .ok (.iastore, 1)) (kk : ∀ Y : xF, Y = xs M 7 i.toNatClampNeg x → GW κ (wdM τ) nL k Q (Y, J) (pc + 1) lv st) : GW κ (wdM τ) nL k Q (M, J) pc lv (.int x :: .int i :: .ref (τ.2.2 67) :: st) := gw_iast (X' := ((xs M 7 i.toNatClampNeg x), J)) o 2 rfl hin rfl hd (kk _ rfl)
theorem gM_get_value {τ : xT} {κ : Cx} {nL : Nat} {k : Nat × Nat} {Q : State → Prop} {M : xF} {J : Nat → Int64} {pc : Nat} {lv : List (Nat × Value)} {st : List Value} {cc : ByteArray} {own : String} {ret : Option FieldType} {rm : Room} {idx : Nat} (o : OKc κ (wdM τ) nL cc own ret rm) (hl : Cond.fieldLink own idx "StateExplorerModel" "value" "[I" ∈ xw_ok) (hd : decode cc pc = .ok (.getfield idx, 3)) (kk : GW κ (wdM τ) nL k Q (M, J) (pc + 3) lv (.ref (τ.2.2 68) :: st)) : GW κ (wdM τ) nL k Q (M, J) pc lv (.ref (τ.2.2 81) :: st) := gw_get o ix_M 0 rfl rfl 8 (by decide) hl rfl hd kk
theorem gM_ald_value {τ : xT} {κ : Cx} {nL : Nat} {k : Nat × Nat} {Q : State → Prop} {M : xF} {J : Nat → Int64} {pc : Nat} {lv : List (Nat × Value)} {st : List Value} {cc : ByteArray} {own : String} {ret : Option FieldType} {rm : Room} {i : Int32} (o : OKc κ (wdM τ) nL cc own ret rm) (hin : vp_in i 60) (hd : decode cc pc = .ok (.iaload, 1)) (kk : GW κ (wdM τ) nL k Q (M, J) (pc + 1) lv (.int (M 8 i.toNatClampNeg) :: st)) : GW κ (wdM τ) nL k Q (M, J) pc lv (.int i :: .ref (τ.2.2 68) :: st) := gw_iald o 3 rfl hin hd kk
theorem gM_ast_value {τ : xT} {κ : Cx} {nL : Nat} {k : Nat × Nat} {Q : State → Prop} {M : xF} {J : Nat → Int64} {pc : Nat} {lv : List (Nat × Value)} {st : List Value} {cc : ByteArray} {own : String} {ret : Option FieldType} {rm : Room} {i x : Int32} (o : OKc κ (wdM τ) nL cc own ret rm) (hin : vp_in i 60) (hd : decode cc pc = .ok (.iastore, 1)) (kk : ∀ Y : xF, Y = xs M 8 i.toNatClampNeg x → GW κ (wdM τ) nL k Q (Y, J) (pc + 1) lv st) : GW κ (wdM τ) nL k Q (M, J) pc lv (.int x :: .int i :: .ref (τ.2.2 68) :: st) := gw_iast (X' := ((xs M 8 i.toNatClampNeg x), J)) o 3 rfl hin rfl hd (kk _ rfl)
theorem gM_get_made {τ : xT} {κ : Cx} {nL : Nat} {k : Nat × Nat} {Q : State → Prop} {M : xF} {J : Nat → Int64} {pc : Nat} {lv : List (Nat × Value)} {st : List Value} {cc : ByteArray} {own : String} {ret : Option FieldType} {rm : Room} {idx : Nat} (o : OKc κ (wdM τ) nL cc own ret rm) (hl : Cond.fieldLink own idx "StateExplorerModel" "made" "[I" ∈ xw_ok) (hd : decode cc pc = .ok (.getfield idx, 3)) (kk : GW κ (wdM τ) nL k Q (M, J) (pc + 3) lv (.ref (τ.2.2 69) :: st)) : GW κ (wdM τ) nL k Q (M, J) pc lv (.ref (τ.2.2 81) :: st) := gw_get o ix_M 0 rfl rfl 9 (by decide) hl rfl hd kk
theorem gM_ald_made {τ : xT} {κ : Cx} {nL : Nat} {k : Nat × Nat} {Q : State → Prop} {M : xF} {J : Nat → Int64} {pc : Nat} {lv : List (Nat × Value)} {st : List Value} {cc : ByteArray} {own : String} {ret : Option FieldType} {rm : Room} {i : Int32} (o : OKc κ (wdM τ) nL cc own ret rm) (hin : vp_in i 60) (hd : decode cc pc = .ok (.iaload, 1)) (kk : GW κ (wdM τ) nL k Q (M, J) (pc + 1) lv (.int (M 9 i.toNatClampNeg) :: st)) : GW κ (wdM τ) nL k Q (M, J) pc lv (.int i :: .ref (τ.2.2 69) :: st) := gw_iald o 4 rfl hin hd kk
theorem gM_ast_made {τ : xT} {κ : Cx} {nL : Nat} {k : Nat × Nat} {Q : State → Prop} {M : xF} {J : Nat → Int64} {pc : Nat} {lv : List (Nat × Value)} {st : List Value} {cc : ByteArray} {own : String} {ret : Option FieldType} {rm : Room} {i x : Int32} (o : OKc κ (wdM τ) nL cc own ret rm) (hin : vp_in i 60) (hd : decode cc pc = .ok (.iastore, 1)) (kk : ∀ Y : xF, Y = xs M 9 i.toNatClampNeg x → GW κ (wdM τ) nL k Q (Y, J) (pc + 1) lv st) : GW κ (wdM τ) nL k Q (M, J) pc lv (.int x :: .int i :: .ref (τ.2.2 69) :: st) := gw_iast (X' := ((xs M 9 i.toNatClampNeg x), J)) o 4 rfl hin rfl hd (kk _ rfl)
theorem gM_get_to {τ : xT} {κ : Cx} {nL : Nat} {k : Nat × Nat} {Q : State → Prop} {M : xF} {J : Nat → Int64} {pc : Nat} {lv : List (Nat × Value)} {st : List Value} {cc : ByteArray} {own : String} {ret : Option FieldType} {rm : Room} {idx : Nat} (o : OKc κ (wdM τ) nL cc own ret rm) (hl : Cond.fieldLink own idx "StateExplorerModel" "to" "[I" ∈ xw_ok) (hd : decode cc pc = .ok (.getfield idx, 3)) (kk : GW κ (wdM τ) nL k Q (M, J) (pc + 3) lv (.ref (τ.2.2 70) :: st)) : GW κ (wdM τ) nL k Q (M, J) pc lv (.ref (τ.2.2 81) :: st) := gw_get o ix_M 0 rfl rfl 10 (by decide) hl rfl hd kk
theorem gM_ald_to {τ : xT} {κ : Cx} {nL : Nat} {k : Nat × Nat} {Q : State → Prop} {M : xF} {J : Nat → Int64} {pc : Nat} {lv : List (Nat × Value)} {st : List Value} {cc : ByteArray} {own : String} {ret : Option FieldType} {rm : Room} {i : Int32} (o : OKc κ (wdM τ) nL cc own ret rm) (hin : vp_in i 240) (hd : decode cc pc = .ok (.iaload, 1)) (kk : GW κ (wdM τ) nL k Q (M, J) (pc + 1) lv (.int (M 10 i.toNatClampNeg) :: st)) : GW κ (wdM τ) nL k Q (M, J) pc lv (.int i :: .ref (τ.2.2 70) :: st) := gw_iald o 5 rfl hin hd kk
theorem gM_ast_to {τ : xT} {κ : Cx} {nL : Nat} {k : Nat × Nat} {Q : State → Prop} {M : xF} {J : Nat → Int64} {pc : Nat} {lv : List (Nat × Value)} {st : List Value} {cc : ByteArray} {own : String} {ret : Option FieldType} {rm : Room} {i x : Int32} (o : OKc κ (wdM τ) nL cc own ret rm) (hin : vp_in i 240) (hd : decode cc pc = .ok (.iastore, 1)) (kk : ∀ Y : xF, Y = xs M 10 i.toNatClampNeg x → GW κ (wdM τ) nL k Q (Y, J) (pc + 1) lv st) : GW κ (wdM τ) nL k Q (M, J) pc lv (.int x :: .int i :: .ref (τ.2.2 70) :: st) := gw_iast (X' := ((xs M 10 i.toNatClampNeg x), J)) o 5 rfl hin rfl hd (kk _ rfl)
theorem gM_get_from {τ : xT} {κ : Cx} {nL : Nat} {k : Nat × Nat} {Q : State → Prop} {M : xF} {J : Nat → Int64} {pc : Nat} {lv : List (Nat × Value)} {st : List Value} {cc : ByteArray} {own : String} {ret : Option FieldType} {rm : Room} {idx : Nat} (o : OKc κ (wdM τ) nL cc own ret rm) (hl : Cond.fieldLink own idx "StateExplorerModel" "from" "[I" ∈ xw_ok) (hd : decode cc pc = .ok (.getfield idx, 3)) (kk : GW κ (wdM τ) nL k Q (M, J) (pc + 3) lv (.ref (τ.2.2 71) :: st)) : GW κ (wdM τ) nL k Q (M, J) pc lv (.ref (τ.2.2 81) :: st) := gw_get o ix_M 0 rfl rfl 11 (by decide) hl rfl hd kk
theorem gM_ald_from {τ : xT} {κ : Cx} {nL : Nat} {k : Nat × Nat} {Q : State → Prop} {M : xF} {J : Nat → Int64} {pc : Nat} {lv : List (Nat × Value)} {st : List Value} {cc : ByteArray} {own : String} {ret : Option FieldType} {rm : Room} {i : Int32} (o : OKc κ (wdM τ) nL cc own ret rm) (hin : vp_in i 240) (hd : decode cc pc = .ok (.iaload, 1)) (kk : GW κ (wdM τ) nL k Q (M, J) (pc + 1) lv (.int (M 11 i.toNatClampNeg) :: st)) : GW κ (wdM τ) nL k Q (M, J) pc lv (.int i :: .ref (τ.2.2 71) :: st) := gw_iald o 6 rfl hin hd kk
theorem gM_ast_from {τ : xT} {κ : Cx} {nL : Nat} {k : Nat × Nat} {Q : State → Prop} {M : xF} {J : Nat → Int64} {pc : Nat} {lv : List (Nat × Value)} {st : List Value} {cc : ByteArray} {own : String} {ret : Option FieldType} {rm : Room} {i x : Int32} (o : OKc κ (wdM τ) nL cc own ret rm) (hin : vp_in i 240) (hd : decode cc pc = .ok (.iastore, 1)) (kk : ∀ Y : xF, Y = xs M 11 i.toNatClampNeg x → GW κ (wdM τ) nL k Q (Y, J) (pc + 1) lv st) : GW κ (wdM τ) nL k Q (M, J) pc lv (.int x :: .int i :: .ref (τ.2.2 71) :: st) := gw_iast (X' := ((xs M 11 i.toNatClampNeg x), J)) o 6 rfl hin rfl hd (kk _ rfl)
theorem gM_get_outputOf {τ : xT} {κ : Cx} {nL : Nat} {k : Nat × Nat} {Q : State → Prop} {M : xF} {J : Nat → Int64} {pc : Nat} {lv : List (Nat × Value)} {st : List Value} {cc : ByteArray} {own : String} {ret : Option FieldType} {rm : Room} {idx : Nat} (o : OKc κ (wdM τ) nL cc own ret rm) (hl : Cond.fieldLink own idx "StateExplorerModel" "outputOf" "[I" ∈ xw_ok) (hd : decode cc pc = .ok (.getfield idx, 3)) (kk : GW κ (wdM τ) nL k Q (M, J) (pc + 3) lv (.ref (τ.2.2 72) :: st)) : GW κ (wdM τ) nL k Q (M, J) pc lv (.ref (τ.2.2 81) :: st) := gw_get o ix_M 0 rfl rfl 12 (by decide) hl rfl hd kk
theorem gM_ald_outputOf {τ : xT} {κ : Cx} {nL : Nat} {k : Nat × Nat} {Q : State → Prop} {M : xF} {J : Nat → Int64} {pc : Nat} {lv : List (Nat × Value)} {st : List Value} {cc : ByteArray} {own : String} {ret : Option FieldType} {rm : Room} {i : Int32} (o : OKc κ (wdM τ) nL cc own ret rm) (hin : vp_in i 6) (hd : decode cc pc = .ok (.iaload, 1)) (kk : GW κ (wdM τ) nL k Q (M, J) (pc + 1) lv (.int (M 12 i.toNatClampNeg) :: st)) : GW κ (wdM τ) nL k Q (M, J) pc lv (.int i :: .ref (τ.2.2 72) :: st) := gw_iald o 7 rfl hin hd kk
theorem gM_ast_outputOf {τ : xT} {κ : Cx} {nL : Nat} {k : Nat × Nat} {Q : State → Prop} {M : xF} {J : Nat → Int64} {pc : Nat} {lv : List (Nat × Value)} {st : List Value} {cc : ByteArray} {own : String} {ret : Option FieldType} {rm : Room} {i x : Int32} (o : OKc κ (wdM τ) nL cc own ret rm) (hin : vp_in i 6) (hd : decode cc pc = .ok (.iastore, 1)) (kk : ∀ Y : xF, Y = xs M 12 i.toNatClampNeg x → GW κ (wdM τ) nL k Q (Y, J) (pc + 1) lv st) : GW κ (wdM τ) nL k Q (M, J) pc lv (.int x :: .int i :: .ref (τ.2.2 72) :: st) := gw_iast (X' := ((xs M 12 i.toNatClampNeg x), J)) o 7 rfl hin rfl hd (kk _ rfl)
theorem gM_get_negated {τ : xT} {κ : Cx} {nL : Nat} {k : Nat × Nat} {Q : State → Prop} {M : xF} {J : Nat → Int64} {pc : Nat} {lv : List (Nat × Value)} {st : List Value} {cc : ByteArray} {own : String} {ret : Option FieldType} {rm : Room} {idx : Nat} (o : OKc κ (wdM τ) nL cc own ret rm) (hl : Cond.fieldLink own idx "StateExplorerModel" "negated" "[Z" ∈ xw_ok) (hd : decode cc pc = .ok (.getfield idx, 3)) (kk : GW κ (wdM τ) nL k Q (M, J) (pc + 3) lv (.ref (τ.2.2 73) :: st)) : GW κ (wdM τ) nL k Q (M, J) pc lv (.ref (τ.2.2 81) :: st) := gw_get o ix_M 0 rfl rfl 13 (by decide) hl rfl hd kk
theorem gM_ald_negated {τ : xT} {κ : Cx} {nL : Nat} {k : Nat × Nat} {Q : State → Prop} {M : xF} {J : Nat → Int64} {pc : Nat} {lv : List (Nat × Value)} {st : List Value} {cc : ByteArray} {own : String} {ret : Option FieldType} {rm : Room} {i : Int32} (o : OKc κ (wdM τ) nL cc own ret rm) (hin : vp_in i 240) (hd : decode cc pc = .ok (.baload, 1)) (kk : GW κ (wdM τ) nL k Q (M, J) (pc + 1) lv (.int (M 13 i.toNatClampNeg) :: st)) : GW κ (wdM τ) nL k Q (M, J) pc lv (.int i :: .ref (τ.2.2 73) :: st) := gw_zald o 8 rfl hin hd kk
theorem gM_ast_negated {τ : xT} {κ : Cx} {nL : Nat} {k : Nat × Nat} {Q : State → Prop} {M : xF} {J : Nat → Int64} {pc : Nat} {lv : List (Nat × Value)} {st : List Value} {cc : ByteArray} {own : String} {ret : Option FieldType} {rm : Room} {i x y : Int32} (o : OKc κ (wdM τ) nL cc own ret rm) (hin : vp_in i 240) (hv : vp_nar .boolean x = y) (hd : decode cc pc = .ok (.bastore, 1)) (kk : ∀ Y : xF, Y = xs M 13 i.toNatClampNeg y → GW κ (wdM τ) nL k Q (Y, J) (pc + 1) lv st) : GW κ (wdM τ) nL k Q (M, J) pc lv (.int x :: .int i :: .ref (τ.2.2 73) :: st) := gw_zast (X' := ((xs M 13 i.toNatClampNeg y), J)) o 8 rfl hin hv rfl hd (kk _ rfl)
theorem gM_get_explored {τ : xT} {κ : Cx} {nL : Nat} {k : Nat × Nat} {Q : State → Prop} {M : xF} {J : Nat → Int64} {pc : Nat} {lv : List (Nat × Value)} {st : List Value} {cc : ByteArray} {own : String} {ret : Option FieldType} {rm : Room} {idx : Nat} (o : OKc κ (wdM τ) nL cc own ret rm) (hl : Cond.fieldLink own idx "StateExplorerModel" "explored" "Z" ∈ xw_ok) (hd : decode cc pc = .ok (.getfield idx, 3)) (kk : GW κ (wdM τ) nL k Q (M, J) (pc + 3) lv (.int (M 21 14) :: st)) : GW κ (wdM τ) nL k Q (M, J) pc lv (.ref (τ.2.2 81) :: st) := gw_get o ix_M 0 rfl rfl 14 (by decide) hl rfl hd kk
theorem gM_put_explored {τ : xT} {κ : Cx} {nL : Nat} {k : Nat × Nat} {Q : State → Prop} {M : xF} {J : Nat → Int64} {pc : Nat} {lv : List (Nat × Value)} {st : List Value} {cc : ByteArray} {own : String} {ret : Option FieldType} {rm : Room} {idx : Nat} {x : Int32} (o : OKc κ (wdM τ) nL cc own ret rm) (hl : Cond.fieldLink own idx "StateExplorerModel" "explored" "Z" ∈ xw_ok) (hv : x = 0 ∨ x = 1) (hd : decode cc pc = .ok (.putfield idx, 3)) (kk : ∀ Y : xF, Y = xs M 21 14 x → GW κ (wdM τ) nL k Q (Y, J) (pc + 3) lv st) : GW κ (wdM τ) nL k Q (M, J) pc lv (.int x :: .ref (τ.2.2 81) :: st) := gw_put (X' := ((xs M 21 14 x), J)) (ty := .boolean) o ix_M t_M t_M_ok n_M 0 rfl rfl 14 (by decide) hl rfl (by decide +kernel) (by rcases hv with rfl | rfl <;> rfl) (by rcases hv with rfl | rfl <;> rfl) (Nat.le_of_ble_eq_true rfl) rfl hd (kk _ rfl)
theorem gM_get_settles {τ : xT} {κ : Cx} {nL : Nat} {k : Nat × Nat} {Q : State → Prop} {M : xF} {J : Nat → Int64} {pc : Nat} {lv : List (Nat × Value)} {st : List Value} {cc : ByteArray} {own : String} {ret : Option FieldType} {rm : Room} {idx : Nat} (o : OKc κ (wdM τ) nL cc own ret rm) (hl : Cond.fieldLink own idx "StateExplorerModel" "settles" "[Z" ∈ xw_ok) (hd : decode cc pc = .ok (.getfield idx, 3)) (kk : GW κ (wdM τ) nL k Q (M, J) (pc + 3) lv (.ref (τ.2.2 75) :: st)) : GW κ (wdM τ) nL k Q (M, J) pc lv (.ref (τ.2.2 81) :: st) := gw_get o ix_M 0 rfl rfl 15 (by decide) hl rfl hd kk
theorem gM_ald_settles {τ : xT} {κ : Cx} {nL : Nat} {k : Nat × Nat} {Q : State → Prop} {M : xF} {J : Nat → Int64} {pc : Nat} {lv : List (Nat × Value)} {st : List Value} {cc : ByteArray} {own : String} {ret : Option FieldType} {rm : Room} {i : Int32} (o : OKc κ (wdM τ) nL cc own ret rm) (hin : vp_in i 4096) (hd : decode cc pc = .ok (.baload, 1)) (kk : GW κ (wdM τ) nL k Q (M, J) (pc + 1) lv (.int (M 15 i.toNatClampNeg) :: st)) : GW κ (wdM τ) nL k Q (M, J) pc lv (.int i :: .ref (τ.2.2 75) :: st) := gw_zald o 9 rfl hin hd kk
theorem gM_ast_settles {τ : xT} {κ : Cx} {nL : Nat} {k : Nat × Nat} {Q : State → Prop} {M : xF} {J : Nat → Int64} {pc : Nat} {lv : List (Nat × Value)} {st : List Value} {cc : ByteArray} {own : String} {ret : Option FieldType} {rm : Room} {i x y : Int32} (o : OKc κ (wdM τ) nL cc own ret rm) (hin : vp_in i 4096) (hv : vp_nar .boolean x = y) (hd : decode cc pc = .ok (.bastore, 1)) (kk : ∀ Y : xF, Y = xs M 15 i.toNatClampNeg y → GW κ (wdM τ) nL k Q (Y, J) (pc + 1) lv st) : GW κ (wdM τ) nL k Q (M, J) pc lv (.int x :: .int i :: .ref (τ.2.2 75) :: st) := gw_zast (X' := ((xs M 15 i.toNatClampNeg y), J)) o 9 rfl hin hv rfl hd (kk _ rfl)
theorem gM_get_next {τ : xT} {κ : Cx} {nL : Nat} {k : Nat × Nat} {Q : State → Prop} {M : xF} {J : Nat → Int64} {pc : Nat} {lv : List (Nat × Value)} {st : List Value} {cc : ByteArray} {own : String} {ret : Option FieldType} {rm : Room} {idx : Nat} (o : OKc κ (wdM τ) nL cc own ret rm) (hl : Cond.fieldLink own idx "StateExplorerModel" "next" "[I" ∈ xw_ok) (hd : decode cc pc = .ok (.getfield idx, 3)) (kk : GW κ (wdM τ) nL k Q (M, J) (pc + 3) lv (.ref (τ.2.2 76) :: st)) : GW κ (wdM τ) nL k Q (M, J) pc lv (.ref (τ.2.2 81) :: st) := gw_get o ix_M 0 rfl rfl 16 (by decide) hl rfl hd kk
theorem gM_ald_next {τ : xT} {κ : Cx} {nL : Nat} {k : Nat × Nat} {Q : State → Prop} {M : xF} {J : Nat → Int64} {pc : Nat} {lv : List (Nat × Value)} {st : List Value} {cc : ByteArray} {own : String} {ret : Option FieldType} {rm : Room} {i : Int32} (o : OKc κ (wdM τ) nL cc own ret rm) (hin : vp_in i 4096) (hd : decode cc pc = .ok (.iaload, 1)) (kk : GW κ (wdM τ) nL k Q (M, J) (pc + 1) lv (.int (M 16 i.toNatClampNeg) :: st)) : GW κ (wdM τ) nL k Q (M, J) pc lv (.int i :: .ref (τ.2.2 76) :: st) := gw_iald o 10 rfl hin hd kk
theorem gM_ast_next {τ : xT} {κ : Cx} {nL : Nat} {k : Nat × Nat} {Q : State → Prop} {M : xF} {J : Nat → Int64} {pc : Nat} {lv : List (Nat × Value)} {st : List Value} {cc : ByteArray} {own : String} {ret : Option FieldType} {rm : Room} {i x : Int32} (o : OKc κ (wdM τ) nL cc own ret rm) (hin : vp_in i 4096) (hd : decode cc pc = .ok (.iastore, 1)) (kk : ∀ Y : xF, Y = xs M 16 i.toNatClampNeg x → GW κ (wdM τ) nL k Q (Y, J) (pc + 1) lv st) : GW κ (wdM τ) nL k Q (M, J) pc lv (.int x :: .int i :: .ref (τ.2.2 76) :: st) := gw_iast (X' := ((xs M 16 i.toNatClampNeg x), J)) o 10 rfl hin rfl hd (kk _ rfl)
theorem gM_get_ones {τ : xT} {κ : Cx} {nL : Nat} {k : Nat × Nat} {Q : State → Prop} {M : xF} {J : Nat → Int64} {pc : Nat} {lv : List (Nat × Value)} {st : List Value} {cc : ByteArray} {own : String} {ret : Option FieldType} {rm : Room} {idx : Nat} (o : OKc κ (wdM τ) nL cc own ret rm) (hl : Cond.fieldLink own idx "StateExplorerModel" "ones" "[J" ∈ xw_ok) (hd : decode cc pc = .ok (.getfield idx, 3)) (kk : GW κ (wdM τ) nL k Q (M, J) (pc + 3) lv (.ref (τ.2.2 77) :: st)) : GW κ (wdM τ) nL k Q (M, J) pc lv (.ref (τ.2.2 81) :: st) := gw_get o ix_M 0 rfl rfl 17 (by decide) hl rfl hd kk
theorem gM_ald_ones {τ : xT} {κ : Cx} {nL : Nat} {k : Nat × Nat} {Q : State → Prop} {M : xF} {J : Nat → Int64} {pc : Nat} {lv : List (Nat × Value)} {st : List Value} {cc : ByteArray} {own : String} {ret : Option FieldType} {rm : Room} {i : Int32} (o : OKc κ (wdM τ) nL cc own ret rm) (hin : vp_in i 4096) (hd : decode cc pc = .ok (.laload, 1)) (kk : GW κ (wdM τ) nL k Q (M, J) (pc + 1) lv (.long (J i.toNatClampNeg) :: st)) : GW κ (wdM τ) nL k Q (M, J) pc lv (.int i :: .ref (τ.2.2 77) :: st) := gw_lald o 11 rfl hin hd kk
theorem gM_ast_ones {τ : xT} {κ : Cx} {nL : Nat} {k : Nat × Nat} {Q : State → Prop} {M : xF} {J : Nat → Int64} {pc : Nat} {lv : List (Nat × Value)} {st : List Value} {cc : ByteArray} {own : String} {ret : Option FieldType} {rm : Room} {i : Int32} {x : Int64} (o : OKc κ (wdM τ) nL cc own ret rm) (hin : vp_in i 4096) (hd : decode cc pc = .ok (.lastore, 1)) (kk : ∀ Y : Nat → Int64, Y = vp_updL J i.toNatClampNeg x → GW κ (wdM τ) nL k Q (M, Y) (pc + 1) lv st) : GW κ (wdM τ) nL k Q (M, J) pc lv (.long x :: .int i :: .ref (τ.2.2 77) :: st) := gw_last (X' := (M, vp_updL J i.toNatClampNeg x)) o 11 rfl hin rfl hd (kk _ rfl)
theorem gM_get_distance {τ : xT} {κ : Cx} {nL : Nat} {k : Nat × Nat} {Q : State → Prop} {M : xF} {J : Nat → Int64} {pc : Nat} {lv : List (Nat × Value)} {st : List Value} {cc : ByteArray} {own : String} {ret : Option FieldType} {rm : Room} {idx : Nat} (o : OKc κ (wdM τ) nL cc own ret rm) (hl : Cond.fieldLink own idx "StateExplorerModel" "distance" "[I" ∈ xw_ok) (hd : decode cc pc = .ok (.getfield idx, 3)) (kk : GW κ (wdM τ) nL k Q (M, J) (pc + 3) lv (.ref (τ.2.2 78) :: st)) : GW κ (wdM τ) nL k Q (M, J) pc lv (.ref (τ.2.2 81) :: st) := gw_get o ix_M 0 rfl rfl 18 (by decide) hl rfl hd kk
theorem gM_ald_distance {τ : xT} {κ : Cx} {nL : Nat} {k : Nat × Nat} {Q : State → Prop} {M : xF} {J : Nat → Int64} {pc : Nat} {lv : List (Nat × Value)} {st : List Value} {cc : ByteArray} {own : String} {ret : Option FieldType} {rm : Room} {i : Int32} (o : OKc κ (wdM τ) nL cc own ret rm) (hin : vp_in i 256) (hd : decode cc pc = .ok (.iaload, 1)) (kk : GW κ (wdM τ) nL k Q (M, J) (pc + 1) lv (.int (M 18 i.toNatClampNeg) :: st)) : GW κ (wdM τ) nL k Q (M, J) pc lv (.int i :: .ref (τ.2.2 78) :: st) := gw_iald o 12 rfl hin hd kk
theorem gM_ast_distance {τ : xT} {κ : Cx} {nL : Nat} {k : Nat × Nat} {Q : State → Prop} {M : xF} {J : Nat → Int64} {pc : Nat} {lv : List (Nat × Value)} {st : List Value} {cc : ByteArray} {own : String} {ret : Option FieldType} {rm : Room} {i x : Int32} (o : OKc κ (wdM τ) nL cc own ret rm) (hin : vp_in i 256) (hd : decode cc pc = .ok (.iastore, 1)) (kk : ∀ Y : xF, Y = xs M 18 i.toNatClampNeg x → GW κ (wdM τ) nL k Q (Y, J) (pc + 1) lv st) : GW κ (wdM τ) nL k Q (M, J) pc lv (.int x :: .int i :: .ref (τ.2.2 78) :: st) := gw_iast (X' := ((xs M 18 i.toNatClampNeg x), J)) o 12 rfl hin rfl hd (kk _ rfl)
theorem gM_get_apart {τ : xT} {κ : Cx} {nL : Nat} {k : Nat × Nat} {Q : State → Prop} {M : xF} {J : Nat → Int64} {pc : Nat} {lv : List (Nat × Value)} {st : List Value} {cc : ByteArray} {own : String} {ret : Option FieldType} {rm : Room} {idx : Nat} (o : OKc κ (wdM τ) nL cc own ret rm) (hl : Cond.fieldLink own idx "StateExplorerModel" "apart" "[Z" ∈ xw_ok) (hd : decode cc pc = .ok (.getfield idx, 3)) (kk : GW κ (wdM τ) nL k Q (M, J) (pc + 3) lv (.ref (τ.2.2 79) :: st)) : GW κ (wdM τ) nL k Q (M, J) pc lv (.ref (τ.2.2 81) :: st) := gw_get o ix_M 0 rfl rfl 19 (by decide) hl rfl hd kk
theorem gM_ald_apart {τ : xT} {κ : Cx} {nL : Nat} {k : Nat × Nat} {Q : State → Prop} {M : xF} {J : Nat → Int64} {pc : Nat} {lv : List (Nat × Value)} {st : List Value} {cc : ByteArray} {own : String} {ret : Option FieldType} {rm : Room} {i : Int32} (o : OKc κ (wdM τ) nL cc own ret rm) (hin : vp_in i 65536) (hd : decode cc pc = .ok (.baload, 1)) (kk : GW κ (wdM τ) nL k Q (M, J) (pc + 1) lv (.int (M 19 i.toNatClampNeg) :: st)) : GW κ (wdM τ) nL k Q (M, J) pc lv (.int i :: .ref (τ.2.2 79) :: st) := gw_zald o 13 rfl hin hd kk
theorem gM_ast_apart {τ : xT} {κ : Cx} {nL : Nat} {k : Nat × Nat} {Q : State → Prop} {M : xF} {J : Nat → Int64} {pc : Nat} {lv : List (Nat × Value)} {st : List Value} {cc : ByteArray} {own : String} {ret : Option FieldType} {rm : Room} {i x y : Int32} (o : OKc κ (wdM τ) nL cc own ret rm) (hin : vp_in i 65536) (hv : vp_nar .boolean x = y) (hd : decode cc pc = .ok (.bastore, 1)) (kk : ∀ Y : xF, Y = xs M 19 i.toNatClampNeg y → GW κ (wdM τ) nL k Q (Y, J) (pc + 1) lv st) : GW κ (wdM τ) nL k Q (M, J) pc lv (.int x :: .int i :: .ref (τ.2.2 79) :: st) := gw_zast (X' := ((xs M 19 i.toNatClampNeg y), J)) o 13 rfl hin hv rfl hd (kk _ rfl)
theorem gM_get_leads {τ : xT} {κ : Cx} {nL : Nat} {k : Nat × Nat} {Q : State → Prop} {M : xF} {J : Nat → Int64} {pc : Nat} {lv : List (Nat × Value)} {st : List Value} {cc : ByteArray} {own : String} {ret : Option FieldType} {rm : Room} {idx : Nat} (o : OKc κ (wdM τ) nL cc own ret rm) (hl : Cond.fieldLink own idx "StateExplorerModel" "leads" "[Z" ∈ xw_ok) (hd : decode cc pc = .ok (.getfield idx, 3)) (kk : GW κ (wdM τ) nL k Q (M, J) (pc + 3) lv (.ref (τ.2.2 80) :: st)) : GW κ (wdM τ) nL k Q (M, J) pc lv (.ref (τ.2.2 81) :: st) := gw_get o ix_M 0 rfl rfl 20 (by decide) hl rfl hd kk
theorem gM_ald_leads {τ : xT} {κ : Cx} {nL : Nat} {k : Nat × Nat} {Q : State → Prop} {M : xF} {J : Nat → Int64} {pc : Nat} {lv : List (Nat × Value)} {st : List Value} {cc : ByteArray} {own : String} {ret : Option FieldType} {rm : Room} {i : Int32} (o : OKc κ (wdM τ) nL cc own ret rm) (hin : vp_in i 65536) (hd : decode cc pc = .ok (.baload, 1)) (kk : GW κ (wdM τ) nL k Q (M, J) (pc + 1) lv (.int (M 20 i.toNatClampNeg) :: st)) : GW κ (wdM τ) nL k Q (M, J) pc lv (.int i :: .ref (τ.2.2 80) :: st) := gw_zald o 14 rfl hin hd kk
theorem gM_ast_leads {τ : xT} {κ : Cx} {nL : Nat} {k : Nat × Nat} {Q : State → Prop} {M : xF} {J : Nat → Int64} {pc : Nat} {lv : List (Nat × Value)} {st : List Value} {cc : ByteArray} {own : String} {ret : Option FieldType} {rm : Room} {i x y : Int32} (o : OKc κ (wdM τ) nL cc own ret rm) (hin : vp_in i 65536) (hv : vp_nar .boolean x = y) (hd : decode cc pc = .ok (.bastore, 1)) (kk : ∀ Y : xF, Y = xs M 20 i.toNatClampNeg y → GW κ (wdM τ) nL k Q (Y, J) (pc + 1) lv st) : GW κ (wdM τ) nL k Q (M, J) pc lv (.int x :: .int i :: .ref (τ.2.2 80) :: st) := gw_zast (X' := ((xs M 20 i.toNatClampNeg y), J)) o 14 rfl hin hv rfl hd (kk _ rfl)
theorem gN_getN_lows {τ : xT} {κ : Cx} {nL : Nat} {k : Nat × Nat} {Q : State → Prop} {N : xF} {pc : Nat} {lv : List (Nat × Value)} {st : List Value} {cc : ByteArray} {ret : Option FieldType} {rm : Room} (o : OKc κ (wdN τ) nL cc "StateExplorer" ret rm) (hd : decode cc pc = .ok (.getfield 168, 3)) (kk : GW κ (wdN τ) nL k Q N (pc + 3) lv (.ref (τ.2.2 41) :: st)) : GW κ (wdN τ) nL k Q N pc lv (.ref (τ.2.2 54) :: st) := gw_getN o ix_N 0 rfl rfl 1 (by decide) o.2.2.2.2.2.1.2.1 rfl hd kk
theorem gN_getN_highs {τ : xT} {κ : Cx} {nL : Nat} {k : Nat × Nat} {Q : State → Prop} {N : xF} {pc : Nat} {lv : List (Nat × Value)} {st : List Value} {cc : ByteArray} {ret : Option FieldType} {rm : Room} (o : OKc κ (wdN τ) nL cc "StateExplorer" ret rm) (hd : decode cc pc = .ok (.getfield 174, 3)) (kk : GW κ (wdN τ) nL k Q N (pc + 3) lv (.ref (τ.2.2 42) :: st)) : GW κ (wdN τ) nL k Q N pc lv (.ref (τ.2.2 54) :: st) := gw_getN o ix_N 0 rfl rfl 2 (by decide) o.2.2.2.2.2.1.2.2.1 rfl hd kk
theorem gX_getN_lows {τ : xT} {κ : Cx} {nL : Nat} {k : Nat × Nat} {Q : State → Prop} {E N : xF} {pc : Nat} {lv : List (Nat × Value)} {st : List Value} {cc : ByteArray} {ret : Option FieldType} {rm : Room} (o : OKc κ (wdX τ) nL cc "StateExplorer" ret rm) (hd : decode cc pc = .ok (.getfield 168, 3)) (kk : GW κ (wdX τ) nL k Q (E, N) (pc + 3) lv (.ref (τ.2.2 41) :: st)) : GW κ (wdX τ) nL k Q (E, N) pc lv (.ref (τ.2.2 54) :: st) := gw_getN o ix_N 19 rfl rfl 1 (by decide) o.2.2.2.2.2.1.2.1 rfl hd kk
theorem gX_getN_highs {τ : xT} {κ : Cx} {nL : Nat} {k : Nat × Nat} {Q : State → Prop} {E N : xF} {pc : Nat} {lv : List (Nat × Value)} {st : List Value} {cc : ByteArray} {ret : Option FieldType} {rm : Room} (o : OKc κ (wdX τ) nL cc "StateExplorer" ret rm) (hd : decode cc pc = .ok (.getfield 174, 3)) (kk : GW κ (wdX τ) nL k Q (E, N) (pc + 3) lv (.ref (τ.2.2 42) :: st)) : GW κ (wdX τ) nL k Q (E, N) pc lv (.ref (τ.2.2 54) :: st) := gw_getN o ix_N 19 rfl rfl 2 (by decide) o.2.2.2.2.2.1.2.2.1 rfl hd kk
/-- a contract over the nodes, in the explorer's world -/
theorem CT.liftN {τ : xT} {l : Launch} {y : MethodName} {cw : Cond} {rm : Room} {av : List Value} {E N : xF} {Z : Option Value → xF → Prop} (h : CT l (wdN τ) y cw rm av N Z) (hD : xD (wdX τ)) :
    CT l (wdX τ) y cw rm av (E, N) (fun v Y => Y.1 = E ∧ Z v Y.2) := by
  intro sz p e ha hc hk s m args below hf happ hP hK
  obtain ⟨q0, q1, qP, qK⟩ := hP
  have qP : va_P τ.1 classes (wE τ E ++ wN τ N) s.heap := qP
  have qN : va_P τ.1 classes (wN τ N) s.heap := fun k q hk => qP (k + (wE τ E).length) q (by rw [List.getElem?_append_right (by omega), Nat.add_sub_cancel]; exact hk)
  have qE : va_P τ.1 classes (wE τ E) s.heap := fun k q hk => qP k q (by rw [List.getElem?_append_left (List.getElem?_eq_some_iff.mp hk).1]; exact hk)
  obtain ⟨n, o, h1, h2, h3, ⟨⟨⟨v, Y, hv, hz, hP'⟩, hF⟩, L, hE, hL⟩⟩ := h sz p e ha hc hk s m args below hf happ ⟨q0, q1, qN, qK⟩ hK
  have hsub : ∀ q, xA (wdN τ) sz q → xA (wdX τ) sz q := fun q hq => hq.elim (fun ⟨X, k, e, hk⟩ => Or.inl ⟨(E, X), k + (wE τ E).length, e, by
    show (wE τ E ++ wN τ X)[k + (wE τ E).length]? = _
    rw [List.getElem?_append_right (by omega), Nat.add_sub_cancel]; exact hk⟩) Or.inr
  refine ⟨n, o, h1, h2, h3, ⟨⟨⟨v, (E, Y), hv, ⟨rfl, hz⟩, ?_⟩, hF.1, fun q hq hA => hF.2 q hq (fun h => hA (hsub q h))⟩, L, hE, fun q hq => hsub _ (hL q hq)⟩⟩
  have hEt : va_P τ.1 classes (wE τ E) (stepsAlone p.tables e n s).heap := by
    intro k q hk
    have h9 := qE k q hk
    have hlt : q.1 < s.heap.size := va_at.lt h9
    have hne : ¬ xA (wdN τ) sz q.1 := by
      intro hq
      rcases hq with ⟨X, k2, e2, hk2⟩ | hq
      · have hk2 : (wN τ X)[k2]? = some (q.1, e2) := hk2
        have := (hD (E, X)).1 k (k2 + (wE τ E).length) q (q.1, e2) (by show (wE τ E ++ wN τ X)[k]? = _; rw [List.getElem?_append_left (List.getElem?_eq_some_iff.mp hk).1]; exact hk) (by show (wE τ E ++ wN τ X)[k2 + (wE τ E).length]? = _; rw [List.getElem?_append_right (by omega), Nat.add_sub_cancel]; exact hk2) rfl
        have := (List.getElem?_eq_some_iff.mp hk).1
        omega
      · omega
    exact va_at.kept h9 (hF.2 q.1 hlt hne)
  intro k q hk
  have hk : (wE τ E ++ wN τ Y)[k]? = some q := hk
  rcases Nat.lt_or_ge k (wE τ E).length with hlt | hge
  · rw [List.getElem?_append_left hlt] at hk; exact hEt k q hk
  · rw [List.getElem?_append_right hge] at hk; exact hP' _ q hk
theorem xD.N {τ : xT} (h : xD (wdX τ)) : xD (wdN τ) := by
  intro N
  refine ⟨fun i j p q hi hj e => ?_, fun _ _ _ => trivial⟩
  have hi : (wN τ N)[i]? = some p := hi
  have hj : (wN τ N)[j]? = some q := hj
  have := (h (N, N)).1 (i + (wE τ N).length) (j + (wE τ N).length) p q (by show (wE τ N ++ wN τ N)[i + (wE τ N).length]? = _; rw [List.getElem?_append_right (by omega), Nat.add_sub_cancel]; exact hi) (by show (wE τ N ++ wN τ N)[j + (wE τ N).length]? = _; rw [List.getElem?_append_right (by omega), Nat.add_sub_cancel]; exact hj) e
  omega
theorem OKc.hD {σ : Type} {κ : Cx} {ω : xWd σ} {nL : Nat} {cc : ByteArray} {own : String} {ret : Option FieldType} {rm : Room} (o : OKc κ ω nL cc own ret rm) : xD ω := o.2.2.2.2.2.2.1
theorem OKc.hK {σ : Type} {κ : Cx} {ω : xWd σ} {nL : Nat} {cc : ByteArray} {own : String} {ret : Option FieldType} {rm : Room} (o : OKc κ ω nL cc own ret rm) : xK ω (kS κ) := o.2.2.2.2.2.1
theorem CT.mono {σ : Type} {l : Launch} {ω : xWd σ} {y : MethodName} {cw : Cond} {rm : Room} {av : List Value} {X : σ} {Z Z' : Option Value → σ → Prop} (h : CT l ω y cw rm av X Z) (hz : ∀ v Y, Z v Y → Z' v Y) : CT l ω y cw rm av X Z' := by
  intro sz p e ha hc hk s m args below hf happ hP hK
  obtain ⟨n, o, h1, h2, h3, ⟨⟨⟨v, Y, hv, hz1, hP'⟩, hF⟩, hL⟩⟩ := h sz p e ha hc hk s m args below hf happ hP hK
  exact ⟨n, o, h1, h2, h3, ⟨⟨⟨v, Y, hv, hz v Y hz1, hP'⟩, hF⟩, hL⟩⟩
theorem xRo_of {n m maxL : Nat} (h : m + 1 ≤ n) (h2 : maxL ≤ 21) : xRo (xR n) (0, 0) (xR m) maxL := ⟨h, by show 8 + (maxL + 11) + 40 * m ≤ 40 * n; omega, Nat.le_refl _, Nat.le_refl _⟩
/-! the goal behind a call, by what the callee changes -/
section kkrows
variable {σ : Type} {κ : Cx} {ω : xWd σ} {nL : Nat} {k k' : Nat × Nat} {Q : State → Prop} {X : σ} {pc : Nat} {lv : List (Nat × Value)} {st : List Value}
theorem kk_p_i {Z : Int32 → Prop} (hk : k' = k) (kk : ∀ r, Z r → GW κ ω nL k Q X pc lv (.int r :: st)) : ∀ (v : Option Value) (Y : σ), xZi (fun r Y => Y = X ∧ Z r) v Y → GW κ ω nL k' Q Y pc lv (v.toList ++ st) := by
  rintro v Y ⟨r, rfl, rfl, hz⟩; subst hk; exact kk r hz
theorem kk_p_v {Z : Prop} (hk : k' = k) (kk : Z → GW κ ω nL k Q X pc lv st) : ∀ (v : Option Value) (Y : σ), xZv (fun Y => Y = X ∧ Z) v Y → GW κ ω nL k' Q Y pc lv (v.toList ++ st) := by
  rintro v Y ⟨rfl, rfl, hz⟩; subst hk; exact kk hz
theorem kk_g_i {Z : Int32 → σ → Prop} (hk : k' = k) (kk : ∀ r Y, Z r Y → GW κ ω nL k Q Y pc lv (.int r :: st)) : ∀ (v : Option Value) (Y : σ), xZi Z v Y → GW κ ω nL k' Q Y pc lv (v.toList ++ st) := by
  rintro v Y ⟨r, rfl, hz⟩; subst hk; exact kk r Y hz
theorem kk_g_v {Z : σ → Prop} (hk : k' = k) (kk : ∀ Y, Z Y → GW κ ω nL k Q Y pc lv st) : ∀ (v : Option Value) (Y : σ), xZv Z v Y → GW κ ω nL k' Q Y pc lv (v.toList ++ st) := by
  rintro v Y ⟨rfl, hz⟩; subst hk; exact kk Y hz
end kkrows
section kkpair
variable {α β : Type} {κ : Cx} {ω : xWd (α × β)} {nL : Nat} {k k' : Nat × Nat} {Q : State → Prop} {A : α} {B : β} {pc : Nat} {lv : List (Nat × Value)} {st : List Value}
theorem kk_12_i {Z : Int32 → α → β → Prop} (hk : k' = k) (kk : ∀ r A B, Z r A B → GW κ ω nL k Q (A, B) pc lv (.int r :: st)) : ∀ (v : Option Value) (Y : α × β), xZi (fun r Y => Z r Y.1 Y.2) v Y → GW κ ω nL k' Q Y pc lv (v.toList ++ st) := by
  rintro v ⟨a, b⟩ ⟨r, rfl, hz⟩; subst hk; exact kk r a b hz
theorem kk_12_v {Z : α → β → Prop} (hk : k' = k) (kk : ∀ A B, Z A B → GW κ ω nL k Q (A, B) pc lv st) : ∀ (v : Option Value) (Y : α × β), xZv (fun Y => Z Y.1 Y.2) v Y → GW κ ω nL k' Q Y pc lv (v.toList ++ st) := by
  rintro v ⟨a, b⟩ ⟨rfl, hz⟩; subst hk; exact kk a b hz
theorem kk_1_i {Z : Int32 → α → Prop} (hk : k' = k) (kk : ∀ r A, Z r A → GW κ ω nL k Q (A, B) pc lv (.int r :: st)) : ∀ (v : Option Value) (Y : α × β), xZi (fun r Y => Y.2 = B ∧ Z r Y.1) v Y → GW κ ω nL k' Q Y pc lv (v.toList ++ st) := by
  rintro v ⟨a, b⟩ ⟨r, rfl, h1, hz⟩; subst hk; have h1 : b = B := h1; rw [h1]; exact kk r a hz
theorem kk_1_v {Z : α → Prop} (hk : k' = k) (kk : ∀ A, Z A → GW κ ω nL k Q (A, B) pc lv st) : ∀ (v : Option Value) (Y : α × β), xZv (fun Y => Y.2 = B ∧ Z Y.1) v Y → GW κ ω nL k' Q Y pc lv (v.toList ++ st) := by
  rintro v ⟨a, b⟩ ⟨rfl, h1, hz⟩; subst hk; have h1 : b = B := h1; rw [h1]; exact kk a hz
theorem kk_2_i {Z : Int32 → β → Prop} (hk : k' = k) (kk : ∀ r B, Z r B → GW κ ω nL k Q (A, B) pc lv (.int r :: st)) : ∀ (v : Option Value) (Y : α × β), xZi (fun r Y => Y.1 = A ∧ Z r Y.2) v Y → GW κ ω nL k' Q Y pc lv (v.toList ++ st) := by
  rintro v ⟨a, b⟩ ⟨r, rfl, h1, hz⟩; subst hk; have h1 : a = A := h1; rw [h1]; exact kk r b hz
theorem kk_2_v {Z : β → Prop} (hk : k' = k) (kk : ∀ B, Z B → GW κ ω nL k Q (A, B) pc lv st) : ∀ (v : Option Value) (Y : α × β), xZv (fun Y => Y.1 = A ∧ Z Y.2) v Y → GW κ ω nL k' Q Y pc lv (v.toList ++ st) := by
  rintro v ⟨a, b⟩ ⟨rfl, h1, hz⟩; subst hk; have h1 : a = A := h1; rw [h1]; exact kk b hz
end kkpair
/-! contracts over the nodes, lifted, by what they change -/
theorem CT.lfN_i {τ : xT} {l : Launch} {y : MethodName} {cw : Cond} {rm : Room} {av : List Value} {E N : xF} {Z : Int32 → xF → Prop} (h : CT l (wdN τ) y cw rm av N (xZi Z)) (hD : xD (wdX τ)) : CT l (wdX τ) y cw rm av (E, N) (xZi (fun r Y => Y.1 = E ∧ Z r Y.2)) := (h.liftN hD).mono (fun v Y ⟨h1, r, h2, h3⟩ => ⟨r, h2, h1, h3⟩)
theorem CT.lfN_v {τ : xT} {l : Launch} {y : MethodName} {cw : Cond} {rm : Room} {av : List Value} {E N : xF} {Z : xF → Prop} (h : CT l (wdN τ) y cw rm av N (xZv Z)) (hD : xD (wdX τ)) : CT l (wdX τ) y cw rm av (E, N) (xZv (fun Y => Y.1 = E ∧ Z Y.2)) := (h.liftN hD).mono (fun v Y ⟨h1, h2, h3⟩ => ⟨h2, h1, h3⟩)
theorem CT.lfP_i {τ : xT} {l : Launch} {y : MethodName} {cw : Cond} {rm : Room} {av : List Value} {E N : xF} {Z : Int32 → Prop} (h : CT l (wdN τ) y cw rm av N (xZi (fun r Y => Y = N ∧ Z r))) (hD : xD (wdX τ)) : CT l (wdX τ) y cw rm av (E, N) (xZi (fun r Y => Y = (E, N) ∧ Z r)) := (h.liftN hD).mono (fun v Y ⟨h1, r, h2, h3, h4⟩ => ⟨r, h2, Prod.ext h1 h3, h4⟩)
theorem CT.lfP_v {τ : xT} {l : Launch} {y : MethodName} {cw : Cond} {rm : Room} {av : List Value} {E N : xF} {Z : Prop} (h : CT l (wdN τ) y cw rm av N (xZv (fun Y => Y = N ∧ Z))) (hD : xD (wdX τ)) : CT l (wdX τ) y cw rm av (E, N) (xZv (fun Y => Y = (E, N) ∧ Z)) := (h.liftN hD).mono (fun v Y ⟨h1, h2, h3, h4⟩ => ⟨h2, Prod.ext h1 h3, h4⟩)
end
section
/-! words of the tables, printed by mk.py -/
theorem xnz {x : Int32} (h : x = 0 ∨ x = 1) : vp_nar .boolean x = x := by rcases h with rfl | rfl <;> rfl
theorem xt1 {w : Cond} (h : w ∈ tables_1_1) : w ∈ lw_tbl := List.mem_append_right _ (List.mem_append_left _ h)
theorem xt2 {w : Cond} (h : w ∈ tables_1_2) : w ∈ lw_tbl := List.mem_append_right _ (List.mem_append_right _ (List.mem_append_left _ h))
theorem xt3 {w : Cond} (h : w ∈ tables_1_3) : w ∈ lw_tbl := List.mem_append_right _ (List.mem_append_right _ (List.mem_append_right _ (List.mem_append_left _ h)))
theorem xt4 {w : Cond} (h : w ∈ tables_1_4) : w ∈ lw_tbl := List.mem_append_right _ (List.mem_append_right _ (List.mem_append_right _ (List.mem_append_right _ h)))
theorem q_1 : Cond.initialized "StateExplorer" ∈ xw_ok := xw_mem (xt1 (List.mem_of_getElem? (i := 1) rfl)) rfl
theorem q_2 : Cond.initialized "StateExplorer$Nodes" ∈ xw_ok := xw_mem (xt1 (List.mem_of_getElem? (i := 2) rfl)) rfl
theorem q_3 : Cond.initialized "StateExplorerModel" ∈ xw_ok := xw_mem (xt1 (List.mem_of_getElem? (i := 3) rfl)) rfl
theorem q_10 : Cond.initialized "java/lang/Math" ∈ xw_ok := xw_mem (xt1 (List.mem_of_getElem? (i := 10) rfl)) rfl
theorem q_25 : Cond.constant "StateExplorer$Nodes" 11 262144 ∈ xw_ok := xw_mem (xt1 (List.mem_of_getElem? (i := 25) rfl)) rfl
theorem q_26 : Cond.constant "StateExplorer$Nodes" 26 32768 ∈ xw_ok := xw_mem (xt1 (List.mem_of_getElem? (i := 26) rfl)) rfl
theorem q_28 : Cond.methodLink "StateExplorer$Nodes" 60 ⟨"StateExplorer$Nodes", "forget", "()V"⟩ ∈ xw_ok := xw_mem (xt1 (List.mem_of_getElem? (i := 28) rfl)) rfl
theorem q_30 : Cond.instanceMethod ⟨"StateExplorer$Nodes", "forget", "()V"⟩ ∈ xw_ok := xw_mem (xt1 (List.mem_of_getElem? (i := 30) rfl)) rfl
theorem q_31 : Cond.code ⟨"StateExplorer$Nodes", "forget", "()V"⟩ prog_2_method_2_code 2 none ∈ xw_ok := xw_mem (xt1 (List.mem_of_getElem? (i := 31) rfl)) rfl
theorem q_32 : Cond.fieldLink "StateExplorer$Nodes" 12 "StateExplorer$Nodes" "levels" "[B" ∈ xw_ok := xw_mem (xt1 (List.mem_of_getElem? (i := 32) rfl)) rfl
theorem q_33 : Cond.fieldLink "StateExplorer$Nodes" 16 "StateExplorer$Nodes" "lows" "[I" ∈ xw_ok := xw_mem (xt1 (List.mem_of_getElem? (i := 33) rfl)) rfl
theorem q_35 : Cond.fieldLink "StateExplorer$Nodes" 20 "StateExplorer$Nodes" "highs" "[I" ∈ xw_ok := xw_mem (xt1 (List.mem_of_getElem? (i := 35) rfl)) rfl
theorem q_37 : Cond.fieldLink "StateExplorer$Nodes" 23 "StateExplorer$Nodes" "next" "[I" ∈ xw_ok := xw_mem (xt1 (List.mem_of_getElem? (i := 37) rfl)) rfl
theorem q_38 : Cond.fieldLink "StateExplorer$Nodes" 27 "StateExplorer$Nodes" "chains" "[I" ∈ xw_ok := xw_mem (xt1 (List.mem_of_getElem? (i := 38) rfl)) rfl
theorem q_39 : Cond.fieldLink "StateExplorer$Nodes" 30 "StateExplorer$Nodes" "marked" "[Z" ∈ xw_ok := xw_mem (xt1 (List.mem_of_getElem? (i := 39) rfl)) rfl
theorem q_40 : Cond.fieldLink "StateExplorer$Nodes" 34 "StateExplorer$Nodes" "free" "I" ∈ xw_ok := xw_mem (xt1 (List.mem_of_getElem? (i := 40) rfl)) rfl
theorem q_41 : Cond.fieldLink "StateExplorer$Nodes" 38 "StateExplorer$Nodes" "used" "I" ∈ xw_ok := xw_mem (xt1 (List.mem_of_getElem? (i := 41) rfl)) rfl
theorem q_42 : Cond.fieldLink "StateExplorer$Nodes" 57 "StateExplorer$Nodes" "spare" "I" ∈ xw_ok := xw_mem (xt1 (List.mem_of_getElem? (i := 42) rfl)) rfl
theorem q_43 : Cond.fieldLink "StateExplorer$Nodes" 41 "StateExplorer$Nodes" "keyA" "[I" ∈ xw_ok := xw_mem (xt1 (List.mem_of_getElem? (i := 43) rfl)) rfl
theorem q_44 : Cond.fieldLink "StateExplorer$Nodes" 44 "StateExplorer$Nodes" "keyB" "[I" ∈ xw_ok := xw_mem (xt1 (List.mem_of_getElem? (i := 44) rfl)) rfl
theorem q_45 : Cond.fieldLink "StateExplorer$Nodes" 47 "StateExplorer$Nodes" "keyC" "[I" ∈ xw_ok := xw_mem (xt1 (List.mem_of_getElem? (i := 45) rfl)) rfl
theorem q_46 : Cond.fieldLink "StateExplorer$Nodes" 50 "StateExplorer$Nodes" "results" "[I" ∈ xw_ok := xw_mem (xt1 (List.mem_of_getElem? (i := 46) rfl)) rfl
theorem q_47 : Cond.fieldLink "StateExplorer$Nodes" 53 "StateExplorer$Nodes" "keyKinds" "[B" ∈ xw_ok := xw_mem (xt1 (List.mem_of_getElem? (i := 47) rfl)) rfl
theorem q_80 : Cond.fieldLink "StateExplorer" 10 "StateExplorer" "nodes" "LStateExplorer$Nodes;" ∈ xw_ok := xw_mem (xt1 (List.mem_of_getElem? (i := 80) rfl)) rfl
theorem q_81 : Cond.fieldLink "StateExplorer" 75 "StateExplorer" "gates" "I" ∈ xw_ok := xw_mem (xt1 (List.mem_of_getElem? (i := 81) rfl)) rfl
theorem q_82 : Cond.fieldLink "StateExplorer" 96 "StateExplorer" "feeds" "I" ∈ xw_ok := xw_mem (xt1 (List.mem_of_getElem? (i := 82) rfl)) rfl
theorem q_83 : Cond.fieldLink "StateExplorer" 86 "StateExplorer" "inputs" "I" ∈ xw_ok := xw_mem (xt1 (List.mem_of_getElem? (i := 83) rfl)) rfl
theorem q_84 : Cond.fieldLink "StateExplorer" 89 "StateExplorer" "latches" "I" ∈ xw_ok := xw_mem (xt1 (List.mem_of_getElem? (i := 84) rfl)) rfl
theorem q_85 : Cond.fieldLink "StateExplorer" 109 "StateExplorer" "outputs" "I" ∈ xw_ok := xw_mem (xt1 (List.mem_of_getElem? (i := 85) rfl)) rfl
theorem q_86 : Cond.fieldLink "StateExplorer" 16 "StateExplorer" "sorts" "[I" ∈ xw_ok := xw_mem (xt1 (List.mem_of_getElem? (i := 86) rfl)) rfl
theorem q_87 : Cond.fieldLink "StateExplorer" 20 "StateExplorer" "numbers" "[I" ∈ xw_ok := xw_mem (xt1 (List.mem_of_getElem? (i := 87) rfl)) rfl
theorem q_88 : Cond.fieldLink "StateExplorer" 23 "StateExplorer" "named" "[I" ∈ xw_ok := xw_mem (xt1 (List.mem_of_getElem? (i := 88) rfl)) rfl
theorem q_89 : Cond.fieldLink "StateExplorer" 26 "StateExplorer" "latchAt" "[I" ∈ xw_ok := xw_mem (xt1 (List.mem_of_getElem? (i := 89) rfl)) rfl
theorem q_90 : Cond.fieldLink "StateExplorer" 29 "StateExplorer" "to" "[I" ∈ xw_ok := xw_mem (xt1 (List.mem_of_getElem? (i := 90) rfl)) rfl
theorem q_91 : Cond.fieldLink "StateExplorer" 32 "StateExplorer" "from" "[I" ∈ xw_ok := xw_mem (xt1 (List.mem_of_getElem? (i := 91) rfl)) rfl
theorem q_92 : Cond.fieldLink "StateExplorer" 35 "StateExplorer" "negated" "[Z" ∈ xw_ok := xw_mem (xt1 (List.mem_of_getElem? (i := 92) rfl)) rfl
theorem q_93 : Cond.fieldLink "StateExplorer" 92 "StateExplorer" "explored" "Z" ∈ xw_ok := xw_mem (xt1 (List.mem_of_getElem? (i := 93) rfl)) rfl
theorem q_94 : Cond.fieldLink "StateExplorer" 39 "StateExplorer" "ones" "[I" ∈ xw_ok := xw_mem (xt1 (List.mem_of_getElem? (i := 94) rfl)) rfl
theorem q_95 : Cond.fieldLink "StateExplorer" 42 "StateExplorer" "zeros" "[I" ∈ xw_ok := xw_mem (xt1 (List.mem_of_getElem? (i := 95) rfl)) rfl
theorem q_96 : Cond.fieldLink "StateExplorer" 45 "StateExplorer" "nexts" "[I" ∈ xw_ok := xw_mem (xt1 (List.mem_of_getElem? (i := 96) rfl)) rfl
theorem q_97 : Cond.fieldLink "StateExplorer" 48 "StateExplorer" "layers" "[I" ∈ xw_ok := xw_mem (xt1 (List.mem_of_getElem? (i := 97) rfl)) rfl
theorem q_98 : Cond.fieldLink "StateExplorer" 51 "StateExplorer" "groups" "[I" ∈ xw_ok := xw_mem (xt1 (List.mem_of_getElem? (i := 98) rfl)) rfl
theorem q_99 : Cond.fieldLink "StateExplorer" 54 "StateExplorer" "fresh" "[I" ∈ xw_ok := xw_mem (xt1 (List.mem_of_getElem? (i := 99) rfl)) rfl
theorem q_100 : Cond.fieldLink "StateExplorer" 124 "StateExplorer" "settles" "I" ∈ xw_ok := xw_mem (xt1 (List.mem_of_getElem? (i := 100) rfl)) rfl
theorem q_101 : Cond.fieldLink "StateExplorer" 127 "StateExplorer" "reached" "I" ∈ xw_ok := xw_mem (xt1 (List.mem_of_getElem? (i := 101) rfl)) rfl
theorem q_102 : Cond.fieldLink "StateExplorer" 225 "StateExplorer" "farthest" "I" ∈ xw_ok := xw_mem (xt1 (List.mem_of_getElem? (i := 102) rfl)) rfl
theorem q_103 : Cond.fieldLink "StateExplorer" 247 "StateExplorer" "grouped" "I" ∈ xw_ok := xw_mem (xt1 (List.mem_of_getElem? (i := 103) rfl)) rfl
theorem q_104 : Cond.fieldLink "StateExplorer" 57 "StateExplorer" "spare" "[I" ∈ xw_ok := xw_mem (xt1 (List.mem_of_getElem? (i := 104) rfl)) rfl
theorem q_105 : Cond.fieldLink "StateExplorer" 60 "StateExplorer" "whole" "[I" ∈ xw_ok := xw_mem (xt1 (List.mem_of_getElem? (i := 105) rfl)) rfl
theorem q_106 : Cond.fieldLink "StateExplorer" 63 "StateExplorer" "halves" "[I" ∈ xw_ok := xw_mem (xt1 (List.mem_of_getElem? (i := 106) rfl)) rfl
theorem q_107 : Cond.fieldLink "StateExplorer" 214 "StateExplorer" "wayTo" "I" ∈ xw_ok := xw_mem (xt1 (List.mem_of_getElem? (i := 107) rfl)) rfl
theorem q_108 : Cond.fieldLink "StateExplorer" 66 "StateExplorer" "steps" "[I" ∈ xw_ok := xw_mem (xt1 (List.mem_of_getElem? (i := 108) rfl)) rfl
theorem q_109 : Cond.fieldLink "StateExplorer" 69 "StateExplorer" "through" "[I" ∈ xw_ok := xw_mem (xt1 (List.mem_of_getElem? (i := 109) rfl)) rfl
theorem q_179 : Cond.methodLink "StateExplorer" 217 ⟨"StateExplorer", "spread", "()V"⟩ ∈ xw_ok := xw_mem (xt1 (List.mem_of_getElem? (i := 179) rfl)) rfl
theorem q_181 : Cond.instanceMethod ⟨"StateExplorer", "spread", "()V"⟩ ∈ xw_ok := xw_mem (xt1 (List.mem_of_getElem? (i := 181) rfl)) rfl
theorem q_182 : Cond.code ⟨"StateExplorer", "spread", "()V"⟩ prog_1_method_27_code 3 none ∈ xw_ok := xw_mem (xt1 (List.mem_of_getElem? (i := 182) rfl)) rfl
theorem q_183 : Cond.methodLink "StateExplorer" 195 ⟨"StateExplorer", "inputVariable", "(I)I"⟩ ∈ xw_ok := xw_mem (xt1 (List.mem_of_getElem? (i := 183) rfl)) rfl
theorem q_184 : Cond.static ⟨"StateExplorer", "inputVariable", "(I)I"⟩ ∈ xw_ok := xw_mem (xt1 (List.mem_of_getElem? (i := 184) rfl)) rfl
theorem q_185 : Cond.code ⟨"StateExplorer", "inputVariable", "(I)I"⟩ prog_1_method_17_code 1 (some .int) ∈ xw_ok := xw_mem (xt1 (List.mem_of_getElem? (i := 185) rfl)) rfl
theorem q_186 : Cond.methodLink "StateExplorer" 177 ⟨"StateExplorer", "variableOf", "(I)I"⟩ ∈ xw_ok := xw_mem (xt1 (List.mem_of_getElem? (i := 186) rfl)) rfl
theorem q_187 : Cond.static ⟨"StateExplorer", "variableOf", "(I)I"⟩ ∈ xw_ok := xw_mem (xt1 (List.mem_of_getElem? (i := 187) rfl)) rfl
theorem q_188 : Cond.code ⟨"StateExplorer", "variableOf", "(I)I"⟩ prog_1_method_16_code 1 (some .int) ∈ xw_ok := xw_mem (xt1 (List.mem_of_getElem? (i := 188) rfl)) rfl
theorem q_189 : Cond.methodLink "StateExplorer" 198 ⟨"StateExplorer", "variable", "(I)I"⟩ ∈ xw_ok := xw_mem (xt1 (List.mem_of_getElem? (i := 189) rfl)) rfl
theorem q_191 : Cond.instanceMethod ⟨"StateExplorer", "variable", "(I)I"⟩ ∈ xw_ok := xw_mem (xt1 (List.mem_of_getElem? (i := 191) rfl)) rfl
theorem q_192 : Cond.code ⟨"StateExplorer", "variable", "(I)I"⟩ prog_1_method_18_code 2 (some .int) ∈ xw_ok := xw_mem (xt1 (List.mem_of_getElem? (i := 192) rfl)) rfl
theorem q_193 : Cond.methodLink "StateExplorer" 165 ⟨"StateExplorer", "begin", "()V"⟩ ∈ xw_ok := xw_mem (xt1 (List.mem_of_getElem? (i := 193) rfl)) rfl
theorem q_195 : Cond.instanceMethod ⟨"StateExplorer", "begin", "()V"⟩ ∈ xw_ok := xw_mem (xt1 (List.mem_of_getElem? (i := 195) rfl)) rfl
theorem q_196 : Cond.code ⟨"StateExplorer", "begin", "()V"⟩ prog_1_method_10_code 1 none ∈ xw_ok := xw_mem (xt1 (List.mem_of_getElem? (i := 196) rfl)) rfl
theorem q_197 : Cond.methodLink "StateExplorer" 116 ⟨"StateExplorer$Nodes", "isTight", "()Z"⟩ ∈ xw_ok := xw_mem (xt1 (List.mem_of_getElem? (i := 197) rfl)) rfl
theorem q_198 : Cond.instanceMethod ⟨"StateExplorer$Nodes", "isTight", "()Z"⟩ ∈ xw_ok := xw_mem (xt1 (List.mem_of_getElem? (i := 198) rfl)) rfl
theorem q_199 : Cond.selects "StateExplorer$Nodes" ⟨"StateExplorer$Nodes", "isTight", "()Z"⟩ ⟨"StateExplorer$Nodes", "isTight", "()Z"⟩ ∈ xw_ok := xw_mem (xt1 (List.mem_of_getElem? (i := 199) rfl)) rfl
theorem q_200 : Cond.code ⟨"StateExplorer$Nodes", "isTight", "()Z"⟩ prog_2_method_12_code 1 (some .boolean) ∈ xw_ok := xw_mem (xt1 (List.mem_of_getElem? (i := 200) rfl)) rfl
theorem q_201 : Cond.constant "StateExplorer$Nodes" 81 65536 ∈ xw_ok := xw_mem (xt1 (List.mem_of_getElem? (i := 201) rfl)) rfl
theorem q_202 : Cond.methodLink "StateExplorer" 120 ⟨"StateExplorer", "keep", "([II)V"⟩ ∈ xw_ok := xw_mem (xt1 (List.mem_of_getElem? (i := 202) rfl)) rfl
theorem q_204 : Cond.instanceMethod ⟨"StateExplorer", "keep", "([II)V"⟩ ∈ xw_ok := xw_mem (xt1 (List.mem_of_getElem? (i := 204) rfl)) rfl
theorem q_205 : Cond.code ⟨"StateExplorer", "keep", "([II)V"⟩ prog_1_method_9_code 4 none ∈ xw_ok := xw_mem (xt1 (List.mem_of_getElem? (i := 205) rfl)) rfl
theorem q_206 : Cond.methodLink "StateExplorer" 112 ⟨"StateExplorer$Nodes", "mark", "(LStateExplorer$Nodes;I)I"⟩ ∈ xw_ok := xw_mem (xt1 (List.mem_of_getElem? (i := 206) rfl)) rfl
theorem q_207 : Cond.static ⟨"StateExplorer$Nodes", "mark", "(LStateExplorer$Nodes;I)I"⟩ ∈ xw_ok := xw_mem (xt1 (List.mem_of_getElem? (i := 207) rfl)) rfl
theorem q_208 : Cond.code ⟨"StateExplorer$Nodes", "mark", "(LStateExplorer$Nodes;I)I"⟩ prog_2_method_13_code 2 (some .int) ∈ xw_ok := xw_mem (xt1 (List.mem_of_getElem? (i := 208) rfl)) rfl
theorem q_209 : Cond.methodLink "StateExplorer$Nodes" 82 ⟨"StateExplorer$Nodes", "mark", "(LStateExplorer$Nodes;I)I"⟩ ∈ xw_ok := xw_mem (xt1 (List.mem_of_getElem? (i := 209) rfl)) rfl
theorem q_210 : Cond.methodLink "StateExplorer" 130 ⟨"StateExplorer$Nodes", "sweep", "()V"⟩ ∈ xw_ok := xw_mem (xt1 (List.mem_of_getElem? (i := 210) rfl)) rfl
theorem q_211 : Cond.instanceMethod ⟨"StateExplorer$Nodes", "sweep", "()V"⟩ ∈ xw_ok := xw_mem (xt1 (List.mem_of_getElem? (i := 211) rfl)) rfl
theorem q_212 : Cond.selects "StateExplorer$Nodes" ⟨"StateExplorer$Nodes", "sweep", "()V"⟩ ⟨"StateExplorer$Nodes", "sweep", "()V"⟩ ∈ xw_ok := xw_mem (xt1 (List.mem_of_getElem? (i := 212) rfl)) rfl
theorem q_213 : Cond.code ⟨"StateExplorer$Nodes", "sweep", "()V"⟩ prog_2_method_15_code 3 none ∈ xw_ok := xw_mem (xt1 (List.mem_of_getElem? (i := 213) rfl)) rfl
theorem q_214 : Cond.methodLink "StateExplorer$Nodes" 70 ⟨"StateExplorer$Nodes", "chain", "(III)I"⟩ ∈ xw_ok := xw_mem (xt1 (List.mem_of_getElem? (i := 214) rfl)) rfl
theorem q_216 : Cond.instanceMethod ⟨"StateExplorer$Nodes", "chain", "(III)I"⟩ ∈ xw_ok := xw_mem (xt1 (List.mem_of_getElem? (i := 216) rfl)) rfl
theorem q_217 : Cond.code ⟨"StateExplorer$Nodes", "chain", "(III)I"⟩ prog_2_method_4_code 4 (some .int) ∈ xw_ok := xw_mem (xt1 (List.mem_of_getElem? (i := 217) rfl)) rfl
theorem q_218 : Cond.methodLink "StateExplorer$Nodes" 66 ⟨"StateExplorer$Nodes", "mixed", "(III)I"⟩ ∈ xw_ok := xw_mem (xt1 (List.mem_of_getElem? (i := 218) rfl)) rfl
theorem q_219 : Cond.static ⟨"StateExplorer$Nodes", "mixed", "(III)I"⟩ ∈ xw_ok := xw_mem (xt1 (List.mem_of_getElem? (i := 219) rfl)) rfl
theorem q_220 : Cond.code ⟨"StateExplorer$Nodes", "mixed", "(III)I"⟩ prog_2_method_3_code 4 (some .int) ∈ xw_ok := xw_mem (xt1 (List.mem_of_getElem? (i := 220) rfl)) rfl
theorem q_221 : Cond.constant "StateExplorer$Nodes" 63 625341585 ∈ xw_ok := xw_mem (xt1 (List.mem_of_getElem? (i := 221) rfl)) rfl
theorem q_222 : Cond.constant "StateExplorer$Nodes" 64 1103515245 ∈ xw_ok := xw_mem (xt1 (List.mem_of_getElem? (i := 222) rfl)) rfl
theorem q_223 : Cond.constant "StateExplorer$Nodes" 65 1799596469 ∈ xw_ok := xw_mem (xt1 (List.mem_of_getElem? (i := 223) rfl)) rfl
theorem q_224 : Cond.methodLink "StateExplorer$Nodes" 86 ⟨"StateExplorer$Nodes", "unmark", "()V"⟩ ∈ xw_ok := xw_mem (xt1 (List.mem_of_getElem? (i := 224) rfl)) rfl
theorem q_225 : Cond.instanceMethod ⟨"StateExplorer$Nodes", "unmark", "()V"⟩ ∈ xw_ok := xw_mem (xt1 (List.mem_of_getElem? (i := 225) rfl)) rfl
theorem q_226 : Cond.selects "StateExplorer$Nodes" ⟨"StateExplorer$Nodes", "unmark", "()V"⟩ ⟨"StateExplorer$Nodes", "unmark", "()V"⟩ ∈ xw_ok := xw_mem (xt1 (List.mem_of_getElem? (i := 226) rfl)) rfl
theorem q_227 : Cond.code ⟨"StateExplorer$Nodes", "unmark", "()V"⟩ prog_2_method_14_code 2 none ∈ xw_ok := xw_mem (xt1 (List.mem_of_getElem? (i := 227) rfl)) rfl
theorem q_228 : Cond.methodLink "StateExplorer" 157 ⟨"StateExplorer$Nodes", "node", "(III)I"⟩ ∈ xw_ok := xw_mem (xt1 (List.mem_of_getElem? (i := 228) rfl)) rfl
theorem q_229 : Cond.instanceMethod ⟨"StateExplorer$Nodes", "node", "(III)I"⟩ ∈ xw_ok := xw_mem (xt1 (List.mem_of_getElem? (i := 229) rfl)) rfl
theorem q_230 : Cond.selects "StateExplorer$Nodes" ⟨"StateExplorer$Nodes", "node", "(III)I"⟩ ⟨"StateExplorer$Nodes", "node", "(III)I"⟩ ∈ xw_ok := xw_mem (xt1 (List.mem_of_getElem? (i := 230) rfl)) rfl
theorem q_231 : Cond.code ⟨"StateExplorer$Nodes", "node", "(III)I"⟩ prog_2_method_5_code 6 (some .int) ∈ xw_ok := xw_mem (xt1 (List.mem_of_getElem? (i := 231) rfl)) rfl
theorem q_232 : Cond.methodLink "StateExplorer$Nodes" 73 ⟨"StateExplorer$Nodes", "take", "()I"⟩ ∈ xw_ok := xw_mem (xt1 (List.mem_of_getElem? (i := 232) rfl)) rfl
theorem q_234 : Cond.instanceMethod ⟨"StateExplorer$Nodes", "take", "()I"⟩ ∈ xw_ok := xw_mem (xt1 (List.mem_of_getElem? (i := 234) rfl)) rfl
theorem q_235 : Cond.code ⟨"StateExplorer$Nodes", "take", "()I"⟩ prog_2_method_6_code 2 (some .int) ∈ xw_ok := xw_mem (xt1 (List.mem_of_getElem? (i := 235) rfl)) rfl
theorem q_236 : Cond.methodLink "StateExplorer" 201 ⟨"StateExplorer", "not", "(I)I"⟩ ∈ xw_ok := xw_mem (xt1 (List.mem_of_getElem? (i := 236) rfl)) rfl
theorem q_238 : Cond.instanceMethod ⟨"StateExplorer", "not", "(I)I"⟩ ∈ xw_ok := xw_mem (xt1 (List.mem_of_getElem? (i := 238) rfl)) rfl
theorem q_239 : Cond.code ⟨"StateExplorer", "not", "(I)I"⟩ prog_1_method_15_code 2 (some .int) ∈ xw_ok := xw_mem (xt1 (List.mem_of_getElem? (i := 239) rfl)) rfl
theorem q_240 : Cond.methodLink "StateExplorer" 154 ⟨"StateExplorer", "chosen", "(LStateExplorer$Nodes;III)I"⟩ ∈ xw_ok := xw_mem (xt2 (List.mem_of_getElem? (i := 0) rfl)) rfl
theorem q_241 : Cond.static ⟨"StateExplorer", "chosen", "(LStateExplorer$Nodes;III)I"⟩ ∈ xw_ok := xw_mem (xt2 (List.mem_of_getElem? (i := 1) rfl)) rfl
theorem q_242 : Cond.code ⟨"StateExplorer", "chosen", "(LStateExplorer$Nodes;III)I"⟩ prog_1_method_12_code 8 (some .int) ∈ xw_ok := xw_mem (xt2 (List.mem_of_getElem? (i := 2) rfl)) rfl
theorem q_243 : Cond.methodLink "StateExplorer" 142 ⟨"StateExplorer$Nodes", "known", "(IIII)I"⟩ ∈ xw_ok := xw_mem (xt2 (List.mem_of_getElem? (i := 3) rfl)) rfl
theorem q_244 : Cond.instanceMethod ⟨"StateExplorer$Nodes", "known", "(IIII)I"⟩ ∈ xw_ok := xw_mem (xt2 (List.mem_of_getElem? (i := 4) rfl)) rfl
theorem q_245 : Cond.selects "StateExplorer$Nodes" ⟨"StateExplorer$Nodes", "known", "(IIII)I"⟩ ⟨"StateExplorer$Nodes", "known", "(IIII)I"⟩ ∈ xw_ok := xw_mem (xt2 (List.mem_of_getElem? (i := 5) rfl)) rfl
theorem q_246 : Cond.code ⟨"StateExplorer$Nodes", "known", "(IIII)I"⟩ prog_2_method_10_code 6 (some .int) ∈ xw_ok := xw_mem (xt2 (List.mem_of_getElem? (i := 6) rfl)) rfl
theorem q_247 : Cond.methodLink "StateExplorer$Nodes" 77 ⟨"StateExplorer$Nodes", "place", "(IIII)I"⟩ ∈ xw_ok := xw_mem (xt2 (List.mem_of_getElem? (i := 7) rfl)) rfl
theorem q_249 : Cond.instanceMethod ⟨"StateExplorer$Nodes", "place", "(IIII)I"⟩ ∈ xw_ok := xw_mem (xt2 (List.mem_of_getElem? (i := 9) rfl)) rfl
theorem q_250 : Cond.code ⟨"StateExplorer$Nodes", "place", "(IIII)I"⟩ prog_2_method_9_code 5 (some .int) ∈ xw_ok := xw_mem (xt2 (List.mem_of_getElem? (i := 10) rfl)) rfl
theorem q_251 : Cond.methodLink "StateExplorer" 146 ⟨"StateExplorer", "first", "(LStateExplorer$Nodes;III)I"⟩ ∈ xw_ok := xw_mem (xt2 (List.mem_of_getElem? (i := 11) rfl)) rfl
theorem q_252 : Cond.static ⟨"StateExplorer", "first", "(LStateExplorer$Nodes;III)I"⟩ ∈ xw_ok := xw_mem (xt2 (List.mem_of_getElem? (i := 12) rfl)) rfl
theorem q_253 : Cond.code ⟨"StateExplorer", "first", "(LStateExplorer$Nodes;III)I"⟩ prog_1_method_11_code 4 (some .int) ∈ xw_ok := xw_mem (xt2 (List.mem_of_getElem? (i := 13) rfl)) rfl
theorem q_254 : Cond.methodLink "StateExplorer" 133 ⟨"StateExplorer$Nodes", "level", "(I)I"⟩ ∈ xw_ok := xw_mem (xt2 (List.mem_of_getElem? (i := 14) rfl)) rfl
theorem q_255 : Cond.instanceMethod ⟨"StateExplorer$Nodes", "level", "(I)I"⟩ ∈ xw_ok := xw_mem (xt2 (List.mem_of_getElem? (i := 15) rfl)) rfl
theorem q_256 : Cond.selects "StateExplorer$Nodes" ⟨"StateExplorer$Nodes", "level", "(I)I"⟩ ⟨"StateExplorer$Nodes", "level", "(I)I"⟩ ∈ xw_ok := xw_mem (xt2 (List.mem_of_getElem? (i := 16) rfl)) rfl
theorem q_257 : Cond.code ⟨"StateExplorer$Nodes", "level", "(I)I"⟩ prog_2_method_8_code 2 (some .int) ∈ xw_ok := xw_mem (xt2 (List.mem_of_getElem? (i := 17) rfl)) rfl
theorem q_258 : Cond.methodLink "StateExplorer" 136 ⟨"java/lang/Math", "min", "(II)I"⟩ ∈ xw_ok := xw_mem (xt2 (List.mem_of_getElem? (i := 18) rfl)) rfl
theorem q_259 : Cond.static ⟨"java/lang/Math", "min", "(II)I"⟩ ∈ xw_ok := xw_mem (xt2 (List.mem_of_getElem? (i := 19) rfl)) rfl
theorem q_260 : Cond.code Lib.Math.min.name Lib.Math.min.code 2 (some .int) ∈ xw_ok := xw_mem (xt2 (List.mem_of_getElem? (i := 20) rfl)) rfl
theorem q_261 : Cond.methodLink "StateExplorer" 150 ⟨"StateExplorer$Nodes", "cofactor", "(IIZ)I"⟩ ∈ xw_ok := xw_mem (xt2 (List.mem_of_getElem? (i := 21) rfl)) rfl
theorem q_262 : Cond.instanceMethod ⟨"StateExplorer$Nodes", "cofactor", "(IIZ)I"⟩ ∈ xw_ok := xw_mem (xt2 (List.mem_of_getElem? (i := 22) rfl)) rfl
theorem q_263 : Cond.selects "StateExplorer$Nodes" ⟨"StateExplorer$Nodes", "cofactor", "(IIZ)I"⟩ ⟨"StateExplorer$Nodes", "cofactor", "(IIZ)I"⟩ ∈ xw_ok := xw_mem (xt2 (List.mem_of_getElem? (i := 23) rfl)) rfl
theorem q_264 : Cond.code ⟨"StateExplorer$Nodes", "cofactor", "(IIZ)I"⟩ prog_2_method_7_code 4 (some .int) ∈ xw_ok := xw_mem (xt2 (List.mem_of_getElem? (i := 24) rfl)) rfl
theorem q_265 : Cond.methodLink "StateExplorer" 161 ⟨"StateExplorer$Nodes", "learn", "(IIIII)I"⟩ ∈ xw_ok := xw_mem (xt2 (List.mem_of_getElem? (i := 25) rfl)) rfl
theorem q_266 : Cond.instanceMethod ⟨"StateExplorer$Nodes", "learn", "(IIIII)I"⟩ ∈ xw_ok := xw_mem (xt2 (List.mem_of_getElem? (i := 26) rfl)) rfl
theorem q_267 : Cond.selects "StateExplorer$Nodes" ⟨"StateExplorer$Nodes", "learn", "(IIIII)I"⟩ ⟨"StateExplorer$Nodes", "learn", "(IIIII)I"⟩ ∈ xw_ok := xw_mem (xt2 (List.mem_of_getElem? (i := 27) rfl)) rfl
theorem q_268 : Cond.code ⟨"StateExplorer$Nodes", "learn", "(IIIII)I"⟩ prog_2_method_11_code 7 (some .int) ∈ xw_ok := xw_mem (xt2 (List.mem_of_getElem? (i := 28) rfl)) rfl
theorem q_269 : Cond.methodLink "StateExplorer" 204 ⟨"StateExplorer", "spread", "(I)Z"⟩ ∈ xw_ok := xw_mem (xt2 (List.mem_of_getElem? (i := 29) rfl)) rfl
theorem q_271 : Cond.instanceMethod ⟨"StateExplorer", "spread", "(I)Z"⟩ ∈ xw_ok := xw_mem (xt2 (List.mem_of_getElem? (i := 31) rfl)) rfl
theorem q_272 : Cond.code ⟨"StateExplorer", "spread", "(I)Z"⟩ prog_1_method_28_code 5 (some .boolean) ∈ xw_ok := xw_mem (xt2 (List.mem_of_getElem? (i := 32) rfl)) rfl
theorem q_273 : Cond.methodLink "StateExplorer" 211 ⟨"StateExplorer", "and", "(II)I"⟩ ∈ xw_ok := xw_mem (xt2 (List.mem_of_getElem? (i := 33) rfl)) rfl
theorem q_275 : Cond.instanceMethod ⟨"StateExplorer", "and", "(II)I"⟩ ∈ xw_ok := xw_mem (xt2 (List.mem_of_getElem? (i := 35) rfl)) rfl
theorem q_276 : Cond.code ⟨"StateExplorer", "and", "(II)I"⟩ prog_1_method_13_code 3 (some .int) ∈ xw_ok := xw_mem (xt2 (List.mem_of_getElem? (i := 36) rfl)) rfl
theorem q_277 : Cond.methodLink "StateExplorer" 208 ⟨"StateExplorer", "or", "(II)I"⟩ ∈ xw_ok := xw_mem (xt2 (List.mem_of_getElem? (i := 37) rfl)) rfl
theorem q_279 : Cond.instanceMethod ⟨"StateExplorer", "or", "(II)I"⟩ ∈ xw_ok := xw_mem (xt2 (List.mem_of_getElem? (i := 39) rfl)) rfl
theorem q_280 : Cond.code ⟨"StateExplorer", "or", "(II)I"⟩ prog_1_method_14_code 3 (some .int) ∈ xw_ok := xw_mem (xt2 (List.mem_of_getElem? (i := 40) rfl)) rfl
theorem q_281 : Cond.methodLink "StateExplorer" 219 ⟨"StateExplorer", "latch", "()V"⟩ ∈ xw_ok := xw_mem (xt2 (List.mem_of_getElem? (i := 41) rfl)) rfl
theorem q_283 : Cond.instanceMethod ⟨"StateExplorer", "latch", "()V"⟩ ∈ xw_ok := xw_mem (xt2 (List.mem_of_getElem? (i := 43) rfl)) rfl
theorem q_284 : Cond.code ⟨"StateExplorer", "latch", "()V"⟩ prog_1_method_29_code 2 none ∈ xw_ok := xw_mem (xt2 (List.mem_of_getElem? (i := 44) rfl)) rfl
theorem q_286 : Cond.methodLink "StateExplorer" 228 ⟨"StateExplorer", "only", "(I)I"⟩ ∈ xw_ok := xw_mem (xt2 (List.mem_of_getElem? (i := 46) rfl)) rfl
theorem q_288 : Cond.instanceMethod ⟨"StateExplorer", "only", "(I)I"⟩ ∈ xw_ok := xw_mem (xt2 (List.mem_of_getElem? (i := 48) rfl)) rfl
theorem q_289 : Cond.code ⟨"StateExplorer", "only", "(I)I"⟩ prog_1_method_30_code 3 (some .int) ∈ xw_ok := xw_mem (xt2 (List.mem_of_getElem? (i := 49) rfl)) rfl
theorem q_290 : Cond.methodLink "StateExplorer" 187 ⟨"StateExplorer", "bit", "(II)Z"⟩ ∈ xw_ok := xw_mem (xt2 (List.mem_of_getElem? (i := 50) rfl)) rfl
theorem q_291 : Cond.static ⟨"StateExplorer", "bit", "(II)Z"⟩ ∈ xw_ok := xw_mem (xt2 (List.mem_of_getElem? (i := 51) rfl)) rfl
theorem q_292 : Cond.code ⟨"StateExplorer", "bit", "(II)Z"⟩ prog_1_method_22_code 2 (some .boolean) ∈ xw_ok := xw_mem (xt2 (List.mem_of_getElem? (i := 52) rfl)) rfl
theorem q_293 : Cond.methodLink "StateExplorer" 184 ⟨"StateExplorer", "after", "(II)I"⟩ ∈ xw_ok := xw_mem (xt2 (List.mem_of_getElem? (i := 53) rfl)) rfl
theorem q_295 : Cond.instanceMethod ⟨"StateExplorer", "after", "(II)I"⟩ ∈ xw_ok := xw_mem (xt2 (List.mem_of_getElem? (i := 55) rfl)) rfl
theorem q_296 : Cond.code ⟨"StateExplorer", "after", "(II)I"⟩ prog_1_method_21_code 4 (some .int) ∈ xw_ok := xw_mem (xt2 (List.mem_of_getElem? (i := 56) rfl)) rfl
theorem q_297 : Cond.methodLink "StateExplorer" 231 ⟨"StateExplorer", "gather", "()V"⟩ ∈ xw_ok := xw_mem (xt2 (List.mem_of_getElem? (i := 57) rfl)) rfl
theorem q_299 : Cond.instanceMethod ⟨"StateExplorer", "gather", "()V"⟩ ∈ xw_ok := xw_mem (xt2 (List.mem_of_getElem? (i := 59) rfl)) rfl
theorem q_300 : Cond.code ⟨"StateExplorer", "gather", "()V"⟩ prog_1_method_35_code 4 none ∈ xw_ok := xw_mem (xt2 (List.mem_of_getElem? (i := 60) rfl)) rfl
theorem q_301 : Cond.methodLink "StateExplorer" 237 ⟨"StateExplorer", "at", "(III)Z"⟩ ∈ xw_ok := xw_mem (xt2 (List.mem_of_getElem? (i := 61) rfl)) rfl
theorem q_303 : Cond.instanceMethod ⟨"StateExplorer", "at", "(III)Z"⟩ ∈ xw_ok := xw_mem (xt2 (List.mem_of_getElem? (i := 63) rfl)) rfl
theorem q_304 : Cond.code ⟨"StateExplorer", "at", "(III)Z"⟩ prog_1_method_23_code 6 (some .boolean) ∈ xw_ok := xw_mem (xt2 (List.mem_of_getElem? (i := 64) rfl)) rfl
theorem q_305 : Cond.methodLink "StateExplorer" 250 ⟨"StateExplorer", "alike", "(II)Z"⟩ ∈ xw_ok := xw_mem (xt2 (List.mem_of_getElem? (i := 65) rfl)) rfl
theorem q_307 : Cond.instanceMethod ⟨"StateExplorer", "alike", "(II)Z"⟩ ∈ xw_ok := xw_mem (xt2 (List.mem_of_getElem? (i := 67) rfl)) rfl
theorem q_308 : Cond.code ⟨"StateExplorer", "alike", "(II)Z"⟩ prog_1_method_34_code 5 (some .boolean) ∈ xw_ok := xw_mem (xt2 (List.mem_of_getElem? (i := 68) rfl)) rfl
theorem q_309 : Cond.methodLink "StateExplorer" 241 ⟨"StateExplorer", "seen", "(II)I"⟩ ∈ xw_ok := xw_mem (xt2 (List.mem_of_getElem? (i := 69) rfl)) rfl
theorem q_311 : Cond.instanceMethod ⟨"StateExplorer", "seen", "(II)I"⟩ ∈ xw_ok := xw_mem (xt2 (List.mem_of_getElem? (i := 71) rfl)) rfl
theorem q_312 : Cond.code ⟨"StateExplorer", "seen", "(II)I"⟩ prog_1_method_32_code 5 (some .int) ∈ xw_ok := xw_mem (xt2 (List.mem_of_getElem? (i := 72) rfl)) rfl
theorem q_313 : Cond.methodLink "StateExplorer" 244 ⟨"StateExplorer", "nextOf", "(II)I"⟩ ∈ xw_ok := xw_mem (xt2 (List.mem_of_getElem? (i := 73) rfl)) rfl
theorem q_315 : Cond.instanceMethod ⟨"StateExplorer", "nextOf", "(II)I"⟩ ∈ xw_ok := xw_mem (xt2 (List.mem_of_getElem? (i := 75) rfl)) rfl
theorem q_316 : Cond.code ⟨"StateExplorer", "nextOf", "(II)I"⟩ prog_1_method_33_code 5 (some .int) ∈ xw_ok := xw_mem (xt2 (List.mem_of_getElem? (i := 76) rfl)) rfl
theorem q_317 : Cond.methodLink "StateExplorer" 234 ⟨"StateExplorer", "states", "(I)I"⟩ ∈ xw_ok := xw_mem (xt2 (List.mem_of_getElem? (i := 77) rfl)) rfl
theorem q_319 : Cond.instanceMethod ⟨"StateExplorer", "states", "(I)I"⟩ ∈ xw_ok := xw_mem (xt2 (List.mem_of_getElem? (i := 79) rfl)) rfl
theorem q_320 : Cond.code ⟨"StateExplorer", "states", "(I)I"⟩ prog_1_method_25_code 2 (some .int) ∈ xw_ok := xw_mem (xt2 (List.mem_of_getElem? (i := 80) rfl)) rfl
theorem q_321 : Cond.methodLink "StateExplorer" 191 ⟨"StateExplorer", "points", "(LStateExplorer$Nodes;II)I"⟩ ∈ xw_ok := xw_mem (xt2 (List.mem_of_getElem? (i := 81) rfl)) rfl
theorem q_322 : Cond.static ⟨"StateExplorer", "points", "(LStateExplorer$Nodes;II)I"⟩ ∈ xw_ok := xw_mem (xt2 (List.mem_of_getElem? (i := 82) rfl)) rfl
theorem q_323 : Cond.code ⟨"StateExplorer", "points", "(LStateExplorer$Nodes;II)I"⟩ prog_1_method_24_code 5 (some .int) ∈ xw_ok := xw_mem (xt2 (List.mem_of_getElem? (i := 83) rfl)) rfl
theorem q_328 : Cond.methodLink "StateExplorer" 270 ⟨"StateExplorer", "sure", "()I"⟩ ∈ xw_ok := xw_mem (xt2 (List.mem_of_getElem? (i := 88) rfl)) rfl
theorem q_330 : Cond.instanceMethod ⟨"StateExplorer", "sure", "()I"⟩ ∈ xw_ok := xw_mem (xt2 (List.mem_of_getElem? (i := 90) rfl)) rfl
theorem q_331 : Cond.code ⟨"StateExplorer", "sure", "()I"⟩ prog_1_method_44_code 1 (some .int) ∈ xw_ok := xw_mem (xt2 (List.mem_of_getElem? (i := 91) rfl)) rfl
theorem q_487 : Cond.methodLink "StateExplorer" 180 ⟨"StateExplorer", "before", "(LStateExplorer$Nodes;I[I)I"⟩ ∈ xw_ok := xw_mem (xt3 (List.mem_of_getElem? (i := 7) rfl)) rfl
theorem q_488 : Cond.static ⟨"StateExplorer", "before", "(LStateExplorer$Nodes;I[I)I"⟩ ∈ xw_ok := xw_mem (xt3 (List.mem_of_getElem? (i := 8) rfl)) rfl
theorem q_489 : Cond.code ⟨"StateExplorer", "before", "(LStateExplorer$Nodes;I[I)I"⟩ prog_1_method_20_code 7 (some .int) ∈ xw_ok := xw_mem (xt3 (List.mem_of_getElem? (i := 9) rfl)) rfl
theorem q_490 : Cond.methodLink "StateExplorer" 171 ⟨"StateExplorer", "anyChoice", "(LStateExplorer$Nodes;I)I"⟩ ∈ xw_ok := xw_mem (xt3 (List.mem_of_getElem? (i := 10) rfl)) rfl
theorem q_491 : Cond.static ⟨"StateExplorer", "anyChoice", "(LStateExplorer$Nodes;I)I"⟩ ∈ xw_ok := xw_mem (xt3 (List.mem_of_getElem? (i := 11) rfl)) rfl
theorem q_492 : Cond.code ⟨"StateExplorer", "anyChoice", "(LStateExplorer$Nodes;I)I"⟩ prog_1_method_19_code 4 (some .int) ∈ xw_ok := xw_mem (xt3 (List.mem_of_getElem? (i := 12) rfl)) rfl
theorem q_545 : Cond.constant "StateExplorerModel" 48 65536 ∈ xw_ok := xw_mem (xt3 (List.mem_of_getElem? (i := 65) rfl)) rfl
theorem q_546 : Cond.fieldLink "StateExplorerModel" 55 "StateExplorerModel" "code" "I" ∈ xw_ok := xw_mem (xt3 (List.mem_of_getElem? (i := 66) rfl)) rfl
theorem q_547 : Cond.fieldLink "StateExplorerModel" 59 "StateExplorerModel" "gates" "I" ∈ xw_ok := xw_mem (xt3 (List.mem_of_getElem? (i := 67) rfl)) rfl
theorem q_548 : Cond.fieldLink "StateExplorerModel" 76 "StateExplorerModel" "feeds" "I" ∈ xw_ok := xw_mem (xt3 (List.mem_of_getElem? (i := 68) rfl)) rfl
theorem q_549 : Cond.fieldLink "StateExplorerModel" 66 "StateExplorerModel" "inputs" "I" ∈ xw_ok := xw_mem (xt3 (List.mem_of_getElem? (i := 69) rfl)) rfl
theorem q_550 : Cond.fieldLink "StateExplorerModel" 69 "StateExplorerModel" "latches" "I" ∈ xw_ok := xw_mem (xt3 (List.mem_of_getElem? (i := 70) rfl)) rfl
theorem q_551 : Cond.fieldLink "StateExplorerModel" 87 "StateExplorerModel" "outputs" "I" ∈ xw_ok := xw_mem (xt3 (List.mem_of_getElem? (i := 71) rfl)) rfl
theorem q_552 : Cond.fieldLink "StateExplorerModel" 7 "StateExplorerModel" "sort" "[I" ∈ xw_ok := xw_mem (xt3 (List.mem_of_getElem? (i := 72) rfl)) rfl
theorem q_553 : Cond.fieldLink "StateExplorerModel" 13 "StateExplorerModel" "number" "[I" ∈ xw_ok := xw_mem (xt3 (List.mem_of_getElem? (i := 73) rfl)) rfl
theorem q_554 : Cond.fieldLink "StateExplorerModel" 16 "StateExplorerModel" "value" "[I" ∈ xw_ok := xw_mem (xt3 (List.mem_of_getElem? (i := 74) rfl)) rfl
theorem q_555 : Cond.fieldLink "StateExplorerModel" 19 "StateExplorerModel" "made" "[I" ∈ xw_ok := xw_mem (xt3 (List.mem_of_getElem? (i := 75) rfl)) rfl
theorem q_556 : Cond.fieldLink "StateExplorerModel" 22 "StateExplorerModel" "to" "[I" ∈ xw_ok := xw_mem (xt3 (List.mem_of_getElem? (i := 76) rfl)) rfl
theorem q_557 : Cond.fieldLink "StateExplorerModel" 25 "StateExplorerModel" "from" "[I" ∈ xw_ok := xw_mem (xt3 (List.mem_of_getElem? (i := 77) rfl)) rfl
theorem q_558 : Cond.fieldLink "StateExplorerModel" 28 "StateExplorerModel" "outputOf" "[I" ∈ xw_ok := xw_mem (xt3 (List.mem_of_getElem? (i := 78) rfl)) rfl
theorem q_559 : Cond.fieldLink "StateExplorerModel" 31 "StateExplorerModel" "negated" "[Z" ∈ xw_ok := xw_mem (xt3 (List.mem_of_getElem? (i := 79) rfl)) rfl
theorem q_560 : Cond.fieldLink "StateExplorerModel" 72 "StateExplorerModel" "explored" "Z" ∈ xw_ok := xw_mem (xt3 (List.mem_of_getElem? (i := 80) rfl)) rfl
theorem q_561 : Cond.fieldLink "StateExplorerModel" 35 "StateExplorerModel" "settles" "[Z" ∈ xw_ok := xw_mem (xt3 (List.mem_of_getElem? (i := 81) rfl)) rfl
theorem q_562 : Cond.fieldLink "StateExplorerModel" 38 "StateExplorerModel" "next" "[I" ∈ xw_ok := xw_mem (xt3 (List.mem_of_getElem? (i := 82) rfl)) rfl
theorem q_563 : Cond.fieldLink "StateExplorerModel" 41 "StateExplorerModel" "ones" "[J" ∈ xw_ok := xw_mem (xt3 (List.mem_of_getElem? (i := 83) rfl)) rfl
theorem q_564 : Cond.fieldLink "StateExplorerModel" 45 "StateExplorerModel" "distance" "[I" ∈ xw_ok := xw_mem (xt3 (List.mem_of_getElem? (i := 84) rfl)) rfl
theorem q_565 : Cond.fieldLink "StateExplorerModel" 49 "StateExplorerModel" "apart" "[Z" ∈ xw_ok := xw_mem (xt3 (List.mem_of_getElem? (i := 85) rfl)) rfl
theorem q_566 : Cond.fieldLink "StateExplorerModel" 52 "StateExplorerModel" "leads" "[Z" ∈ xw_ok := xw_mem (xt3 (List.mem_of_getElem? (i := 86) rfl)) rfl
theorem q_619 : Cond.methodLink "StateExplorerModel" 62 ⟨"StateExplorerModel", "fails", "(ZZ)Z"⟩ ∈ xw_ok := xw_mem (xt3 (List.mem_of_getElem? (i := 139) rfl)) rfl
theorem q_621 : Cond.instanceMethod ⟨"StateExplorerModel", "fails", "(ZZ)Z"⟩ ∈ xw_ok := xw_mem (xt3 (List.mem_of_getElem? (i := 141) rfl)) rfl
theorem q_622 : Cond.code ⟨"StateExplorerModel", "fails", "(ZZ)Z"⟩ prog_4_method_3_code 3 (some .boolean) ∈ xw_ok := xw_mem (xt3 (List.mem_of_getElem? (i := 142) rfl)) rfl
theorem q_627 : Cond.methodLink "StateExplorerModel" 79 ⟨"StateExplorerModel", "isGate", "(I)Z"⟩ ∈ xw_ok := xw_mem (xt3 (List.mem_of_getElem? (i := 147) rfl)) rfl
theorem q_629 : Cond.instanceMethod ⟨"StateExplorerModel", "isGate", "(I)Z"⟩ ∈ xw_ok := xw_mem (xt3 (List.mem_of_getElem? (i := 149) rfl)) rfl
theorem q_630 : Cond.code ⟨"StateExplorerModel", "isGate", "(I)Z"⟩ prog_4_method_4_code 2 (some .boolean) ∈ xw_ok := xw_mem (xt3 (List.mem_of_getElem? (i := 150) rfl)) rfl
theorem q_631 : Cond.methodLink "StateExplorerModel" 83 ⟨"StateExplorerModel", "feedsOf", "(I)I"⟩ ∈ xw_ok := xw_mem (xt3 (List.mem_of_getElem? (i := 151) rfl)) rfl
theorem q_633 : Cond.instanceMethod ⟨"StateExplorerModel", "feedsOf", "(I)I"⟩ ∈ xw_ok := xw_mem (xt3 (List.mem_of_getElem? (i := 153) rfl)) rfl
theorem q_634 : Cond.code ⟨"StateExplorerModel", "feedsOf", "(I)I"⟩ prog_4_method_6_code 4 (some .int) ∈ xw_ok := xw_mem (xt3 (List.mem_of_getElem? (i := 154) rfl)) rfl
theorem q_647 : Cond.methodLink "StateExplorerModel" 97 ⟨"StateExplorerModel", "states", "()I"⟩ ∈ xw_ok := xw_mem (xt3 (List.mem_of_getElem? (i := 167) rfl)) rfl
theorem q_649 : Cond.instanceMethod ⟨"StateExplorerModel", "states", "()I"⟩ ∈ xw_ok := xw_mem (xt3 (List.mem_of_getElem? (i := 169) rfl)) rfl
theorem q_650 : Cond.code ⟨"StateExplorerModel", "states", "()I"⟩ prog_4_method_13_code 1 (some .int) ∈ xw_ok := xw_mem (xt3 (List.mem_of_getElem? (i := 170) rfl)) rfl
theorem q_651 : Cond.methodLink "StateExplorerModel" 101 ⟨"StateExplorerModel", "choices", "()I"⟩ ∈ xw_ok := xw_mem (xt3 (List.mem_of_getElem? (i := 171) rfl)) rfl
theorem q_653 : Cond.instanceMethod ⟨"StateExplorerModel", "choices", "()I"⟩ ∈ xw_ok := xw_mem (xt3 (List.mem_of_getElem? (i := 173) rfl)) rfl
theorem q_654 : Cond.code ⟨"StateExplorerModel", "choices", "()I"⟩ prog_4_method_14_code 1 (some .int) ∈ xw_ok := xw_mem (xt3 (List.mem_of_getElem? (i := 174) rfl)) rfl
theorem q_655 : Cond.methodLink "StateExplorerModel" 104 ⟨"StateExplorerModel", "work", "(II)V"⟩ ∈ xw_ok := xw_mem (xt3 (List.mem_of_getElem? (i := 175) rfl)) rfl
theorem q_657 : Cond.instanceMethod ⟨"StateExplorerModel", "work", "(II)V"⟩ ∈ xw_ok := xw_mem (xt3 (List.mem_of_getElem? (i := 177) rfl)) rfl
theorem q_658 : Cond.code ⟨"StateExplorerModel", "work", "(II)V"⟩ prog_4_method_12_code 6 none ∈ xw_ok := xw_mem (xt3 (List.mem_of_getElem? (i := 178) rfl)) rfl
theorem q_659 : Cond.methodLink "StateExplorerModel" 93 ⟨"StateExplorerModel", "again", "()Z"⟩ ∈ xw_ok := xw_mem (xt3 (List.mem_of_getElem? (i := 179) rfl)) rfl
theorem q_661 : Cond.instanceMethod ⟨"StateExplorerModel", "again", "()Z"⟩ ∈ xw_ok := xw_mem (xt3 (List.mem_of_getElem? (i := 181) rfl)) rfl
theorem q_662 : Cond.code ⟨"StateExplorerModel", "again", "()Z"⟩ prog_4_method_11_code 6 (some .boolean) ∈ xw_ok := xw_mem (xt3 (List.mem_of_getElem? (i := 182) rfl)) rfl
theorem q_663 : Cond.methodLink "StateExplorerModel" 90 ⟨"StateExplorerModel", "taken", "(I)I"⟩ ∈ xw_ok := xw_mem (xt3 (List.mem_of_getElem? (i := 183) rfl)) rfl
theorem q_665 : Cond.instanceMethod ⟨"StateExplorerModel", "taken", "(I)I"⟩ ∈ xw_ok := xw_mem (xt3 (List.mem_of_getElem? (i := 185) rfl)) rfl
theorem q_666 : Cond.code ⟨"StateExplorerModel", "taken", "(I)I"⟩ prog_4_method_10_code 3 (some .int) ∈ xw_ok := xw_mem (xt3 (List.mem_of_getElem? (i := 186) rfl)) rfl
theorem q_667 : Cond.methodLink "StateExplorerModel" 108 ⟨"StateExplorerModel", "tell", "()V"⟩ ∈ xw_ok := xw_mem (xt3 (List.mem_of_getElem? (i := 187) rfl)) rfl
theorem q_669 : Cond.instanceMethod ⟨"StateExplorerModel", "tell", "()V"⟩ ∈ xw_ok := xw_mem (xt3 (List.mem_of_getElem? (i := 189) rfl)) rfl
theorem q_670 : Cond.code ⟨"StateExplorerModel", "tell", "()V"⟩ prog_4_method_19_code 4 none ∈ xw_ok := xw_mem (xt3 (List.mem_of_getElem? (i := 190) rfl)) rfl
theorem q_671 : Cond.methodLink "StateExplorerModel" 118 ⟨"StateExplorerModel", "differ", "(II)Z"⟩ ∈ xw_ok := xw_mem (xt3 (List.mem_of_getElem? (i := 191) rfl)) rfl
theorem q_673 : Cond.instanceMethod ⟨"StateExplorerModel", "differ", "(II)Z"⟩ ∈ xw_ok := xw_mem (xt3 (List.mem_of_getElem? (i := 193) rfl)) rfl
theorem q_674 : Cond.code ⟨"StateExplorerModel", "differ", "(II)Z"⟩ prog_4_method_18_code 7 (some .boolean) ∈ xw_ok := xw_mem (xt3 (List.mem_of_getElem? (i := 194) rfl)) rfl
theorem q_675 : Cond.methodLink "StateExplorerModel" 114 ⟨"StateExplorerModel", "shows", "(III)Z"⟩ ∈ xw_ok := xw_mem (xt3 (List.mem_of_getElem? (i := 195) rfl)) rfl
theorem q_677 : Cond.instanceMethod ⟨"StateExplorerModel", "shows", "(III)Z"⟩ ∈ xw_ok := xw_mem (xt3 (List.mem_of_getElem? (i := 197) rfl)) rfl
theorem q_678 : Cond.code ⟨"StateExplorerModel", "shows", "(III)Z"⟩ prog_4_method_17_code 6 (some .boolean) ∈ xw_ok := xw_mem (xt3 (List.mem_of_getElem? (i := 198) rfl)) rfl
theorem q_679 : Cond.methodLink "StateExplorerModel" 111 ⟨"StateExplorerModel", "reached", "()I"⟩ ∈ xw_ok := xw_mem (xt3 (List.mem_of_getElem? (i := 199) rfl)) rfl
theorem q_681 : Cond.instanceMethod ⟨"StateExplorerModel", "reached", "()I"⟩ ∈ xw_ok := xw_mem (xt3 (List.mem_of_getElem? (i := 201) rfl)) rfl
theorem q_682 : Cond.code ⟨"StateExplorerModel", "reached", "()I"⟩ prog_4_method_16_code 3 (some .int) ∈ xw_ok := xw_mem (xt3 (List.mem_of_getElem? (i := 202) rfl)) rfl
theorem q_687 : Cond.methodLink "StateExplorerModel" 122 ⟨"StateExplorerModel", "isState", "(I)Z"⟩ ∈ xw_ok := xw_mem (xt3 (List.mem_of_getElem? (i := 207) rfl)) rfl
theorem q_689 : Cond.instanceMethod ⟨"StateExplorerModel", "isState", "(I)Z"⟩ ∈ xw_ok := xw_mem (xt3 (List.mem_of_getElem? (i := 209) rfl)) rfl
theorem q_690 : Cond.code ⟨"StateExplorerModel", "isState", "(I)Z"⟩ prog_4_method_20_code 2 (some .boolean) ∈ xw_ok := xw_mem (xt3 (List.mem_of_getElem? (i := 210) rfl)) rfl
theorem q_695 : Cond.methodLink "StateExplorerModel" 125 ⟨"StateExplorerModel", "lead", "(II)V"⟩ ∈ xw_ok := xw_mem (xt3 (List.mem_of_getElem? (i := 215) rfl)) rfl
theorem q_697 : Cond.instanceMethod ⟨"StateExplorerModel", "lead", "(II)V"⟩ ∈ xw_ok := xw_mem (xt3 (List.mem_of_getElem? (i := 217) rfl)) rfl
theorem q_698 : Cond.code ⟨"StateExplorerModel", "lead", "(II)V"⟩ prog_4_method_22_code 7 none ∈ xw_ok := xw_mem (xt3 (List.mem_of_getElem? (i := 218) rfl)) rfl
theorem q_715 : Cond.methodLink "StateExplorerModel" 128 ⟨"StateExplorerModel", "held", "(JZ)I"⟩ ∈ xw_ok := xw_mem (xt3 (List.mem_of_getElem? (i := 235) rfl)) rfl
theorem q_717 : Cond.instanceMethod ⟨"StateExplorerModel", "held", "(JZ)I"⟩ ∈ xw_ok := xw_mem (xt3 (List.mem_of_getElem? (i := 237) rfl)) rfl
theorem q_718 : Cond.code ⟨"StateExplorerModel", "held", "(JZ)I"⟩ prog_4_method_27_code 9 (some .int) ∈ xw_ok := xw_mem (xt3 (List.mem_of_getElem? (i := 238) rfl)) rfl
theorem q_727 : Cond.methodLink "StateExplorerModel" 132 ⟨"StateExplorerModel", "least", "(I)I"⟩ ∈ xw_ok := xw_mem (xt4 (List.mem_of_getElem? (i := 7) rfl)) rfl
theorem q_729 : Cond.instanceMethod ⟨"StateExplorerModel", "least", "(I)I"⟩ ∈ xw_ok := xw_mem (xt4 (List.mem_of_getElem? (i := 9) rfl)) rfl
theorem q_730 : Cond.code ⟨"StateExplorerModel", "least", "(I)I"⟩ prog_4_method_30_code 3 (some .int) ∈ xw_ok := xw_mem (xt4 (List.mem_of_getElem? (i := 10) rfl)) rfl
theorem qs_0 : Cond.selects "StateExplorer$Nodes" ⟨"StateExplorer$Nodes", "forget", "()V"⟩ ⟨"StateExplorer$Nodes", "forget", "()V"⟩ ∈ xw_ok := xw_mem (List.mem_append_left _ (List.mem_of_getElem? (i := 0) rfl)) rfl
theorem qs_1 : Cond.selects "StateExplorer" ⟨"StateExplorer", "spread", "()V"⟩ ⟨"StateExplorer", "spread", "()V"⟩ ∈ xw_ok := xw_mem (List.mem_append_left _ (List.mem_of_getElem? (i := 1) rfl)) rfl
theorem qs_2 : Cond.selects "StateExplorer" ⟨"StateExplorer", "variable", "(I)I"⟩ ⟨"StateExplorer", "variable", "(I)I"⟩ ∈ xw_ok := xw_mem (List.mem_append_left _ (List.mem_of_getElem? (i := 2) rfl)) rfl
theorem qs_3 : Cond.selects "StateExplorer" ⟨"StateExplorer", "begin", "()V"⟩ ⟨"StateExplorer", "begin", "()V"⟩ ∈ xw_ok := xw_mem (List.mem_append_left _ (List.mem_of_getElem? (i := 3) rfl)) rfl
theorem qs_4 : Cond.selects "StateExplorer" ⟨"StateExplorer", "keep", "([II)V"⟩ ⟨"StateExplorer", "keep", "([II)V"⟩ ∈ xw_ok := xw_mem (List.mem_append_left _ (List.mem_of_getElem? (i := 4) rfl)) rfl
theorem qs_5 : Cond.selects "StateExplorer$Nodes" ⟨"StateExplorer$Nodes", "chain", "(III)I"⟩ ⟨"StateExplorer$Nodes", "chain", "(III)I"⟩ ∈ xw_ok := xw_mem (List.mem_append_left _ (List.mem_of_getElem? (i := 5) rfl)) rfl
theorem qs_6 : Cond.selects "StateExplorer$Nodes" ⟨"StateExplorer$Nodes", "take", "()I"⟩ ⟨"StateExplorer$Nodes", "take", "()I"⟩ ∈ xw_ok := xw_mem (List.mem_append_left _ (List.mem_of_getElem? (i := 6) rfl)) rfl
theorem qs_7 : Cond.selects "StateExplorer" ⟨"StateExplorer", "not", "(I)I"⟩ ⟨"StateExplorer", "not", "(I)I"⟩ ∈ xw_ok := xw_mem (List.mem_append_left _ (List.mem_of_getElem? (i := 7) rfl)) rfl
theorem qs_8 : Cond.selects "StateExplorer$Nodes" ⟨"StateExplorer$Nodes", "place", "(IIII)I"⟩ ⟨"StateExplorer$Nodes", "place", "(IIII)I"⟩ ∈ xw_ok := xw_mem (List.mem_append_left _ (List.mem_of_getElem? (i := 8) rfl)) rfl
theorem qs_9 : Cond.selects "StateExplorer" ⟨"StateExplorer", "spread", "(I)Z"⟩ ⟨"StateExplorer", "spread", "(I)Z"⟩ ∈ xw_ok := xw_mem (List.mem_append_left _ (List.mem_of_getElem? (i := 9) rfl)) rfl
theorem qs_10 : Cond.selects "StateExplorer" ⟨"StateExplorer", "and", "(II)I"⟩ ⟨"StateExplorer", "and", "(II)I"⟩ ∈ xw_ok := xw_mem (List.mem_append_left _ (List.mem_of_getElem? (i := 10) rfl)) rfl
theorem qs_11 : Cond.selects "StateExplorer" ⟨"StateExplorer", "or", "(II)I"⟩ ⟨"StateExplorer", "or", "(II)I"⟩ ∈ xw_ok := xw_mem (List.mem_append_left _ (List.mem_of_getElem? (i := 11) rfl)) rfl
theorem qs_12 : Cond.selects "StateExplorer" ⟨"StateExplorer", "latch", "()V"⟩ ⟨"StateExplorer", "latch", "()V"⟩ ∈ xw_ok := xw_mem (List.mem_append_left _ (List.mem_of_getElem? (i := 12) rfl)) rfl
theorem qs_13 : Cond.selects "StateExplorer" ⟨"StateExplorer", "only", "(I)I"⟩ ⟨"StateExplorer", "only", "(I)I"⟩ ∈ xw_ok := xw_mem (List.mem_append_left _ (List.mem_of_getElem? (i := 13) rfl)) rfl
theorem qs_14 : Cond.selects "StateExplorer" ⟨"StateExplorer", "after", "(II)I"⟩ ⟨"StateExplorer", "after", "(II)I"⟩ ∈ xw_ok := xw_mem (List.mem_append_left _ (List.mem_of_getElem? (i := 14) rfl)) rfl
theorem qs_15 : Cond.selects "StateExplorer" ⟨"StateExplorer", "gather", "()V"⟩ ⟨"StateExplorer", "gather", "()V"⟩ ∈ xw_ok := xw_mem (List.mem_append_left _ (List.mem_of_getElem? (i := 15) rfl)) rfl
theorem qs_16 : Cond.selects "StateExplorer" ⟨"StateExplorer", "at", "(III)Z"⟩ ⟨"StateExplorer", "at", "(III)Z"⟩ ∈ xw_ok := xw_mem (List.mem_append_left _ (List.mem_of_getElem? (i := 16) rfl)) rfl
theorem qs_17 : Cond.selects "StateExplorer" ⟨"StateExplorer", "alike", "(II)Z"⟩ ⟨"StateExplorer", "alike", "(II)Z"⟩ ∈ xw_ok := xw_mem (List.mem_append_left _ (List.mem_of_getElem? (i := 17) rfl)) rfl
theorem qs_18 : Cond.selects "StateExplorer" ⟨"StateExplorer", "seen", "(II)I"⟩ ⟨"StateExplorer", "seen", "(II)I"⟩ ∈ xw_ok := xw_mem (List.mem_append_left _ (List.mem_of_getElem? (i := 18) rfl)) rfl
theorem qs_19 : Cond.selects "StateExplorer" ⟨"StateExplorer", "nextOf", "(II)I"⟩ ⟨"StateExplorer", "nextOf", "(II)I"⟩ ∈ xw_ok := xw_mem (List.mem_append_left _ (List.mem_of_getElem? (i := 19) rfl)) rfl
theorem qs_20 : Cond.selects "StateExplorer" ⟨"StateExplorer", "states", "(I)I"⟩ ⟨"StateExplorer", "states", "(I)I"⟩ ∈ xw_ok := xw_mem (List.mem_append_left _ (List.mem_of_getElem? (i := 20) rfl)) rfl
theorem qs_21 : Cond.selects "StateExplorer" ⟨"StateExplorer", "sure", "()I"⟩ ⟨"StateExplorer", "sure", "()I"⟩ ∈ xw_ok := xw_mem (List.mem_append_left _ (List.mem_of_getElem? (i := 21) rfl)) rfl
theorem qs_29 : Cond.selects "StateExplorerModel" ⟨"StateExplorerModel", "fails", "(ZZ)Z"⟩ ⟨"StateExplorerModel", "fails", "(ZZ)Z"⟩ ∈ xw_ok := xw_mem (List.mem_append_left _ (List.mem_of_getElem? (i := 29) rfl)) rfl
theorem qs_30 : Cond.selects "StateExplorerModel" ⟨"StateExplorerModel", "isGate", "(I)Z"⟩ ⟨"StateExplorerModel", "isGate", "(I)Z"⟩ ∈ xw_ok := xw_mem (List.mem_append_left _ (List.mem_of_getElem? (i := 30) rfl)) rfl
theorem qs_31 : Cond.selects "StateExplorerModel" ⟨"StateExplorerModel", "feedsOf", "(I)I"⟩ ⟨"StateExplorerModel", "feedsOf", "(I)I"⟩ ∈ xw_ok := xw_mem (List.mem_append_left _ (List.mem_of_getElem? (i := 31) rfl)) rfl
theorem qs_32 : Cond.selects "StateExplorerModel" ⟨"StateExplorerModel", "states", "()I"⟩ ⟨"StateExplorerModel", "states", "()I"⟩ ∈ xw_ok := xw_mem (List.mem_append_left _ (List.mem_of_getElem? (i := 32) rfl)) rfl
theorem qs_33 : Cond.selects "StateExplorerModel" ⟨"StateExplorerModel", "choices", "()I"⟩ ⟨"StateExplorerModel", "choices", "()I"⟩ ∈ xw_ok := xw_mem (List.mem_append_left _ (List.mem_of_getElem? (i := 33) rfl)) rfl
theorem qs_34 : Cond.selects "StateExplorerModel" ⟨"StateExplorerModel", "work", "(II)V"⟩ ⟨"StateExplorerModel", "work", "(II)V"⟩ ∈ xw_ok := xw_mem (List.mem_append_left _ (List.mem_of_getElem? (i := 34) rfl)) rfl
theorem qs_35 : Cond.selects "StateExplorerModel" ⟨"StateExplorerModel", "again", "()Z"⟩ ⟨"StateExplorerModel", "again", "()Z"⟩ ∈ xw_ok := xw_mem (List.mem_append_left _ (List.mem_of_getElem? (i := 35) rfl)) rfl
theorem qs_36 : Cond.selects "StateExplorerModel" ⟨"StateExplorerModel", "taken", "(I)I"⟩ ⟨"StateExplorerModel", "taken", "(I)I"⟩ ∈ xw_ok := xw_mem (List.mem_append_left _ (List.mem_of_getElem? (i := 36) rfl)) rfl
theorem qs_37 : Cond.selects "StateExplorerModel" ⟨"StateExplorerModel", "tell", "()V"⟩ ⟨"StateExplorerModel", "tell", "()V"⟩ ∈ xw_ok := xw_mem (List.mem_append_left _ (List.mem_of_getElem? (i := 37) rfl)) rfl
theorem qs_38 : Cond.selects "StateExplorerModel" ⟨"StateExplorerModel", "differ", "(II)Z"⟩ ⟨"StateExplorerModel", "differ", "(II)Z"⟩ ∈ xw_ok := xw_mem (List.mem_append_left _ (List.mem_of_getElem? (i := 38) rfl)) rfl
theorem qs_39 : Cond.selects "StateExplorerModel" ⟨"StateExplorerModel", "shows", "(III)Z"⟩ ⟨"StateExplorerModel", "shows", "(III)Z"⟩ ∈ xw_ok := xw_mem (List.mem_append_left _ (List.mem_of_getElem? (i := 39) rfl)) rfl
theorem qs_40 : Cond.selects "StateExplorerModel" ⟨"StateExplorerModel", "reached", "()I"⟩ ⟨"StateExplorerModel", "reached", "()I"⟩ ∈ xw_ok := xw_mem (List.mem_append_left _ (List.mem_of_getElem? (i := 40) rfl)) rfl
theorem qs_41 : Cond.selects "StateExplorerModel" ⟨"StateExplorerModel", "isState", "(I)Z"⟩ ⟨"StateExplorerModel", "isState", "(I)Z"⟩ ∈ xw_ok := xw_mem (List.mem_append_left _ (List.mem_of_getElem? (i := 41) rfl)) rfl
theorem qs_42 : Cond.selects "StateExplorerModel" ⟨"StateExplorerModel", "lead", "(II)V"⟩ ⟨"StateExplorerModel", "lead", "(II)V"⟩ ∈ xw_ok := xw_mem (List.mem_append_left _ (List.mem_of_getElem? (i := 42) rfl)) rfl
theorem qs_43 : Cond.selects "StateExplorerModel" ⟨"StateExplorerModel", "held", "(JZ)I"⟩ ⟨"StateExplorerModel", "held", "(JZ)I"⟩ ∈ xw_ok := xw_mem (List.mem_append_left _ (List.mem_of_getElem? (i := 43) rfl)) rfl
theorem qs_44 : Cond.selects "StateExplorerModel" ⟨"StateExplorerModel", "least", "(I)I"⟩ ⟨"StateExplorerModel", "least", "(I)I"⟩ ∈ xw_ok := xw_mem (List.mem_append_left _ (List.mem_of_getElem? (i := 44) rfl)) rfl
end
section
/-! names and decode rows, printed by mk.py -/
abbrev y_N_mark : MethodName := ⟨"StateExplorer$Nodes", "mark", "(LStateExplorer$Nodes;I)I"⟩
abbrev b_N_mark : ByteArray := prog_2_method_13_code
theorem d_N_mark_0 : decode b_N_mark 0 = .ok (.iload_n 1, 1) := by decide +kernel
theorem d_N_mark_1 : decode b_N_mark 1 = .ok (.iconst 2, 1) := by decide +kernel
theorem d_N_mark_2 : decode b_N_mark 2 = .ok (.if_icmp .lt 12, 3) := by decide +kernel
theorem d_N_mark_5 : decode b_N_mark 5 = .ok (.aload_n 0, 1) := by decide +kernel
theorem d_N_mark_6 : decode b_N_mark 6 = .ok (.getfield 30, 3) := by decide +kernel
theorem d_N_mark_9 : decode b_N_mark 9 = .ok (.iload_n 1, 1) := by decide +kernel
theorem d_N_mark_10 : decode b_N_mark 10 = .ok (.baload, 1) := by decide +kernel
theorem d_N_mark_11 : decode b_N_mark 11 = .ok (.ifCond .eq 5, 3) := by decide +kernel
theorem d_N_mark_14 : decode b_N_mark 14 = .ok (.iconst 0, 1) := by decide +kernel
theorem d_N_mark_15 : decode b_N_mark 15 = .ok (.ireturn, 1) := by decide +kernel
theorem d_N_mark_16 : decode b_N_mark 16 = .ok (.aload_n 0, 1) := by decide +kernel
theorem d_N_mark_17 : decode b_N_mark 17 = .ok (.getfield 30, 3) := by decide +kernel
theorem d_N_mark_20 : decode b_N_mark 20 = .ok (.iload_n 1, 1) := by decide +kernel
theorem d_N_mark_21 : decode b_N_mark 21 = .ok (.iconst 1, 1) := by decide +kernel
theorem d_N_mark_22 : decode b_N_mark 22 = .ok (.bastore, 1) := by decide +kernel
theorem d_N_mark_23 : decode b_N_mark 23 = .ok (.iconst 1, 1) := by decide +kernel
theorem d_N_mark_24 : decode b_N_mark 24 = .ok (.aload_n 0, 1) := by decide +kernel
theorem d_N_mark_25 : decode b_N_mark 25 = .ok (.aload_n 0, 1) := by decide +kernel
theorem d_N_mark_26 : decode b_N_mark 26 = .ok (.getfield 16, 3) := by decide +kernel
theorem d_N_mark_29 : decode b_N_mark 29 = .ok (.iload_n 1, 1) := by decide +kernel
theorem d_N_mark_30 : decode b_N_mark 30 = .ok (.iaload, 1) := by decide +kernel
theorem d_N_mark_31 : decode b_N_mark 31 = .ok (.invokestatic 82, 3) := by decide +kernel
theorem d_N_mark_34 : decode b_N_mark 34 = .ok (.iadd, 1) := by decide +kernel
theorem d_N_mark_35 : decode b_N_mark 35 = .ok (.aload_n 0, 1) := by decide +kernel
theorem d_N_mark_36 : decode b_N_mark 36 = .ok (.aload_n 0, 1) := by decide +kernel
theorem d_N_mark_37 : decode b_N_mark 37 = .ok (.getfield 20, 3) := by decide +kernel
theorem d_N_mark_40 : decode b_N_mark 40 = .ok (.iload_n 1, 1) := by decide +kernel
theorem d_N_mark_41 : decode b_N_mark 41 = .ok (.iaload, 1) := by decide +kernel
theorem d_N_mark_42 : decode b_N_mark 42 = .ok (.invokestatic 82, 3) := by decide +kernel
theorem d_N_mark_45 : decode b_N_mark 45 = .ok (.iadd, 1) := by decide +kernel
theorem d_N_mark_46 : decode b_N_mark 46 = .ok (.ireturn, 1) := by decide +kernel
abbrev y_N_isTight : MethodName := ⟨"StateExplorer$Nodes", "isTight", "()Z"⟩
abbrev b_N_isTight : ByteArray := prog_2_method_12_code
theorem d_N_isTight_0 : decode b_N_isTight 0 = .ok (.aload_n 0, 1) := by decide +kernel
theorem d_N_isTight_1 : decode b_N_isTight 1 = .ok (.getfield 57, 3) := by decide +kernel
theorem d_N_isTight_4 : decode b_N_isTight 4 = .ok (.ldc 81, 2) := by decide +kernel
theorem d_N_isTight_6 : decode b_N_isTight 6 = .ok (.if_icmp .ge 7, 3) := by decide +kernel
theorem d_N_isTight_9 : decode b_N_isTight 9 = .ok (.iconst 1, 1) := by decide +kernel
theorem d_N_isTight_10 : decode b_N_isTight 10 = .ok (.goto 4, 3) := by decide +kernel
theorem d_N_isTight_13 : decode b_N_isTight 13 = .ok (.iconst 0, 1) := by decide +kernel
theorem d_N_isTight_14 : decode b_N_isTight 14 = .ok (.ireturn, 1) := by decide +kernel
abbrev y_N_mixed : MethodName := ⟨"StateExplorer$Nodes", "mixed", "(III)I"⟩
abbrev b_N_mixed : ByteArray := prog_2_method_3_code
theorem d_N_mixed_0 : decode b_N_mixed 0 = .ok (.iload_n 0, 1) := by decide +kernel
theorem d_N_mixed_1 : decode b_N_mixed 1 = .ok (.ldc 63, 2) := by decide +kernel
theorem d_N_mixed_3 : decode b_N_mixed 3 = .ok (.imul, 1) := by decide +kernel
theorem d_N_mixed_4 : decode b_N_mixed 4 = .ok (.iload_n 1, 1) := by decide +kernel
theorem d_N_mixed_5 : decode b_N_mixed 5 = .ok (.ldc 64, 2) := by decide +kernel
theorem d_N_mixed_7 : decode b_N_mixed 7 = .ok (.imul, 1) := by decide +kernel
theorem d_N_mixed_8 : decode b_N_mixed 8 = .ok (.ixor, 1) := by decide +kernel
theorem d_N_mixed_9 : decode b_N_mixed 9 = .ok (.iload_n 2, 1) := by decide +kernel
theorem d_N_mixed_10 : decode b_N_mixed 10 = .ok (.ldc 65, 2) := by decide +kernel
theorem d_N_mixed_12 : decode b_N_mixed 12 = .ok (.imul, 1) := by decide +kernel
theorem d_N_mixed_13 : decode b_N_mixed 13 = .ok (.ixor, 1) := by decide +kernel
theorem d_N_mixed_14 : decode b_N_mixed 14 = .ok (.istore_n 3, 1) := by decide +kernel
theorem d_N_mixed_15 : decode b_N_mixed 15 = .ok (.iload_n 3, 1) := by decide +kernel
theorem d_N_mixed_16 : decode b_N_mixed 16 = .ok (.iload_n 3, 1) := by decide +kernel
theorem d_N_mixed_17 : decode b_N_mixed 17 = .ok (.bipush 15, 2) := by decide +kernel
theorem d_N_mixed_19 : decode b_N_mixed 19 = .ok (.iushr, 1) := by decide +kernel
theorem d_N_mixed_20 : decode b_N_mixed 20 = .ok (.ixor, 1) := by decide +kernel
theorem d_N_mixed_21 : decode b_N_mixed 21 = .ok (.ireturn, 1) := by decide +kernel
abbrev y_N_chain : MethodName := ⟨"StateExplorer$Nodes", "chain", "(III)I"⟩
abbrev b_N_chain : ByteArray := prog_2_method_4_code
theorem d_N_chain_0 : decode b_N_chain 0 = .ok (.iload_n 1, 1) := by decide +kernel
theorem d_N_chain_1 : decode b_N_chain 1 = .ok (.iload_n 2, 1) := by decide +kernel
theorem d_N_chain_2 : decode b_N_chain 2 = .ok (.iload_n 3, 1) := by decide +kernel
theorem d_N_chain_3 : decode b_N_chain 3 = .ok (.invokestatic 66, 3) := by decide +kernel
theorem d_N_chain_6 : decode b_N_chain 6 = .ok (.sipush 32767, 3) := by decide +kernel
theorem d_N_chain_9 : decode b_N_chain 9 = .ok (.iand, 1) := by decide +kernel
theorem d_N_chain_10 : decode b_N_chain 10 = .ok (.ireturn, 1) := by decide +kernel
abbrev y_N_unmark : MethodName := ⟨"StateExplorer$Nodes", "unmark", "()V"⟩
abbrev b_N_unmark : ByteArray := prog_2_method_14_code
theorem d_N_unmark_0 : decode b_N_unmark 0 = .ok (.iconst 0, 1) := by decide +kernel
theorem d_N_unmark_1 : decode b_N_unmark 1 = .ok (.istore_n 1, 1) := by decide +kernel
theorem d_N_unmark_2 : decode b_N_unmark 2 = .ok (.iload_n 1, 1) := by decide +kernel
theorem d_N_unmark_3 : decode b_N_unmark 3 = .ok (.aload_n 0, 1) := by decide +kernel
theorem d_N_unmark_4 : decode b_N_unmark 4 = .ok (.getfield 38, 3) := by decide +kernel
theorem d_N_unmark_7 : decode b_N_unmark 7 = .ok (.if_icmp .ge 16, 3) := by decide +kernel
theorem d_N_unmark_10 : decode b_N_unmark 10 = .ok (.aload_n 0, 1) := by decide +kernel
theorem d_N_unmark_11 : decode b_N_unmark 11 = .ok (.getfield 30, 3) := by decide +kernel
theorem d_N_unmark_14 : decode b_N_unmark 14 = .ok (.iload_n 1, 1) := by decide +kernel
theorem d_N_unmark_15 : decode b_N_unmark 15 = .ok (.iconst 0, 1) := by decide +kernel
theorem d_N_unmark_16 : decode b_N_unmark 16 = .ok (.bastore, 1) := by decide +kernel
theorem d_N_unmark_17 : decode b_N_unmark 17 = .ok (.iinc 1 1, 3) := by decide +kernel
theorem d_N_unmark_20 : decode b_N_unmark 20 = .ok (.goto (-18), 3) := by decide +kernel
theorem d_N_unmark_23 : decode b_N_unmark 23 = .ok (.return_, 1) := by decide +kernel
abbrev y_N_forget : MethodName := ⟨"StateExplorer$Nodes", "forget", "()V"⟩
abbrev b_N_forget : ByteArray := prog_2_method_2_code
theorem d_N_forget_0 : decode b_N_forget 0 = .ok (.iconst 0, 1) := by decide +kernel
theorem d_N_forget_1 : decode b_N_forget 1 = .ok (.istore_n 1, 1) := by decide +kernel
theorem d_N_forget_2 : decode b_N_forget 2 = .ok (.iload_n 1, 1) := by decide +kernel
theorem d_N_forget_3 : decode b_N_forget 3 = .ok (.sipush 16384, 3) := by decide +kernel
theorem d_N_forget_6 : decode b_N_forget 6 = .ok (.if_icmp .ge 16, 3) := by decide +kernel
theorem d_N_forget_9 : decode b_N_forget 9 = .ok (.aload_n 0, 1) := by decide +kernel
theorem d_N_forget_10 : decode b_N_forget 10 = .ok (.getfield 53, 3) := by decide +kernel
theorem d_N_forget_13 : decode b_N_forget 13 = .ok (.iload_n 1, 1) := by decide +kernel
theorem d_N_forget_14 : decode b_N_forget 14 = .ok (.iconst (-1), 1) := by decide +kernel
theorem d_N_forget_15 : decode b_N_forget 15 = .ok (.bastore, 1) := by decide +kernel
theorem d_N_forget_16 : decode b_N_forget 16 = .ok (.iinc 1 1, 3) := by decide +kernel
theorem d_N_forget_19 : decode b_N_forget 19 = .ok (.goto (-17), 3) := by decide +kernel
theorem d_N_forget_22 : decode b_N_forget 22 = .ok (.return_, 1) := by decide +kernel
abbrev y_N_sweep : MethodName := ⟨"StateExplorer$Nodes", "sweep", "()V"⟩
abbrev b_N_sweep : ByteArray := prog_2_method_15_code
theorem d_N_sweep_0 : decode b_N_sweep 0 = .ok (.iconst 0, 1) := by decide +kernel
theorem d_N_sweep_1 : decode b_N_sweep 1 = .ok (.istore_n 1, 1) := by decide +kernel
theorem d_N_sweep_2 : decode b_N_sweep 2 = .ok (.iload_n 1, 1) := by decide +kernel
theorem d_N_sweep_3 : decode b_N_sweep 3 = .ok (.ldc 26, 2) := by decide +kernel
theorem d_N_sweep_5 : decode b_N_sweep 5 = .ok (.if_icmp .ge 16, 3) := by decide +kernel
theorem d_N_sweep_8 : decode b_N_sweep 8 = .ok (.aload_n 0, 1) := by decide +kernel
theorem d_N_sweep_9 : decode b_N_sweep 9 = .ok (.getfield 27, 3) := by decide +kernel
theorem d_N_sweep_12 : decode b_N_sweep 12 = .ok (.iload_n 1, 1) := by decide +kernel
theorem d_N_sweep_13 : decode b_N_sweep 13 = .ok (.iconst (-1), 1) := by decide +kernel
theorem d_N_sweep_14 : decode b_N_sweep 14 = .ok (.iastore, 1) := by decide +kernel
theorem d_N_sweep_15 : decode b_N_sweep 15 = .ok (.iinc 1 1, 3) := by decide +kernel
theorem d_N_sweep_18 : decode b_N_sweep 18 = .ok (.goto (-16), 3) := by decide +kernel
theorem d_N_sweep_21 : decode b_N_sweep 21 = .ok (.aload_n 0, 1) := by decide +kernel
theorem d_N_sweep_22 : decode b_N_sweep 22 = .ok (.iconst (-1), 1) := by decide +kernel
theorem d_N_sweep_23 : decode b_N_sweep 23 = .ok (.putfield 34, 3) := by decide +kernel
theorem d_N_sweep_26 : decode b_N_sweep 26 = .ok (.aload_n 0, 1) := by decide +kernel
theorem d_N_sweep_27 : decode b_N_sweep 27 = .ok (.ldc 11, 2) := by decide +kernel
theorem d_N_sweep_29 : decode b_N_sweep 29 = .ok (.aload_n 0, 1) := by decide +kernel
theorem d_N_sweep_30 : decode b_N_sweep 30 = .ok (.getfield 38, 3) := by decide +kernel
theorem d_N_sweep_33 : decode b_N_sweep 33 = .ok (.isub, 1) := by decide +kernel
theorem d_N_sweep_34 : decode b_N_sweep 34 = .ok (.putfield 57, 3) := by decide +kernel
theorem d_N_sweep_37 : decode b_N_sweep 37 = .ok (.aload_n 0, 1) := by decide +kernel
theorem d_N_sweep_38 : decode b_N_sweep 38 = .ok (.getfield 38, 3) := by decide +kernel
theorem d_N_sweep_41 : decode b_N_sweep 41 = .ok (.iconst 1, 1) := by decide +kernel
theorem d_N_sweep_42 : decode b_N_sweep 42 = .ok (.isub, 1) := by decide +kernel
theorem d_N_sweep_43 : decode b_N_sweep 43 = .ok (.istore_n 1, 1) := by decide +kernel
theorem d_N_sweep_44 : decode b_N_sweep 44 = .ok (.iload_n 1, 1) := by decide +kernel
theorem d_N_sweep_45 : decode b_N_sweep 45 = .ok (.iconst 1, 1) := by decide +kernel
theorem d_N_sweep_46 : decode b_N_sweep 46 = .ok (.if_icmp .le 88, 3) := by decide +kernel
theorem d_N_sweep_49 : decode b_N_sweep 49 = .ok (.aload_n 0, 1) := by decide +kernel
theorem d_N_sweep_50 : decode b_N_sweep 50 = .ok (.getfield 30, 3) := by decide +kernel
theorem d_N_sweep_53 : decode b_N_sweep 53 = .ok (.iload_n 1, 1) := by decide +kernel
theorem d_N_sweep_54 : decode b_N_sweep 54 = .ok (.baload, 1) := by decide +kernel
theorem d_N_sweep_55 : decode b_N_sweep 55 = .ok (.ifCond .eq 48, 3) := by decide +kernel
theorem d_N_sweep_58 : decode b_N_sweep 58 = .ok (.aload_n 0, 1) := by decide +kernel
theorem d_N_sweep_59 : decode b_N_sweep 59 = .ok (.aload_n 0, 1) := by decide +kernel
theorem d_N_sweep_60 : decode b_N_sweep 60 = .ok (.getfield 12, 3) := by decide +kernel
theorem d_N_sweep_63 : decode b_N_sweep 63 = .ok (.iload_n 1, 1) := by decide +kernel
theorem d_N_sweep_64 : decode b_N_sweep 64 = .ok (.baload, 1) := by decide +kernel
theorem d_N_sweep_65 : decode b_N_sweep 65 = .ok (.aload_n 0, 1) := by decide +kernel
theorem d_N_sweep_66 : decode b_N_sweep 66 = .ok (.getfield 16, 3) := by decide +kernel
theorem d_N_sweep_69 : decode b_N_sweep 69 = .ok (.iload_n 1, 1) := by decide +kernel
theorem d_N_sweep_70 : decode b_N_sweep 70 = .ok (.iaload, 1) := by decide +kernel
theorem d_N_sweep_71 : decode b_N_sweep 71 = .ok (.aload_n 0, 1) := by decide +kernel
theorem d_N_sweep_72 : decode b_N_sweep 72 = .ok (.getfield 20, 3) := by decide +kernel
theorem d_N_sweep_75 : decode b_N_sweep 75 = .ok (.iload_n 1, 1) := by decide +kernel
theorem d_N_sweep_76 : decode b_N_sweep 76 = .ok (.iaload, 1) := by decide +kernel
theorem d_N_sweep_77 : decode b_N_sweep 77 = .ok (.invokevirtual 70, 3) := by decide +kernel
theorem d_N_sweep_80 : decode b_N_sweep 80 = .ok (.istore_n 2, 1) := by decide +kernel
theorem d_N_sweep_81 : decode b_N_sweep 81 = .ok (.aload_n 0, 1) := by decide +kernel
theorem d_N_sweep_82 : decode b_N_sweep 82 = .ok (.getfield 23, 3) := by decide +kernel
theorem d_N_sweep_85 : decode b_N_sweep 85 = .ok (.iload_n 1, 1) := by decide +kernel
theorem d_N_sweep_86 : decode b_N_sweep 86 = .ok (.aload_n 0, 1) := by decide +kernel
theorem d_N_sweep_87 : decode b_N_sweep 87 = .ok (.getfield 27, 3) := by decide +kernel
theorem d_N_sweep_90 : decode b_N_sweep 90 = .ok (.iload_n 2, 1) := by decide +kernel
theorem d_N_sweep_91 : decode b_N_sweep 91 = .ok (.iaload, 1) := by decide +kernel
theorem d_N_sweep_92 : decode b_N_sweep 92 = .ok (.iastore, 1) := by decide +kernel
theorem d_N_sweep_93 : decode b_N_sweep 93 = .ok (.aload_n 0, 1) := by decide +kernel
theorem d_N_sweep_94 : decode b_N_sweep 94 = .ok (.getfield 27, 3) := by decide +kernel
theorem d_N_sweep_97 : decode b_N_sweep 97 = .ok (.iload_n 2, 1) := by decide +kernel
theorem d_N_sweep_98 : decode b_N_sweep 98 = .ok (.iload_n 1, 1) := by decide +kernel
theorem d_N_sweep_99 : decode b_N_sweep 99 = .ok (.iastore, 1) := by decide +kernel
theorem d_N_sweep_100 : decode b_N_sweep 100 = .ok (.goto 28, 3) := by decide +kernel
theorem d_N_sweep_103 : decode b_N_sweep 103 = .ok (.aload_n 0, 1) := by decide +kernel
theorem d_N_sweep_104 : decode b_N_sweep 104 = .ok (.getfield 23, 3) := by decide +kernel
theorem d_N_sweep_107 : decode b_N_sweep 107 = .ok (.iload_n 1, 1) := by decide +kernel
theorem d_N_sweep_108 : decode b_N_sweep 108 = .ok (.aload_n 0, 1) := by decide +kernel
theorem d_N_sweep_109 : decode b_N_sweep 109 = .ok (.getfield 34, 3) := by decide +kernel
theorem d_N_sweep_112 : decode b_N_sweep 112 = .ok (.iastore, 1) := by decide +kernel
theorem d_N_sweep_113 : decode b_N_sweep 113 = .ok (.aload_n 0, 1) := by decide +kernel
theorem d_N_sweep_114 : decode b_N_sweep 114 = .ok (.iload_n 1, 1) := by decide +kernel
theorem d_N_sweep_115 : decode b_N_sweep 115 = .ok (.putfield 34, 3) := by decide +kernel
theorem d_N_sweep_118 : decode b_N_sweep 118 = .ok (.aload_n 0, 1) := by decide +kernel
theorem d_N_sweep_119 : decode b_N_sweep 119 = .ok (.dup, 1) := by decide +kernel
theorem d_N_sweep_120 : decode b_N_sweep 120 = .ok (.getfield 57, 3) := by decide +kernel
theorem d_N_sweep_123 : decode b_N_sweep 123 = .ok (.iconst 1, 1) := by decide +kernel
theorem d_N_sweep_124 : decode b_N_sweep 124 = .ok (.iadd, 1) := by decide +kernel
theorem d_N_sweep_125 : decode b_N_sweep 125 = .ok (.putfield 57, 3) := by decide +kernel
theorem d_N_sweep_128 : decode b_N_sweep 128 = .ok (.iinc 1 (-1), 3) := by decide +kernel
theorem d_N_sweep_131 : decode b_N_sweep 131 = .ok (.goto (-87), 3) := by decide +kernel
theorem d_N_sweep_134 : decode b_N_sweep 134 = .ok (.aload_n 0, 1) := by decide +kernel
theorem d_N_sweep_135 : decode b_N_sweep 135 = .ok (.invokevirtual 86, 3) := by decide +kernel
theorem d_N_sweep_138 : decode b_N_sweep 138 = .ok (.aload_n 0, 1) := by decide +kernel
theorem d_N_sweep_139 : decode b_N_sweep 139 = .ok (.invokevirtual 60, 3) := by decide +kernel
theorem d_N_sweep_142 : decode b_N_sweep 142 = .ok (.return_, 1) := by decide +kernel
abbrev y_N_level : MethodName := ⟨"StateExplorer$Nodes", "level", "(I)I"⟩
abbrev b_N_level : ByteArray := prog_2_method_8_code
theorem d_N_level_0 : decode b_N_level 0 = .ok (.aload_n 0, 1) := by decide +kernel
theorem d_N_level_1 : decode b_N_level 1 = .ok (.getfield 12, 3) := by decide +kernel
theorem d_N_level_4 : decode b_N_level 4 = .ok (.iload_n 1, 1) := by decide +kernel
theorem d_N_level_5 : decode b_N_level 5 = .ok (.baload, 1) := by decide +kernel
theorem d_N_level_6 : decode b_N_level 6 = .ok (.ireturn, 1) := by decide +kernel
abbrev y_X_first : MethodName := ⟨"StateExplorer", "first", "(LStateExplorer$Nodes;III)I"⟩
abbrev b_X_first : ByteArray := prog_1_method_11_code
theorem d_X_first_0 : decode b_X_first 0 = .ok (.aload_n 0, 1) := by decide +kernel
theorem d_X_first_1 : decode b_X_first 1 = .ok (.iload_n 1, 1) := by decide +kernel
theorem d_X_first_2 : decode b_X_first 2 = .ok (.invokevirtual 133, 3) := by decide +kernel
theorem d_X_first_5 : decode b_X_first 5 = .ok (.aload_n 0, 1) := by decide +kernel
theorem d_X_first_6 : decode b_X_first 6 = .ok (.iload_n 2, 1) := by decide +kernel
theorem d_X_first_7 : decode b_X_first 7 = .ok (.invokevirtual 133, 3) := by decide +kernel
theorem d_X_first_10 : decode b_X_first 10 = .ok (.aload_n 0, 1) := by decide +kernel
theorem d_X_first_11 : decode b_X_first 11 = .ok (.iload_n 3, 1) := by decide +kernel
theorem d_X_first_12 : decode b_X_first 12 = .ok (.invokevirtual 133, 3) := by decide +kernel
theorem d_X_first_15 : decode b_X_first 15 = .ok (.invokestatic 136, 3) := by decide +kernel
theorem d_X_first_18 : decode b_X_first 18 = .ok (.invokestatic 136, 3) := by decide +kernel
theorem d_X_first_21 : decode b_X_first 21 = .ok (.ireturn, 1) := by decide +kernel
abbrev y_N_place : MethodName := ⟨"StateExplorer$Nodes", "place", "(IIII)I"⟩
abbrev b_N_place : ByteArray := prog_2_method_9_code
theorem d_N_place_0 : decode b_N_place 0 = .ok (.iload_n 2, 1) := by decide +kernel
theorem d_N_place_1 : decode b_N_place 1 = .ok (.iload_n 1, 1) := by decide +kernel
theorem d_N_place_2 : decode b_N_place 2 = .ok (.iadd, 1) := by decide +kernel
theorem d_N_place_3 : decode b_N_place 3 = .ok (.iload_n 3, 1) := by decide +kernel
theorem d_N_place_4 : decode b_N_place 4 = .ok (.iload 4, 2) := by decide +kernel
theorem d_N_place_6 : decode b_N_place 6 = .ok (.invokestatic 66, 3) := by decide +kernel
theorem d_N_place_9 : decode b_N_place 9 = .ok (.sipush 16383, 3) := by decide +kernel
theorem d_N_place_12 : decode b_N_place 12 = .ok (.iand, 1) := by decide +kernel
theorem d_N_place_13 : decode b_N_place 13 = .ok (.ireturn, 1) := by decide +kernel
abbrev y_N_known : MethodName := ⟨"StateExplorer$Nodes", "known", "(IIII)I"⟩
abbrev b_N_known : ByteArray := prog_2_method_10_code
theorem d_N_known_0 : decode b_N_known 0 = .ok (.aload_n 0, 1) := by decide +kernel
theorem d_N_known_1 : decode b_N_known 1 = .ok (.iload_n 1, 1) := by decide +kernel
theorem d_N_known_2 : decode b_N_known 2 = .ok (.iload_n 2, 1) := by decide +kernel
theorem d_N_known_3 : decode b_N_known 3 = .ok (.iload_n 3, 1) := by decide +kernel
theorem d_N_known_4 : decode b_N_known 4 = .ok (.iload 4, 2) := by decide +kernel
theorem d_N_known_6 : decode b_N_known 6 = .ok (.invokevirtual 77, 3) := by decide +kernel
theorem d_N_known_9 : decode b_N_known 9 = .ok (.istore 5, 2) := by decide +kernel
theorem d_N_known_11 : decode b_N_known 11 = .ok (.aload_n 0, 1) := by decide +kernel
theorem d_N_known_12 : decode b_N_known 12 = .ok (.getfield 53, 3) := by decide +kernel
theorem d_N_known_15 : decode b_N_known 15 = .ok (.iload 5, 2) := by decide +kernel
theorem d_N_known_17 : decode b_N_known 17 = .ok (.baload, 1) := by decide +kernel
theorem d_N_known_18 : decode b_N_known 18 = .ok (.iload_n 1, 1) := by decide +kernel
theorem d_N_known_19 : decode b_N_known 19 = .ok (.if_icmp .ne 47, 3) := by decide +kernel
theorem d_N_known_22 : decode b_N_known 22 = .ok (.aload_n 0, 1) := by decide +kernel
theorem d_N_known_23 : decode b_N_known 23 = .ok (.getfield 41, 3) := by decide +kernel
theorem d_N_known_26 : decode b_N_known 26 = .ok (.iload 5, 2) := by decide +kernel
theorem d_N_known_28 : decode b_N_known 28 = .ok (.iaload, 1) := by decide +kernel
theorem d_N_known_29 : decode b_N_known 29 = .ok (.iload_n 2, 1) := by decide +kernel
theorem d_N_known_30 : decode b_N_known 30 = .ok (.if_icmp .ne 36, 3) := by decide +kernel
theorem d_N_known_33 : decode b_N_known 33 = .ok (.aload_n 0, 1) := by decide +kernel
theorem d_N_known_34 : decode b_N_known 34 = .ok (.getfield 44, 3) := by decide +kernel
theorem d_N_known_37 : decode b_N_known 37 = .ok (.iload 5, 2) := by decide +kernel
theorem d_N_known_39 : decode b_N_known 39 = .ok (.iaload, 1) := by decide +kernel
theorem d_N_known_40 : decode b_N_known 40 = .ok (.iload_n 3, 1) := by decide +kernel
theorem d_N_known_41 : decode b_N_known 41 = .ok (.if_icmp .ne 25, 3) := by decide +kernel
theorem d_N_known_44 : decode b_N_known 44 = .ok (.aload_n 0, 1) := by decide +kernel
theorem d_N_known_45 : decode b_N_known 45 = .ok (.getfield 47, 3) := by decide +kernel
theorem d_N_known_48 : decode b_N_known 48 = .ok (.iload 5, 2) := by decide +kernel
theorem d_N_known_50 : decode b_N_known 50 = .ok (.iaload, 1) := by decide +kernel
theorem d_N_known_51 : decode b_N_known 51 = .ok (.iload 4, 2) := by decide +kernel
theorem d_N_known_53 : decode b_N_known 53 = .ok (.if_icmp .ne 13, 3) := by decide +kernel
theorem d_N_known_56 : decode b_N_known 56 = .ok (.aload_n 0, 1) := by decide +kernel
theorem d_N_known_57 : decode b_N_known 57 = .ok (.getfield 50, 3) := by decide +kernel
theorem d_N_known_60 : decode b_N_known 60 = .ok (.iload 5, 2) := by decide +kernel
theorem d_N_known_62 : decode b_N_known 62 = .ok (.iaload, 1) := by decide +kernel
theorem d_N_known_63 : decode b_N_known 63 = .ok (.goto 4, 3) := by decide +kernel
theorem d_N_known_66 : decode b_N_known 66 = .ok (.iconst (-1), 1) := by decide +kernel
theorem d_N_known_67 : decode b_N_known 67 = .ok (.ireturn, 1) := by decide +kernel
abbrev y_N_cofactor : MethodName := ⟨"StateExplorer$Nodes", "cofactor", "(IIZ)I"⟩
abbrev b_N_cofactor : ByteArray := prog_2_method_7_code
theorem d_N_cofactor_0 : decode b_N_cofactor 0 = .ok (.aload_n 0, 1) := by decide +kernel
theorem d_N_cofactor_1 : decode b_N_cofactor 1 = .ok (.getfield 12, 3) := by decide +kernel
theorem d_N_cofactor_4 : decode b_N_cofactor 4 = .ok (.iload_n 1, 1) := by decide +kernel
theorem d_N_cofactor_5 : decode b_N_cofactor 5 = .ok (.baload, 1) := by decide +kernel
theorem d_N_cofactor_6 : decode b_N_cofactor 6 = .ok (.iload_n 2, 1) := by decide +kernel
theorem d_N_cofactor_7 : decode b_N_cofactor 7 = .ok (.if_icmp .eq 7, 3) := by decide +kernel
theorem d_N_cofactor_10 : decode b_N_cofactor 10 = .ok (.iload_n 1, 1) := by decide +kernel
theorem d_N_cofactor_11 : decode b_N_cofactor 11 = .ok (.goto 22, 3) := by decide +kernel
theorem d_N_cofactor_14 : decode b_N_cofactor 14 = .ok (.iload_n 3, 1) := by decide +kernel
theorem d_N_cofactor_15 : decode b_N_cofactor 15 = .ok (.ifCond .eq 12, 3) := by decide +kernel
theorem d_N_cofactor_18 : decode b_N_cofactor 18 = .ok (.aload_n 0, 1) := by decide +kernel
theorem d_N_cofactor_19 : decode b_N_cofactor 19 = .ok (.getfield 20, 3) := by decide +kernel
theorem d_N_cofactor_22 : decode b_N_cofactor 22 = .ok (.iload_n 1, 1) := by decide +kernel
theorem d_N_cofactor_23 : decode b_N_cofactor 23 = .ok (.iaload, 1) := by decide +kernel
theorem d_N_cofactor_24 : decode b_N_cofactor 24 = .ok (.goto 9, 3) := by decide +kernel
theorem d_N_cofactor_27 : decode b_N_cofactor 27 = .ok (.aload_n 0, 1) := by decide +kernel
theorem d_N_cofactor_28 : decode b_N_cofactor 28 = .ok (.getfield 16, 3) := by decide +kernel
theorem d_N_cofactor_31 : decode b_N_cofactor 31 = .ok (.iload_n 1, 1) := by decide +kernel
theorem d_N_cofactor_32 : decode b_N_cofactor 32 = .ok (.iaload, 1) := by decide +kernel
theorem d_N_cofactor_33 : decode b_N_cofactor 33 = .ok (.ireturn, 1) := by decide +kernel
abbrev y_N_take : MethodName := ⟨"StateExplorer$Nodes", "take", "()I"⟩
abbrev b_N_take : ByteArray := prog_2_method_6_code
theorem d_N_take_0 : decode b_N_take 0 = .ok (.aload_n 0, 1) := by decide +kernel
theorem d_N_take_1 : decode b_N_take 1 = .ok (.dup, 1) := by decide +kernel
theorem d_N_take_2 : decode b_N_take 2 = .ok (.getfield 57, 3) := by decide +kernel
theorem d_N_take_5 : decode b_N_take 5 = .ok (.iconst 1, 1) := by decide +kernel
theorem d_N_take_6 : decode b_N_take 6 = .ok (.isub, 1) := by decide +kernel
theorem d_N_take_7 : decode b_N_take 7 = .ok (.putfield 57, 3) := by decide +kernel
theorem d_N_take_10 : decode b_N_take 10 = .ok (.aload_n 0, 1) := by decide +kernel
theorem d_N_take_11 : decode b_N_take 11 = .ok (.getfield 34, 3) := by decide +kernel
theorem d_N_take_14 : decode b_N_take 14 = .ok (.iconst (-1), 1) := by decide +kernel
theorem d_N_take_15 : decode b_N_take 15 = .ok (.if_icmp .ne 20, 3) := by decide +kernel
theorem d_N_take_18 : decode b_N_take 18 = .ok (.aload_n 0, 1) := by decide +kernel
theorem d_N_take_19 : decode b_N_take 19 = .ok (.dup, 1) := by decide +kernel
theorem d_N_take_20 : decode b_N_take 20 = .ok (.getfield 38, 3) := by decide +kernel
theorem d_N_take_23 : decode b_N_take 23 = .ok (.iconst 1, 1) := by decide +kernel
theorem d_N_take_24 : decode b_N_take 24 = .ok (.iadd, 1) := by decide +kernel
theorem d_N_take_25 : decode b_N_take 25 = .ok (.putfield 38, 3) := by decide +kernel
theorem d_N_take_28 : decode b_N_take 28 = .ok (.aload_n 0, 1) := by decide +kernel
theorem d_N_take_29 : decode b_N_take 29 = .ok (.getfield 38, 3) := by decide +kernel
theorem d_N_take_32 : decode b_N_take 32 = .ok (.iconst 1, 1) := by decide +kernel
theorem d_N_take_33 : decode b_N_take 33 = .ok (.isub, 1) := by decide +kernel
theorem d_N_take_34 : decode b_N_take 34 = .ok (.ireturn, 1) := by decide +kernel
theorem d_N_take_35 : decode b_N_take 35 = .ok (.aload_n 0, 1) := by decide +kernel
theorem d_N_take_36 : decode b_N_take 36 = .ok (.getfield 34, 3) := by decide +kernel
theorem d_N_take_39 : decode b_N_take 39 = .ok (.istore_n 1, 1) := by decide +kernel
theorem d_N_take_40 : decode b_N_take 40 = .ok (.aload_n 0, 1) := by decide +kernel
theorem d_N_take_41 : decode b_N_take 41 = .ok (.aload_n 0, 1) := by decide +kernel
theorem d_N_take_42 : decode b_N_take 42 = .ok (.getfield 23, 3) := by decide +kernel
theorem d_N_take_45 : decode b_N_take 45 = .ok (.iload_n 1, 1) := by decide +kernel
theorem d_N_take_46 : decode b_N_take 46 = .ok (.iaload, 1) := by decide +kernel
theorem d_N_take_47 : decode b_N_take 47 = .ok (.putfield 34, 3) := by decide +kernel
theorem d_N_take_50 : decode b_N_take 50 = .ok (.iload_n 1, 1) := by decide +kernel
theorem d_N_take_51 : decode b_N_take 51 = .ok (.ireturn, 1) := by decide +kernel
abbrev y_N_node : MethodName := ⟨"StateExplorer$Nodes", "node", "(III)I"⟩
abbrev b_N_node : ByteArray := prog_2_method_5_code
theorem d_N_node_0 : decode b_N_node 0 = .ok (.iload_n 2, 1) := by decide +kernel
theorem d_N_node_1 : decode b_N_node 1 = .ok (.iload_n 3, 1) := by decide +kernel
theorem d_N_node_2 : decode b_N_node 2 = .ok (.if_icmp .ne 5, 3) := by decide +kernel
theorem d_N_node_5 : decode b_N_node 5 = .ok (.iload_n 2, 1) := by decide +kernel
theorem d_N_node_6 : decode b_N_node 6 = .ok (.ireturn, 1) := by decide +kernel
theorem d_N_node_7 : decode b_N_node 7 = .ok (.aload_n 0, 1) := by decide +kernel
theorem d_N_node_8 : decode b_N_node 8 = .ok (.iload_n 1, 1) := by decide +kernel
theorem d_N_node_9 : decode b_N_node 9 = .ok (.iload_n 2, 1) := by decide +kernel
theorem d_N_node_10 : decode b_N_node 10 = .ok (.iload_n 3, 1) := by decide +kernel
theorem d_N_node_11 : decode b_N_node 11 = .ok (.invokevirtual 70, 3) := by decide +kernel
theorem d_N_node_14 : decode b_N_node 14 = .ok (.istore 4, 2) := by decide +kernel
theorem d_N_node_16 : decode b_N_node 16 = .ok (.aload_n 0, 1) := by decide +kernel
theorem d_N_node_17 : decode b_N_node 17 = .ok (.getfield 27, 3) := by decide +kernel
theorem d_N_node_20 : decode b_N_node 20 = .ok (.iload 4, 2) := by decide +kernel
theorem d_N_node_22 : decode b_N_node 22 = .ok (.iaload, 1) := by decide +kernel
theorem d_N_node_23 : decode b_N_node 23 = .ok (.istore 5, 2) := by decide +kernel
theorem d_N_node_25 : decode b_N_node 25 = .ok (.iload 5, 2) := by decide +kernel
theorem d_N_node_27 : decode b_N_node 27 = .ok (.iconst (-1), 1) := by decide +kernel
theorem d_N_node_28 : decode b_N_node 28 = .ok (.if_icmp .eq 48, 3) := by decide +kernel
theorem d_N_node_31 : decode b_N_node 31 = .ok (.aload_n 0, 1) := by decide +kernel
theorem d_N_node_32 : decode b_N_node 32 = .ok (.getfield 12, 3) := by decide +kernel
theorem d_N_node_35 : decode b_N_node 35 = .ok (.iload 5, 2) := by decide +kernel
theorem d_N_node_37 : decode b_N_node 37 = .ok (.baload, 1) := by decide +kernel
theorem d_N_node_38 : decode b_N_node 38 = .ok (.iload_n 1, 1) := by decide +kernel
theorem d_N_node_39 : decode b_N_node 39 = .ok (.if_icmp .ne 25, 3) := by decide +kernel
theorem d_N_node_42 : decode b_N_node 42 = .ok (.aload_n 0, 1) := by decide +kernel
theorem d_N_node_43 : decode b_N_node 43 = .ok (.getfield 16, 3) := by decide +kernel
theorem d_N_node_46 : decode b_N_node 46 = .ok (.iload 5, 2) := by decide +kernel
theorem d_N_node_48 : decode b_N_node 48 = .ok (.iaload, 1) := by decide +kernel
theorem d_N_node_49 : decode b_N_node 49 = .ok (.iload_n 2, 1) := by decide +kernel
theorem d_N_node_50 : decode b_N_node 50 = .ok (.if_icmp .ne 14, 3) := by decide +kernel
theorem d_N_node_53 : decode b_N_node 53 = .ok (.aload_n 0, 1) := by decide +kernel
theorem d_N_node_54 : decode b_N_node 54 = .ok (.getfield 20, 3) := by decide +kernel
theorem d_N_node_57 : decode b_N_node 57 = .ok (.iload 5, 2) := by decide +kernel
theorem d_N_node_59 : decode b_N_node 59 = .ok (.iaload, 1) := by decide +kernel
theorem d_N_node_60 : decode b_N_node 60 = .ok (.iload_n 3, 1) := by decide +kernel
theorem d_N_node_61 : decode b_N_node 61 = .ok (.if_icmp .eq 15, 3) := by decide +kernel
theorem d_N_node_64 : decode b_N_node 64 = .ok (.aload_n 0, 1) := by decide +kernel
theorem d_N_node_65 : decode b_N_node 65 = .ok (.getfield 23, 3) := by decide +kernel
theorem d_N_node_68 : decode b_N_node 68 = .ok (.iload 5, 2) := by decide +kernel
theorem d_N_node_70 : decode b_N_node 70 = .ok (.iaload, 1) := by decide +kernel
theorem d_N_node_71 : decode b_N_node 71 = .ok (.istore 5, 2) := by decide +kernel
theorem d_N_node_73 : decode b_N_node 73 = .ok (.goto (-48), 3) := by decide +kernel
theorem d_N_node_76 : decode b_N_node 76 = .ok (.iload 5, 2) := by decide +kernel
theorem d_N_node_78 : decode b_N_node 78 = .ok (.iconst (-1), 1) := by decide +kernel
theorem d_N_node_79 : decode b_N_node 79 = .ok (.if_icmp .eq 6, 3) := by decide +kernel
theorem d_N_node_82 : decode b_N_node 82 = .ok (.iload 5, 2) := by decide +kernel
theorem d_N_node_84 : decode b_N_node 84 = .ok (.ireturn, 1) := by decide +kernel
theorem d_N_node_85 : decode b_N_node 85 = .ok (.aload_n 0, 1) := by decide +kernel
theorem d_N_node_86 : decode b_N_node 86 = .ok (.invokevirtual 73, 3) := by decide +kernel
theorem d_N_node_89 : decode b_N_node 89 = .ok (.istore 5, 2) := by decide +kernel
theorem d_N_node_91 : decode b_N_node 91 = .ok (.aload_n 0, 1) := by decide +kernel
theorem d_N_node_92 : decode b_N_node 92 = .ok (.getfield 12, 3) := by decide +kernel
theorem d_N_node_95 : decode b_N_node 95 = .ok (.iload 5, 2) := by decide +kernel
theorem d_N_node_97 : decode b_N_node 97 = .ok (.iload_n 1, 1) := by decide +kernel
theorem d_N_node_98 : decode b_N_node 98 = .ok (.i2b, 1) := by decide +kernel
theorem d_N_node_99 : decode b_N_node 99 = .ok (.bastore, 1) := by decide +kernel
theorem d_N_node_100 : decode b_N_node 100 = .ok (.aload_n 0, 1) := by decide +kernel
theorem d_N_node_101 : decode b_N_node 101 = .ok (.getfield 16, 3) := by decide +kernel
theorem d_N_node_104 : decode b_N_node 104 = .ok (.iload 5, 2) := by decide +kernel
theorem d_N_node_106 : decode b_N_node 106 = .ok (.iload_n 2, 1) := by decide +kernel
theorem d_N_node_107 : decode b_N_node 107 = .ok (.iastore, 1) := by decide +kernel
theorem d_N_node_108 : decode b_N_node 108 = .ok (.aload_n 0, 1) := by decide +kernel
theorem d_N_node_109 : decode b_N_node 109 = .ok (.getfield 20, 3) := by decide +kernel
theorem d_N_node_112 : decode b_N_node 112 = .ok (.iload 5, 2) := by decide +kernel
theorem d_N_node_114 : decode b_N_node 114 = .ok (.iload_n 3, 1) := by decide +kernel
theorem d_N_node_115 : decode b_N_node 115 = .ok (.iastore, 1) := by decide +kernel
theorem d_N_node_116 : decode b_N_node 116 = .ok (.aload_n 0, 1) := by decide +kernel
theorem d_N_node_117 : decode b_N_node 117 = .ok (.getfield 23, 3) := by decide +kernel
theorem d_N_node_120 : decode b_N_node 120 = .ok (.iload 5, 2) := by decide +kernel
theorem d_N_node_122 : decode b_N_node 122 = .ok (.aload_n 0, 1) := by decide +kernel
theorem d_N_node_123 : decode b_N_node 123 = .ok (.getfield 27, 3) := by decide +kernel
theorem d_N_node_126 : decode b_N_node 126 = .ok (.iload 4, 2) := by decide +kernel
theorem d_N_node_128 : decode b_N_node 128 = .ok (.iaload, 1) := by decide +kernel
theorem d_N_node_129 : decode b_N_node 129 = .ok (.iastore, 1) := by decide +kernel
theorem d_N_node_130 : decode b_N_node 130 = .ok (.aload_n 0, 1) := by decide +kernel
theorem d_N_node_131 : decode b_N_node 131 = .ok (.getfield 27, 3) := by decide +kernel
theorem d_N_node_134 : decode b_N_node 134 = .ok (.iload 4, 2) := by decide +kernel
theorem d_N_node_136 : decode b_N_node 136 = .ok (.iload 5, 2) := by decide +kernel
theorem d_N_node_138 : decode b_N_node 138 = .ok (.iastore, 1) := by decide +kernel
theorem d_N_node_139 : decode b_N_node 139 = .ok (.iload 5, 2) := by decide +kernel
theorem d_N_node_141 : decode b_N_node 141 = .ok (.ireturn, 1) := by decide +kernel
abbrev y_N_learn : MethodName := ⟨"StateExplorer$Nodes", "learn", "(IIIII)I"⟩
abbrev b_N_learn : ByteArray := prog_2_method_11_code
theorem d_N_learn_0 : decode b_N_learn 0 = .ok (.aload_n 0, 1) := by decide +kernel
theorem d_N_learn_1 : decode b_N_learn 1 = .ok (.iload_n 1, 1) := by decide +kernel
theorem d_N_learn_2 : decode b_N_learn 2 = .ok (.iload_n 2, 1) := by decide +kernel
theorem d_N_learn_3 : decode b_N_learn 3 = .ok (.iload_n 3, 1) := by decide +kernel
theorem d_N_learn_4 : decode b_N_learn 4 = .ok (.iload 4, 2) := by decide +kernel
theorem d_N_learn_6 : decode b_N_learn 6 = .ok (.invokevirtual 77, 3) := by decide +kernel
theorem d_N_learn_9 : decode b_N_learn 9 = .ok (.istore 6, 2) := by decide +kernel
theorem d_N_learn_11 : decode b_N_learn 11 = .ok (.aload_n 0, 1) := by decide +kernel
theorem d_N_learn_12 : decode b_N_learn 12 = .ok (.getfield 53, 3) := by decide +kernel
theorem d_N_learn_15 : decode b_N_learn 15 = .ok (.iload 6, 2) := by decide +kernel
theorem d_N_learn_17 : decode b_N_learn 17 = .ok (.iload_n 1, 1) := by decide +kernel
theorem d_N_learn_18 : decode b_N_learn 18 = .ok (.i2b, 1) := by decide +kernel
theorem d_N_learn_19 : decode b_N_learn 19 = .ok (.bastore, 1) := by decide +kernel
theorem d_N_learn_20 : decode b_N_learn 20 = .ok (.aload_n 0, 1) := by decide +kernel
theorem d_N_learn_21 : decode b_N_learn 21 = .ok (.getfield 41, 3) := by decide +kernel
theorem d_N_learn_24 : decode b_N_learn 24 = .ok (.iload 6, 2) := by decide +kernel
theorem d_N_learn_26 : decode b_N_learn 26 = .ok (.iload_n 2, 1) := by decide +kernel
theorem d_N_learn_27 : decode b_N_learn 27 = .ok (.iastore, 1) := by decide +kernel
theorem d_N_learn_28 : decode b_N_learn 28 = .ok (.aload_n 0, 1) := by decide +kernel
theorem d_N_learn_29 : decode b_N_learn 29 = .ok (.getfield 44, 3) := by decide +kernel
theorem d_N_learn_32 : decode b_N_learn 32 = .ok (.iload 6, 2) := by decide +kernel
theorem d_N_learn_34 : decode b_N_learn 34 = .ok (.iload_n 3, 1) := by decide +kernel
theorem d_N_learn_35 : decode b_N_learn 35 = .ok (.iastore, 1) := by decide +kernel
theorem d_N_learn_36 : decode b_N_learn 36 = .ok (.aload_n 0, 1) := by decide +kernel
theorem d_N_learn_37 : decode b_N_learn 37 = .ok (.getfield 47, 3) := by decide +kernel
theorem d_N_learn_40 : decode b_N_learn 40 = .ok (.iload 6, 2) := by decide +kernel
theorem d_N_learn_42 : decode b_N_learn 42 = .ok (.iload 4, 2) := by decide +kernel
theorem d_N_learn_44 : decode b_N_learn 44 = .ok (.iastore, 1) := by decide +kernel
theorem d_N_learn_45 : decode b_N_learn 45 = .ok (.aload_n 0, 1) := by decide +kernel
theorem d_N_learn_46 : decode b_N_learn 46 = .ok (.getfield 50, 3) := by decide +kernel
theorem d_N_learn_49 : decode b_N_learn 49 = .ok (.iload 6, 2) := by decide +kernel
theorem d_N_learn_51 : decode b_N_learn 51 = .ok (.iload 5, 2) := by decide +kernel
theorem d_N_learn_53 : decode b_N_learn 53 = .ok (.iastore, 1) := by decide +kernel
theorem d_N_learn_54 : decode b_N_learn 54 = .ok (.iload 5, 2) := by decide +kernel
theorem d_N_learn_56 : decode b_N_learn 56 = .ok (.ireturn, 1) := by decide +kernel
abbrev y_X_chosen : MethodName := ⟨"StateExplorer", "chosen", "(LStateExplorer$Nodes;III)I"⟩
abbrev b_X_chosen : ByteArray := prog_1_method_12_code
theorem d_X_chosen_0 : decode b_X_chosen 0 = .ok (.iload_n 1, 1) := by decide +kernel
theorem d_X_chosen_1 : decode b_X_chosen 1 = .ok (.iconst 1, 1) := by decide +kernel
theorem d_X_chosen_2 : decode b_X_chosen 2 = .ok (.if_icmp .eq 8, 3) := by decide +kernel
theorem d_X_chosen_5 : decode b_X_chosen 5 = .ok (.iload_n 2, 1) := by decide +kernel
theorem d_X_chosen_6 : decode b_X_chosen 6 = .ok (.iload_n 3, 1) := by decide +kernel
theorem d_X_chosen_7 : decode b_X_chosen 7 = .ok (.if_icmp .ne 5, 3) := by decide +kernel
theorem d_X_chosen_10 : decode b_X_chosen 10 = .ok (.iload_n 2, 1) := by decide +kernel
theorem d_X_chosen_11 : decode b_X_chosen 11 = .ok (.ireturn, 1) := by decide +kernel
theorem d_X_chosen_12 : decode b_X_chosen 12 = .ok (.iload_n 1, 1) := by decide +kernel
theorem d_X_chosen_13 : decode b_X_chosen 13 = .ok (.ifCond .ne 5, 3) := by decide +kernel
theorem d_X_chosen_16 : decode b_X_chosen 16 = .ok (.iload_n 3, 1) := by decide +kernel
theorem d_X_chosen_17 : decode b_X_chosen 17 = .ok (.ireturn, 1) := by decide +kernel
theorem d_X_chosen_18 : decode b_X_chosen 18 = .ok (.iload_n 2, 1) := by decide +kernel
theorem d_X_chosen_19 : decode b_X_chosen 19 = .ok (.iconst 1, 1) := by decide +kernel
theorem d_X_chosen_20 : decode b_X_chosen 20 = .ok (.if_icmp .ne 9, 3) := by decide +kernel
theorem d_X_chosen_23 : decode b_X_chosen 23 = .ok (.iload_n 3, 1) := by decide +kernel
theorem d_X_chosen_24 : decode b_X_chosen 24 = .ok (.ifCond .ne 5, 3) := by decide +kernel
theorem d_X_chosen_27 : decode b_X_chosen 27 = .ok (.iload_n 1, 1) := by decide +kernel
theorem d_X_chosen_28 : decode b_X_chosen 28 = .ok (.ireturn, 1) := by decide +kernel
theorem d_X_chosen_29 : decode b_X_chosen 29 = .ok (.aload_n 0, 1) := by decide +kernel
theorem d_X_chosen_30 : decode b_X_chosen 30 = .ok (.iconst 0, 1) := by decide +kernel
theorem d_X_chosen_31 : decode b_X_chosen 31 = .ok (.iload_n 1, 1) := by decide +kernel
theorem d_X_chosen_32 : decode b_X_chosen 32 = .ok (.iload_n 2, 1) := by decide +kernel
theorem d_X_chosen_33 : decode b_X_chosen 33 = .ok (.iload_n 3, 1) := by decide +kernel
theorem d_X_chosen_34 : decode b_X_chosen 34 = .ok (.invokevirtual 142, 3) := by decide +kernel
theorem d_X_chosen_37 : decode b_X_chosen 37 = .ok (.istore 4, 2) := by decide +kernel
theorem d_X_chosen_39 : decode b_X_chosen 39 = .ok (.iload 4, 2) := by decide +kernel
theorem d_X_chosen_41 : decode b_X_chosen 41 = .ok (.iconst (-1), 1) := by decide +kernel
theorem d_X_chosen_42 : decode b_X_chosen 42 = .ok (.if_icmp .eq 6, 3) := by decide +kernel
theorem d_X_chosen_45 : decode b_X_chosen 45 = .ok (.iload 4, 2) := by decide +kernel
theorem d_X_chosen_47 : decode b_X_chosen 47 = .ok (.ireturn, 1) := by decide +kernel
theorem d_X_chosen_48 : decode b_X_chosen 48 = .ok (.aload_n 0, 1) := by decide +kernel
theorem d_X_chosen_49 : decode b_X_chosen 49 = .ok (.iload_n 1, 1) := by decide +kernel
theorem d_X_chosen_50 : decode b_X_chosen 50 = .ok (.iload_n 2, 1) := by decide +kernel
theorem d_X_chosen_51 : decode b_X_chosen 51 = .ok (.iload_n 3, 1) := by decide +kernel
theorem d_X_chosen_52 : decode b_X_chosen 52 = .ok (.invokestatic 146, 3) := by decide +kernel
theorem d_X_chosen_55 : decode b_X_chosen 55 = .ok (.istore 5, 2) := by decide +kernel
theorem d_X_chosen_57 : decode b_X_chosen 57 = .ok (.aload_n 0, 1) := by decide +kernel
theorem d_X_chosen_58 : decode b_X_chosen 58 = .ok (.aload_n 0, 1) := by decide +kernel
theorem d_X_chosen_59 : decode b_X_chosen 59 = .ok (.iload_n 1, 1) := by decide +kernel
theorem d_X_chosen_60 : decode b_X_chosen 60 = .ok (.iload 5, 2) := by decide +kernel
theorem d_X_chosen_62 : decode b_X_chosen 62 = .ok (.iconst 0, 1) := by decide +kernel
theorem d_X_chosen_63 : decode b_X_chosen 63 = .ok (.invokevirtual 150, 3) := by decide +kernel
theorem d_X_chosen_66 : decode b_X_chosen 66 = .ok (.aload_n 0, 1) := by decide +kernel
theorem d_X_chosen_67 : decode b_X_chosen 67 = .ok (.iload_n 2, 1) := by decide +kernel
theorem d_X_chosen_68 : decode b_X_chosen 68 = .ok (.iload 5, 2) := by decide +kernel
theorem d_X_chosen_70 : decode b_X_chosen 70 = .ok (.iconst 0, 1) := by decide +kernel
theorem d_X_chosen_71 : decode b_X_chosen 71 = .ok (.invokevirtual 150, 3) := by decide +kernel
theorem d_X_chosen_74 : decode b_X_chosen 74 = .ok (.aload_n 0, 1) := by decide +kernel
theorem d_X_chosen_75 : decode b_X_chosen 75 = .ok (.iload_n 3, 1) := by decide +kernel
theorem d_X_chosen_76 : decode b_X_chosen 76 = .ok (.iload 5, 2) := by decide +kernel
theorem d_X_chosen_78 : decode b_X_chosen 78 = .ok (.iconst 0, 1) := by decide +kernel
theorem d_X_chosen_79 : decode b_X_chosen 79 = .ok (.invokevirtual 150, 3) := by decide +kernel
theorem d_X_chosen_82 : decode b_X_chosen 82 = .ok (.invokestatic 154, 3) := by decide +kernel
theorem d_X_chosen_85 : decode b_X_chosen 85 = .ok (.istore 6, 2) := by decide +kernel
theorem d_X_chosen_87 : decode b_X_chosen 87 = .ok (.aload_n 0, 1) := by decide +kernel
theorem d_X_chosen_88 : decode b_X_chosen 88 = .ok (.aload_n 0, 1) := by decide +kernel
theorem d_X_chosen_89 : decode b_X_chosen 89 = .ok (.iload_n 1, 1) := by decide +kernel
theorem d_X_chosen_90 : decode b_X_chosen 90 = .ok (.iload 5, 2) := by decide +kernel
theorem d_X_chosen_92 : decode b_X_chosen 92 = .ok (.iconst 1, 1) := by decide +kernel
theorem d_X_chosen_93 : decode b_X_chosen 93 = .ok (.invokevirtual 150, 3) := by decide +kernel
theorem d_X_chosen_96 : decode b_X_chosen 96 = .ok (.aload_n 0, 1) := by decide +kernel
theorem d_X_chosen_97 : decode b_X_chosen 97 = .ok (.iload_n 2, 1) := by decide +kernel
theorem d_X_chosen_98 : decode b_X_chosen 98 = .ok (.iload 5, 2) := by decide +kernel
theorem d_X_chosen_100 : decode b_X_chosen 100 = .ok (.iconst 1, 1) := by decide +kernel
theorem d_X_chosen_101 : decode b_X_chosen 101 = .ok (.invokevirtual 150, 3) := by decide +kernel
theorem d_X_chosen_104 : decode b_X_chosen 104 = .ok (.aload_n 0, 1) := by decide +kernel
theorem d_X_chosen_105 : decode b_X_chosen 105 = .ok (.iload_n 3, 1) := by decide +kernel
theorem d_X_chosen_106 : decode b_X_chosen 106 = .ok (.iload 5, 2) := by decide +kernel
theorem d_X_chosen_108 : decode b_X_chosen 108 = .ok (.iconst 1, 1) := by decide +kernel
theorem d_X_chosen_109 : decode b_X_chosen 109 = .ok (.invokevirtual 150, 3) := by decide +kernel
theorem d_X_chosen_112 : decode b_X_chosen 112 = .ok (.invokestatic 154, 3) := by decide +kernel
theorem d_X_chosen_115 : decode b_X_chosen 115 = .ok (.istore 7, 2) := by decide +kernel
theorem d_X_chosen_117 : decode b_X_chosen 117 = .ok (.aload_n 0, 1) := by decide +kernel
theorem d_X_chosen_118 : decode b_X_chosen 118 = .ok (.iconst 0, 1) := by decide +kernel
theorem d_X_chosen_119 : decode b_X_chosen 119 = .ok (.iload_n 1, 1) := by decide +kernel
theorem d_X_chosen_120 : decode b_X_chosen 120 = .ok (.iload_n 2, 1) := by decide +kernel
theorem d_X_chosen_121 : decode b_X_chosen 121 = .ok (.iload_n 3, 1) := by decide +kernel
theorem d_X_chosen_122 : decode b_X_chosen 122 = .ok (.aload_n 0, 1) := by decide +kernel
theorem d_X_chosen_123 : decode b_X_chosen 123 = .ok (.iload 5, 2) := by decide +kernel
theorem d_X_chosen_125 : decode b_X_chosen 125 = .ok (.iload 6, 2) := by decide +kernel
theorem d_X_chosen_127 : decode b_X_chosen 127 = .ok (.iload 7, 2) := by decide +kernel
theorem d_X_chosen_129 : decode b_X_chosen 129 = .ok (.invokevirtual 157, 3) := by decide +kernel
theorem d_X_chosen_132 : decode b_X_chosen 132 = .ok (.invokevirtual 161, 3) := by decide +kernel
theorem d_X_chosen_135 : decode b_X_chosen 135 = .ok (.ireturn, 1) := by decide +kernel
abbrev y_X_variableOf : MethodName := ⟨"StateExplorer", "variableOf", "(I)I"⟩
abbrev b_X_variableOf : ByteArray := prog_1_method_16_code
theorem d_X_variableOf_0 : decode b_X_variableOf 0 = .ok (.bipush 7, 2) := by decide +kernel
theorem d_X_variableOf_2 : decode b_X_variableOf 2 = .ok (.iload_n 0, 1) := by decide +kernel
theorem d_X_variableOf_3 : decode b_X_variableOf 3 = .ok (.isub, 1) := by decide +kernel
theorem d_X_variableOf_4 : decode b_X_variableOf 4 = .ok (.ireturn, 1) := by decide +kernel
abbrev y_X_inputVariable : MethodName := ⟨"StateExplorer", "inputVariable", "(I)I"⟩
abbrev b_X_inputVariable : ByteArray := prog_1_method_17_code
theorem d_X_inputVariable_0 : decode b_X_inputVariable 0 = .ok (.bipush 11, 2) := by decide +kernel
theorem d_X_inputVariable_2 : decode b_X_inputVariable 2 = .ok (.iload_n 0, 1) := by decide +kernel
theorem d_X_inputVariable_3 : decode b_X_inputVariable 3 = .ok (.isub, 1) := by decide +kernel
theorem d_X_inputVariable_4 : decode b_X_inputVariable 4 = .ok (.ireturn, 1) := by decide +kernel
abbrev y_X_anyChoice : MethodName := ⟨"StateExplorer", "anyChoice", "(LStateExplorer$Nodes;I)I"⟩
abbrev b_X_anyChoice : ByteArray := prog_1_method_19_code
theorem d_X_anyChoice_0 : decode b_X_anyChoice 0 = .ok (.iload_n 1, 1) := by decide +kernel
theorem d_X_anyChoice_1 : decode b_X_anyChoice 1 = .ok (.iconst 2, 1) := by decide +kernel
theorem d_X_anyChoice_2 : decode b_X_anyChoice 2 = .ok (.if_icmp .ge 5, 3) := by decide +kernel
theorem d_X_anyChoice_5 : decode b_X_anyChoice 5 = .ok (.iload_n 1, 1) := by decide +kernel
theorem d_X_anyChoice_6 : decode b_X_anyChoice 6 = .ok (.ireturn, 1) := by decide +kernel
theorem d_X_anyChoice_7 : decode b_X_anyChoice 7 = .ok (.aload_n 0, 1) := by decide +kernel
theorem d_X_anyChoice_8 : decode b_X_anyChoice 8 = .ok (.iload_n 1, 1) := by decide +kernel
theorem d_X_anyChoice_9 : decode b_X_anyChoice 9 = .ok (.invokevirtual 133, 3) := by decide +kernel
theorem d_X_anyChoice_12 : decode b_X_anyChoice 12 = .ok (.bipush 8, 2) := by decide +kernel
theorem d_X_anyChoice_14 : decode b_X_anyChoice 14 = .ok (.if_icmp .lt 5, 3) := by decide +kernel
theorem d_X_anyChoice_17 : decode b_X_anyChoice 17 = .ok (.iconst 1, 1) := by decide +kernel
theorem d_X_anyChoice_18 : decode b_X_anyChoice 18 = .ok (.ireturn, 1) := by decide +kernel
theorem d_X_anyChoice_19 : decode b_X_anyChoice 19 = .ok (.aload_n 0, 1) := by decide +kernel
theorem d_X_anyChoice_20 : decode b_X_anyChoice 20 = .ok (.iconst 1, 1) := by decide +kernel
theorem d_X_anyChoice_21 : decode b_X_anyChoice 21 = .ok (.iload_n 1, 1) := by decide +kernel
theorem d_X_anyChoice_22 : decode b_X_anyChoice 22 = .ok (.iconst 0, 1) := by decide +kernel
theorem d_X_anyChoice_23 : decode b_X_anyChoice 23 = .ok (.iconst 0, 1) := by decide +kernel
theorem d_X_anyChoice_24 : decode b_X_anyChoice 24 = .ok (.invokevirtual 142, 3) := by decide +kernel
theorem d_X_anyChoice_27 : decode b_X_anyChoice 27 = .ok (.istore_n 2, 1) := by decide +kernel
theorem d_X_anyChoice_28 : decode b_X_anyChoice 28 = .ok (.iload_n 2, 1) := by decide +kernel
theorem d_X_anyChoice_29 : decode b_X_anyChoice 29 = .ok (.iconst (-1), 1) := by decide +kernel
theorem d_X_anyChoice_30 : decode b_X_anyChoice 30 = .ok (.if_icmp .eq 5, 3) := by decide +kernel
theorem d_X_anyChoice_33 : decode b_X_anyChoice 33 = .ok (.iload_n 2, 1) := by decide +kernel
theorem d_X_anyChoice_34 : decode b_X_anyChoice 34 = .ok (.ireturn, 1) := by decide +kernel
theorem d_X_anyChoice_35 : decode b_X_anyChoice 35 = .ok (.aload_n 0, 1) := by decide +kernel
theorem d_X_anyChoice_36 : decode b_X_anyChoice 36 = .ok (.iload_n 1, 1) := by decide +kernel
theorem d_X_anyChoice_37 : decode b_X_anyChoice 37 = .ok (.invokevirtual 133, 3) := by decide +kernel
theorem d_X_anyChoice_40 : decode b_X_anyChoice 40 = .ok (.istore_n 3, 1) := by decide +kernel
theorem d_X_anyChoice_41 : decode b_X_anyChoice 41 = .ok (.aload_n 0, 1) := by decide +kernel
theorem d_X_anyChoice_42 : decode b_X_anyChoice 42 = .ok (.iconst 1, 1) := by decide +kernel
theorem d_X_anyChoice_43 : decode b_X_anyChoice 43 = .ok (.iload_n 1, 1) := by decide +kernel
theorem d_X_anyChoice_44 : decode b_X_anyChoice 44 = .ok (.iconst 0, 1) := by decide +kernel
theorem d_X_anyChoice_45 : decode b_X_anyChoice 45 = .ok (.iconst 0, 1) := by decide +kernel
theorem d_X_anyChoice_46 : decode b_X_anyChoice 46 = .ok (.aload_n 0, 1) := by decide +kernel
theorem d_X_anyChoice_47 : decode b_X_anyChoice 47 = .ok (.iload_n 3, 1) := by decide +kernel
theorem d_X_anyChoice_48 : decode b_X_anyChoice 48 = .ok (.aload_n 0, 1) := by decide +kernel
theorem d_X_anyChoice_49 : decode b_X_anyChoice 49 = .ok (.aload_n 0, 1) := by decide +kernel
theorem d_X_anyChoice_50 : decode b_X_anyChoice 50 = .ok (.getfield 168, 3) := by decide +kernel
theorem d_X_anyChoice_53 : decode b_X_anyChoice 53 = .ok (.iload_n 1, 1) := by decide +kernel
theorem d_X_anyChoice_54 : decode b_X_anyChoice 54 = .ok (.iaload, 1) := by decide +kernel
theorem d_X_anyChoice_55 : decode b_X_anyChoice 55 = .ok (.invokestatic 171, 3) := by decide +kernel
theorem d_X_anyChoice_58 : decode b_X_anyChoice 58 = .ok (.aload_n 0, 1) := by decide +kernel
theorem d_X_anyChoice_59 : decode b_X_anyChoice 59 = .ok (.aload_n 0, 1) := by decide +kernel
theorem d_X_anyChoice_60 : decode b_X_anyChoice 60 = .ok (.getfield 174, 3) := by decide +kernel
theorem d_X_anyChoice_63 : decode b_X_anyChoice 63 = .ok (.iload_n 1, 1) := by decide +kernel
theorem d_X_anyChoice_64 : decode b_X_anyChoice 64 = .ok (.iaload, 1) := by decide +kernel
theorem d_X_anyChoice_65 : decode b_X_anyChoice 65 = .ok (.invokestatic 171, 3) := by decide +kernel
theorem d_X_anyChoice_68 : decode b_X_anyChoice 68 = .ok (.invokevirtual 157, 3) := by decide +kernel
theorem d_X_anyChoice_71 : decode b_X_anyChoice 71 = .ok (.invokevirtual 161, 3) := by decide +kernel
theorem d_X_anyChoice_74 : decode b_X_anyChoice 74 = .ok (.ireturn, 1) := by decide +kernel
abbrev y_X_bit : MethodName := ⟨"StateExplorer", "bit", "(II)Z"⟩
abbrev b_X_bit : ByteArray := prog_1_method_22_code
theorem d_X_bit_0 : decode b_X_bit 0 = .ok (.iload_n 0, 1) := by decide +kernel
theorem d_X_bit_1 : decode b_X_bit 1 = .ok (.iload_n 1, 1) := by decide +kernel
theorem d_X_bit_2 : decode b_X_bit 2 = .ok (.ishr, 1) := by decide +kernel
theorem d_X_bit_3 : decode b_X_bit 3 = .ok (.iconst 1, 1) := by decide +kernel
theorem d_X_bit_4 : decode b_X_bit 4 = .ok (.iand, 1) := by decide +kernel
theorem d_X_bit_5 : decode b_X_bit 5 = .ok (.iconst 1, 1) := by decide +kernel
theorem d_X_bit_6 : decode b_X_bit 6 = .ok (.if_icmp .ne 7, 3) := by decide +kernel
theorem d_X_bit_9 : decode b_X_bit 9 = .ok (.iconst 1, 1) := by decide +kernel
theorem d_X_bit_10 : decode b_X_bit 10 = .ok (.goto 4, 3) := by decide +kernel
theorem d_X_bit_13 : decode b_X_bit 13 = .ok (.iconst 0, 1) := by decide +kernel
theorem d_X_bit_14 : decode b_X_bit 14 = .ok (.ireturn, 1) := by decide +kernel
abbrev y_X_points : MethodName := ⟨"StateExplorer", "points", "(LStateExplorer$Nodes;II)I"⟩
abbrev b_X_points : ByteArray := prog_1_method_24_code
theorem d_X_points_0 : decode b_X_points 0 = .ok (.iload_n 1, 1) := by decide +kernel
theorem d_X_points_1 : decode b_X_points 1 = .ok (.ifCond .ne 5, 3) := by decide +kernel
theorem d_X_points_4 : decode b_X_points 4 = .ok (.iconst 0, 1) := by decide +kernel
theorem d_X_points_5 : decode b_X_points 5 = .ok (.ireturn, 1) := by decide +kernel
theorem d_X_points_6 : decode b_X_points 6 = .ok (.iconst 1, 1) := by decide +kernel
theorem d_X_points_7 : decode b_X_points 7 = .ok (.aload_n 0, 1) := by decide +kernel
theorem d_X_points_8 : decode b_X_points 8 = .ok (.iload_n 1, 1) := by decide +kernel
theorem d_X_points_9 : decode b_X_points 9 = .ok (.invokevirtual 133, 3) := by decide +kernel
theorem d_X_points_12 : decode b_X_points 12 = .ok (.iload_n 2, 1) := by decide +kernel
theorem d_X_points_13 : decode b_X_points 13 = .ok (.isub, 1) := by decide +kernel
theorem d_X_points_14 : decode b_X_points 14 = .ok (.ishl, 1) := by decide +kernel
theorem d_X_points_15 : decode b_X_points 15 = .ok (.istore_n 3, 1) := by decide +kernel
theorem d_X_points_16 : decode b_X_points 16 = .ok (.iload_n 1, 1) := by decide +kernel
theorem d_X_points_17 : decode b_X_points 17 = .ok (.iconst 1, 1) := by decide +kernel
theorem d_X_points_18 : decode b_X_points 18 = .ok (.if_icmp .ne 5, 3) := by decide +kernel
theorem d_X_points_21 : decode b_X_points 21 = .ok (.iload_n 3, 1) := by decide +kernel
theorem d_X_points_22 : decode b_X_points 22 = .ok (.ireturn, 1) := by decide +kernel
theorem d_X_points_23 : decode b_X_points 23 = .ok (.aload_n 0, 1) := by decide +kernel
theorem d_X_points_24 : decode b_X_points 24 = .ok (.iload_n 1, 1) := by decide +kernel
theorem d_X_points_25 : decode b_X_points 25 = .ok (.invokevirtual 133, 3) := by decide +kernel
theorem d_X_points_28 : decode b_X_points 28 = .ok (.iconst 1, 1) := by decide +kernel
theorem d_X_points_29 : decode b_X_points 29 = .ok (.iadd, 1) := by decide +kernel
theorem d_X_points_30 : decode b_X_points 30 = .ok (.istore 4, 2) := by decide +kernel
theorem d_X_points_32 : decode b_X_points 32 = .ok (.iload_n 3, 1) := by decide +kernel
theorem d_X_points_33 : decode b_X_points 33 = .ok (.aload_n 0, 1) := by decide +kernel
theorem d_X_points_34 : decode b_X_points 34 = .ok (.aload_n 0, 1) := by decide +kernel
theorem d_X_points_35 : decode b_X_points 35 = .ok (.getfield 168, 3) := by decide +kernel
theorem d_X_points_38 : decode b_X_points 38 = .ok (.iload_n 1, 1) := by decide +kernel
theorem d_X_points_39 : decode b_X_points 39 = .ok (.iaload, 1) := by decide +kernel
theorem d_X_points_40 : decode b_X_points 40 = .ok (.iload 4, 2) := by decide +kernel
theorem d_X_points_42 : decode b_X_points 42 = .ok (.invokestatic 191, 3) := by decide +kernel
theorem d_X_points_45 : decode b_X_points 45 = .ok (.aload_n 0, 1) := by decide +kernel
theorem d_X_points_46 : decode b_X_points 46 = .ok (.aload_n 0, 1) := by decide +kernel
theorem d_X_points_47 : decode b_X_points 47 = .ok (.getfield 174, 3) := by decide +kernel
theorem d_X_points_50 : decode b_X_points 50 = .ok (.iload_n 1, 1) := by decide +kernel
theorem d_X_points_51 : decode b_X_points 51 = .ok (.iaload, 1) := by decide +kernel
theorem d_X_points_52 : decode b_X_points 52 = .ok (.iload 4, 2) := by decide +kernel
theorem d_X_points_54 : decode b_X_points 54 = .ok (.invokestatic 191, 3) := by decide +kernel
theorem d_X_points_57 : decode b_X_points 57 = .ok (.iadd, 1) := by decide +kernel
theorem d_X_points_58 : decode b_X_points 58 = .ok (.imul, 1) := by decide +kernel
theorem d_X_points_59 : decode b_X_points 59 = .ok (.ireturn, 1) := by decide +kernel
end
section
theorem mi_N_chain : xMi y_N_chain (.code y_N_chain b_N_chain 4 (some .int)) 3 := ⟨q_217, q_2, by decide, by decide, by decide +kernel⟩
theorem mi_N_cofactor : xMi y_N_cofactor (.code y_N_cofactor b_N_cofactor 4 (some .int)) 3 := ⟨q_264, q_2, by decide, by decide, by decide +kernel⟩
theorem mi_N_forget : xMi y_N_forget (.code y_N_forget b_N_forget 2 none) 0 := ⟨q_31, q_2, by decide, by decide, by decide +kernel⟩
theorem mi_N_isTight : xMi y_N_isTight (.code y_N_isTight b_N_isTight 1 (some .boolean)) 0 := ⟨q_200, q_2, by decide, by decide, by decide +kernel⟩
theorem mi_N_known : xMi y_N_known (.code y_N_known b_N_known 6 (some .int)) 4 := ⟨q_246, q_2, by decide, by decide, by decide +kernel⟩
theorem mi_N_learn : xMi y_N_learn (.code y_N_learn b_N_learn 7 (some .int)) 5 := ⟨q_268, q_2, by decide, by decide, by decide +kernel⟩
theorem mi_N_level : xMi y_N_level (.code y_N_level b_N_level 2 (some .int)) 1 := ⟨q_257, q_2, by decide, by decide, by decide +kernel⟩
theorem mi_N_mark : xMi y_N_mark (.code y_N_mark b_N_mark 2 (some .int)) 2 := ⟨q_208, q_2, by decide, by decide, by decide +kernel⟩
theorem mi_N_mixed : xMi y_N_mixed (.code y_N_mixed b_N_mixed 4 (some .int)) 3 := ⟨q_220, q_2, by decide, by decide, by decide +kernel⟩
theorem mi_N_node : xMi y_N_node (.code y_N_node b_N_node 6 (some .int)) 3 := ⟨q_231, q_2, by decide, by decide, by decide +kernel⟩
theorem mi_N_place : xMi y_N_place (.code y_N_place b_N_place 5 (some .int)) 4 := ⟨q_250, q_2, by decide, by decide, by decide +kernel⟩
theorem mi_N_sweep : xMi y_N_sweep (.code y_N_sweep b_N_sweep 3 none) 0 := ⟨q_213, q_2, by decide, by decide, by decide +kernel⟩
theorem mi_N_take : xMi y_N_take (.code y_N_take b_N_take 2 (some .int)) 0 := ⟨q_235, q_2, by decide, by decide, by decide +kernel⟩
theorem mi_N_unmark : xMi y_N_unmark (.code y_N_unmark b_N_unmark 2 none) 0 := ⟨q_227, q_2, by decide, by decide, by decide +kernel⟩
theorem mi_X_anyChoice : xMi y_X_anyChoice (.code y_X_anyChoice b_X_anyChoice 4 (some .int)) 2 := ⟨q_492, q_1, by decide, by decide, by decide +kernel⟩
theorem mi_X_chosen : xMi y_X_chosen (.code y_X_chosen b_X_chosen 8 (some .int)) 4 := ⟨q_242, q_1, by decide, by decide, by decide +kernel⟩
theorem mi_X_first : xMi y_X_first (.code y_X_first b_X_first 4 (some .int)) 4 := ⟨q_253, q_1, by decide, by decide, by decide +kernel⟩
theorem mi_X_points : xMi y_X_points (.code y_X_points b_X_points 5 (some .int)) 3 := ⟨q_323, q_1, by decide, by decide, by decide +kernel⟩
end
section
/-! walks, printed by mk.py -/
def N_mark_b0 (f : xF → Int32 → (Int32 → xF → Prop) → Prop) (Z : Int32 → xF → Prop) (N : xF) (x1 : Int32) : Prop := ((x1 < (2 : Int32)) → (Z (0 : Int32) N)) ∧ (¬ (x1 < (2 : Int32)) → (vp_in x1 262144 ∧ ((((N 5 x1.toNatClampNeg) = 0) → (vp_in x1 262144 ∧ (∀ N_22 : xF, N_22 = xs N 5 x1.toNatClampNeg (1 : Int32) → (vp_in x1 262144 ∧ (f N_22 (N_22 1 x1.toNatClampNeg) (fun r31 N_31 => vp_in x1 262144 ∧ (f N_31 (N_31 2 x1.toNatClampNeg) (fun r42 N_42 => Z (((1 : Int32) + r31) + r42) N_42)))))))) ∧ (¬ ((N 5 x1.toNatClampNeg) = 0) → (Z (0 : Int32) N)))))
set_option maxRecDepth 10000 in
theorem wk_N_mark_b0 {κ : Cx} {τ : xT} {d : Nat} {f : xF → Int32 → (Int32 → xF → Prop) → Prop} {Z : Int32 → xF → Prop} {N : xF} {x1 : Int32} (o : OKc κ (wdN τ) 2 b_N_mark "StateExplorer$Nodes" (some .int) (xR (0 + d + 1))) (hf : ∀ (N : xF) (x1 : Int32) (Z : Int32 → xF → Prop), f N x1 Z → CT (kL κ) (wdN τ) y_N_mark (.code y_N_mark b_N_mark 2 (some .int)) (xR (0 + d)) [.ref (τ.2.2 54), .int x1] N (xZi Z)) (h : N_mark_b0 f Z N x1) : GW κ (wdN τ) 2 (0, 0) (xMQ κ (wdN τ) (xR (0 + d + 1)) (xZi Z)) N 0 [(0, .ref (τ.2.2 54)), (1, .int x1)] [] := by
  unfold N_mark_b0 at h
  refine gw_iload_n (pc := 0) o d_N_mark_0 rfl 1 rfl ?_
  refine gw_iconst (pc := 1) (v := (2 : Int32)) o d_N_mark_1 (by decide) ?_
  refine gw_icmp_lt (pc := 2) (tgt := 14) o d_N_mark_2 (by decide) (fun hc => ?_) (fun hc => ?_)
  · have h := h.1 hc
    refine gw_iconst (pc := 14) (v := (0 : Int32)) o d_N_mark_14 (by decide) ?_
    exact gw_iret (pc := 15) o ⟨Nat.le_refl _, Nat.le_refl _⟩ ⟨_, rfl, h⟩ d_N_mark_15
  · have h := h.2 hc
    refine gw_aload_n (pc := 5) o d_N_mark_5 rfl 0 rfl ?_
    refine gN_get_marked (pc := 6) o q_39 d_N_mark_6 ?_
    refine gw_iload_n (pc := 9) o d_N_mark_9 rfl 1 rfl ?_
    have hi := h.1
    have h := h.2
    refine gN_ald_marked (pc := 10) o hi d_N_mark_10 ?_
    refine gw_if_eq (pc := 11) (tgt := 16) o d_N_mark_11 (by decide) (fun hc => ?_) (fun hc => ?_)
    · have h := h.1 hc
      refine gw_aload_n (pc := 16) o d_N_mark_16 rfl 0 rfl ?_
      refine gN_get_marked (pc := 17) o q_39 d_N_mark_17 ?_
      refine gw_iload_n (pc := 20) o d_N_mark_20 rfl 1 rfl ?_
      refine gw_iconst (pc := 21) (v := (1 : Int32)) o d_N_mark_21 (by decide) ?_
      have hi := h.1
      have h := h.2
      refine gN_ast_marked (pc := 22) (y := (1 : Int32)) o hi rfl d_N_mark_22 (fun N_22 eN_22 => ?_)
      have h := h N_22 eN_22
      refine gw_iconst (pc := 23) (v := (1 : Int32)) o d_N_mark_23 (by decide) ?_
      refine gw_aload_n (pc := 24) o d_N_mark_24 rfl 0 rfl ?_
      refine gw_aload_n (pc := 25) o d_N_mark_25 rfl 0 rfl ?_
      refine gN_get_lows (pc := 26) o q_33 d_N_mark_26 ?_
      refine gw_iload_n (pc := 29) o d_N_mark_29 rfl 1 rfl ?_
      have hi := h.1
      have h := h.2
      refine gN_ald_lows (pc := 30) o hi d_N_mark_30 ?_
      refine gw_callS (pc := 31) (As := [.ref (τ.2.2 54), .int (N_22 1 x1.toNatClampNeg)]) (st := [.int (1 : Int32)]) o (hf _ _ _ h) mi_N_mark q_209 q_207 (xRo_of (by omega) (by decide)) rfl rfl (Nat.le_of_ble_eq_true rfl) d_N_mark_31 (kk_g_i rfl (fun r31 N_31 h => ?_))
      refine gw_iadd (pc := 34) o d_N_mark_34 ?_
      refine gw_aload_n (pc := 35) o d_N_mark_35 rfl 0 rfl ?_
      refine gw_aload_n (pc := 36) o d_N_mark_36 rfl 0 rfl ?_
      refine gN_get_highs (pc := 37) o q_35 d_N_mark_37 ?_
      refine gw_iload_n (pc := 40) o d_N_mark_40 rfl 1 rfl ?_
      have hi := h.1
      have h := h.2
      refine gN_ald_highs (pc := 41) o hi d_N_mark_41 ?_
      refine gw_callS (pc := 42) (As := [.ref (τ.2.2 54), .int (N_31 2 x1.toNatClampNeg)]) (st := [.int ((1 : Int32) + r31)]) o (hf _ _ _ h) mi_N_mark q_209 q_207 (xRo_of (by omega) (by decide)) rfl rfl (Nat.le_of_ble_eq_true rfl) d_N_mark_42 (kk_g_i rfl (fun r42 N_42 h => ?_))
      refine gw_iadd (pc := 45) o d_N_mark_45 ?_
      exact gw_iret (pc := 46) o ⟨Nat.le_refl _, Nat.le_refl _⟩ ⟨_, rfl, h⟩ d_N_mark_46
    · have h := h.2 hc
      refine gw_iconst (pc := 14) (v := (0 : Int32)) o d_N_mark_14 (by decide) ?_
      exact gw_iret (pc := 15) o ⟨Nat.le_refl _, Nat.le_refl _⟩ ⟨_, rfl, h⟩ d_N_mark_15
def w_N_mark : Nat → xF → Int32 → (Int32 → xF → Prop) → Prop
  | 0, _, _, _ => False
  | d + 1, N, x1, Z => N_mark_b0  (w_N_mark d)  Z N x1
theorem ct_N_mark {l : Launch} {τ : xT} (hD : xD (wdN τ)) : ∀ {d : Nat} {N : xF} {x1 : Int32} {Z : Int32 → xF → Prop} (h : w_N_mark d N x1 Z), CT l (wdN τ) y_N_mark (.code y_N_mark b_N_mark 2 (some .int)) (xR (0 + d)) [.ref (τ.2.2 54), .int x1] N (xZi Z) := by
  intro d
  induction d with
  | zero => intro N x1 Z h; exact h.elim
  | succ d ih =>
    intro N x1 Z h
    exact CT.of (by decide) (Nat.le_of_ble_eq_true rfl) hD (fun κ hl ha o => gw_sub (lv' := [(0, .ref (τ.2.2 54)), (1, .int x1)]) [0, 1] rfl (wk_N_mark_b0 o (fun _ _ _ h => hl ▸ ih h) h))
def N_isTight_b14 (Z : Int32 → Prop) (N : xF) (s0 : Int32) : Prop := (s0 = 0 ∨ s0 = 1) ∧ (Z s0)
set_option maxRecDepth 10000 in
theorem wk_N_isTight_b14 {κ : Cx} {τ : xT} {Z : Int32 → Prop} {N : xF} {s0 : Int32} (o : OKc κ (wdN τ) 1 b_N_isTight "StateExplorer$Nodes" (some .boolean) (xR 0)) (h : N_isTight_b14 Z N s0) : GW κ (wdN τ) 1 (0, 0) (xMQ κ (wdN τ) (xR 0) (xZi (fun r Y => Y = N ∧ Z r))) N 14 [] [.int s0] := by
  unfold N_isTight_b14 at h
  exact gw_zret (pc := 14) o ⟨Nat.le_refl _, Nat.le_refl _⟩ h.1 ⟨_, rfl, rfl, h.2⟩ d_N_isTight_14
def N_isTight_b0 (Z : Int32 → Prop) (N : xF) : Prop := (((65536 : Int32) ≤ (N 14 8)) → (N_isTight_b14 Z N (0 : Int32))) ∧ (¬ ((65536 : Int32) ≤ (N 14 8)) → (N_isTight_b14 Z N (1 : Int32)))
set_option maxRecDepth 10000 in
theorem wk_N_isTight_b0 {κ : Cx} {τ : xT} {Z : Int32 → Prop} {N : xF} (o : OKc κ (wdN τ) 1 b_N_isTight "StateExplorer$Nodes" (some .boolean) (xR 0)) (h : N_isTight_b0 Z N) : GW κ (wdN τ) 1 (0, 0) (xMQ κ (wdN τ) (xR 0) (xZi (fun r Y => Y = N ∧ Z r))) N 0 [(0, .ref (τ.2.2 54))] [] := by
  unfold N_isTight_b0 at h
  refine gw_aload_n (pc := 0) o d_N_isTight_0 rfl 0 rfl ?_
  refine gN_get_spare (pc := 1) o q_42 d_N_isTight_1 ?_
  refine gw_ldc (pc := 4) o q_201 d_N_isTight_4 ?_
  refine gw_icmp_ge (pc := 6) (tgt := 13) o d_N_isTight_6 (by decide) (fun hc => ?_) (fun hc => ?_)
  · have h := h.1 hc
    refine gw_iconst (pc := 13) (v := (0 : Int32)) o d_N_isTight_13 (by decide) ?_
    exact gw_sub (lv' := []) [] rfl (wk_N_isTight_b14 o h)
  · have h := h.2 hc
    refine gw_iconst (pc := 9) (v := (1 : Int32)) o d_N_isTight_9 (by decide) ?_
    refine gw_goto (pc := 10) (tgt := 14) o d_N_isTight_10 (by decide) ?_
    exact gw_sub (lv' := []) [] rfl (wk_N_isTight_b14 o h)
def w_N_isTight  (N : xF)  (Z : Int32 → Prop) : Prop := N_isTight_b0  Z N
theorem ct_N_isTight {l : Launch} {τ : xT} {N : xF}  {Z : Int32 → Prop} (hD : xD (wdN τ)) (h : w_N_isTight  N Z) : CT l (wdN τ) y_N_isTight (.code y_N_isTight b_N_isTight 1 (some .boolean)) (xR 0) [.ref (τ.2.2 54)] N (xZi (fun r Y => Y = N ∧ Z r)) := by
  subst_vars
  exact CT.of (by decide) (Nat.le_of_ble_eq_true rfl) hD (fun κ hl ha o => gw_sub (lv' := [(0, .ref (τ.2.2 54))]) [0] rfl (wk_N_isTight_b0 o h))
def N_mixed_b0 (Z : Int32 → Prop) (x0 : Int32) (x1 : Int32) (x2 : Int32) : Prop := ∀ x3_14 : Int32, x3_14 = ((x0 * (625341585 : Int32)) ^^^ (x1 * (1103515245 : Int32))) ^^^ (x2 * (1799596469 : Int32)) → (Z (x3_14 ^^^ ((x3_14.toUInt32 >>> ((15 : Int32).toUInt32 &&& Int32.toUInt32 31)).toInt32)))
set_option maxRecDepth 10000 in
theorem wk_N_mixed_b0 {κ : Cx} {σ : Type} {ω : xWd σ} {X : σ} {Z : Int32 → Prop} {x0 : Int32} {x1 : Int32} {x2 : Int32} (o : OKc κ ω 4 b_N_mixed "StateExplorer$Nodes" (some .int) (xR 0)) (h : N_mixed_b0 Z x0 x1 x2) : GW κ ω 4 (0, 0) (xMQ κ ω (xR 0) (xZi (fun r Y => Y = X ∧ Z r))) X 0 [(0, .int x0), (1, .int x1), (2, .int x2)] [] := by
  unfold N_mixed_b0 at h
  refine gw_iload_n (pc := 0) o d_N_mixed_0 rfl 0 rfl ?_
  refine gw_ldc (pc := 1) o q_221 d_N_mixed_1 ?_
  refine gw_imul (pc := 3) o d_N_mixed_3 ?_
  refine gw_iload_n (pc := 4) o d_N_mixed_4 rfl 1 rfl ?_
  refine gw_ldc (pc := 5) o q_222 d_N_mixed_5 ?_
  refine gw_imul (pc := 7) o d_N_mixed_7 ?_
  refine gw_ixor (pc := 8) o d_N_mixed_8 ?_
  refine gw_iload_n (pc := 9) o d_N_mixed_9 rfl 2 rfl ?_
  refine gw_ldc (pc := 10) o q_223 d_N_mixed_10 ?_
  refine gw_imul (pc := 12) o d_N_mixed_12 ?_
  refine gw_ixor (pc := 13) o d_N_mixed_13 ?_
  refine gw_topi (fun x3_14 ex3_14 => ?_)
  have h := h x3_14 ex3_14
  refine gw_istore_n (pc := 14) (lv' := [(3, .int x3_14), (0, .int x0), (1, .int x1), (2, .int x2)]) o d_N_mixed_14 rfl (by decide) rfl ?_
  refine gw_iload_n (pc := 15) o d_N_mixed_15 rfl 0 rfl ?_
  refine gw_iload_n (pc := 16) o d_N_mixed_16 rfl 0 rfl ?_
  refine gw_bipush (pc := 17) (v := (15 : Int32)) o d_N_mixed_17 (by decide) ?_
  refine gw_iushr (pc := 19) o d_N_mixed_19 ?_
  refine gw_ixor (pc := 20) o d_N_mixed_20 ?_
  exact gw_iret (pc := 21) o ⟨Nat.le_refl _, Nat.le_refl _⟩ ⟨_, rfl, rfl, h⟩ d_N_mixed_21
def w_N_mixed   (x0 : Int32) (x1 : Int32) (x2 : Int32) (Z : Int32 → Prop) : Prop := N_mixed_b0  Z x0 x1 x2
theorem ct_N_mixed {l : Launch} {σ : Type} {ω : xWd σ} {X : σ}  {x0 : Int32} {x1 : Int32} {x2 : Int32} {Z : Int32 → Prop} (hD : xD ω) (h : w_N_mixed  x0 x1 x2 Z) : CT l ω y_N_mixed (.code y_N_mixed b_N_mixed 4 (some .int)) (xR 0) [.int x0, .int x1, .int x2] X (xZi (fun r Y => Y = X ∧ Z r)) := by
  subst_vars
  exact CT.of (by decide) (Nat.le_of_ble_eq_true rfl) hD (fun κ hl ha o => gw_sub (lv' := [(0, .int x0), (1, .int x1), (2, .int x2)]) [0, 1, 2] rfl (wk_N_mixed_b0 o h))
def N_chain_b0 (Z : Int32 → Prop) (N : xF) (x1 : Int32) (x2 : Int32) (x3 : Int32) : Prop := w_N_mixed x1 x2 x3 (fun r3 => Z (r3 &&& (32767 : Int32)))
set_option maxRecDepth 10000 in
theorem wk_N_chain_b0 {κ : Cx} {τ : xT} {Z : Int32 → Prop} {N : xF} {x1 : Int32} {x2 : Int32} {x3 : Int32} (o : OKc κ (wdN τ) 4 b_N_chain "StateExplorer$Nodes" (some .int) (xR 1)) (h : N_chain_b0 Z N x1 x2 x3) : GW κ (wdN τ) 4 (0, 0) (xMQ κ (wdN τ) (xR 1) (xZi (fun r Y => Y = N ∧ Z r))) N 0 [(0, .ref (τ.2.2 54)), (1, .int x1), (2, .int x2), (3, .int x3)] [] := by
  unfold N_chain_b0 at h
  refine gw_iload_n (pc := 0) o d_N_chain_0 rfl 1 rfl ?_
  refine gw_iload_n (pc := 1) o d_N_chain_1 rfl 2 rfl ?_
  refine gw_iload_n (pc := 2) o d_N_chain_2 rfl 3 rfl ?_
  refine gw_callS (pc := 3) (As := [.int x1, .int x2, .int x3]) (st := []) o (ct_N_mixed o.hD h) mi_N_mixed q_218 q_219 (xRo_of (by omega) (by decide)) rfl rfl (Nat.le_of_ble_eq_true rfl) d_N_chain_3 (kk_p_i rfl (fun r3 h => ?_))
  refine gw_sipush (pc := 6) (v := (32767 : Int32)) o d_N_chain_6 (by decide) ?_
  refine gw_iand (pc := 9) o d_N_chain_9 ?_
  exact gw_iret (pc := 10) o ⟨Nat.le_refl _, Nat.le_refl _⟩ ⟨_, rfl, rfl, h⟩ d_N_chain_10
def w_N_chain  (N : xF) (x1 : Int32) (x2 : Int32) (x3 : Int32) (Z : Int32 → Prop) : Prop := N_chain_b0  Z N x1 x2 x3
theorem ct_N_chain {l : Launch} {τ : xT} {N : xF} {x1 : Int32} {x2 : Int32} {x3 : Int32} {Z : Int32 → Prop} (hD : xD (wdN τ)) (h : w_N_chain  N x1 x2 x3 Z) : CT l (wdN τ) y_N_chain (.code y_N_chain b_N_chain 4 (some .int)) (xR 1) [.ref (τ.2.2 54), .int x1, .int x2, .int x3] N (xZi (fun r Y => Y = N ∧ Z r)) := by
  subst_vars
  exact CT.of (by decide) (Nat.le_of_ble_eq_true rfl) hD (fun κ hl ha o => gw_sub (lv' := [(0, .ref (τ.2.2 54)), (1, .int x1), (2, .int x2), (3, .int x3)]) [0, 1, 2, 3] rfl (wk_N_chain_b0 o h))
def N_unmark_b2 (Z : xF → Prop) (k2 : Int32 → xF → Prop) (N : xF) (x1 : Int32) : Prop := (((N 14 7) ≤ x1) → (Z N)) ∧ (¬ ((N 14 7) ≤ x1) → (vp_in x1 262144 ∧ (∀ N_16 : xF, N_16 = xs N 5 x1.toNatClampNeg (0 : Int32) → (∀ x1_17 : Int32, x1_17 = x1 + (1 : Int32) → (k2 x1_17 N_16)))))
set_option maxRecDepth 10000 in
theorem wk_N_unmark_b2 {κ : Cx} {τ : xT} {Z : xF → Prop} {k2 : Int32 → xF → Prop} {N : xF} {x1 : Int32} (o : OKc κ (wdN τ) 2 b_N_unmark "StateExplorer$Nodes" none (xR 0)) (hk2 : ∀ (x1 : Int32) (N : xF), k2 x1 N → GW κ (wdN τ) 2 (0, 0) (xMQ κ (wdN τ) (xR 0) (xZv Z)) N 2 [(0, .ref (τ.2.2 54)), (1, .int x1)] []) (h : N_unmark_b2 Z k2 N x1) : GW κ (wdN τ) 2 (0, 0) (xMQ κ (wdN τ) (xR 0) (xZv Z)) N 2 [(0, .ref (τ.2.2 54)), (1, .int x1)] [] := by
  unfold N_unmark_b2 at h
  refine gw_iload_n (pc := 2) o d_N_unmark_2 rfl 1 rfl ?_
  refine gw_aload_n (pc := 3) o d_N_unmark_3 rfl 0 rfl ?_
  refine gN_get_used (pc := 4) o q_41 d_N_unmark_4 ?_
  refine gw_icmp_ge (pc := 7) (tgt := 23) o d_N_unmark_7 (by decide) (fun hc => ?_) (fun hc => ?_)
  · have h := h.1 hc
    exact gw_vret (pc := 23) o ⟨Nat.le_refl _, Nat.le_refl _⟩ ⟨rfl, h⟩ d_N_unmark_23
  · have h := h.2 hc
    refine gw_aload_n (pc := 10) o d_N_unmark_10 rfl 0 rfl ?_
    refine gN_get_marked (pc := 11) o q_39 d_N_unmark_11 ?_
    refine gw_iload_n (pc := 14) o d_N_unmark_14 rfl 1 rfl ?_
    refine gw_iconst (pc := 15) (v := (0 : Int32)) o d_N_unmark_15 (by decide) ?_
    have hi := h.1
    have h := h.2
    refine gN_ast_marked (pc := 16) (y := (0 : Int32)) o hi rfl d_N_unmark_16 (fun N_16 eN_16 => ?_)
    have h := h N_16 eN_16
    refine gw_iincN (pc := 17) (c := (1 : Int32)) (lw := fun x1_17 => [(1, .int x1_17), (0, .ref (τ.2.2 54))]) o d_N_unmark_17 (by decide) 1 rfl (by decide) (fun _ => rfl) (fun x1_17 ex1_17 => ?_)
    have h := h x1_17 ex1_17
    refine gw_goto (pc := 20) (tgt := 2) o d_N_unmark_20 (by decide) ?_
    exact gw_sub (lv' := [(0, .ref (τ.2.2 54)), (1, .int x1_17)]) [1, 0] rfl (hk2 _ _ h)
def N_unmark_L2 (Z : xF → Prop) (N : xF) (x1 : Int32) : Prop := LOOP2 (fun k2 x1 N => N_unmark_b2 Z k2 N x1) x1 N
theorem wk_N_unmark_L2 {κ : Cx} {τ : xT} {Z : xF → Prop} {N : xF} {x1 : Int32} (o : OKc κ (wdN τ) 2 b_N_unmark "StateExplorer$Nodes" none (xR 0)) (h : N_unmark_L2 Z N x1) : GW κ (wdN τ) 2 (0, 0) (xMQ κ (wdN τ) (xR 0) (xZv Z)) N 2 [(0, .ref (τ.2.2 54)), (1, .int x1)] [] := by
  unfold N_unmark_L2 at h
  exact LOOP2.use (G := fun x1 N => GW κ (wdN τ) 2 (0, 0) (xMQ κ (wdN τ) (xR 0) (xZv Z)) N 2 [(0, .ref (τ.2.2 54)), (1, .int x1)] []) (fun k2 x1 N hk2 h => wk_N_unmark_b2 o hk2 h) h
def N_unmark_b0 (Z : xF → Prop) (N : xF) : Prop := N_unmark_L2 Z N (0 : Int32)
set_option maxRecDepth 10000 in
theorem wk_N_unmark_b0 {κ : Cx} {τ : xT} {Z : xF → Prop} {N : xF} (o : OKc κ (wdN τ) 2 b_N_unmark "StateExplorer$Nodes" none (xR 0)) (h : N_unmark_b0 Z N) : GW κ (wdN τ) 2 (0, 0) (xMQ κ (wdN τ) (xR 0) (xZv Z)) N 0 [(0, .ref (τ.2.2 54))] [] := by
  unfold N_unmark_b0 at h
  refine gw_iconst (pc := 0) (v := (0 : Int32)) o d_N_unmark_0 (by decide) ?_
  refine gw_istore_n (pc := 1) (lv' := [(1, .int (0 : Int32)), (0, .ref (τ.2.2 54))]) o d_N_unmark_1 rfl (by decide) rfl ?_
  exact gw_sub (lv' := [(0, .ref (τ.2.2 54)), (1, .int (0 : Int32))]) [1, 0] rfl (wk_N_unmark_L2 o h)
def w_N_unmark  (N : xF)  (Z : xF → Prop) : Prop := N_unmark_b0  Z N
theorem ct_N_unmark {l : Launch} {τ : xT} {N : xF}  {Z : xF → Prop} (hD : xD (wdN τ)) (h : w_N_unmark  N Z) : CT l (wdN τ) y_N_unmark (.code y_N_unmark b_N_unmark 2 none) (xR 0) [.ref (τ.2.2 54)] N (xZv Z) := by
  subst_vars
  exact CT.of (by decide) (Nat.le_of_ble_eq_true rfl) hD (fun κ hl ha o => gw_sub (lv' := [(0, .ref (τ.2.2 54))]) [0] rfl (wk_N_unmark_b0 o h))
def N_forget_b2 (Z : xF → Prop) (k2 : Int32 → xF → Prop) (N : xF) (x1 : Int32) : Prop := (((16384 : Int32) ≤ x1) → (Z N)) ∧ (¬ ((16384 : Int32) ≤ x1) → (vp_in x1 16384 ∧ (∀ N_15 : xF, N_15 = xs N 13 x1.toNatClampNeg (-1 : Int32) → (∀ x1_16 : Int32, x1_16 = x1 + (1 : Int32) → (k2 x1_16 N_15)))))
set_option maxRecDepth 10000 in
theorem wk_N_forget_b2 {κ : Cx} {τ : xT} {Z : xF → Prop} {k2 : Int32 → xF → Prop} {N : xF} {x1 : Int32} (o : OKc κ (wdN τ) 2 b_N_forget "StateExplorer$Nodes" none (xR 0)) (hk2 : ∀ (x1 : Int32) (N : xF), k2 x1 N → GW κ (wdN τ) 2 (0, 0) (xMQ κ (wdN τ) (xR 0) (xZv Z)) N 2 [(0, .ref (τ.2.2 54)), (1, .int x1)] []) (h : N_forget_b2 Z k2 N x1) : GW κ (wdN τ) 2 (0, 0) (xMQ κ (wdN τ) (xR 0) (xZv Z)) N 2 [(0, .ref (τ.2.2 54)), (1, .int x1)] [] := by
  unfold N_forget_b2 at h
  refine gw_iload_n (pc := 2) o d_N_forget_2 rfl 1 rfl ?_
  refine gw_sipush (pc := 3) (v := (16384 : Int32)) o d_N_forget_3 (by decide) ?_
  refine gw_icmp_ge (pc := 6) (tgt := 22) o d_N_forget_6 (by decide) (fun hc => ?_) (fun hc => ?_)
  · have h := h.1 hc
    exact gw_vret (pc := 22) o ⟨Nat.le_refl _, Nat.le_refl _⟩ ⟨rfl, h⟩ d_N_forget_22
  · have h := h.2 hc
    refine gw_aload_n (pc := 9) o d_N_forget_9 rfl 0 rfl ?_
    refine gN_get_keyKinds (pc := 10) o q_47 d_N_forget_10 ?_
    refine gw_iload_n (pc := 13) o d_N_forget_13 rfl 1 rfl ?_
    refine gw_iconst (pc := 14) (v := (-1 : Int32)) o d_N_forget_14 (by decide) ?_
    have hi := h.1
    have h := h.2
    refine gN_ast_keyKinds (pc := 15) (y := (-1 : Int32)) o hi rfl d_N_forget_15 (fun N_15 eN_15 => ?_)
    have h := h N_15 eN_15
    refine gw_iincN (pc := 16) (c := (1 : Int32)) (lw := fun x1_16 => [(1, .int x1_16), (0, .ref (τ.2.2 54))]) o d_N_forget_16 (by decide) 1 rfl (by decide) (fun _ => rfl) (fun x1_16 ex1_16 => ?_)
    have h := h x1_16 ex1_16
    refine gw_goto (pc := 19) (tgt := 2) o d_N_forget_19 (by decide) ?_
    exact gw_sub (lv' := [(0, .ref (τ.2.2 54)), (1, .int x1_16)]) [1, 0] rfl (hk2 _ _ h)
def N_forget_L2 (Z : xF → Prop) (N : xF) (x1 : Int32) : Prop := LOOP2 (fun k2 x1 N => N_forget_b2 Z k2 N x1) x1 N
theorem wk_N_forget_L2 {κ : Cx} {τ : xT} {Z : xF → Prop} {N : xF} {x1 : Int32} (o : OKc κ (wdN τ) 2 b_N_forget "StateExplorer$Nodes" none (xR 0)) (h : N_forget_L2 Z N x1) : GW κ (wdN τ) 2 (0, 0) (xMQ κ (wdN τ) (xR 0) (xZv Z)) N 2 [(0, .ref (τ.2.2 54)), (1, .int x1)] [] := by
  unfold N_forget_L2 at h
  exact LOOP2.use (G := fun x1 N => GW κ (wdN τ) 2 (0, 0) (xMQ κ (wdN τ) (xR 0) (xZv Z)) N 2 [(0, .ref (τ.2.2 54)), (1, .int x1)] []) (fun k2 x1 N hk2 h => wk_N_forget_b2 o hk2 h) h
def N_forget_b0 (Z : xF → Prop) (N : xF) : Prop := N_forget_L2 Z N (0 : Int32)
set_option maxRecDepth 10000 in
theorem wk_N_forget_b0 {κ : Cx} {τ : xT} {Z : xF → Prop} {N : xF} (o : OKc κ (wdN τ) 2 b_N_forget "StateExplorer$Nodes" none (xR 0)) (h : N_forget_b0 Z N) : GW κ (wdN τ) 2 (0, 0) (xMQ κ (wdN τ) (xR 0) (xZv Z)) N 0 [(0, .ref (τ.2.2 54))] [] := by
  unfold N_forget_b0 at h
  refine gw_iconst (pc := 0) (v := (0 : Int32)) o d_N_forget_0 (by decide) ?_
  refine gw_istore_n (pc := 1) (lv' := [(1, .int (0 : Int32)), (0, .ref (τ.2.2 54))]) o d_N_forget_1 rfl (by decide) rfl ?_
  exact gw_sub (lv' := [(0, .ref (τ.2.2 54)), (1, .int (0 : Int32))]) [1, 0] rfl (wk_N_forget_L2 o h)
def w_N_forget  (N : xF)  (Z : xF → Prop) : Prop := N_forget_b0  Z N
theorem ct_N_forget {l : Launch} {τ : xT} {N : xF}  {Z : xF → Prop} (hD : xD (wdN τ)) (h : w_N_forget  N Z) : CT l (wdN τ) y_N_forget (.code y_N_forget b_N_forget 2 none) (xR 0) [.ref (τ.2.2 54)] N (xZv Z) := by
  subst_vars
  exact CT.of (by decide) (Nat.le_of_ble_eq_true rfl) hD (fun κ hl ha o => gw_sub (lv' := [(0, .ref (τ.2.2 54))]) [0] rfl (wk_N_forget_b0 o h))
def N_sweep_b128 (Z : xF → Prop) (k44 : Int32 → xF → Prop) (N : xF) (x1 : Int32) : Prop := ∀ x1_128 : Int32, x1_128 = x1 + (-1 : Int32) → (k44 x1_128 N)
set_option maxRecDepth 10000 in
theorem wk_N_sweep_b128 {κ : Cx} {τ : xT} {Z : xF → Prop} {k44 : Int32 → xF → Prop} {N : xF} {x1 : Int32} (o : OKc κ (wdN τ) 3 b_N_sweep "StateExplorer$Nodes" none (xR 2)) (hk44 : ∀ (x1 : Int32) (N : xF), k44 x1 N → GW κ (wdN τ) 3 (0, 0) (xMQ κ (wdN τ) (xR 2) (xZv Z)) N 44 [(0, .ref (τ.2.2 54)), (1, .int x1)] []) (h : N_sweep_b128 Z k44 N x1) : GW κ (wdN τ) 3 (0, 0) (xMQ κ (wdN τ) (xR 2) (xZv Z)) N 128 [(0, .ref (τ.2.2 54)), (1, .int x1)] [] := by
  unfold N_sweep_b128 at h
  refine gw_iincN (pc := 128) (c := (-1 : Int32)) (lw := fun x1_128 => [(1, .int x1_128), (0, .ref (τ.2.2 54))]) o d_N_sweep_128 (by decide) 1 rfl (by decide) (fun _ => rfl) (fun x1_128 ex1_128 => ?_)
  have h := h x1_128 ex1_128
  refine gw_goto (pc := 131) (tgt := 44) o d_N_sweep_131 (by decide) ?_
  exact gw_sub (lv' := [(0, .ref (τ.2.2 54)), (1, .int x1_128)]) [1, 0] rfl (hk44 _ _ h)
def N_sweep_b44 (Z : xF → Prop) (k44 : Int32 → xF → Prop) (N : xF) (x1 : Int32) : Prop := ((x1 ≤ (1 : Int32)) → (w_N_unmark N (fun N_135 => w_N_forget N_135 (fun N_139 => Z N_139)))) ∧ (¬ (x1 ≤ (1 : Int32)) → (vp_in x1 262144 ∧ ((((N 5 x1.toNatClampNeg) = 0) → (vp_in x1 262144 ∧ (∀ N_112 : xF, N_112 = xs N 3 x1.toNatClampNeg (N 14 6) → (∀ N_115 : xF, N_115 = xs N_112 14 6 x1 → (∀ N_125 : xF, N_125 = xs N_115 14 8 ((N_115 14 8) + (1 : Int32)) → (N_sweep_b128 Z k44 N_125 x1)))))) ∧ (¬ ((N 5 x1.toNatClampNeg) = 0) → (vp_in x1 262144 ∧ (vp_in x1 262144 ∧ (vp_in x1 262144 ∧ (w_N_chain N (N 0 x1.toNatClampNeg) (N 1 x1.toNatClampNeg) (N 2 x1.toNatClampNeg) (fun r77 => vp_in r77 32768 ∧ (vp_in x1 262144 ∧ (∀ N_92 : xF, N_92 = xs N 3 x1.toNatClampNeg (N 4 r77.toNatClampNeg) → (vp_in r77 32768 ∧ (∀ N_99 : xF, N_99 = xs N_92 4 r77.toNatClampNeg x1 → (N_sweep_b128 Z k44 N_99 x1))))))))))))))
set_option maxRecDepth 10000 in
theorem wk_N_sweep_b44 {κ : Cx} {τ : xT} {Z : xF → Prop} {k44 : Int32 → xF → Prop} {N : xF} {x1 : Int32} (o : OKc κ (wdN τ) 3 b_N_sweep "StateExplorer$Nodes" none (xR 2)) (hk44 : ∀ (x1 : Int32) (N : xF), k44 x1 N → GW κ (wdN τ) 3 (0, 0) (xMQ κ (wdN τ) (xR 2) (xZv Z)) N 44 [(0, .ref (τ.2.2 54)), (1, .int x1)] []) (h : N_sweep_b44 Z k44 N x1) : GW κ (wdN τ) 3 (0, 0) (xMQ κ (wdN τ) (xR 2) (xZv Z)) N 44 [(0, .ref (τ.2.2 54)), (1, .int x1)] [] := by
  unfold N_sweep_b44 at h
  refine gw_iload_n (pc := 44) o d_N_sweep_44 rfl 1 rfl ?_
  refine gw_iconst (pc := 45) (v := (1 : Int32)) o d_N_sweep_45 (by decide) ?_
  refine gw_icmp_le (pc := 46) (tgt := 134) o d_N_sweep_46 (by decide) (fun hc => ?_) (fun hc => ?_)
  · have h := h.1 hc
    refine gw_aload_n (pc := 134) o d_N_sweep_134 rfl 0 rfl ?_
    refine gw_callV (pc := 135) (b := τ.2.2 54) (As := []) (st := []) o (ct_N_unmark o.hD h) mi_N_unmark q_224 q_225 q_226 0 rfl rfl (xRo_of (by omega) (by decide)) rfl rfl (Nat.le_of_ble_eq_true rfl) d_N_sweep_135 (kk_g_v rfl (fun N_135 h => ?_))
    refine gw_aload_n (pc := 138) o d_N_sweep_138 rfl 0 rfl ?_
    refine gw_callV (pc := 139) (b := τ.2.2 54) (As := []) (st := []) o (ct_N_forget o.hD h) mi_N_forget q_28 q_30 qs_0 0 rfl rfl (xRo_of (by omega) (by decide)) rfl rfl (Nat.le_of_ble_eq_true rfl) d_N_sweep_139 (kk_g_v rfl (fun N_139 h => ?_))
    exact gw_vret (pc := 142) o ⟨Nat.le_refl _, Nat.le_refl _⟩ ⟨rfl, h⟩ d_N_sweep_142
  · have h := h.2 hc
    refine gw_aload_n (pc := 49) o d_N_sweep_49 rfl 0 rfl ?_
    refine gN_get_marked (pc := 50) o q_39 d_N_sweep_50 ?_
    refine gw_iload_n (pc := 53) o d_N_sweep_53 rfl 1 rfl ?_
    have hi := h.1
    have h := h.2
    refine gN_ald_marked (pc := 54) o hi d_N_sweep_54 ?_
    refine gw_if_eq (pc := 55) (tgt := 103) o d_N_sweep_55 (by decide) (fun hc => ?_) (fun hc => ?_)
    · have h := h.1 hc
      refine gw_aload_n (pc := 103) o d_N_sweep_103 rfl 0 rfl ?_
      refine gN_get_next (pc := 104) o q_37 d_N_sweep_104 ?_
      refine gw_iload_n (pc := 107) o d_N_sweep_107 rfl 1 rfl ?_
      refine gw_aload_n (pc := 108) o d_N_sweep_108 rfl 0 rfl ?_
      refine gN_get_free (pc := 109) o q_40 d_N_sweep_109 ?_
      have hi := h.1
      have h := h.2
      refine gN_ast_next (pc := 112) o hi d_N_sweep_112 (fun N_112 eN_112 => ?_)
      have h := h N_112 eN_112
      refine gw_aload_n (pc := 113) o d_N_sweep_113 rfl 0 rfl ?_
      refine gw_iload_n (pc := 114) o d_N_sweep_114 rfl 1 rfl ?_
      refine gN_put_free (pc := 115) o q_40 d_N_sweep_115 (fun N_115 eN_115 => ?_)
      have h := h N_115 eN_115
      refine gw_aload_n (pc := 118) o d_N_sweep_118 rfl 0 rfl ?_
      refine gw_dup (pc := 119) o d_N_sweep_119 rfl ?_
      refine gN_get_spare (pc := 120) o q_42 d_N_sweep_120 ?_
      refine gw_iconst (pc := 123) (v := (1 : Int32)) o d_N_sweep_123 (by decide) ?_
      refine gw_iadd (pc := 124) o d_N_sweep_124 ?_
      refine gN_put_spare (pc := 125) o q_42 d_N_sweep_125 (fun N_125 eN_125 => ?_)
      have h := h N_125 eN_125
      exact gw_sub (lv' := [(0, .ref (τ.2.2 54)), (1, .int x1)]) [0, 1] rfl (wk_N_sweep_b128 o hk44 h)
    · have h := h.2 hc
      refine gw_aload_n (pc := 58) o d_N_sweep_58 rfl 0 rfl ?_
      refine gw_aload_n (pc := 59) o d_N_sweep_59 rfl 0 rfl ?_
      refine gN_get_levels (pc := 60) o q_32 d_N_sweep_60 ?_
      refine gw_iload_n (pc := 63) o d_N_sweep_63 rfl 1 rfl ?_
      have hi := h.1
      have h := h.2
      refine gN_ald_levels (pc := 64) o hi d_N_sweep_64 ?_
      refine gw_aload_n (pc := 65) o d_N_sweep_65 rfl 0 rfl ?_
      refine gN_get_lows (pc := 66) o q_33 d_N_sweep_66 ?_
      refine gw_iload_n (pc := 69) o d_N_sweep_69 rfl 1 rfl ?_
      have hi := h.1
      have h := h.2
      refine gN_ald_lows (pc := 70) o hi d_N_sweep_70 ?_
      refine gw_aload_n (pc := 71) o d_N_sweep_71 rfl 0 rfl ?_
      refine gN_get_highs (pc := 72) o q_35 d_N_sweep_72 ?_
      refine gw_iload_n (pc := 75) o d_N_sweep_75 rfl 1 rfl ?_
      have hi := h.1
      have h := h.2
      refine gN_ald_highs (pc := 76) o hi d_N_sweep_76 ?_
      refine gw_callV (pc := 77) (b := τ.2.2 54) (As := [.int (N 0 x1.toNatClampNeg), .int (N 1 x1.toNatClampNeg), .int (N 2 x1.toNatClampNeg)]) (st := []) o (ct_N_chain o.hD h) mi_N_chain q_214 q_216 qs_5 0 rfl rfl (xRo_of (by omega) (by decide)) rfl rfl (Nat.le_of_ble_eq_true rfl) d_N_sweep_77 (kk_p_i rfl (fun r77 h => ?_))
      refine gw_istore_n (pc := 80) (lv' := [(2, .int r77), (0, .ref (τ.2.2 54)), (1, .int x1)]) o d_N_sweep_80 rfl (by decide) rfl ?_
      refine gw_aload_n (pc := 81) o d_N_sweep_81 rfl 1 rfl ?_
      refine gN_get_next (pc := 82) o q_37 d_N_sweep_82 ?_
      refine gw_iload_n (pc := 85) o d_N_sweep_85 rfl 2 rfl ?_
      refine gw_aload_n (pc := 86) o d_N_sweep_86 rfl 1 rfl ?_
      refine gN_get_chains (pc := 87) o q_38 d_N_sweep_87 ?_
      refine gw_iload_n (pc := 90) o d_N_sweep_90 rfl 0 rfl ?_
      have hi := h.1
      have h := h.2
      refine gN_ald_chains (pc := 91) o hi d_N_sweep_91 ?_
      have hi := h.1
      have h := h.2
      refine gN_ast_next (pc := 92) o hi d_N_sweep_92 (fun N_92 eN_92 => ?_)
      have h := h N_92 eN_92
      refine gw_aload_n (pc := 93) o d_N_sweep_93 rfl 1 rfl ?_
      refine gN_get_chains (pc := 94) o q_38 d_N_sweep_94 ?_
      refine gw_iload_n (pc := 97) o d_N_sweep_97 rfl 0 rfl ?_
      refine gw_iload_n (pc := 98) o d_N_sweep_98 rfl 2 rfl ?_
      have hi := h.1
      have h := h.2
      refine gN_ast_chains (pc := 99) o hi d_N_sweep_99 (fun N_99 eN_99 => ?_)
      have h := h N_99 eN_99
      refine gw_goto (pc := 100) (tgt := 128) o d_N_sweep_100 (by decide) ?_
      exact gw_sub (lv' := [(0, .ref (τ.2.2 54)), (1, .int x1)]) [1, 2] rfl (wk_N_sweep_b128 o hk44 h)
def N_sweep_L44 (Z : xF → Prop) (N : xF) (x1 : Int32) : Prop := LOOP2 (fun k44 x1 N => N_sweep_b44 Z k44 N x1) x1 N
theorem wk_N_sweep_L44 {κ : Cx} {τ : xT} {Z : xF → Prop} {N : xF} {x1 : Int32} (o : OKc κ (wdN τ) 3 b_N_sweep "StateExplorer$Nodes" none (xR 2)) (h : N_sweep_L44 Z N x1) : GW κ (wdN τ) 3 (0, 0) (xMQ κ (wdN τ) (xR 2) (xZv Z)) N 44 [(0, .ref (τ.2.2 54)), (1, .int x1)] [] := by
  unfold N_sweep_L44 at h
  exact LOOP2.use (G := fun x1 N => GW κ (wdN τ) 3 (0, 0) (xMQ κ (wdN τ) (xR 2) (xZv Z)) N 44 [(0, .ref (τ.2.2 54)), (1, .int x1)] []) (fun k44 x1 N hk44 h => wk_N_sweep_b44 o hk44 h) h
def N_sweep_b2 (Z : xF → Prop) (k2 : Int32 → xF → Prop) (N : xF) (x1 : Int32) : Prop := (((32768 : Int32) ≤ x1) → (∀ N_23 : xF, N_23 = xs N 14 6 (-1 : Int32) → (∀ N_34 : xF, N_34 = xs N_23 14 8 ((262144 : Int32) - (N_23 14 7)) → (∀ x1_43 : Int32, x1_43 = (N_34 14 7) - (1 : Int32) → (N_sweep_L44 Z N_34 x1_43))))) ∧ (¬ ((32768 : Int32) ≤ x1) → (vp_in x1 32768 ∧ (∀ N_14 : xF, N_14 = xs N 4 x1.toNatClampNeg (-1 : Int32) → (∀ x1_15 : Int32, x1_15 = x1 + (1 : Int32) → (k2 x1_15 N_14)))))
set_option maxRecDepth 10000 in
theorem wk_N_sweep_b2 {κ : Cx} {τ : xT} {Z : xF → Prop} {k2 : Int32 → xF → Prop} {N : xF} {x1 : Int32} (o : OKc κ (wdN τ) 3 b_N_sweep "StateExplorer$Nodes" none (xR 2)) (hk2 : ∀ (x1 : Int32) (N : xF), k2 x1 N → GW κ (wdN τ) 3 (0, 0) (xMQ κ (wdN τ) (xR 2) (xZv Z)) N 2 [(0, .ref (τ.2.2 54)), (1, .int x1)] []) (h : N_sweep_b2 Z k2 N x1) : GW κ (wdN τ) 3 (0, 0) (xMQ κ (wdN τ) (xR 2) (xZv Z)) N 2 [(0, .ref (τ.2.2 54)), (1, .int x1)] [] := by
  unfold N_sweep_b2 at h
  refine gw_iload_n (pc := 2) o d_N_sweep_2 rfl 1 rfl ?_
  refine gw_ldc (pc := 3) o q_26 d_N_sweep_3 ?_
  refine gw_icmp_ge (pc := 5) (tgt := 21) o d_N_sweep_5 (by decide) (fun hc => ?_) (fun hc => ?_)
  · have h := h.1 hc
    refine gw_aload_n (pc := 21) o d_N_sweep_21 rfl 0 rfl ?_
    refine gw_iconst (pc := 22) (v := (-1 : Int32)) o d_N_sweep_22 (by decide) ?_
    refine gN_put_free (pc := 23) o q_40 d_N_sweep_23 (fun N_23 eN_23 => ?_)
    have h := h N_23 eN_23
    refine gw_aload_n (pc := 26) o d_N_sweep_26 rfl 0 rfl ?_
    refine gw_ldc (pc := 27) o q_25 d_N_sweep_27 ?_
    refine gw_aload_n (pc := 29) o d_N_sweep_29 rfl 0 rfl ?_
    refine gN_get_used (pc := 30) o q_41 d_N_sweep_30 ?_
    refine gw_isub (pc := 33) o d_N_sweep_33 ?_
    refine gN_put_spare (pc := 34) o q_42 d_N_sweep_34 (fun N_34 eN_34 => ?_)
    have h := h N_34 eN_34
    refine gw_aload_n (pc := 37) o d_N_sweep_37 rfl 0 rfl ?_
    refine gN_get_used (pc := 38) o q_41 d_N_sweep_38 ?_
    refine gw_iconst (pc := 41) (v := (1 : Int32)) o d_N_sweep_41 (by decide) ?_
    refine gw_isub (pc := 42) o d_N_sweep_42 ?_
    refine gw_topi (fun x1_43 ex1_43 => ?_)
    have h := h x1_43 ex1_43
    refine gw_istore_n (pc := 43) (lv' := [(1, .int x1_43), (0, .ref (τ.2.2 54))]) o d_N_sweep_43 rfl (by decide) rfl ?_
    exact gw_sub (lv' := [(0, .ref (τ.2.2 54)), (1, .int x1_43)]) [1, 0] rfl (wk_N_sweep_L44 o h)
  · have h := h.2 hc
    refine gw_aload_n (pc := 8) o d_N_sweep_8 rfl 0 rfl ?_
    refine gN_get_chains (pc := 9) o q_38 d_N_sweep_9 ?_
    refine gw_iload_n (pc := 12) o d_N_sweep_12 rfl 1 rfl ?_
    refine gw_iconst (pc := 13) (v := (-1 : Int32)) o d_N_sweep_13 (by decide) ?_
    have hi := h.1
    have h := h.2
    refine gN_ast_chains (pc := 14) o hi d_N_sweep_14 (fun N_14 eN_14 => ?_)
    have h := h N_14 eN_14
    refine gw_iincN (pc := 15) (c := (1 : Int32)) (lw := fun x1_15 => [(1, .int x1_15), (0, .ref (τ.2.2 54))]) o d_N_sweep_15 (by decide) 1 rfl (by decide) (fun _ => rfl) (fun x1_15 ex1_15 => ?_)
    have h := h x1_15 ex1_15
    refine gw_goto (pc := 18) (tgt := 2) o d_N_sweep_18 (by decide) ?_
    exact gw_sub (lv' := [(0, .ref (τ.2.2 54)), (1, .int x1_15)]) [1, 0] rfl (hk2 _ _ h)
def N_sweep_L2 (Z : xF → Prop) (N : xF) (x1 : Int32) : Prop := LOOP2 (fun k2 x1 N => N_sweep_b2 Z k2 N x1) x1 N
theorem wk_N_sweep_L2 {κ : Cx} {τ : xT} {Z : xF → Prop} {N : xF} {x1 : Int32} (o : OKc κ (wdN τ) 3 b_N_sweep "StateExplorer$Nodes" none (xR 2)) (h : N_sweep_L2 Z N x1) : GW κ (wdN τ) 3 (0, 0) (xMQ κ (wdN τ) (xR 2) (xZv Z)) N 2 [(0, .ref (τ.2.2 54)), (1, .int x1)] [] := by
  unfold N_sweep_L2 at h
  exact LOOP2.use (G := fun x1 N => GW κ (wdN τ) 3 (0, 0) (xMQ κ (wdN τ) (xR 2) (xZv Z)) N 2 [(0, .ref (τ.2.2 54)), (1, .int x1)] []) (fun k2 x1 N hk2 h => wk_N_sweep_b2 o hk2 h) h
def N_sweep_b0 (Z : xF → Prop) (N : xF) : Prop := N_sweep_L2 Z N (0 : Int32)
set_option maxRecDepth 10000 in
theorem wk_N_sweep_b0 {κ : Cx} {τ : xT} {Z : xF → Prop} {N : xF} (o : OKc κ (wdN τ) 3 b_N_sweep "StateExplorer$Nodes" none (xR 2)) (h : N_sweep_b0 Z N) : GW κ (wdN τ) 3 (0, 0) (xMQ κ (wdN τ) (xR 2) (xZv Z)) N 0 [(0, .ref (τ.2.2 54))] [] := by
  unfold N_sweep_b0 at h
  refine gw_iconst (pc := 0) (v := (0 : Int32)) o d_N_sweep_0 (by decide) ?_
  refine gw_istore_n (pc := 1) (lv' := [(1, .int (0 : Int32)), (0, .ref (τ.2.2 54))]) o d_N_sweep_1 rfl (by decide) rfl ?_
  exact gw_sub (lv' := [(0, .ref (τ.2.2 54)), (1, .int (0 : Int32))]) [1, 0] rfl (wk_N_sweep_L2 o h)
def w_N_sweep  (N : xF)  (Z : xF → Prop) : Prop := N_sweep_b0  Z N
theorem ct_N_sweep {l : Launch} {τ : xT} {N : xF}  {Z : xF → Prop} (hD : xD (wdN τ)) (h : w_N_sweep  N Z) : CT l (wdN τ) y_N_sweep (.code y_N_sweep b_N_sweep 3 none) (xR 2) [.ref (τ.2.2 54)] N (xZv Z) := by
  subst_vars
  exact CT.of (by decide) (Nat.le_of_ble_eq_true rfl) hD (fun κ hl ha o => gw_sub (lv' := [(0, .ref (τ.2.2 54))]) [0] rfl (wk_N_sweep_b0 o h))
def N_level_b0 (Z : Int32 → Prop) (N : xF) (x1 : Int32) : Prop := vp_in x1 262144 ∧ (Z (N 0 x1.toNatClampNeg))
set_option maxRecDepth 10000 in
theorem wk_N_level_b0 {κ : Cx} {τ : xT} {Z : Int32 → Prop} {N : xF} {x1 : Int32} (o : OKc κ (wdN τ) 2 b_N_level "StateExplorer$Nodes" (some .int) (xR 0)) (h : N_level_b0 Z N x1) : GW κ (wdN τ) 2 (0, 0) (xMQ κ (wdN τ) (xR 0) (xZi (fun r Y => Y = N ∧ Z r))) N 0 [(0, .ref (τ.2.2 54)), (1, .int x1)] [] := by
  unfold N_level_b0 at h
  refine gw_aload_n (pc := 0) o d_N_level_0 rfl 0 rfl ?_
  refine gN_get_levels (pc := 1) o q_32 d_N_level_1 ?_
  refine gw_iload_n (pc := 4) o d_N_level_4 rfl 1 rfl ?_
  have hi := h.1
  have h := h.2
  refine gN_ald_levels (pc := 5) o hi d_N_level_5 ?_
  exact gw_iret (pc := 6) o ⟨Nat.le_refl _, Nat.le_refl _⟩ ⟨_, rfl, rfl, h⟩ d_N_level_6
def w_N_level  (N : xF) (x1 : Int32) (Z : Int32 → Prop) : Prop := N_level_b0  Z N x1
theorem ct_N_level {l : Launch} {τ : xT} {N : xF} {x1 : Int32} {Z : Int32 → Prop} (hD : xD (wdN τ)) (h : w_N_level  N x1 Z) : CT l (wdN τ) y_N_level (.code y_N_level b_N_level 2 (some .int)) (xR 0) [.ref (τ.2.2 54), .int x1] N (xZi (fun r Y => Y = N ∧ Z r)) := by
  subst_vars
  exact CT.of (by decide) (Nat.le_of_ble_eq_true rfl) hD (fun κ hl ha o => gw_sub (lv' := [(0, .ref (τ.2.2 54)), (1, .int x1)]) [0, 1] rfl (wk_N_level_b0 o h))
def X_first_b0 (Z : Int32 → Prop) (N : xF) (x1 : Int32) (x2 : Int32) (x3 : Int32) : Prop := w_N_level N x1 (fun r2 => w_N_level N x2 (fun r7 => w_N_level N x3 (fun r12 => Z (if (if r12 < r7 then r12 else r7) < r2 then (if r12 < r7 then r12 else r7) else r2))))
set_option maxRecDepth 10000 in
theorem wk_X_first_b0 {κ : Cx} {τ : xT} {Z : Int32 → Prop} {N : xF} {x1 : Int32} {x2 : Int32} {x3 : Int32} (o : OKc κ (wdN τ) 4 b_X_first "StateExplorer" (some .int) (xR 1)) (h : X_first_b0 Z N x1 x2 x3) : GW κ (wdN τ) 4 (0, 0) (xMQ κ (wdN τ) (xR 1) (xZi (fun r Y => Y = N ∧ Z r))) N 0 [(0, .ref (τ.2.2 54)), (1, .int x1), (2, .int x2), (3, .int x3)] [] := by
  unfold X_first_b0 at h
  refine gw_aload_n (pc := 0) o d_X_first_0 rfl 0 rfl ?_
  refine gw_iload_n (pc := 1) o d_X_first_1 rfl 1 rfl ?_
  refine gw_callV (pc := 2) (b := τ.2.2 54) (As := [.int x1]) (st := []) o (ct_N_level o.hD h) mi_N_level q_254 q_255 q_256 0 rfl rfl (xRo_of (by omega) (by decide)) rfl rfl (Nat.le_of_ble_eq_true rfl) d_X_first_2 (kk_p_i rfl (fun r2 h => ?_))
  refine gw_aload_n (pc := 5) o d_X_first_5 rfl 0 rfl ?_
  refine gw_iload_n (pc := 6) o d_X_first_6 rfl 2 rfl ?_
  refine gw_callV (pc := 7) (b := τ.2.2 54) (As := [.int x2]) (st := [.int r2]) o (ct_N_level o.hD h) mi_N_level q_254 q_255 q_256 0 rfl rfl (xRo_of (by omega) (by decide)) rfl rfl (Nat.le_of_ble_eq_true rfl) d_X_first_7 (kk_p_i rfl (fun r7 h => ?_))
  refine gw_aload_n (pc := 10) o d_X_first_10 rfl 0 rfl ?_
  refine gw_iload_n (pc := 11) o d_X_first_11 rfl 3 rfl ?_
  refine gw_callV (pc := 12) (b := τ.2.2 54) (As := [.int x3]) (st := [.int r7, .int r2]) o (ct_N_level o.hD h) mi_N_level q_254 q_255 q_256 0 rfl rfl (xRo_of (by omega) (by decide)) rfl rfl (Nat.le_of_ble_eq_true rfl) d_X_first_12 (kk_p_i rfl (fun r12 h => ?_))
  refine gw_min (pc := 15) o q_258 q_259 q_10 q_260 (by decide) (Nat.le_of_ble_eq_true rfl) ⟨Nat.le_refl _, Nat.le_refl _⟩ d_X_first_15 ?_
  refine gw_min (pc := 18) o q_258 q_259 q_10 q_260 (by decide) (Nat.le_of_ble_eq_true rfl) ⟨Nat.le_refl _, Nat.le_refl _⟩ d_X_first_18 ?_
  exact gw_iret (pc := 21) o ⟨Nat.le_refl _, Nat.le_refl _⟩ ⟨_, rfl, rfl, h⟩ d_X_first_21
def w_X_first  (N : xF) (x1 : Int32) (x2 : Int32) (x3 : Int32) (Z : Int32 → Prop) : Prop := X_first_b0  Z N x1 x2 x3
theorem ct_X_first {l : Launch} {τ : xT} {N : xF} {x1 : Int32} {x2 : Int32} {x3 : Int32} {Z : Int32 → Prop} (hD : xD (wdN τ)) (h : w_X_first  N x1 x2 x3 Z) : CT l (wdN τ) y_X_first (.code y_X_first b_X_first 4 (some .int)) (xR 1) [.ref (τ.2.2 54), .int x1, .int x2, .int x3] N (xZi (fun r Y => Y = N ∧ Z r)) := by
  subst_vars
  exact CT.of (by decide) (Nat.le_of_ble_eq_true rfl) hD (fun κ hl ha o => gw_sub (lv' := [(0, .ref (τ.2.2 54)), (1, .int x1), (2, .int x2), (3, .int x3)]) [0, 1, 2, 3] rfl (wk_X_first_b0 o h))
def N_place_b0 (Z : Int32 → Prop) (N : xF) (x1 : Int32) (x2 : Int32) (x3 : Int32) (x4 : Int32) : Prop := w_N_mixed (x2 + x1) x3 x4 (fun r6 => Z (r6 &&& (16383 : Int32)))
set_option maxRecDepth 10000 in
theorem wk_N_place_b0 {κ : Cx} {τ : xT} {Z : Int32 → Prop} {N : xF} {x1 : Int32} {x2 : Int32} {x3 : Int32} {x4 : Int32} (o : OKc κ (wdN τ) 5 b_N_place "StateExplorer$Nodes" (some .int) (xR 1)) (h : N_place_b0 Z N x1 x2 x3 x4) : GW κ (wdN τ) 5 (0, 0) (xMQ κ (wdN τ) (xR 1) (xZi (fun r Y => Y = N ∧ Z r))) N 0 [(0, .ref (τ.2.2 54)), (1, .int x1), (2, .int x2), (3, .int x3), (4, .int x4)] [] := by
  unfold N_place_b0 at h
  refine gw_iload_n (pc := 0) o d_N_place_0 rfl 2 rfl ?_
  refine gw_iload_n (pc := 1) o d_N_place_1 rfl 1 rfl ?_
  refine gw_iadd (pc := 2) o d_N_place_2 ?_
  refine gw_iload_n (pc := 3) o d_N_place_3 rfl 3 rfl ?_
  refine gw_iload (pc := 4) o d_N_place_4 4 rfl ?_
  refine gw_callS (pc := 6) (As := [.int (x2 + x1), .int x3, .int x4]) (st := []) o (ct_N_mixed o.hD h) mi_N_mixed q_218 q_219 (xRo_of (by omega) (by decide)) rfl rfl (Nat.le_of_ble_eq_true rfl) d_N_place_6 (kk_p_i rfl (fun r6 h => ?_))
  refine gw_sipush (pc := 9) (v := (16383 : Int32)) o d_N_place_9 (by decide) ?_
  refine gw_iand (pc := 12) o d_N_place_12 ?_
  exact gw_iret (pc := 13) o ⟨Nat.le_refl _, Nat.le_refl _⟩ ⟨_, rfl, rfl, h⟩ d_N_place_13
def w_N_place  (N : xF) (x1 : Int32) (x2 : Int32) (x3 : Int32) (x4 : Int32) (Z : Int32 → Prop) : Prop := N_place_b0  Z N x1 x2 x3 x4
theorem ct_N_place {l : Launch} {τ : xT} {N : xF} {x1 : Int32} {x2 : Int32} {x3 : Int32} {x4 : Int32} {Z : Int32 → Prop} (hD : xD (wdN τ)) (h : w_N_place  N x1 x2 x3 x4 Z) : CT l (wdN τ) y_N_place (.code y_N_place b_N_place 5 (some .int)) (xR 1) [.ref (τ.2.2 54), .int x1, .int x2, .int x3, .int x4] N (xZi (fun r Y => Y = N ∧ Z r)) := by
  subst_vars
  exact CT.of (by decide) (Nat.le_of_ble_eq_true rfl) hD (fun κ hl ha o => gw_sub (lv' := [(0, .ref (τ.2.2 54)), (1, .int x1), (2, .int x2), (3, .int x3), (4, .int x4)]) [0, 1, 2, 3, 4] rfl (wk_N_place_b0 o h))
def N_known_b67 (Z : Int32 → Prop) (N : xF) (s0 : Int32) : Prop := Z s0
set_option maxRecDepth 10000 in
theorem wk_N_known_b67 {κ : Cx} {τ : xT} {Z : Int32 → Prop} {N : xF} {s0 : Int32} (o : OKc κ (wdN τ) 6 b_N_known "StateExplorer$Nodes" (some .int) (xR 2)) (h : N_known_b67 Z N s0) : GW κ (wdN τ) 6 (0, 0) (xMQ κ (wdN τ) (xR 2) (xZi (fun r Y => Y = N ∧ Z r))) N 67 [] [.int s0] := by
  unfold N_known_b67 at h
  exact gw_iret (pc := 67) o ⟨Nat.le_refl _, Nat.le_refl _⟩ ⟨_, rfl, rfl, h⟩ d_N_known_67
def N_known_b66 (Z : Int32 → Prop) (N : xF) : Prop := N_known_b67 Z N (-1 : Int32)
set_option maxRecDepth 10000 in
theorem wk_N_known_b66 {κ : Cx} {τ : xT} {Z : Int32 → Prop} {N : xF} (o : OKc κ (wdN τ) 6 b_N_known "StateExplorer$Nodes" (some .int) (xR 2)) (h : N_known_b66 Z N) : GW κ (wdN τ) 6 (0, 0) (xMQ κ (wdN τ) (xR 2) (xZi (fun r Y => Y = N ∧ Z r))) N 66 [] [] := by
  unfold N_known_b66 at h
  refine gw_iconst (pc := 66) (v := (-1 : Int32)) o d_N_known_66 (by decide) ?_
  exact gw_sub (lv' := []) [] rfl (wk_N_known_b67 o h)
def N_known_b0 (Z : Int32 → Prop) (N : xF) (x1 : Int32) (x2 : Int32) (x3 : Int32) (x4 : Int32) : Prop := w_N_place N x1 x2 x3 x4 (fun r6 => vp_in r6 16384 ∧ ((((N 13 r6.toNatClampNeg) = x1) → (vp_in r6 16384 ∧ ((((N 9 r6.toNatClampNeg) = x2) → (vp_in r6 16384 ∧ ((((N 10 r6.toNatClampNeg) = x3) → (vp_in r6 16384 ∧ ((((N 11 r6.toNatClampNeg) = x4) → (vp_in r6 16384 ∧ (N_known_b67 Z N (N 12 r6.toNatClampNeg)))) ∧ (¬ ((N 11 r6.toNatClampNeg) = x4) → (N_known_b66 Z N))))) ∧ (¬ ((N 10 r6.toNatClampNeg) = x3) → (N_known_b66 Z N))))) ∧ (¬ ((N 9 r6.toNatClampNeg) = x2) → (N_known_b66 Z N))))) ∧ (¬ ((N 13 r6.toNatClampNeg) = x1) → (N_known_b66 Z N))))
set_option maxRecDepth 10000 in
theorem wk_N_known_b0 {κ : Cx} {τ : xT} {Z : Int32 → Prop} {N : xF} {x1 : Int32} {x2 : Int32} {x3 : Int32} {x4 : Int32} (o : OKc κ (wdN τ) 6 b_N_known "StateExplorer$Nodes" (some .int) (xR 2)) (h : N_known_b0 Z N x1 x2 x3 x4) : GW κ (wdN τ) 6 (0, 0) (xMQ κ (wdN τ) (xR 2) (xZi (fun r Y => Y = N ∧ Z r))) N 0 [(0, .ref (τ.2.2 54)), (1, .int x1), (2, .int x2), (3, .int x3), (4, .int x4)] [] := by
  unfold N_known_b0 at h
  refine gw_aload_n (pc := 0) o d_N_known_0 rfl 0 rfl ?_
  refine gw_iload_n (pc := 1) o d_N_known_1 rfl 1 rfl ?_
  refine gw_iload_n (pc := 2) o d_N_known_2 rfl 2 rfl ?_
  refine gw_iload_n (pc := 3) o d_N_known_3 rfl 3 rfl ?_
  refine gw_iload (pc := 4) o d_N_known_4 4 rfl ?_
  refine gw_callV (pc := 6) (b := τ.2.2 54) (As := [.int x1, .int x2, .int x3, .int x4]) (st := []) o (ct_N_place o.hD h) mi_N_place q_247 q_249 qs_8 0 rfl rfl (xRo_of (by omega) (by decide)) rfl rfl (Nat.le_of_ble_eq_true rfl) d_N_known_6 (kk_p_i rfl (fun r6 h => ?_))
  refine gw_istore (pc := 9) (lv' := [(5, .int r6), (0, .ref (τ.2.2 54)), (1, .int x1), (2, .int x2), (3, .int x3), (4, .int x4)]) o d_N_known_9 (by decide) rfl ?_
  refine gw_aload_n (pc := 11) o d_N_known_11 rfl 1 rfl ?_
  refine gN_get_keyKinds (pc := 12) o q_47 d_N_known_12 ?_
  refine gw_iload (pc := 15) o d_N_known_15 0 rfl ?_
  have hi := h.1
  have h := h.2
  refine gN_ald_keyKinds (pc := 17) o hi d_N_known_17 ?_
  refine gw_iload_n (pc := 18) o d_N_known_18 rfl 2 rfl ?_
  refine gw_icmp_ne (pc := 19) (tgt := 66) o d_N_known_19 (by decide) (fun hc => ?_) (fun hc => ?_)
  · have h := h.2 hc
    exact gw_sub (lv' := []) [] rfl (wk_N_known_b66 o h)
  · have h := h.1 hc
    refine gw_aload_n (pc := 22) o d_N_known_22 rfl 1 rfl ?_
    refine gN_get_keyA (pc := 23) o q_43 d_N_known_23 ?_
    refine gw_iload (pc := 26) o d_N_known_26 0 rfl ?_
    have hi := h.1
    have h := h.2
    refine gN_ald_keyA (pc := 28) o hi d_N_known_28 ?_
    refine gw_iload_n (pc := 29) o d_N_known_29 rfl 3 rfl ?_
    refine gw_icmp_ne (pc := 30) (tgt := 66) o d_N_known_30 (by decide) (fun hc => ?_) (fun hc => ?_)
    · have h := h.2 hc
      exact gw_sub (lv' := []) [] rfl (wk_N_known_b66 o h)
    · have h := h.1 hc
      refine gw_aload_n (pc := 33) o d_N_known_33 rfl 1 rfl ?_
      refine gN_get_keyB (pc := 34) o q_44 d_N_known_34 ?_
      refine gw_iload (pc := 37) o d_N_known_37 0 rfl ?_
      have hi := h.1
      have h := h.2
      refine gN_ald_keyB (pc := 39) o hi d_N_known_39 ?_
      refine gw_iload_n (pc := 40) o d_N_known_40 rfl 4 rfl ?_
      refine gw_icmp_ne (pc := 41) (tgt := 66) o d_N_known_41 (by decide) (fun hc => ?_) (fun hc => ?_)
      · have h := h.2 hc
        exact gw_sub (lv' := []) [] rfl (wk_N_known_b66 o h)
      · have h := h.1 hc
        refine gw_aload_n (pc := 44) o d_N_known_44 rfl 1 rfl ?_
        refine gN_get_keyC (pc := 45) o q_45 d_N_known_45 ?_
        refine gw_iload (pc := 48) o d_N_known_48 0 rfl ?_
        have hi := h.1
        have h := h.2
        refine gN_ald_keyC (pc := 50) o hi d_N_known_50 ?_
        refine gw_iload (pc := 51) o d_N_known_51 5 rfl ?_
        refine gw_icmp_ne (pc := 53) (tgt := 66) o d_N_known_53 (by decide) (fun hc => ?_) (fun hc => ?_)
        · have h := h.2 hc
          exact gw_sub (lv' := []) [] rfl (wk_N_known_b66 o h)
        · have h := h.1 hc
          refine gw_aload_n (pc := 56) o d_N_known_56 rfl 1 rfl ?_
          refine gN_get_results (pc := 57) o q_46 d_N_known_57 ?_
          refine gw_iload (pc := 60) o d_N_known_60 0 rfl ?_
          have hi := h.1
          have h := h.2
          refine gN_ald_results (pc := 62) o hi d_N_known_62 ?_
          refine gw_goto (pc := 63) (tgt := 67) o d_N_known_63 (by decide) ?_
          exact gw_sub (lv' := []) [] rfl (wk_N_known_b67 o h)
def w_N_known  (N : xF) (x1 : Int32) (x2 : Int32) (x3 : Int32) (x4 : Int32) (Z : Int32 → Prop) : Prop := N_known_b0  Z N x1 x2 x3 x4
theorem ct_N_known {l : Launch} {τ : xT} {N : xF} {x1 : Int32} {x2 : Int32} {x3 : Int32} {x4 : Int32} {Z : Int32 → Prop} (hD : xD (wdN τ)) (h : w_N_known  N x1 x2 x3 x4 Z) : CT l (wdN τ) y_N_known (.code y_N_known b_N_known 6 (some .int)) (xR 2) [.ref (τ.2.2 54), .int x1, .int x2, .int x3, .int x4] N (xZi (fun r Y => Y = N ∧ Z r)) := by
  subst_vars
  exact CT.of (by decide) (Nat.le_of_ble_eq_true rfl) hD (fun κ hl ha o => gw_sub (lv' := [(0, .ref (τ.2.2 54)), (1, .int x1), (2, .int x2), (3, .int x3), (4, .int x4)]) [0, 1, 2, 3, 4] rfl (wk_N_known_b0 o h))
def N_cofactor_b33 (Z : Int32 → Prop) (N : xF) (s0 : Int32) : Prop := Z s0
set_option maxRecDepth 10000 in
theorem wk_N_cofactor_b33 {κ : Cx} {τ : xT} {Z : Int32 → Prop} {N : xF} {s0 : Int32} (o : OKc κ (wdN τ) 4 b_N_cofactor "StateExplorer$Nodes" (some .int) (xR 0)) (h : N_cofactor_b33 Z N s0) : GW κ (wdN τ) 4 (0, 0) (xMQ κ (wdN τ) (xR 0) (xZi (fun r Y => Y = N ∧ Z r))) N 33 [] [.int s0] := by
  unfold N_cofactor_b33 at h
  exact gw_iret (pc := 33) o ⟨Nat.le_refl _, Nat.le_refl _⟩ ⟨_, rfl, rfl, h⟩ d_N_cofactor_33
def N_cofactor_b0 (Z : Int32 → Prop) (N : xF) (x1 : Int32) (x2 : Int32) (x3 : Int32) : Prop := vp_in x1 262144 ∧ ((((N 0 x1.toNatClampNeg) = x2) → (((x3 = 0) → (vp_in x1 262144 ∧ (N_cofactor_b33 Z N (N 1 x1.toNatClampNeg)))) ∧ (¬ (x3 = 0) → (vp_in x1 262144 ∧ (N_cofactor_b33 Z N (N 2 x1.toNatClampNeg)))))) ∧ (¬ ((N 0 x1.toNatClampNeg) = x2) → (N_cofactor_b33 Z N x1)))
set_option maxRecDepth 10000 in
theorem wk_N_cofactor_b0 {κ : Cx} {τ : xT} {Z : Int32 → Prop} {N : xF} {x1 : Int32} {x2 : Int32} {x3 : Int32} (o : OKc κ (wdN τ) 4 b_N_cofactor "StateExplorer$Nodes" (some .int) (xR 0)) (h : N_cofactor_b0 Z N x1 x2 x3) : GW κ (wdN τ) 4 (0, 0) (xMQ κ (wdN τ) (xR 0) (xZi (fun r Y => Y = N ∧ Z r))) N 0 [(0, .ref (τ.2.2 54)), (1, .int x1), (2, .int x2), (3, .int x3)] [] := by
  unfold N_cofactor_b0 at h
  refine gw_aload_n (pc := 0) o d_N_cofactor_0 rfl 0 rfl ?_
  refine gN_get_levels (pc := 1) o q_32 d_N_cofactor_1 ?_
  refine gw_iload_n (pc := 4) o d_N_cofactor_4 rfl 1 rfl ?_
  have hi := h.1
  have h := h.2
  refine gN_ald_levels (pc := 5) o hi d_N_cofactor_5 ?_
  refine gw_iload_n (pc := 6) o d_N_cofactor_6 rfl 2 rfl ?_
  refine gw_icmp_eq (pc := 7) (tgt := 14) o d_N_cofactor_7 (by decide) (fun hc => ?_) (fun hc => ?_)
  · have h := h.1 hc
    refine gw_iload_n (pc := 14) o d_N_cofactor_14 rfl 3 rfl ?_
    refine gw_if_eq (pc := 15) (tgt := 27) o d_N_cofactor_15 (by decide) (fun hc => ?_) (fun hc => ?_)
    · have h := h.1 hc
      refine gw_aload_n (pc := 27) o d_N_cofactor_27 rfl 0 rfl ?_
      refine gN_get_lows (pc := 28) o q_33 d_N_cofactor_28 ?_
      refine gw_iload_n (pc := 31) o d_N_cofactor_31 rfl 1 rfl ?_
      have hi := h.1
      have h := h.2
      refine gN_ald_lows (pc := 32) o hi d_N_cofactor_32 ?_
      exact gw_sub (lv' := []) [] rfl (wk_N_cofactor_b33 o h)
    · have h := h.2 hc
      refine gw_aload_n (pc := 18) o d_N_cofactor_18 rfl 0 rfl ?_
      refine gN_get_highs (pc := 19) o q_35 d_N_cofactor_19 ?_
      refine gw_iload_n (pc := 22) o d_N_cofactor_22 rfl 1 rfl ?_
      have hi := h.1
      have h := h.2
      refine gN_ald_highs (pc := 23) o hi d_N_cofactor_23 ?_
      refine gw_goto (pc := 24) (tgt := 33) o d_N_cofactor_24 (by decide) ?_
      exact gw_sub (lv' := []) [] rfl (wk_N_cofactor_b33 o h)
  · have h := h.2 hc
    refine gw_iload_n (pc := 10) o d_N_cofactor_10 rfl 1 rfl ?_
    refine gw_goto (pc := 11) (tgt := 33) o d_N_cofactor_11 (by decide) ?_
    exact gw_sub (lv' := []) [] rfl (wk_N_cofactor_b33 o h)
def w_N_cofactor  (N : xF) (x1 : Int32) (x2 : Int32) (x3 : Int32) (Z : Int32 → Prop) : Prop := N_cofactor_b0  Z N x1 x2 x3
theorem ct_N_cofactor {l : Launch} {τ : xT} {N : xF} {x1 : Int32} {x2 : Int32} {x3 : Int32} {Z : Int32 → Prop} (hD : xD (wdN τ)) (h : w_N_cofactor  N x1 x2 x3 Z) : CT l (wdN τ) y_N_cofactor (.code y_N_cofactor b_N_cofactor 4 (some .int)) (xR 0) [.ref (τ.2.2 54), .int x1, .int x2, .int x3] N (xZi (fun r Y => Y = N ∧ Z r)) := by
  subst_vars
  exact CT.of (by decide) (Nat.le_of_ble_eq_true rfl) hD (fun κ hl ha o => gw_sub (lv' := [(0, .ref (τ.2.2 54)), (1, .int x1), (2, .int x2), (3, .int x3)]) [0, 1, 2, 3] rfl (wk_N_cofactor_b0 o h))
def N_take_b0 (Z : Int32 → xF → Prop) (N : xF) : Prop := ∀ N_7 : xF, N_7 = xs N 14 8 ((N 14 8) - (1 : Int32)) → ((((N_7 14 6) = (-1 : Int32)) → (∀ N_25 : xF, N_25 = xs N_7 14 7 ((N_7 14 7) + (1 : Int32)) → (Z ((N_25 14 7) - (1 : Int32)) N_25))) ∧ (¬ ((N_7 14 6) = (-1 : Int32)) → (∀ x1_39 : Int32, x1_39 = N_7 14 6 → (vp_in x1_39 262144 ∧ (∀ N_47 : xF, N_47 = xs N_7 14 6 (N_7 3 x1_39.toNatClampNeg) → (Z x1_39 N_47))))))
set_option maxRecDepth 10000 in
theorem wk_N_take_b0 {κ : Cx} {τ : xT} {Z : Int32 → xF → Prop} {N : xF} (o : OKc κ (wdN τ) 2 b_N_take "StateExplorer$Nodes" (some .int) (xR 0)) (h : N_take_b0 Z N) : GW κ (wdN τ) 2 (0, 0) (xMQ κ (wdN τ) (xR 0) (xZi Z)) N 0 [(0, .ref (τ.2.2 54))] [] := by
  unfold N_take_b0 at h
  refine gw_aload_n (pc := 0) o d_N_take_0 rfl 0 rfl ?_
  refine gw_dup (pc := 1) o d_N_take_1 rfl ?_
  refine gN_get_spare (pc := 2) o q_42 d_N_take_2 ?_
  refine gw_iconst (pc := 5) (v := (1 : Int32)) o d_N_take_5 (by decide) ?_
  refine gw_isub (pc := 6) o d_N_take_6 ?_
  refine gN_put_spare (pc := 7) o q_42 d_N_take_7 (fun N_7 eN_7 => ?_)
  have h := h N_7 eN_7
  refine gw_aload_n (pc := 10) o d_N_take_10 rfl 0 rfl ?_
  refine gN_get_free (pc := 11) o q_40 d_N_take_11 ?_
  refine gw_iconst (pc := 14) (v := (-1 : Int32)) o d_N_take_14 (by decide) ?_
  refine gw_icmp_ne (pc := 15) (tgt := 35) o d_N_take_15 (by decide) (fun hc => ?_) (fun hc => ?_)
  · have h := h.2 hc
    refine gw_aload_n (pc := 35) o d_N_take_35 rfl 0 rfl ?_
    refine gN_get_free (pc := 36) o q_40 d_N_take_36 ?_
    refine gw_topi (fun x1_39 ex1_39 => ?_)
    have h := h x1_39 ex1_39
    refine gw_istore_n (pc := 39) (lv' := [(1, .int x1_39), (0, .ref (τ.2.2 54))]) o d_N_take_39 rfl (by decide) rfl ?_
    refine gw_aload_n (pc := 40) o d_N_take_40 rfl 1 rfl ?_
    refine gw_aload_n (pc := 41) o d_N_take_41 rfl 1 rfl ?_
    refine gN_get_next (pc := 42) o q_37 d_N_take_42 ?_
    refine gw_iload_n (pc := 45) o d_N_take_45 rfl 0 rfl ?_
    have hi := h.1
    have h := h.2
    refine gN_ald_next (pc := 46) o hi d_N_take_46 ?_
    refine gN_put_free (pc := 47) o q_40 d_N_take_47 (fun N_47 eN_47 => ?_)
    have h := h N_47 eN_47
    refine gw_iload_n (pc := 50) o d_N_take_50 rfl 0 rfl ?_
    exact gw_iret (pc := 51) o ⟨Nat.le_refl _, Nat.le_refl _⟩ ⟨_, rfl, h⟩ d_N_take_51
  · have h := h.1 hc
    refine gw_aload_n (pc := 18) o d_N_take_18 rfl 0 rfl ?_
    refine gw_dup (pc := 19) o d_N_take_19 rfl ?_
    refine gN_get_used (pc := 20) o q_41 d_N_take_20 ?_
    refine gw_iconst (pc := 23) (v := (1 : Int32)) o d_N_take_23 (by decide) ?_
    refine gw_iadd (pc := 24) o d_N_take_24 ?_
    refine gN_put_used (pc := 25) o q_41 d_N_take_25 (fun N_25 eN_25 => ?_)
    have h := h N_25 eN_25
    refine gw_aload_n (pc := 28) o d_N_take_28 rfl 0 rfl ?_
    refine gN_get_used (pc := 29) o q_41 d_N_take_29 ?_
    refine gw_iconst (pc := 32) (v := (1 : Int32)) o d_N_take_32 (by decide) ?_
    refine gw_isub (pc := 33) o d_N_take_33 ?_
    exact gw_iret (pc := 34) o ⟨Nat.le_refl _, Nat.le_refl _⟩ ⟨_, rfl, h⟩ d_N_take_34
def w_N_take  (N : xF)  (Z : Int32 → xF → Prop) : Prop := N_take_b0  Z N
theorem ct_N_take {l : Launch} {τ : xT} {N : xF}  {Z : Int32 → xF → Prop} (hD : xD (wdN τ)) (h : w_N_take  N Z) : CT l (wdN τ) y_N_take (.code y_N_take b_N_take 2 (some .int)) (xR 0) [.ref (τ.2.2 54)] N (xZi Z) := by
  subst_vars
  exact CT.of (by decide) (Nat.le_of_ble_eq_true rfl) hD (fun κ hl ha o => gw_sub (lv' := [(0, .ref (τ.2.2 54))]) [0] rfl (wk_N_take_b0 o h))
def N_node_b64 (Z : Int32 → xF → Prop) (k25 : Int32 → Prop) (N : xF) (x1 : Int32) (x2 : Int32) (x3 : Int32) (x4 : Int32) (x5 : Int32) : Prop := vp_in x5 262144 ∧ (∀ x5_71 : Int32, x5_71 = N 3 x5.toNatClampNeg → (k25 x5_71))
set_option maxRecDepth 10000 in
theorem wk_N_node_b64 {κ : Cx} {τ : xT} {Z : Int32 → xF → Prop} {k25 : Int32 → Prop} {N : xF} {x1 : Int32} {x2 : Int32} {x3 : Int32} {x4 : Int32} {x5 : Int32} (o : OKc κ (wdN τ) 6 b_N_node "StateExplorer$Nodes" (some .int) (xR 2)) (hk25 : ∀ (x5 : Int32), k25 x5 → GW κ (wdN τ) 6 (0, 0) (xMQ κ (wdN τ) (xR 2) (xZi Z)) N 25 [(0, .ref (τ.2.2 54)), (1, .int x1), (2, .int x2), (3, .int x3), (4, .int x4), (5, .int x5)] []) (h : N_node_b64 Z k25 N x1 x2 x3 x4 x5) : GW κ (wdN τ) 6 (0, 0) (xMQ κ (wdN τ) (xR 2) (xZi Z)) N 64 [(0, .ref (τ.2.2 54)), (1, .int x1), (2, .int x2), (3, .int x3), (4, .int x4), (5, .int x5)] [] := by
  unfold N_node_b64 at h
  refine gw_aload_n (pc := 64) o d_N_node_64 rfl 0 rfl ?_
  refine gN_get_next (pc := 65) o q_37 d_N_node_65 ?_
  refine gw_iload (pc := 68) o d_N_node_68 5 rfl ?_
  have hi := h.1
  have h := h.2
  refine gN_ald_next (pc := 70) o hi d_N_node_70 ?_
  refine gw_topi (fun x5_71 ex5_71 => ?_)
  have h := h x5_71 ex5_71
  refine gw_istore (pc := 71) (lv' := [(5, .int x5_71), (0, .ref (τ.2.2 54)), (1, .int x1), (2, .int x2), (3, .int x3), (4, .int x4)]) o d_N_node_71 (by decide) rfl ?_
  refine gw_goto (pc := 73) (tgt := 25) o d_N_node_73 (by decide) ?_
  exact gw_sub (lv' := [(0, .ref (τ.2.2 54)), (1, .int x1), (2, .int x2), (3, .int x3), (4, .int x4), (5, .int x5_71)]) [1, 2, 3, 4, 5, 0] rfl (hk25 _ h)
def N_node_b76 (Z : Int32 → xF → Prop) (N : xF) (x1 : Int32) (x2 : Int32) (x3 : Int32) (x4 : Int32) (x5 : Int32) : Prop := ((x5 = (-1 : Int32)) → (w_N_take N (fun r86 N_86 => vp_in r86 262144 ∧ (∀ N_99 : xF, N_99 = xs N_86 0 r86.toNatClampNeg (x1.toInt8.toInt32) → (vp_in r86 262144 ∧ (∀ N_107 : xF, N_107 = xs N_99 1 r86.toNatClampNeg x2 → (vp_in r86 262144 ∧ (∀ N_115 : xF, N_115 = xs N_107 2 r86.toNatClampNeg x3 → (vp_in x4 32768 ∧ (vp_in r86 262144 ∧ (∀ N_129 : xF, N_129 = xs N_115 3 r86.toNatClampNeg (N_115 4 x4.toNatClampNeg) → (vp_in x4 32768 ∧ (∀ N_138 : xF, N_138 = xs N_129 4 x4.toNatClampNeg r86 → (Z r86 N_138)))))))))))))) ∧ (¬ (x5 = (-1 : Int32)) → (Z x5 N))
set_option maxRecDepth 10000 in
theorem wk_N_node_b76 {κ : Cx} {τ : xT} {Z : Int32 → xF → Prop} {N : xF} {x1 : Int32} {x2 : Int32} {x3 : Int32} {x4 : Int32} {x5 : Int32} (o : OKc κ (wdN τ) 6 b_N_node "StateExplorer$Nodes" (some .int) (xR 2)) (h : N_node_b76 Z N x1 x2 x3 x4 x5) : GW κ (wdN τ) 6 (0, 0) (xMQ κ (wdN τ) (xR 2) (xZi Z)) N 76 [(0, .ref (τ.2.2 54)), (1, .int x1), (2, .int x2), (3, .int x3), (4, .int x4), (5, .int x5)] [] := by
  unfold N_node_b76 at h
  refine gw_iload (pc := 76) o d_N_node_76 5 rfl ?_
  refine gw_iconst (pc := 78) (v := (-1 : Int32)) o d_N_node_78 (by decide) ?_
  refine gw_icmp_eq (pc := 79) (tgt := 85) o d_N_node_79 (by decide) (fun hc => ?_) (fun hc => ?_)
  · have h := h.1 hc
    refine gw_aload_n (pc := 85) o d_N_node_85 rfl 0 rfl ?_
    refine gw_callV (pc := 86) (b := τ.2.2 54) (As := []) (st := []) o (ct_N_take o.hD h) mi_N_take q_232 q_234 qs_6 0 rfl rfl (xRo_of (by omega) (by decide)) rfl rfl (Nat.le_of_ble_eq_true rfl) d_N_node_86 (kk_g_i rfl (fun r86 N_86 h => ?_))
    refine gw_istore (pc := 89) (lv' := [(5, .int r86), (0, .ref (τ.2.2 54)), (1, .int x1), (2, .int x2), (3, .int x3), (4, .int x4)]) o d_N_node_89 (by decide) rfl ?_
    refine gw_aload_n (pc := 91) o d_N_node_91 rfl 1 rfl ?_
    refine gN_get_levels (pc := 92) o q_32 d_N_node_92 ?_
    refine gw_iload (pc := 95) o d_N_node_95 0 rfl ?_
    refine gw_iload_n (pc := 97) o d_N_node_97 rfl 2 rfl ?_
    refine gw_i2b (pc := 98) o d_N_node_98 ?_
    have hi := h.1
    have h := h.2
    refine gN_ast_levels (pc := 99) o hi (pk_vb _) d_N_node_99 (fun N_99 eN_99 => ?_)
    have h := h N_99 eN_99
    refine gw_aload_n (pc := 100) o d_N_node_100 rfl 1 rfl ?_
    refine gN_get_lows (pc := 101) o q_33 d_N_node_101 ?_
    refine gw_iload (pc := 104) o d_N_node_104 0 rfl ?_
    refine gw_iload_n (pc := 106) o d_N_node_106 rfl 3 rfl ?_
    have hi := h.1
    have h := h.2
    refine gN_ast_lows (pc := 107) o hi d_N_node_107 (fun N_107 eN_107 => ?_)
    have h := h N_107 eN_107
    refine gw_aload_n (pc := 108) o d_N_node_108 rfl 1 rfl ?_
    refine gN_get_highs (pc := 109) o q_35 d_N_node_109 ?_
    refine gw_iload (pc := 112) o d_N_node_112 0 rfl ?_
    refine gw_iload_n (pc := 114) o d_N_node_114 rfl 4 rfl ?_
    have hi := h.1
    have h := h.2
    refine gN_ast_highs (pc := 115) o hi d_N_node_115 (fun N_115 eN_115 => ?_)
    have h := h N_115 eN_115
    refine gw_aload_n (pc := 116) o d_N_node_116 rfl 1 rfl ?_
    refine gN_get_next (pc := 117) o q_37 d_N_node_117 ?_
    refine gw_iload (pc := 120) o d_N_node_120 0 rfl ?_
    refine gw_aload_n (pc := 122) o d_N_node_122 rfl 1 rfl ?_
    refine gN_get_chains (pc := 123) o q_38 d_N_node_123 ?_
    refine gw_iload (pc := 126) o d_N_node_126 5 rfl ?_
    have hi := h.1
    have h := h.2
    refine gN_ald_chains (pc := 128) o hi d_N_node_128 ?_
    have hi := h.1
    have h := h.2
    refine gN_ast_next (pc := 129) o hi d_N_node_129 (fun N_129 eN_129 => ?_)
    have h := h N_129 eN_129
    refine gw_aload_n (pc := 130) o d_N_node_130 rfl 1 rfl ?_
    refine gN_get_chains (pc := 131) o q_38 d_N_node_131 ?_
    refine gw_iload (pc := 134) o d_N_node_134 5 rfl ?_
    refine gw_iload (pc := 136) o d_N_node_136 0 rfl ?_
    have hi := h.1
    have h := h.2
    refine gN_ast_chains (pc := 138) o hi d_N_node_138 (fun N_138 eN_138 => ?_)
    have h := h N_138 eN_138
    refine gw_iload (pc := 139) o d_N_node_139 0 rfl ?_
    exact gw_iret (pc := 141) o ⟨Nat.le_refl _, Nat.le_refl _⟩ ⟨_, rfl, h⟩ d_N_node_141
  · have h := h.2 hc
    refine gw_iload (pc := 82) o d_N_node_82 5 rfl ?_
    exact gw_iret (pc := 84) o ⟨Nat.le_refl _, Nat.le_refl _⟩ ⟨_, rfl, h⟩ d_N_node_84
def N_node_b25 (Z : Int32 → xF → Prop) (k25 : Int32 → Prop) (N : xF) (x1 : Int32) (x2 : Int32) (x3 : Int32) (x4 : Int32) (x5 : Int32) : Prop := ((x5 = (-1 : Int32)) → (N_node_b76 Z N x1 x2 x3 x4 x5)) ∧ (¬ (x5 = (-1 : Int32)) → (vp_in x5 262144 ∧ ((((N 0 x5.toNatClampNeg) = x1) → (vp_in x5 262144 ∧ ((((N 1 x5.toNatClampNeg) = x2) → (vp_in x5 262144 ∧ ((((N 2 x5.toNatClampNeg) = x3) → (N_node_b76 Z N x1 x2 x3 x4 x5)) ∧ (¬ ((N 2 x5.toNatClampNeg) = x3) → (N_node_b64 Z k25 N x1 x2 x3 x4 x5))))) ∧ (¬ ((N 1 x5.toNatClampNeg) = x2) → (N_node_b64 Z k25 N x1 x2 x3 x4 x5))))) ∧ (¬ ((N 0 x5.toNatClampNeg) = x1) → (N_node_b64 Z k25 N x1 x2 x3 x4 x5)))))
set_option maxRecDepth 10000 in
theorem wk_N_node_b25 {κ : Cx} {τ : xT} {Z : Int32 → xF → Prop} {k25 : Int32 → Prop} {N : xF} {x1 : Int32} {x2 : Int32} {x3 : Int32} {x4 : Int32} {x5 : Int32} (o : OKc κ (wdN τ) 6 b_N_node "StateExplorer$Nodes" (some .int) (xR 2)) (hk25 : ∀ (x5 : Int32), k25 x5 → GW κ (wdN τ) 6 (0, 0) (xMQ κ (wdN τ) (xR 2) (xZi Z)) N 25 [(0, .ref (τ.2.2 54)), (1, .int x1), (2, .int x2), (3, .int x3), (4, .int x4), (5, .int x5)] []) (h : N_node_b25 Z k25 N x1 x2 x3 x4 x5) : GW κ (wdN τ) 6 (0, 0) (xMQ κ (wdN τ) (xR 2) (xZi Z)) N 25 [(0, .ref (τ.2.2 54)), (1, .int x1), (2, .int x2), (3, .int x3), (4, .int x4), (5, .int x5)] [] := by
  unfold N_node_b25 at h
  refine gw_iload (pc := 25) o d_N_node_25 5 rfl ?_
  refine gw_iconst (pc := 27) (v := (-1 : Int32)) o d_N_node_27 (by decide) ?_
  refine gw_icmp_eq (pc := 28) (tgt := 76) o d_N_node_28 (by decide) (fun hc => ?_) (fun hc => ?_)
  · have h := h.1 hc
    exact gw_sub (lv' := [(0, .ref (τ.2.2 54)), (1, .int x1), (2, .int x2), (3, .int x3), (4, .int x4), (5, .int x5)]) [0, 1, 2, 3, 4, 5] rfl (wk_N_node_b76 o h)
  · have h := h.2 hc
    refine gw_aload_n (pc := 31) o d_N_node_31 rfl 0 rfl ?_
    refine gN_get_levels (pc := 32) o q_32 d_N_node_32 ?_
    refine gw_iload (pc := 35) o d_N_node_35 5 rfl ?_
    have hi := h.1
    have h := h.2
    refine gN_ald_levels (pc := 37) o hi d_N_node_37 ?_
    refine gw_iload_n (pc := 38) o d_N_node_38 rfl 1 rfl ?_
    refine gw_icmp_ne (pc := 39) (tgt := 64) o d_N_node_39 (by decide) (fun hc => ?_) (fun hc => ?_)
    · have h := h.2 hc
      exact gw_sub (lv' := [(0, .ref (τ.2.2 54)), (1, .int x1), (2, .int x2), (3, .int x3), (4, .int x4), (5, .int x5)]) [0, 1, 2, 3, 4, 5] rfl (wk_N_node_b64 o hk25 h)
    · have h := h.1 hc
      refine gw_aload_n (pc := 42) o d_N_node_42 rfl 0 rfl ?_
      refine gN_get_lows (pc := 43) o q_33 d_N_node_43 ?_
      refine gw_iload (pc := 46) o d_N_node_46 5 rfl ?_
      have hi := h.1
      have h := h.2
      refine gN_ald_lows (pc := 48) o hi d_N_node_48 ?_
      refine gw_iload_n (pc := 49) o d_N_node_49 rfl 2 rfl ?_
      refine gw_icmp_ne (pc := 50) (tgt := 64) o d_N_node_50 (by decide) (fun hc => ?_) (fun hc => ?_)
      · have h := h.2 hc
        exact gw_sub (lv' := [(0, .ref (τ.2.2 54)), (1, .int x1), (2, .int x2), (3, .int x3), (4, .int x4), (5, .int x5)]) [0, 1, 2, 3, 4, 5] rfl (wk_N_node_b64 o hk25 h)
      · have h := h.1 hc
        refine gw_aload_n (pc := 53) o d_N_node_53 rfl 0 rfl ?_
        refine gN_get_highs (pc := 54) o q_35 d_N_node_54 ?_
        refine gw_iload (pc := 57) o d_N_node_57 5 rfl ?_
        have hi := h.1
        have h := h.2
        refine gN_ald_highs (pc := 59) o hi d_N_node_59 ?_
        refine gw_iload_n (pc := 60) o d_N_node_60 rfl 3 rfl ?_
        refine gw_icmp_eq (pc := 61) (tgt := 76) o d_N_node_61 (by decide) (fun hc => ?_) (fun hc => ?_)
        · have h := h.1 hc
          exact gw_sub (lv' := [(0, .ref (τ.2.2 54)), (1, .int x1), (2, .int x2), (3, .int x3), (4, .int x4), (5, .int x5)]) [0, 1, 2, 3, 4, 5] rfl (wk_N_node_b76 o h)
        · have h := h.2 hc
          exact gw_sub (lv' := [(0, .ref (τ.2.2 54)), (1, .int x1), (2, .int x2), (3, .int x3), (4, .int x4), (5, .int x5)]) [0, 1, 2, 3, 4, 5] rfl (wk_N_node_b64 o hk25 h)
def N_node_L25 (Z : Int32 → xF → Prop) (N : xF) (x1 : Int32) (x2 : Int32) (x3 : Int32) (x4 : Int32) (x5 : Int32) : Prop := LOOP1 (fun k25 x5 => N_node_b25 Z k25 N x1 x2 x3 x4 x5) x5
theorem wk_N_node_L25 {κ : Cx} {τ : xT} {Z : Int32 → xF → Prop} {N : xF} {x1 : Int32} {x2 : Int32} {x3 : Int32} {x4 : Int32} {x5 : Int32} (o : OKc κ (wdN τ) 6 b_N_node "StateExplorer$Nodes" (some .int) (xR 2)) (h : N_node_L25 Z N x1 x2 x3 x4 x5) : GW κ (wdN τ) 6 (0, 0) (xMQ κ (wdN τ) (xR 2) (xZi Z)) N 25 [(0, .ref (τ.2.2 54)), (1, .int x1), (2, .int x2), (3, .int x3), (4, .int x4), (5, .int x5)] [] := by
  unfold N_node_L25 at h
  exact LOOP1.use (G := fun x5 => GW κ (wdN τ) 6 (0, 0) (xMQ κ (wdN τ) (xR 2) (xZi Z)) N 25 [(0, .ref (τ.2.2 54)), (1, .int x1), (2, .int x2), (3, .int x3), (4, .int x4), (5, .int x5)] []) (fun k25 x5 hk25 h => wk_N_node_b25 o hk25 h) h
def N_node_b0 (Z : Int32 → xF → Prop) (N : xF) (x1 : Int32) (x2 : Int32) (x3 : Int32) : Prop := ((x2 = x3) → (Z x2 N)) ∧ (¬ (x2 = x3) → (w_N_chain N x1 x2 x3 (fun r11 => vp_in r11 32768 ∧ (∀ x5_23 : Int32, x5_23 = N 4 r11.toNatClampNeg → (N_node_L25 Z N x1 x2 x3 r11 x5_23)))))
set_option maxRecDepth 10000 in
theorem wk_N_node_b0 {κ : Cx} {τ : xT} {Z : Int32 → xF → Prop} {N : xF} {x1 : Int32} {x2 : Int32} {x3 : Int32} (o : OKc κ (wdN τ) 6 b_N_node "StateExplorer$Nodes" (some .int) (xR 2)) (h : N_node_b0 Z N x1 x2 x3) : GW κ (wdN τ) 6 (0, 0) (xMQ κ (wdN τ) (xR 2) (xZi Z)) N 0 [(0, .ref (τ.2.2 54)), (1, .int x1), (2, .int x2), (3, .int x3)] [] := by
  unfold N_node_b0 at h
  refine gw_iload_n (pc := 0) o d_N_node_0 rfl 2 rfl ?_
  refine gw_iload_n (pc := 1) o d_N_node_1 rfl 3 rfl ?_
  refine gw_icmp_ne (pc := 2) (tgt := 7) o d_N_node_2 (by decide) (fun hc => ?_) (fun hc => ?_)
  · have h := h.2 hc
    refine gw_aload_n (pc := 7) o d_N_node_7 rfl 0 rfl ?_
    refine gw_iload_n (pc := 8) o d_N_node_8 rfl 1 rfl ?_
    refine gw_iload_n (pc := 9) o d_N_node_9 rfl 2 rfl ?_
    refine gw_iload_n (pc := 10) o d_N_node_10 rfl 3 rfl ?_
    refine gw_callV (pc := 11) (b := τ.2.2 54) (As := [.int x1, .int x2, .int x3]) (st := []) o (ct_N_chain o.hD h) mi_N_chain q_214 q_216 qs_5 0 rfl rfl (xRo_of (by omega) (by decide)) rfl rfl (Nat.le_of_ble_eq_true rfl) d_N_node_11 (kk_p_i rfl (fun r11 h => ?_))
    refine gw_istore (pc := 14) (lv' := [(4, .int r11), (0, .ref (τ.2.2 54)), (1, .int x1), (2, .int x2), (3, .int x3)]) o d_N_node_14 (by decide) rfl ?_
    refine gw_aload_n (pc := 16) o d_N_node_16 rfl 1 rfl ?_
    refine gN_get_chains (pc := 17) o q_38 d_N_node_17 ?_
    refine gw_iload (pc := 20) o d_N_node_20 0 rfl ?_
    have hi := h.1
    have h := h.2
    refine gN_ald_chains (pc := 22) o hi d_N_node_22 ?_
    refine gw_topi (fun x5_23 ex5_23 => ?_)
    have h := h x5_23 ex5_23
    refine gw_istore (pc := 23) (lv' := [(5, .int x5_23), (4, .int r11), (0, .ref (τ.2.2 54)), (1, .int x1), (2, .int x2), (3, .int x3)]) o d_N_node_23 (by decide) rfl ?_
    exact gw_sub (lv' := [(0, .ref (τ.2.2 54)), (1, .int x1), (2, .int x2), (3, .int x3), (4, .int r11), (5, .int x5_23)]) [2, 3, 4, 5, 1, 0] rfl (wk_N_node_L25 o h)
  · have h := h.1 hc
    refine gw_iload_n (pc := 5) o d_N_node_5 rfl 2 rfl ?_
    exact gw_iret (pc := 6) o ⟨Nat.le_refl _, Nat.le_refl _⟩ ⟨_, rfl, h⟩ d_N_node_6
def w_N_node  (N : xF) (x1 : Int32) (x2 : Int32) (x3 : Int32) (Z : Int32 → xF → Prop) : Prop := N_node_b0  Z N x1 x2 x3
theorem ct_N_node {l : Launch} {τ : xT} {N : xF} {x1 : Int32} {x2 : Int32} {x3 : Int32} {Z : Int32 → xF → Prop} (hD : xD (wdN τ)) (h : w_N_node  N x1 x2 x3 Z) : CT l (wdN τ) y_N_node (.code y_N_node b_N_node 6 (some .int)) (xR 2) [.ref (τ.2.2 54), .int x1, .int x2, .int x3] N (xZi Z) := by
  subst_vars
  exact CT.of (by decide) (Nat.le_of_ble_eq_true rfl) hD (fun κ hl ha o => gw_sub (lv' := [(0, .ref (τ.2.2 54)), (1, .int x1), (2, .int x2), (3, .int x3)]) [0, 1, 2, 3] rfl (wk_N_node_b0 o h))
def N_learn_b0 (Z : Int32 → xF → Prop) (N : xF) (x1 : Int32) (x2 : Int32) (x3 : Int32) (x4 : Int32) (x5 : Int32) : Prop := w_N_place N x1 x2 x3 x4 (fun r6 => vp_in r6 16384 ∧ (∀ N_19 : xF, N_19 = xs N 13 r6.toNatClampNeg (x1.toInt8.toInt32) → (vp_in r6 16384 ∧ (∀ N_27 : xF, N_27 = xs N_19 9 r6.toNatClampNeg x2 → (vp_in r6 16384 ∧ (∀ N_35 : xF, N_35 = xs N_27 10 r6.toNatClampNeg x3 → (vp_in r6 16384 ∧ (∀ N_44 : xF, N_44 = xs N_35 11 r6.toNatClampNeg x4 → (vp_in r6 16384 ∧ (∀ N_53 : xF, N_53 = xs N_44 12 r6.toNatClampNeg x5 → (Z x5 N_53)))))))))))
set_option maxRecDepth 10000 in
theorem wk_N_learn_b0 {κ : Cx} {τ : xT} {Z : Int32 → xF → Prop} {N : xF} {x1 : Int32} {x2 : Int32} {x3 : Int32} {x4 : Int32} {x5 : Int32} (o : OKc κ (wdN τ) 7 b_N_learn "StateExplorer$Nodes" (some .int) (xR 2)) (h : N_learn_b0 Z N x1 x2 x3 x4 x5) : GW κ (wdN τ) 7 (0, 0) (xMQ κ (wdN τ) (xR 2) (xZi Z)) N 0 [(0, .ref (τ.2.2 54)), (1, .int x1), (2, .int x2), (3, .int x3), (4, .int x4), (5, .int x5)] [] := by
  unfold N_learn_b0 at h
  refine gw_aload_n (pc := 0) o d_N_learn_0 rfl 0 rfl ?_
  refine gw_iload_n (pc := 1) o d_N_learn_1 rfl 1 rfl ?_
  refine gw_iload_n (pc := 2) o d_N_learn_2 rfl 2 rfl ?_
  refine gw_iload_n (pc := 3) o d_N_learn_3 rfl 3 rfl ?_
  refine gw_iload (pc := 4) o d_N_learn_4 4 rfl ?_
  refine gw_callV (pc := 6) (b := τ.2.2 54) (As := [.int x1, .int x2, .int x3, .int x4]) (st := []) o (ct_N_place o.hD h) mi_N_place q_247 q_249 qs_8 0 rfl rfl (xRo_of (by omega) (by decide)) rfl rfl (Nat.le_of_ble_eq_true rfl) d_N_learn_6 (kk_p_i rfl (fun r6 h => ?_))
  refine gw_istore (pc := 9) (lv' := [(6, .int r6), (0, .ref (τ.2.2 54)), (1, .int x1), (2, .int x2), (3, .int x3), (4, .int x4), (5, .int x5)]) o d_N_learn_9 (by decide) rfl ?_
  refine gw_aload_n (pc := 11) o d_N_learn_11 rfl 1 rfl ?_
  refine gN_get_keyKinds (pc := 12) o q_47 d_N_learn_12 ?_
  refine gw_iload (pc := 15) o d_N_learn_15 0 rfl ?_
  refine gw_iload_n (pc := 17) o d_N_learn_17 rfl 2 rfl ?_
  refine gw_i2b (pc := 18) o d_N_learn_18 ?_
  have hi := h.1
  have h := h.2
  refine gN_ast_keyKinds (pc := 19) o hi (pk_vb _) d_N_learn_19 (fun N_19 eN_19 => ?_)
  have h := h N_19 eN_19
  refine gw_aload_n (pc := 20) o d_N_learn_20 rfl 1 rfl ?_
  refine gN_get_keyA (pc := 21) o q_43 d_N_learn_21 ?_
  refine gw_iload (pc := 24) o d_N_learn_24 0 rfl ?_
  refine gw_iload_n (pc := 26) o d_N_learn_26 rfl 3 rfl ?_
  have hi := h.1
  have h := h.2
  refine gN_ast_keyA (pc := 27) o hi d_N_learn_27 (fun N_27 eN_27 => ?_)
  have h := h N_27 eN_27
  refine gw_aload_n (pc := 28) o d_N_learn_28 rfl 1 rfl ?_
  refine gN_get_keyB (pc := 29) o q_44 d_N_learn_29 ?_
  refine gw_iload (pc := 32) o d_N_learn_32 0 rfl ?_
  refine gw_iload_n (pc := 34) o d_N_learn_34 rfl 4 rfl ?_
  have hi := h.1
  have h := h.2
  refine gN_ast_keyB (pc := 35) o hi d_N_learn_35 (fun N_35 eN_35 => ?_)
  have h := h N_35 eN_35
  refine gw_aload_n (pc := 36) o d_N_learn_36 rfl 1 rfl ?_
  refine gN_get_keyC (pc := 37) o q_45 d_N_learn_37 ?_
  refine gw_iload (pc := 40) o d_N_learn_40 0 rfl ?_
  refine gw_iload (pc := 42) o d_N_learn_42 5 rfl ?_
  have hi := h.1
  have h := h.2
  refine gN_ast_keyC (pc := 44) o hi d_N_learn_44 (fun N_44 eN_44 => ?_)
  have h := h N_44 eN_44
  refine gw_aload_n (pc := 45) o d_N_learn_45 rfl 1 rfl ?_
  refine gN_get_results (pc := 46) o q_46 d_N_learn_46 ?_
  refine gw_iload (pc := 49) o d_N_learn_49 0 rfl ?_
  refine gw_iload (pc := 51) o d_N_learn_51 6 rfl ?_
  have hi := h.1
  have h := h.2
  refine gN_ast_results (pc := 53) o hi d_N_learn_53 (fun N_53 eN_53 => ?_)
  have h := h N_53 eN_53
  refine gw_iload (pc := 54) o d_N_learn_54 6 rfl ?_
  exact gw_iret (pc := 56) o ⟨Nat.le_refl _, Nat.le_refl _⟩ ⟨_, rfl, h⟩ d_N_learn_56
def w_N_learn  (N : xF) (x1 : Int32) (x2 : Int32) (x3 : Int32) (x4 : Int32) (x5 : Int32) (Z : Int32 → xF → Prop) : Prop := N_learn_b0  Z N x1 x2 x3 x4 x5
theorem ct_N_learn {l : Launch} {τ : xT} {N : xF} {x1 : Int32} {x2 : Int32} {x3 : Int32} {x4 : Int32} {x5 : Int32} {Z : Int32 → xF → Prop} (hD : xD (wdN τ)) (h : w_N_learn  N x1 x2 x3 x4 x5 Z) : CT l (wdN τ) y_N_learn (.code y_N_learn b_N_learn 7 (some .int)) (xR 2) [.ref (τ.2.2 54), .int x1, .int x2, .int x3, .int x4, .int x5] N (xZi Z) := by
  subst_vars
  exact CT.of (by decide) (Nat.le_of_ble_eq_true rfl) hD (fun κ hl ha o => gw_sub (lv' := [(0, .ref (τ.2.2 54)), (1, .int x1), (2, .int x2), (3, .int x3), (4, .int x4), (5, .int x5)]) [0, 1, 2, 3, 4, 5] rfl (wk_N_learn_b0 o h))
def X_chosen_b10 (f : xF → Int32 → Int32 → Int32 → (Int32 → xF → Prop) → Prop) (Z : Int32 → xF → Prop) (N : xF) (x2 : Int32) : Prop := Z x2 N
set_option maxRecDepth 10000 in
theorem wk_X_chosen_b10 {κ : Cx} {τ : xT} {d : Nat} {f : xF → Int32 → Int32 → Int32 → (Int32 → xF → Prop) → Prop} {Z : Int32 → xF → Prop} {N : xF} {x2 : Int32} (o : OKc κ (wdN τ) 8 b_X_chosen "StateExplorer" (some .int) (xR (3 + d + 1))) (hf : ∀ (N : xF) (x1 : Int32) (x2 : Int32) (x3 : Int32) (Z : Int32 → xF → Prop), f N x1 x2 x3 Z → CT (kL κ) (wdN τ) y_X_chosen (.code y_X_chosen b_X_chosen 8 (some .int)) (xR (3 + d)) [.ref (τ.2.2 54), .int x1, .int x2, .int x3] N (xZi Z)) (h : X_chosen_b10 f Z N x2) : GW κ (wdN τ) 8 (0, 0) (xMQ κ (wdN τ) (xR (3 + d + 1)) (xZi Z)) N 10 [(2, .int x2)] [] := by
  unfold X_chosen_b10 at h
  refine gw_iload_n (pc := 10) o d_X_chosen_10 rfl 0 rfl ?_
  exact gw_iret (pc := 11) o ⟨Nat.le_refl _, Nat.le_refl _⟩ ⟨_, rfl, h⟩ d_X_chosen_11
def X_chosen_b29 (f : xF → Int32 → Int32 → Int32 → (Int32 → xF → Prop) → Prop) (Z : Int32 → xF → Prop) (N : xF) (x1 : Int32) (x2 : Int32) (x3 : Int32) : Prop := w_N_known N (0 : Int32) x1 x2 x3 (fun r34 => ((r34 = (-1 : Int32)) → (w_X_first N x1 x2 x3 (fun r52 => w_N_cofactor N x1 r52 (0 : Int32) (fun r63 => w_N_cofactor N x2 r52 (0 : Int32) (fun r71 => w_N_cofactor N x3 r52 (0 : Int32) (fun r79 => f N r63 r71 r79 (fun r82 N_82 => w_N_cofactor N_82 x1 r52 (1 : Int32) (fun r93 => w_N_cofactor N_82 x2 r52 (1 : Int32) (fun r101 => w_N_cofactor N_82 x3 r52 (1 : Int32) (fun r109 => f N_82 r93 r101 r109 (fun r112 N_112 => w_N_node N_112 r52 r82 r112 (fun r129 N_129 => w_N_learn N_129 (0 : Int32) x1 x2 x3 r129 (fun r132 N_132 => Z r132 N_132))))))))))))) ∧ (¬ (r34 = (-1 : Int32)) → (Z r34 N)))
set_option maxRecDepth 10000 in
theorem wk_X_chosen_b29 {κ : Cx} {τ : xT} {d : Nat} {f : xF → Int32 → Int32 → Int32 → (Int32 → xF → Prop) → Prop} {Z : Int32 → xF → Prop} {N : xF} {x1 : Int32} {x2 : Int32} {x3 : Int32} (o : OKc κ (wdN τ) 8 b_X_chosen "StateExplorer" (some .int) (xR (3 + d + 1))) (hf : ∀ (N : xF) (x1 : Int32) (x2 : Int32) (x3 : Int32) (Z : Int32 → xF → Prop), f N x1 x2 x3 Z → CT (kL κ) (wdN τ) y_X_chosen (.code y_X_chosen b_X_chosen 8 (some .int)) (xR (3 + d)) [.ref (τ.2.2 54), .int x1, .int x2, .int x3] N (xZi Z)) (h : X_chosen_b29 f Z N x1 x2 x3) : GW κ (wdN τ) 8 (0, 0) (xMQ κ (wdN τ) (xR (3 + d + 1)) (xZi Z)) N 29 [(0, .ref (τ.2.2 54)), (1, .int x1), (2, .int x2), (3, .int x3)] [] := by
  unfold X_chosen_b29 at h
  refine gw_aload_n (pc := 29) o d_X_chosen_29 rfl 0 rfl ?_
  refine gw_iconst (pc := 30) (v := (0 : Int32)) o d_X_chosen_30 (by decide) ?_
  refine gw_iload_n (pc := 31) o d_X_chosen_31 rfl 1 rfl ?_
  refine gw_iload_n (pc := 32) o d_X_chosen_32 rfl 2 rfl ?_
  refine gw_iload_n (pc := 33) o d_X_chosen_33 rfl 3 rfl ?_
  refine gw_callV (pc := 34) (b := τ.2.2 54) (As := [.int (0 : Int32), .int x1, .int x2, .int x3]) (st := []) o (ct_N_known o.hD h) mi_N_known q_243 q_244 q_245 0 rfl rfl (xRo_of (by omega) (by decide)) rfl rfl (Nat.le_of_ble_eq_true rfl) d_X_chosen_34 (kk_p_i rfl (fun r34 h => ?_))
  refine gw_istore (pc := 37) (lv' := [(4, .int r34), (0, .ref (τ.2.2 54)), (1, .int x1), (2, .int x2), (3, .int x3)]) o d_X_chosen_37 (by decide) rfl ?_
  refine gw_iload (pc := 39) o d_X_chosen_39 0 rfl ?_
  refine gw_iconst (pc := 41) (v := (-1 : Int32)) o d_X_chosen_41 (by decide) ?_
  refine gw_icmp_eq (pc := 42) (tgt := 48) o d_X_chosen_42 (by decide) (fun hc => ?_) (fun hc => ?_)
  · have h := h.1 hc
    refine gw_aload_n (pc := 48) o d_X_chosen_48 rfl 1 rfl ?_
    refine gw_iload_n (pc := 49) o d_X_chosen_49 rfl 2 rfl ?_
    refine gw_iload_n (pc := 50) o d_X_chosen_50 rfl 3 rfl ?_
    refine gw_iload_n (pc := 51) o d_X_chosen_51 rfl 4 rfl ?_
    refine gw_callS (pc := 52) (As := [.ref (τ.2.2 54), .int x1, .int x2, .int x3]) (st := []) o (ct_X_first o.hD h) mi_X_first q_251 q_252 (xRo_of (by omega) (by decide)) rfl rfl (Nat.le_of_ble_eq_true rfl) d_X_chosen_52 (kk_p_i rfl (fun r52 h => ?_))
    refine gw_istore (pc := 55) (lv' := [(5, .int r52), (4, .int r34), (0, .ref (τ.2.2 54)), (1, .int x1), (2, .int x2), (3, .int x3)]) o d_X_chosen_55 (by decide) rfl ?_
    refine gw_aload_n (pc := 57) o d_X_chosen_57 rfl 2 rfl ?_
    refine gw_aload_n (pc := 58) o d_X_chosen_58 rfl 2 rfl ?_
    refine gw_iload_n (pc := 59) o d_X_chosen_59 rfl 3 rfl ?_
    refine gw_iload (pc := 60) o d_X_chosen_60 0 rfl ?_
    refine gw_iconst (pc := 62) (v := (0 : Int32)) o d_X_chosen_62 (by decide) ?_
    refine gw_callV (pc := 63) (b := τ.2.2 54) (As := [.int x1, .int r52, .int (0 : Int32)]) (st := [.ref (τ.2.2 54)]) o (ct_N_cofactor o.hD h) mi_N_cofactor q_261 q_262 q_263 0 rfl rfl (xRo_of (by omega) (by decide)) rfl rfl (Nat.le_of_ble_eq_true rfl) d_X_chosen_63 (kk_p_i rfl (fun r63 h => ?_))
    refine gw_aload_n (pc := 66) o d_X_chosen_66 rfl 2 rfl ?_
    refine gw_iload_n (pc := 67) o d_X_chosen_67 rfl 4 rfl ?_
    refine gw_iload (pc := 68) o d_X_chosen_68 0 rfl ?_
    refine gw_iconst (pc := 70) (v := (0 : Int32)) o d_X_chosen_70 (by decide) ?_
    refine gw_callV (pc := 71) (b := τ.2.2 54) (As := [.int x2, .int r52, .int (0 : Int32)]) (st := [.int r63, .ref (τ.2.2 54)]) o (ct_N_cofactor o.hD h) mi_N_cofactor q_261 q_262 q_263 0 rfl rfl (xRo_of (by omega) (by decide)) rfl rfl (Nat.le_of_ble_eq_true rfl) d_X_chosen_71 (kk_p_i rfl (fun r71 h => ?_))
    refine gw_aload_n (pc := 74) o d_X_chosen_74 rfl 2 rfl ?_
    refine gw_iload_n (pc := 75) o d_X_chosen_75 rfl 5 rfl ?_
    refine gw_iload (pc := 76) o d_X_chosen_76 0 rfl ?_
    refine gw_iconst (pc := 78) (v := (0 : Int32)) o d_X_chosen_78 (by decide) ?_
    refine gw_callV (pc := 79) (b := τ.2.2 54) (As := [.int x3, .int r52, .int (0 : Int32)]) (st := [.int r71, .int r63, .ref (τ.2.2 54)]) o (ct_N_cofactor o.hD h) mi_N_cofactor q_261 q_262 q_263 0 rfl rfl (xRo_of (by omega) (by decide)) rfl rfl (Nat.le_of_ble_eq_true rfl) d_X_chosen_79 (kk_p_i rfl (fun r79 h => ?_))
    refine gw_callS (pc := 82) (As := [.ref (τ.2.2 54), .int r63, .int r71, .int r79]) (st := []) o (hf _ _ _ _ _ h) mi_X_chosen q_240 q_241 (xRo_of (by omega) (by decide)) rfl rfl (Nat.le_of_ble_eq_true rfl) d_X_chosen_82 (kk_g_i rfl (fun r82 N_82 h => ?_))
    refine gw_istore (pc := 85) (lv' := [(6, .int r82), (5, .int r52), (4, .int r34), (0, .ref (τ.2.2 54)), (1, .int x1), (2, .int x2), (3, .int x3)]) o d_X_chosen_85 (by decide) rfl ?_
    refine gw_aload_n (pc := 87) o d_X_chosen_87 rfl 3 rfl ?_
    refine gw_aload_n (pc := 88) o d_X_chosen_88 rfl 3 rfl ?_
    refine gw_iload_n (pc := 89) o d_X_chosen_89 rfl 4 rfl ?_
    refine gw_iload (pc := 90) o d_X_chosen_90 1 rfl ?_
    refine gw_iconst (pc := 92) (v := (1 : Int32)) o d_X_chosen_92 (by decide) ?_
    refine gw_callV (pc := 93) (b := τ.2.2 54) (As := [.int x1, .int r52, .int (1 : Int32)]) (st := [.ref (τ.2.2 54)]) o (ct_N_cofactor o.hD h) mi_N_cofactor q_261 q_262 q_263 0 rfl rfl (xRo_of (by omega) (by decide)) rfl rfl (Nat.le_of_ble_eq_true rfl) d_X_chosen_93 (kk_p_i rfl (fun r93 h => ?_))
    refine gw_aload_n (pc := 96) o d_X_chosen_96 rfl 3 rfl ?_
    refine gw_iload_n (pc := 97) o d_X_chosen_97 rfl 5 rfl ?_
    refine gw_iload (pc := 98) o d_X_chosen_98 1 rfl ?_
    refine gw_iconst (pc := 100) (v := (1 : Int32)) o d_X_chosen_100 (by decide) ?_
    refine gw_callV (pc := 101) (b := τ.2.2 54) (As := [.int x2, .int r52, .int (1 : Int32)]) (st := [.int r93, .ref (τ.2.2 54)]) o (ct_N_cofactor o.hD h) mi_N_cofactor q_261 q_262 q_263 0 rfl rfl (xRo_of (by omega) (by decide)) rfl rfl (Nat.le_of_ble_eq_true rfl) d_X_chosen_101 (kk_p_i rfl (fun r101 h => ?_))
    refine gw_aload_n (pc := 104) o d_X_chosen_104 rfl 3 rfl ?_
    refine gw_iload_n (pc := 105) o d_X_chosen_105 rfl 6 rfl ?_
    refine gw_iload (pc := 106) o d_X_chosen_106 1 rfl ?_
    refine gw_iconst (pc := 108) (v := (1 : Int32)) o d_X_chosen_108 (by decide) ?_
    refine gw_callV (pc := 109) (b := τ.2.2 54) (As := [.int x3, .int r52, .int (1 : Int32)]) (st := [.int r101, .int r93, .ref (τ.2.2 54)]) o (ct_N_cofactor o.hD h) mi_N_cofactor q_261 q_262 q_263 0 rfl rfl (xRo_of (by omega) (by decide)) rfl rfl (Nat.le_of_ble_eq_true rfl) d_X_chosen_109 (kk_p_i rfl (fun r109 h => ?_))
    refine gw_callS (pc := 112) (As := [.ref (τ.2.2 54), .int r93, .int r101, .int r109]) (st := []) o (hf _ _ _ _ _ h) mi_X_chosen q_240 q_241 (xRo_of (by omega) (by decide)) rfl rfl (Nat.le_of_ble_eq_true rfl) d_X_chosen_112 (kk_g_i rfl (fun r112 N_112 h => ?_))
    refine gw_istore (pc := 115) (lv' := [(7, .int r112), (6, .int r82), (5, .int r52), (4, .int r34), (0, .ref (τ.2.2 54)), (1, .int x1), (2, .int x2), (3, .int x3)]) o d_X_chosen_115 (by decide) rfl ?_
    refine gw_aload_n (pc := 117) o d_X_chosen_117 rfl 4 rfl ?_
    refine gw_iconst (pc := 118) (v := (0 : Int32)) o d_X_chosen_118 (by decide) ?_
    refine gw_iload_n (pc := 119) o d_X_chosen_119 rfl 5 rfl ?_
    refine gw_iload_n (pc := 120) o d_X_chosen_120 rfl 6 rfl ?_
    refine gw_iload_n (pc := 121) o d_X_chosen_121 rfl 7 rfl ?_
    refine gw_aload_n (pc := 122) o d_X_chosen_122 rfl 4 rfl ?_
    refine gw_iload (pc := 123) o d_X_chosen_123 2 rfl ?_
    refine gw_iload (pc := 125) o d_X_chosen_125 1 rfl ?_
    refine gw_iload (pc := 127) o d_X_chosen_127 0 rfl ?_
    refine gw_callV (pc := 129) (b := τ.2.2 54) (As := [.int r52, .int r82, .int r112]) (st := [.int x3, .int x2, .int x1, .int (0 : Int32), .ref (τ.2.2 54)]) o (ct_N_node o.hD h) mi_N_node q_228 q_229 q_230 0 rfl rfl (xRo_of (by omega) (by decide)) rfl rfl (Nat.le_of_ble_eq_true rfl) d_X_chosen_129 (kk_g_i rfl (fun r129 N_129 h => ?_))
    refine gw_callV (pc := 132) (b := τ.2.2 54) (As := [.int (0 : Int32), .int x1, .int x2, .int x3, .int r129]) (st := []) o (ct_N_learn o.hD h) mi_N_learn q_265 q_266 q_267 0 rfl rfl (xRo_of (by omega) (by decide)) rfl rfl (Nat.le_of_ble_eq_true rfl) d_X_chosen_132 (kk_g_i rfl (fun r132 N_132 h => ?_))
    exact gw_iret (pc := 135) o ⟨Nat.le_refl _, Nat.le_refl _⟩ ⟨_, rfl, h⟩ d_X_chosen_135
  · have h := h.2 hc
    refine gw_iload (pc := 45) o d_X_chosen_45 0 rfl ?_
    exact gw_iret (pc := 47) o ⟨Nat.le_refl _, Nat.le_refl _⟩ ⟨_, rfl, h⟩ d_X_chosen_47
def X_chosen_b0 (f : xF → Int32 → Int32 → Int32 → (Int32 → xF → Prop) → Prop) (Z : Int32 → xF → Prop) (N : xF) (x1 : Int32) (x2 : Int32) (x3 : Int32) : Prop := ((x1 = (1 : Int32)) → (X_chosen_b10 f Z N x2)) ∧ (¬ (x1 = (1 : Int32)) → (((x2 = x3) → (X_chosen_b10 f Z N x2)) ∧ (¬ (x2 = x3) → (((x1 = 0) → (Z x3 N)) ∧ (¬ (x1 = 0) → (((x2 = (1 : Int32)) → (((x3 = 0) → (Z x1 N)) ∧ (¬ (x3 = 0) → (X_chosen_b29 f Z N x1 x2 x3)))) ∧ (¬ (x2 = (1 : Int32)) → (X_chosen_b29 f Z N x1 x2 x3))))))))
set_option maxRecDepth 10000 in
theorem wk_X_chosen_b0 {κ : Cx} {τ : xT} {d : Nat} {f : xF → Int32 → Int32 → Int32 → (Int32 → xF → Prop) → Prop} {Z : Int32 → xF → Prop} {N : xF} {x1 : Int32} {x2 : Int32} {x3 : Int32} (o : OKc κ (wdN τ) 8 b_X_chosen "StateExplorer" (some .int) (xR (3 + d + 1))) (hf : ∀ (N : xF) (x1 : Int32) (x2 : Int32) (x3 : Int32) (Z : Int32 → xF → Prop), f N x1 x2 x3 Z → CT (kL κ) (wdN τ) y_X_chosen (.code y_X_chosen b_X_chosen 8 (some .int)) (xR (3 + d)) [.ref (τ.2.2 54), .int x1, .int x2, .int x3] N (xZi Z)) (h : X_chosen_b0 f Z N x1 x2 x3) : GW κ (wdN τ) 8 (0, 0) (xMQ κ (wdN τ) (xR (3 + d + 1)) (xZi Z)) N 0 [(0, .ref (τ.2.2 54)), (1, .int x1), (2, .int x2), (3, .int x3)] [] := by
  unfold X_chosen_b0 at h
  refine gw_iload_n (pc := 0) o d_X_chosen_0 rfl 1 rfl ?_
  refine gw_iconst (pc := 1) (v := (1 : Int32)) o d_X_chosen_1 (by decide) ?_
  refine gw_icmp_eq (pc := 2) (tgt := 10) o d_X_chosen_2 (by decide) (fun hc => ?_) (fun hc => ?_)
  · have h := h.1 hc
    exact gw_sub (lv' := [(2, .int x2)]) [2] rfl (wk_X_chosen_b10 o hf h)
  · have h := h.2 hc
    refine gw_iload_n (pc := 5) o d_X_chosen_5 rfl 2 rfl ?_
    refine gw_iload_n (pc := 6) o d_X_chosen_6 rfl 3 rfl ?_
    refine gw_icmp_ne (pc := 7) (tgt := 12) o d_X_chosen_7 (by decide) (fun hc => ?_) (fun hc => ?_)
    · have h := h.2 hc
      refine gw_iload_n (pc := 12) o d_X_chosen_12 rfl 1 rfl ?_
      refine gw_if_ne (pc := 13) (tgt := 18) o d_X_chosen_13 (by decide) (fun hc => ?_) (fun hc => ?_)
      · have h := h.2 hc
        refine gw_iload_n (pc := 18) o d_X_chosen_18 rfl 2 rfl ?_
        refine gw_iconst (pc := 19) (v := (1 : Int32)) o d_X_chosen_19 (by decide) ?_
        refine gw_icmp_ne (pc := 20) (tgt := 29) o d_X_chosen_20 (by decide) (fun hc => ?_) (fun hc => ?_)
        · have h := h.2 hc
          exact gw_sub (lv' := [(0, .ref (τ.2.2 54)), (1, .int x1), (2, .int x2), (3, .int x3)]) [0, 1, 2, 3] rfl (wk_X_chosen_b29 o hf h)
        · have h := h.1 hc
          refine gw_iload_n (pc := 23) o d_X_chosen_23 rfl 3 rfl ?_
          refine gw_if_ne (pc := 24) (tgt := 29) o d_X_chosen_24 (by decide) (fun hc => ?_) (fun hc => ?_)
          · have h := h.2 hc
            exact gw_sub (lv' := [(0, .ref (τ.2.2 54)), (1, .int x1), (2, .int x2), (3, .int x3)]) [0, 1, 2, 3] rfl (wk_X_chosen_b29 o hf h)
          · have h := h.1 hc
            refine gw_iload_n (pc := 27) o d_X_chosen_27 rfl 1 rfl ?_
            exact gw_iret (pc := 28) o ⟨Nat.le_refl _, Nat.le_refl _⟩ ⟨_, rfl, h⟩ d_X_chosen_28
      · have h := h.1 hc
        refine gw_iload_n (pc := 16) o d_X_chosen_16 rfl 3 rfl ?_
        exact gw_iret (pc := 17) o ⟨Nat.le_refl _, Nat.le_refl _⟩ ⟨_, rfl, h⟩ d_X_chosen_17
    · have h := h.1 hc
      exact gw_sub (lv' := [(2, .int x2)]) [2] rfl (wk_X_chosen_b10 o hf h)
def w_X_chosen : Nat → xF → Int32 → Int32 → Int32 → (Int32 → xF → Prop) → Prop
  | 0, _, _, _, _, _ => False
  | d + 1, N, x1, x2, x3, Z => X_chosen_b0  (w_X_chosen d)  Z N x1 x2 x3
theorem ct_X_chosen {l : Launch} {τ : xT} (hD : xD (wdN τ)) : ∀ {d : Nat} {N : xF} {x1 : Int32} {x2 : Int32} {x3 : Int32} {Z : Int32 → xF → Prop} (h : w_X_chosen d N x1 x2 x3 Z), CT l (wdN τ) y_X_chosen (.code y_X_chosen b_X_chosen 8 (some .int)) (xR (3 + d)) [.ref (τ.2.2 54), .int x1, .int x2, .int x3] N (xZi Z) := by
  intro d
  induction d with
  | zero => intro N x1 x2 x3 Z h; exact h.elim
  | succ d ih =>
    intro N x1 x2 x3 Z h
    exact CT.of (by decide) (Nat.le_of_ble_eq_true rfl) hD (fun κ hl ha o => gw_sub (lv' := [(0, .ref (τ.2.2 54)), (1, .int x1), (2, .int x2), (3, .int x3)]) [0, 1, 2, 3] rfl (wk_X_chosen_b0 o (fun _ _ _ _ _ h => hl ▸ ih h) h))
def X_variableOf_b0 (Z : Int32 → Prop) (x0 : Int32) : Prop := Z ((7 : Int32) - x0)
set_option maxRecDepth 10000 in
theorem wk_X_variableOf_b0 {κ : Cx} {σ : Type} {ω : xWd σ} {X : σ} {Z : Int32 → Prop} {x0 : Int32} (o : OKc κ ω 1 b_X_variableOf "StateExplorer" (some .int) (xR 0)) (h : X_variableOf_b0 Z x0) : GW κ ω 1 (0, 0) (xMQ κ ω (xR 0) (xZi (fun r Y => Y = X ∧ Z r))) X 0 [(0, .int x0)] [] := by
  unfold X_variableOf_b0 at h
  refine gw_bipush (pc := 0) (v := (7 : Int32)) o d_X_variableOf_0 (by decide) ?_
  refine gw_iload_n (pc := 2) o d_X_variableOf_2 rfl 0 rfl ?_
  refine gw_isub (pc := 3) o d_X_variableOf_3 ?_
  exact gw_iret (pc := 4) o ⟨Nat.le_refl _, Nat.le_refl _⟩ ⟨_, rfl, rfl, h⟩ d_X_variableOf_4
def w_X_variableOf   (x0 : Int32) (Z : Int32 → Prop) : Prop := X_variableOf_b0  Z x0
theorem ct_X_variableOf {l : Launch} {σ : Type} {ω : xWd σ} {X : σ}  {x0 : Int32} {Z : Int32 → Prop} (hD : xD ω) (h : w_X_variableOf  x0 Z) : CT l ω y_X_variableOf (.code y_X_variableOf b_X_variableOf 1 (some .int)) (xR 0) [.int x0] X (xZi (fun r Y => Y = X ∧ Z r)) := by
  subst_vars
  exact CT.of (by decide) (Nat.le_of_ble_eq_true rfl) hD (fun κ hl ha o => gw_sub (lv' := [(0, .int x0)]) [0] rfl (wk_X_variableOf_b0 o h))
def X_inputVariable_b0 (Z : Int32 → Prop) (x0 : Int32) : Prop := Z ((11 : Int32) - x0)
set_option maxRecDepth 10000 in
theorem wk_X_inputVariable_b0 {κ : Cx} {σ : Type} {ω : xWd σ} {X : σ} {Z : Int32 → Prop} {x0 : Int32} (o : OKc κ ω 1 b_X_inputVariable "StateExplorer" (some .int) (xR 0)) (h : X_inputVariable_b0 Z x0) : GW κ ω 1 (0, 0) (xMQ κ ω (xR 0) (xZi (fun r Y => Y = X ∧ Z r))) X 0 [(0, .int x0)] [] := by
  unfold X_inputVariable_b0 at h
  refine gw_bipush (pc := 0) (v := (11 : Int32)) o d_X_inputVariable_0 (by decide) ?_
  refine gw_iload_n (pc := 2) o d_X_inputVariable_2 rfl 0 rfl ?_
  refine gw_isub (pc := 3) o d_X_inputVariable_3 ?_
  exact gw_iret (pc := 4) o ⟨Nat.le_refl _, Nat.le_refl _⟩ ⟨_, rfl, rfl, h⟩ d_X_inputVariable_4
def w_X_inputVariable   (x0 : Int32) (Z : Int32 → Prop) : Prop := X_inputVariable_b0  Z x0
theorem ct_X_inputVariable {l : Launch} {σ : Type} {ω : xWd σ} {X : σ}  {x0 : Int32} {Z : Int32 → Prop} (hD : xD ω) (h : w_X_inputVariable  x0 Z) : CT l ω y_X_inputVariable (.code y_X_inputVariable b_X_inputVariable 1 (some .int)) (xR 0) [.int x0] X (xZi (fun r Y => Y = X ∧ Z r)) := by
  subst_vars
  exact CT.of (by decide) (Nat.le_of_ble_eq_true rfl) hD (fun κ hl ha o => gw_sub (lv' := [(0, .int x0)]) [0] rfl (wk_X_inputVariable_b0 o h))
def X_anyChoice_b0 (f : xF → Int32 → (Int32 → xF → Prop) → Prop) (Z : Int32 → xF → Prop) (N : xF) (x1 : Int32) : Prop := (((2 : Int32) ≤ x1) → (w_N_level N x1 (fun r9 => ((r9 < (8 : Int32)) → (w_N_known N (1 : Int32) x1 (0 : Int32) (0 : Int32) (fun r24 => ((r24 = (-1 : Int32)) → (w_N_level N x1 (fun r37 => vp_in x1 262144 ∧ (f N (N 1 x1.toNatClampNeg) (fun r55 N_55 => vp_in x1 262144 ∧ (f N_55 (N_55 2 x1.toNatClampNeg) (fun r65 N_65 => w_N_node N_65 r37 r55 r65 (fun r68 N_68 => w_N_learn N_68 (1 : Int32) x1 (0 : Int32) (0 : Int32) r68 (fun r71 N_71 => Z r71 N_71))))))))) ∧ (¬ (r24 = (-1 : Int32)) → (Z r24 N))))) ∧ (¬ (r9 < (8 : Int32)) → (Z (1 : Int32) N))))) ∧ (¬ ((2 : Int32) ≤ x1) → (Z x1 N))
set_option maxRecDepth 10000 in
theorem wk_X_anyChoice_b0 {κ : Cx} {τ : xT} {d : Nat} {f : xF → Int32 → (Int32 → xF → Prop) → Prop} {Z : Int32 → xF → Prop} {N : xF} {x1 : Int32} (o : OKc κ (wdN τ) 4 b_X_anyChoice "StateExplorer" (some .int) (xR (3 + d + 1))) (hf : ∀ (N : xF) (x1 : Int32) (Z : Int32 → xF → Prop), f N x1 Z → CT (kL κ) (wdN τ) y_X_anyChoice (.code y_X_anyChoice b_X_anyChoice 4 (some .int)) (xR (3 + d)) [.ref (τ.2.2 54), .int x1] N (xZi Z)) (h : X_anyChoice_b0 f Z N x1) : GW κ (wdN τ) 4 (0, 0) (xMQ κ (wdN τ) (xR (3 + d + 1)) (xZi Z)) N 0 [(0, .ref (τ.2.2 54)), (1, .int x1)] [] := by
  unfold X_anyChoice_b0 at h
  refine gw_iload_n (pc := 0) o d_X_anyChoice_0 rfl 1 rfl ?_
  refine gw_iconst (pc := 1) (v := (2 : Int32)) o d_X_anyChoice_1 (by decide) ?_
  refine gw_icmp_ge (pc := 2) (tgt := 7) o d_X_anyChoice_2 (by decide) (fun hc => ?_) (fun hc => ?_)
  · have h := h.1 hc
    refine gw_aload_n (pc := 7) o d_X_anyChoice_7 rfl 0 rfl ?_
    refine gw_iload_n (pc := 8) o d_X_anyChoice_8 rfl 1 rfl ?_
    refine gw_callV (pc := 9) (b := τ.2.2 54) (As := [.int x1]) (st := []) o (ct_N_level o.hD h) mi_N_level q_254 q_255 q_256 0 rfl rfl (xRo_of (by omega) (by decide)) rfl rfl (Nat.le_of_ble_eq_true rfl) d_X_anyChoice_9 (kk_p_i rfl (fun r9 h => ?_))
    refine gw_bipush (pc := 12) (v := (8 : Int32)) o d_X_anyChoice_12 (by decide) ?_
    refine gw_icmp_lt (pc := 14) (tgt := 19) o d_X_anyChoice_14 (by decide) (fun hc => ?_) (fun hc => ?_)
    · have h := h.1 hc
      refine gw_aload_n (pc := 19) o d_X_anyChoice_19 rfl 0 rfl ?_
      refine gw_iconst (pc := 20) (v := (1 : Int32)) o d_X_anyChoice_20 (by decide) ?_
      refine gw_iload_n (pc := 21) o d_X_anyChoice_21 rfl 1 rfl ?_
      refine gw_iconst (pc := 22) (v := (0 : Int32)) o d_X_anyChoice_22 (by decide) ?_
      refine gw_iconst (pc := 23) (v := (0 : Int32)) o d_X_anyChoice_23 (by decide) ?_
      refine gw_callV (pc := 24) (b := τ.2.2 54) (As := [.int (1 : Int32), .int x1, .int (0 : Int32), .int (0 : Int32)]) (st := []) o (ct_N_known o.hD h) mi_N_known q_243 q_244 q_245 0 rfl rfl (xRo_of (by omega) (by decide)) rfl rfl (Nat.le_of_ble_eq_true rfl) d_X_anyChoice_24 (kk_p_i rfl (fun r24 h => ?_))
      refine gw_istore_n (pc := 27) (lv' := [(2, .int r24), (0, .ref (τ.2.2 54)), (1, .int x1)]) o d_X_anyChoice_27 rfl (by decide) rfl ?_
      refine gw_iload_n (pc := 28) o d_X_anyChoice_28 rfl 0 rfl ?_
      refine gw_iconst (pc := 29) (v := (-1 : Int32)) o d_X_anyChoice_29 (by decide) ?_
      refine gw_icmp_eq (pc := 30) (tgt := 35) o d_X_anyChoice_30 (by decide) (fun hc => ?_) (fun hc => ?_)
      · have h := h.1 hc
        refine gw_aload_n (pc := 35) o d_X_anyChoice_35 rfl 1 rfl ?_
        refine gw_iload_n (pc := 36) o d_X_anyChoice_36 rfl 2 rfl ?_
        refine gw_callV (pc := 37) (b := τ.2.2 54) (As := [.int x1]) (st := []) o (ct_N_level o.hD h) mi_N_level q_254 q_255 q_256 0 rfl rfl (xRo_of (by omega) (by decide)) rfl rfl (Nat.le_of_ble_eq_true rfl) d_X_anyChoice_37 (kk_p_i rfl (fun r37 h => ?_))
        refine gw_istore_n (pc := 40) (lv' := [(3, .int r37), (2, .int r24), (0, .ref (τ.2.2 54)), (1, .int x1)]) o d_X_anyChoice_40 rfl (by decide) rfl ?_
        refine gw_aload_n (pc := 41) o d_X_anyChoice_41 rfl 2 rfl ?_
        refine gw_iconst (pc := 42) (v := (1 : Int32)) o d_X_anyChoice_42 (by decide) ?_
        refine gw_iload_n (pc := 43) o d_X_anyChoice_43 rfl 3 rfl ?_
        refine gw_iconst (pc := 44) (v := (0 : Int32)) o d_X_anyChoice_44 (by decide) ?_
        refine gw_iconst (pc := 45) (v := (0 : Int32)) o d_X_anyChoice_45 (by decide) ?_
        refine gw_aload_n (pc := 46) o d_X_anyChoice_46 rfl 2 rfl ?_
        refine gw_iload_n (pc := 47) o d_X_anyChoice_47 rfl 0 rfl ?_
        refine gw_aload_n (pc := 48) o d_X_anyChoice_48 rfl 2 rfl ?_
        refine gw_aload_n (pc := 49) o d_X_anyChoice_49 rfl 2 rfl ?_
        refine gN_getN_lows (pc := 50) o d_X_anyChoice_50 ?_
        refine gw_iload_n (pc := 53) o d_X_anyChoice_53 rfl 3 rfl ?_
        have hi := h.1
        have h := h.2
        refine gN_ald_lows (pc := 54) o hi d_X_anyChoice_54 ?_
        refine gw_callS (pc := 55) (As := [.ref (τ.2.2 54), .int (N 1 x1.toNatClampNeg)]) (st := [.int r37, .ref (τ.2.2 54), .int (0 : Int32), .int (0 : Int32), .int x1, .int (1 : Int32), .ref (τ.2.2 54)]) o (hf _ _ _ h) mi_X_anyChoice q_490 q_491 (xRo_of (by omega) (by decide)) rfl rfl (Nat.le_of_ble_eq_true rfl) d_X_anyChoice_55 (kk_g_i rfl (fun r55 N_55 h => ?_))
        refine gw_aload_n (pc := 58) o d_X_anyChoice_58 rfl 2 rfl ?_
        refine gw_aload_n (pc := 59) o d_X_anyChoice_59 rfl 2 rfl ?_
        refine gN_getN_highs (pc := 60) o d_X_anyChoice_60 ?_
        refine gw_iload_n (pc := 63) o d_X_anyChoice_63 rfl 3 rfl ?_
        have hi := h.1
        have h := h.2
        refine gN_ald_highs (pc := 64) o hi d_X_anyChoice_64 ?_
        refine gw_callS (pc := 65) (As := [.ref (τ.2.2 54), .int (N_55 2 x1.toNatClampNeg)]) (st := [.int r55, .int r37, .ref (τ.2.2 54), .int (0 : Int32), .int (0 : Int32), .int x1, .int (1 : Int32), .ref (τ.2.2 54)]) o (hf _ _ _ h) mi_X_anyChoice q_490 q_491 (xRo_of (by omega) (by decide)) rfl rfl (Nat.le_of_ble_eq_true rfl) d_X_anyChoice_65 (kk_g_i rfl (fun r65 N_65 h => ?_))
        refine gw_callV (pc := 68) (b := τ.2.2 54) (As := [.int r37, .int r55, .int r65]) (st := [.int (0 : Int32), .int (0 : Int32), .int x1, .int (1 : Int32), .ref (τ.2.2 54)]) o (ct_N_node o.hD h) mi_N_node q_228 q_229 q_230 0 rfl rfl (xRo_of (by omega) (by decide)) rfl rfl (Nat.le_of_ble_eq_true rfl) d_X_anyChoice_68 (kk_g_i rfl (fun r68 N_68 h => ?_))
        refine gw_callV (pc := 71) (b := τ.2.2 54) (As := [.int (1 : Int32), .int x1, .int (0 : Int32), .int (0 : Int32), .int r68]) (st := []) o (ct_N_learn o.hD h) mi_N_learn q_265 q_266 q_267 0 rfl rfl (xRo_of (by omega) (by decide)) rfl rfl (Nat.le_of_ble_eq_true rfl) d_X_anyChoice_71 (kk_g_i rfl (fun r71 N_71 h => ?_))
        exact gw_iret (pc := 74) o ⟨Nat.le_refl _, Nat.le_refl _⟩ ⟨_, rfl, h⟩ d_X_anyChoice_74
      · have h := h.2 hc
        refine gw_iload_n (pc := 33) o d_X_anyChoice_33 rfl 0 rfl ?_
        exact gw_iret (pc := 34) o ⟨Nat.le_refl _, Nat.le_refl _⟩ ⟨_, rfl, h⟩ d_X_anyChoice_34
    · have h := h.2 hc
      refine gw_iconst (pc := 17) (v := (1 : Int32)) o d_X_anyChoice_17 (by decide) ?_
      exact gw_iret (pc := 18) o ⟨Nat.le_refl _, Nat.le_refl _⟩ ⟨_, rfl, h⟩ d_X_anyChoice_18
  · have h := h.2 hc
    refine gw_iload_n (pc := 5) o d_X_anyChoice_5 rfl 1 rfl ?_
    exact gw_iret (pc := 6) o ⟨Nat.le_refl _, Nat.le_refl _⟩ ⟨_, rfl, h⟩ d_X_anyChoice_6
def w_X_anyChoice : Nat → xF → Int32 → (Int32 → xF → Prop) → Prop
  | 0, _, _, _ => False
  | d + 1, N, x1, Z => X_anyChoice_b0  (w_X_anyChoice d)  Z N x1
theorem ct_X_anyChoice {l : Launch} {τ : xT} (hD : xD (wdN τ)) : ∀ {d : Nat} {N : xF} {x1 : Int32} {Z : Int32 → xF → Prop} (h : w_X_anyChoice d N x1 Z), CT l (wdN τ) y_X_anyChoice (.code y_X_anyChoice b_X_anyChoice 4 (some .int)) (xR (3 + d)) [.ref (τ.2.2 54), .int x1] N (xZi Z) := by
  intro d
  induction d with
  | zero => intro N x1 Z h; exact h.elim
  | succ d ih =>
    intro N x1 Z h
    exact CT.of (by decide) (Nat.le_of_ble_eq_true rfl) hD (fun κ hl ha o => gw_sub (lv' := [(0, .ref (τ.2.2 54)), (1, .int x1)]) [0, 1] rfl (wk_X_anyChoice_b0 o (fun _ _ _ h => hl ▸ ih h) h))
def X_bit_b14 (Z : Int32 → Prop) (s0 : Int32) : Prop := (s0 = 0 ∨ s0 = 1) ∧ (Z s0)
set_option maxRecDepth 10000 in
theorem wk_X_bit_b14 {κ : Cx} {σ : Type} {ω : xWd σ} {X : σ} {Z : Int32 → Prop} {s0 : Int32} (o : OKc κ ω 2 b_X_bit "StateExplorer" (some .boolean) (xR 0)) (h : X_bit_b14 Z s0) : GW κ ω 2 (0, 0) (xMQ κ ω (xR 0) (xZi (fun r Y => Y = X ∧ Z r))) X 14 [] [.int s0] := by
  unfold X_bit_b14 at h
  exact gw_zret (pc := 14) o ⟨Nat.le_refl _, Nat.le_refl _⟩ h.1 ⟨_, rfl, rfl, h.2⟩ d_X_bit_14
def X_bit_b0 (Z : Int32 → Prop) (x0 : Int32) (x1 : Int32) : Prop := ((((x0 >>> (x1 &&& 31)) &&& (1 : Int32)) = (1 : Int32)) → (X_bit_b14 Z (1 : Int32))) ∧ (¬ (((x0 >>> (x1 &&& 31)) &&& (1 : Int32)) = (1 : Int32)) → (X_bit_b14 Z (0 : Int32)))
set_option maxRecDepth 10000 in
theorem wk_X_bit_b0 {κ : Cx} {σ : Type} {ω : xWd σ} {X : σ} {Z : Int32 → Prop} {x0 : Int32} {x1 : Int32} (o : OKc κ ω 2 b_X_bit "StateExplorer" (some .boolean) (xR 0)) (h : X_bit_b0 Z x0 x1) : GW κ ω 2 (0, 0) (xMQ κ ω (xR 0) (xZi (fun r Y => Y = X ∧ Z r))) X 0 [(0, .int x0), (1, .int x1)] [] := by
  unfold X_bit_b0 at h
  refine gw_iload_n (pc := 0) o d_X_bit_0 rfl 0 rfl ?_
  refine gw_iload_n (pc := 1) o d_X_bit_1 rfl 1 rfl ?_
  refine gw_ishr (pc := 2) o d_X_bit_2 ?_
  refine gw_iconst (pc := 3) (v := (1 : Int32)) o d_X_bit_3 (by decide) ?_
  refine gw_iand (pc := 4) o d_X_bit_4 ?_
  refine gw_iconst (pc := 5) (v := (1 : Int32)) o d_X_bit_5 (by decide) ?_
  refine gw_icmp_ne (pc := 6) (tgt := 13) o d_X_bit_6 (by decide) (fun hc => ?_) (fun hc => ?_)
  · have h := h.2 hc
    refine gw_iconst (pc := 13) (v := (0 : Int32)) o d_X_bit_13 (by decide) ?_
    exact gw_sub (lv' := []) [] rfl (wk_X_bit_b14 o h)
  · have h := h.1 hc
    refine gw_iconst (pc := 9) (v := (1 : Int32)) o d_X_bit_9 (by decide) ?_
    refine gw_goto (pc := 10) (tgt := 14) o d_X_bit_10 (by decide) ?_
    exact gw_sub (lv' := []) [] rfl (wk_X_bit_b14 o h)
def w_X_bit   (x0 : Int32) (x1 : Int32) (Z : Int32 → Prop) : Prop := X_bit_b0  Z x0 x1
theorem ct_X_bit {l : Launch} {σ : Type} {ω : xWd σ} {X : σ}  {x0 : Int32} {x1 : Int32} {Z : Int32 → Prop} (hD : xD ω) (h : w_X_bit  x0 x1 Z) : CT l ω y_X_bit (.code y_X_bit b_X_bit 2 (some .boolean)) (xR 0) [.int x0, .int x1] X (xZi (fun r Y => Y = X ∧ Z r)) := by
  subst_vars
  exact CT.of (by decide) (Nat.le_of_ble_eq_true rfl) hD (fun κ hl ha o => gw_sub (lv' := [(0, .int x0), (1, .int x1)]) [0, 1] rfl (wk_X_bit_b0 o h))
def X_points_b0 (f : xF → Int32 → Int32 → (Int32 → Prop) → Prop) (Z : Int32 → Prop) (N : xF) (x1 : Int32) (x2 : Int32) : Prop := ((x1 = 0) → (Z (0 : Int32))) ∧ (¬ (x1 = 0) → (w_N_level N x1 (fun r9 => ∀ x3_15 : Int32, x3_15 = (1 : Int32) <<< ((r9 - x2) &&& 31) → (((x1 = (1 : Int32)) → (Z x3_15)) ∧ (¬ (x1 = (1 : Int32)) → (w_N_level N x1 (fun r25 => ∀ x4_30 : Int32, x4_30 = r25 + (1 : Int32) → (vp_in x1 262144 ∧ (f N (N 1 x1.toNatClampNeg) x4_30 (fun r42 => vp_in x1 262144 ∧ (f N (N 2 x1.toNatClampNeg) x4_30 (fun r54 => Z (x3_15 * (r42 + r54))))))))))))))
set_option maxRecDepth 10000 in
theorem wk_X_points_b0 {κ : Cx} {τ : xT} {d : Nat} {f : xF → Int32 → Int32 → (Int32 → Prop) → Prop} {Z : Int32 → Prop} {N : xF} {x1 : Int32} {x2 : Int32} (o : OKc κ (wdN τ) 5 b_X_points "StateExplorer" (some .int) (xR (1 + d + 1))) (hf : ∀ (N : xF) (x1 : Int32) (x2 : Int32) (Z : Int32 → Prop), f N x1 x2 Z → CT (kL κ) (wdN τ) y_X_points (.code y_X_points b_X_points 5 (some .int)) (xR (1 + d)) [.ref (τ.2.2 54), .int x1, .int x2] N (xZi (fun r Y => Y = N ∧ Z r))) (h : X_points_b0 f Z N x1 x2) : GW κ (wdN τ) 5 (0, 0) (xMQ κ (wdN τ) (xR (1 + d + 1)) (xZi (fun r Y => Y = N ∧ Z r))) N 0 [(0, .ref (τ.2.2 54)), (1, .int x1), (2, .int x2)] [] := by
  unfold X_points_b0 at h
  refine gw_iload_n (pc := 0) o d_X_points_0 rfl 1 rfl ?_
  refine gw_if_ne (pc := 1) (tgt := 6) o d_X_points_1 (by decide) (fun hc => ?_) (fun hc => ?_)
  · have h := h.2 hc
    refine gw_iconst (pc := 6) (v := (1 : Int32)) o d_X_points_6 (by decide) ?_
    refine gw_aload_n (pc := 7) o d_X_points_7 rfl 0 rfl ?_
    refine gw_iload_n (pc := 8) o d_X_points_8 rfl 1 rfl ?_
    refine gw_callV (pc := 9) (b := τ.2.2 54) (As := [.int x1]) (st := [.int (1 : Int32)]) o (ct_N_level o.hD h) mi_N_level q_254 q_255 q_256 0 rfl rfl (xRo_of (by omega) (by decide)) rfl rfl (Nat.le_of_ble_eq_true rfl) d_X_points_9 (kk_p_i rfl (fun r9 h => ?_))
    refine gw_iload_n (pc := 12) o d_X_points_12 rfl 2 rfl ?_
    refine gw_isub (pc := 13) o d_X_points_13 ?_
    refine gw_ishl (pc := 14) o d_X_points_14 ?_
    refine gw_topi (fun x3_15 ex3_15 => ?_)
    have h := h x3_15 ex3_15
    refine gw_istore_n (pc := 15) (lv' := [(3, .int x3_15), (0, .ref (τ.2.2 54)), (1, .int x1), (2, .int x2)]) o d_X_points_15 rfl (by decide) rfl ?_
    refine gw_iload_n (pc := 16) o d_X_points_16 rfl 2 rfl ?_
    refine gw_iconst (pc := 17) (v := (1 : Int32)) o d_X_points_17 (by decide) ?_
    refine gw_icmp_ne (pc := 18) (tgt := 23) o d_X_points_18 (by decide) (fun hc => ?_) (fun hc => ?_)
    · have h := h.2 hc
      refine gw_aload_n (pc := 23) o d_X_points_23 rfl 1 rfl ?_
      refine gw_iload_n (pc := 24) o d_X_points_24 rfl 2 rfl ?_
      refine gw_callV (pc := 25) (b := τ.2.2 54) (As := [.int x1]) (st := []) o (ct_N_level o.hD h) mi_N_level q_254 q_255 q_256 0 rfl rfl (xRo_of (by omega) (by decide)) rfl rfl (Nat.le_of_ble_eq_true rfl) d_X_points_25 (kk_p_i rfl (fun r25 h => ?_))
      refine gw_iconst (pc := 28) (v := (1 : Int32)) o d_X_points_28 (by decide) ?_
      refine gw_iadd (pc := 29) o d_X_points_29 ?_
      refine gw_topi (fun x4_30 ex4_30 => ?_)
      have h := h x4_30 ex4_30
      refine gw_istore (pc := 30) (lv' := [(4, .int x4_30), (3, .int x3_15), (0, .ref (τ.2.2 54)), (1, .int x1), (2, .int x2)]) o d_X_points_30 (by decide) rfl ?_
      refine gw_iload_n (pc := 32) o d_X_points_32 rfl 1 rfl ?_
      refine gw_aload_n (pc := 33) o d_X_points_33 rfl 2 rfl ?_
      refine gw_aload_n (pc := 34) o d_X_points_34 rfl 2 rfl ?_
      refine gN_getN_lows (pc := 35) o d_X_points_35 ?_
      refine gw_iload_n (pc := 38) o d_X_points_38 rfl 3 rfl ?_
      have hi := h.1
      have h := h.2
      refine gN_ald_lows (pc := 39) o hi d_X_points_39 ?_
      refine gw_iload (pc := 40) o d_X_points_40 0 rfl ?_
      refine gw_callS (pc := 42) (As := [.ref (τ.2.2 54), .int (N 1 x1.toNatClampNeg), .int x4_30]) (st := [.int x3_15]) o (hf _ _ _ _ h) mi_X_points q_321 q_322 (xRo_of (by omega) (by decide)) rfl rfl (Nat.le_of_ble_eq_true rfl) d_X_points_42 (kk_p_i rfl (fun r42 h => ?_))
      refine gw_aload_n (pc := 45) o d_X_points_45 rfl 2 rfl ?_
      refine gw_aload_n (pc := 46) o d_X_points_46 rfl 2 rfl ?_
      refine gN_getN_highs (pc := 47) o d_X_points_47 ?_
      refine gw_iload_n (pc := 50) o d_X_points_50 rfl 3 rfl ?_
      have hi := h.1
      have h := h.2
      refine gN_ald_highs (pc := 51) o hi d_X_points_51 ?_
      refine gw_iload (pc := 52) o d_X_points_52 0 rfl ?_
      refine gw_callS (pc := 54) (As := [.ref (τ.2.2 54), .int (N 2 x1.toNatClampNeg), .int x4_30]) (st := [.int r42, .int x3_15]) o (hf _ _ _ _ h) mi_X_points q_321 q_322 (xRo_of (by omega) (by decide)) rfl rfl (Nat.le_of_ble_eq_true rfl) d_X_points_54 (kk_p_i rfl (fun r54 h => ?_))
      refine gw_iadd (pc := 57) o d_X_points_57 ?_
      refine gw_imul (pc := 58) o d_X_points_58 ?_
      exact gw_iret (pc := 59) o ⟨Nat.le_refl _, Nat.le_refl _⟩ ⟨_, rfl, rfl, h⟩ d_X_points_59
    · have h := h.1 hc
      refine gw_iload_n (pc := 21) o d_X_points_21 rfl 0 rfl ?_
      exact gw_iret (pc := 22) o ⟨Nat.le_refl _, Nat.le_refl _⟩ ⟨_, rfl, rfl, h⟩ d_X_points_22
  · have h := h.1 hc
    refine gw_iconst (pc := 4) (v := (0 : Int32)) o d_X_points_4 (by decide) ?_
    exact gw_iret (pc := 5) o ⟨Nat.le_refl _, Nat.le_refl _⟩ ⟨_, rfl, rfl, h⟩ d_X_points_5
def w_X_points : Nat → xF → Int32 → Int32 → (Int32 → Prop) → Prop
  | 0, _, _, _, _ => False
  | d + 1, N, x1, x2, Z => X_points_b0  (w_X_points d)  Z N x1 x2
theorem ct_X_points {l : Launch} {τ : xT} (hD : xD (wdN τ)) : ∀ {d : Nat} {N : xF} {x1 : Int32} {x2 : Int32} {Z : Int32 → Prop} (h : w_X_points d N x1 x2 Z), CT l (wdN τ) y_X_points (.code y_X_points b_X_points 5 (some .int)) (xR (1 + d)) [.ref (τ.2.2 54), .int x1, .int x2] N (xZi (fun r Y => Y = N ∧ Z r)) := by
  intro d
  induction d with
  | zero => intro N x1 x2 Z h; exact h.elim
  | succ d ih =>
    intro N x1 x2 Z h
    exact CT.of (by decide) (Nat.le_of_ble_eq_true rfl) hD (fun κ hl ha o => gw_sub (lv' := [(0, .ref (τ.2.2 54)), (1, .int x1), (2, .int x2)]) [0, 1, 2] rfl (wk_X_points_b0 o (fun _ _ _ _ h => hl ▸ ih h) h))
end
