/-! names of the wrappers, printed by genl.py -/
abbrev y_L_gate : MethodName := ⟨"StateExplorerLaw", "gate", "(LStateExplorer;I[J)I"⟩
abbrev b_L_gate : ByteArray := method_3_code
theorem d_L_gate_0 : decode b_L_gate 0 = .ok (.aload_n 2, 1) := by decide +kernel
theorem d_L_gate_1 : decode b_L_gate 1 = .ok (.iconst 0, 1) := by decide +kernel
theorem d_L_gate_2 : decode b_L_gate 2 = .ok (.aload_n 0, 1) := by decide +kernel
theorem d_L_gate_3 : decode b_L_gate 3 = .ok (.iload_n 1, 1) := by decide +kernel
theorem d_L_gate_4 : decode b_L_gate 4 = .ok (.invokevirtual 7, 3) := by decide +kernel
theorem d_L_gate_7 : decode b_L_gate 7 = .ok (.i2l, 1) := by decide +kernel
theorem d_L_gate_8 : decode b_L_gate 8 = .ok (.lastore, 1) := by decide +kernel
theorem d_L_gate_9 : decode b_L_gate 9 = .ok (.goto 6, 3) := by decide +kernel
theorem d_L_gate_12 : decode b_L_gate 12 = .ok (.astore_n 3, 1) := by decide +kernel
theorem d_L_gate_13 : decode b_L_gate 13 = .ok (.iconst 1, 1) := by decide +kernel
theorem d_L_gate_14 : decode b_L_gate 14 = .ok (.ireturn, 1) := by decide +kernel
theorem d_L_gate_15 : decode b_L_gate 15 = .ok (.iconst 0, 1) := by decide +kernel
theorem d_L_gate_16 : decode b_L_gate 16 = .ok (.ireturn, 1) := by decide +kernel
abbrev y_L_feed : MethodName := ⟨"StateExplorerLaw", "feed", "(LStateExplorer;IIZ[J)I"⟩
abbrev b_L_feed : ByteArray := method_4_code
theorem d_L_feed_0 : decode b_L_feed 0 = .ok (.aload 4, 2) := by decide +kernel
theorem d_L_feed_2 : decode b_L_feed 2 = .ok (.iconst 0, 1) := by decide +kernel
theorem d_L_feed_3 : decode b_L_feed 3 = .ok (.aload_n 0, 1) := by decide +kernel
theorem d_L_feed_4 : decode b_L_feed 4 = .ok (.iload_n 1, 1) := by decide +kernel
theorem d_L_feed_5 : decode b_L_feed 5 = .ok (.iload_n 2, 1) := by decide +kernel
theorem d_L_feed_6 : decode b_L_feed 6 = .ok (.iload_n 3, 1) := by decide +kernel
theorem d_L_feed_7 : decode b_L_feed 7 = .ok (.invokevirtual 15, 3) := by decide +kernel
theorem d_L_feed_10 : decode b_L_feed 10 = .ok (.i2l, 1) := by decide +kernel
theorem d_L_feed_11 : decode b_L_feed 11 = .ok (.lastore, 1) := by decide +kernel
theorem d_L_feed_12 : decode b_L_feed 12 = .ok (.goto 11, 3) := by decide +kernel
theorem d_L_feed_15 : decode b_L_feed 15 = .ok (.astore 5, 2) := by decide +kernel
theorem d_L_feed_17 : decode b_L_feed 17 = .ok (.iconst 1, 1) := by decide +kernel
theorem d_L_feed_18 : decode b_L_feed 18 = .ok (.ireturn, 1) := by decide +kernel
theorem d_L_feed_19 : decode b_L_feed 19 = .ok (.astore 5, 2) := by decide +kernel
theorem d_L_feed_21 : decode b_L_feed 21 = .ok (.iconst 2, 1) := by decide +kernel
theorem d_L_feed_22 : decode b_L_feed 22 = .ok (.ireturn, 1) := by decide +kernel
theorem d_L_feed_23 : decode b_L_feed 23 = .ok (.iconst 0, 1) := by decide +kernel
theorem d_L_feed_24 : decode b_L_feed 24 = .ok (.ireturn, 1) := by decide +kernel
abbrev y_L_output : MethodName := ⟨"StateExplorerLaw", "output", "(LStateExplorer;I[J)I"⟩
abbrev b_L_output : ByteArray := method_5_code
theorem d_L_output_0 : decode b_L_output 0 = .ok (.aload_n 2, 1) := by decide +kernel
theorem d_L_output_1 : decode b_L_output 1 = .ok (.iconst 0, 1) := by decide +kernel
theorem d_L_output_2 : decode b_L_output 2 = .ok (.aload_n 0, 1) := by decide +kernel
theorem d_L_output_3 : decode b_L_output 3 = .ok (.iload_n 1, 1) := by decide +kernel
theorem d_L_output_4 : decode b_L_output 4 = .ok (.invokevirtual 23, 3) := by decide +kernel
theorem d_L_output_7 : decode b_L_output 7 = .ok (.i2l, 1) := by decide +kernel
theorem d_L_output_8 : decode b_L_output 8 = .ok (.lastore, 1) := by decide +kernel
theorem d_L_output_9 : decode b_L_output 9 = .ok (.goto 6, 3) := by decide +kernel
theorem d_L_output_12 : decode b_L_output 12 = .ok (.astore_n 3, 1) := by decide +kernel
theorem d_L_output_13 : decode b_L_output 13 = .ok (.iconst 1, 1) := by decide +kernel
theorem d_L_output_14 : decode b_L_output 14 = .ok (.ireturn, 1) := by decide +kernel
theorem d_L_output_15 : decode b_L_output 15 = .ok (.iconst 0, 1) := by decide +kernel
theorem d_L_output_16 : decode b_L_output 16 = .ok (.ireturn, 1) := by decide +kernel
abbrev y_L_distance : MethodName := ⟨"StateExplorerLaw", "distance", "(LStateExplorer;I[J)I"⟩
abbrev b_L_distance : ByteArray := method_6_code
theorem d_L_distance_0 : decode b_L_distance 0 = .ok (.aload_n 2, 1) := by decide +kernel
theorem d_L_distance_1 : decode b_L_distance 1 = .ok (.iconst 0, 1) := by decide +kernel
theorem d_L_distance_2 : decode b_L_distance 2 = .ok (.aload_n 0, 1) := by decide +kernel
theorem d_L_distance_3 : decode b_L_distance 3 = .ok (.iload_n 1, 1) := by decide +kernel
theorem d_L_distance_4 : decode b_L_distance 4 = .ok (.invokevirtual 26, 3) := by decide +kernel
theorem d_L_distance_7 : decode b_L_distance 7 = .ok (.i2l, 1) := by decide +kernel
theorem d_L_distance_8 : decode b_L_distance 8 = .ok (.lastore, 1) := by decide +kernel
theorem d_L_distance_9 : decode b_L_distance 9 = .ok (.goto 9, 3) := by decide +kernel
theorem d_L_distance_12 : decode b_L_distance 12 = .ok (.astore_n 3, 1) := by decide +kernel
theorem d_L_distance_13 : decode b_L_distance 13 = .ok (.iconst 1, 1) := by decide +kernel
theorem d_L_distance_14 : decode b_L_distance 14 = .ok (.ireturn, 1) := by decide +kernel
theorem d_L_distance_15 : decode b_L_distance 15 = .ok (.astore_n 3, 1) := by decide +kernel
theorem d_L_distance_16 : decode b_L_distance 16 = .ok (.iconst 2, 1) := by decide +kernel
theorem d_L_distance_17 : decode b_L_distance 17 = .ok (.ireturn, 1) := by decide +kernel
theorem d_L_distance_18 : decode b_L_distance 18 = .ok (.iconst 0, 1) := by decide +kernel
theorem d_L_distance_19 : decode b_L_distance 19 = .ok (.ireturn, 1) := by decide +kernel
abbrev y_L_way : MethodName := ⟨"StateExplorerLaw", "way", "(LStateExplorer;II[J)I"⟩
abbrev b_L_way : ByteArray := method_7_code
theorem d_L_way_0 : decode b_L_way 0 = .ok (.aload_n 3, 1) := by decide +kernel
theorem d_L_way_1 : decode b_L_way 1 = .ok (.iconst 0, 1) := by decide +kernel
theorem d_L_way_2 : decode b_L_way 2 = .ok (.aload_n 0, 1) := by decide +kernel
theorem d_L_way_3 : decode b_L_way 3 = .ok (.iload_n 1, 1) := by decide +kernel
theorem d_L_way_4 : decode b_L_way 4 = .ok (.iload_n 2, 1) := by decide +kernel
theorem d_L_way_5 : decode b_L_way 5 = .ok (.invokevirtual 29, 3) := by decide +kernel
theorem d_L_way_8 : decode b_L_way 8 = .ok (.i2l, 1) := by decide +kernel
theorem d_L_way_9 : decode b_L_way 9 = .ok (.lastore, 1) := by decide +kernel
theorem d_L_way_10 : decode b_L_way 10 = .ok (.goto 11, 3) := by decide +kernel
theorem d_L_way_13 : decode b_L_way 13 = .ok (.astore 4, 2) := by decide +kernel
theorem d_L_way_15 : decode b_L_way 15 = .ok (.iconst 1, 1) := by decide +kernel
theorem d_L_way_16 : decode b_L_way 16 = .ok (.ireturn, 1) := by decide +kernel
theorem d_L_way_17 : decode b_L_way 17 = .ok (.astore 4, 2) := by decide +kernel
theorem d_L_way_19 : decode b_L_way 19 = .ok (.iconst 2, 1) := by decide +kernel
theorem d_L_way_20 : decode b_L_way 20 = .ok (.ireturn, 1) := by decide +kernel
theorem d_L_way_21 : decode b_L_way 21 = .ok (.iconst 0, 1) := by decide +kernel
theorem d_L_way_22 : decode b_L_way 22 = .ok (.ireturn, 1) := by decide +kernel
abbrev y_L_many : MethodName := ⟨"StateExplorerLaw", "many", "(LStateExplorer;I[J)I"⟩
abbrev b_L_many : ByteArray := method_8_code
theorem d_L_many_0 : decode b_L_many 0 = .ok (.aload_n 2, 1) := by decide +kernel
theorem d_L_many_1 : decode b_L_many 1 = .ok (.iconst 0, 1) := by decide +kernel
theorem d_L_many_2 : decode b_L_many 2 = .ok (.aload_n 0, 1) := by decide +kernel
theorem d_L_many_3 : decode b_L_many 3 = .ok (.iload_n 1, 1) := by decide +kernel
theorem d_L_many_4 : decode b_L_many 4 = .ok (.invokevirtual 33, 3) := by decide +kernel
theorem d_L_many_7 : decode b_L_many 7 = .ok (.i2l, 1) := by decide +kernel
theorem d_L_many_8 : decode b_L_many 8 = .ok (.lastore, 1) := by decide +kernel
theorem d_L_many_9 : decode b_L_many 9 = .ok (.goto 6, 3) := by decide +kernel
theorem d_L_many_12 : decode b_L_many 12 = .ok (.astore_n 3, 1) := by decide +kernel
theorem d_L_many_13 : decode b_L_many 13 = .ok (.iconst 1, 1) := by decide +kernel
theorem d_L_many_14 : decode b_L_many 14 = .ok (.ireturn, 1) := by decide +kernel
theorem d_L_many_15 : decode b_L_many 15 = .ok (.iconst 0, 1) := by decide +kernel
theorem d_L_many_16 : decode b_L_many 16 = .ok (.ireturn, 1) := by decide +kernel
abbrev y_L_next : MethodName := ⟨"StateExplorerLaw", "next", "(LStateExplorer;II[J)I"⟩
abbrev b_L_next : ByteArray := method_9_code
theorem d_L_next_0 : decode b_L_next 0 = .ok (.aload_n 3, 1) := by decide +kernel
theorem d_L_next_1 : decode b_L_next 1 = .ok (.iconst 0, 1) := by decide +kernel
theorem d_L_next_2 : decode b_L_next 2 = .ok (.aload_n 0, 1) := by decide +kernel
theorem d_L_next_3 : decode b_L_next 3 = .ok (.iload_n 1, 1) := by decide +kernel
theorem d_L_next_4 : decode b_L_next 4 = .ok (.iload_n 2, 1) := by decide +kernel
theorem d_L_next_5 : decode b_L_next 5 = .ok (.invokevirtual 36, 3) := by decide +kernel
theorem d_L_next_8 : decode b_L_next 8 = .ok (.i2l, 1) := by decide +kernel
theorem d_L_next_9 : decode b_L_next 9 = .ok (.lastore, 1) := by decide +kernel
theorem d_L_next_10 : decode b_L_next 10 = .ok (.goto 11, 3) := by decide +kernel
theorem d_L_next_13 : decode b_L_next 13 = .ok (.astore 4, 2) := by decide +kernel
theorem d_L_next_15 : decode b_L_next 15 = .ok (.iconst 1, 1) := by decide +kernel
theorem d_L_next_16 : decode b_L_next 16 = .ok (.ireturn, 1) := by decide +kernel
theorem d_L_next_17 : decode b_L_next 17 = .ok (.astore 4, 2) := by decide +kernel
theorem d_L_next_19 : decode b_L_next 19 = .ok (.iconst 2, 1) := by decide +kernel
theorem d_L_next_20 : decode b_L_next 20 = .ok (.ireturn, 1) := by decide +kernel
theorem d_L_next_21 : decode b_L_next 21 = .ok (.iconst 0, 1) := by decide +kernel
theorem d_L_next_22 : decode b_L_next 22 = .ok (.ireturn, 1) := by decide +kernel
abbrev y_L_doubt : MethodName := ⟨"StateExplorerLaw", "doubt", "(LStateExplorer;I[J)I"⟩
abbrev b_L_doubt : ByteArray := method_10_code
theorem d_L_doubt_0 : decode b_L_doubt 0 = .ok (.aload_n 2, 1) := by decide +kernel
theorem d_L_doubt_1 : decode b_L_doubt 1 = .ok (.iconst 0, 1) := by decide +kernel
theorem d_L_doubt_2 : decode b_L_doubt 2 = .ok (.aload_n 0, 1) := by decide +kernel
theorem d_L_doubt_3 : decode b_L_doubt 3 = .ok (.iload_n 1, 1) := by decide +kernel
theorem d_L_doubt_4 : decode b_L_doubt 4 = .ok (.invokevirtual 39, 3) := by decide +kernel
theorem d_L_doubt_7 : decode b_L_doubt 7 = .ok (.i2l, 1) := by decide +kernel
theorem d_L_doubt_8 : decode b_L_doubt 8 = .ok (.lastore, 1) := by decide +kernel
theorem d_L_doubt_9 : decode b_L_doubt 9 = .ok (.goto 9, 3) := by decide +kernel
theorem d_L_doubt_12 : decode b_L_doubt 12 = .ok (.astore_n 3, 1) := by decide +kernel
theorem d_L_doubt_13 : decode b_L_doubt 13 = .ok (.iconst 1, 1) := by decide +kernel
theorem d_L_doubt_14 : decode b_L_doubt 14 = .ok (.ireturn, 1) := by decide +kernel
theorem d_L_doubt_15 : decode b_L_doubt 15 = .ok (.astore_n 3, 1) := by decide +kernel
theorem d_L_doubt_16 : decode b_L_doubt 16 = .ok (.iconst 2, 1) := by decide +kernel
theorem d_L_doubt_17 : decode b_L_doubt 17 = .ok (.ireturn, 1) := by decide +kernel
theorem d_L_doubt_18 : decode b_L_doubt 18 = .ok (.iconst 0, 1) := by decide +kernel
theorem d_L_doubt_19 : decode b_L_doubt 19 = .ok (.ireturn, 1) := by decide +kernel
abbrev y_L_always : MethodName := ⟨"StateExplorerLaw", "always", "(LStateExplorer;I[J)I"⟩
abbrev b_L_always : ByteArray := method_11_code
theorem d_L_always_0 : decode b_L_always 0 = .ok (.aload_n 2, 1) := by decide +kernel
theorem d_L_always_1 : decode b_L_always 1 = .ok (.iconst 0, 1) := by decide +kernel
theorem d_L_always_2 : decode b_L_always 2 = .ok (.aload_n 0, 1) := by decide +kernel
theorem d_L_always_3 : decode b_L_always 3 = .ok (.iload_n 1, 1) := by decide +kernel
theorem d_L_always_4 : decode b_L_always 4 = .ok (.invokevirtual 42, 3) := by decide +kernel
theorem d_L_always_7 : decode b_L_always 7 = .ok (.i2l, 1) := by decide +kernel
theorem d_L_always_8 : decode b_L_always 8 = .ok (.lastore, 1) := by decide +kernel
theorem d_L_always_9 : decode b_L_always 9 = .ok (.goto 9, 3) := by decide +kernel
theorem d_L_always_12 : decode b_L_always 12 = .ok (.astore_n 3, 1) := by decide +kernel
theorem d_L_always_13 : decode b_L_always 13 = .ok (.iconst 1, 1) := by decide +kernel
theorem d_L_always_14 : decode b_L_always 14 = .ok (.ireturn, 1) := by decide +kernel
theorem d_L_always_15 : decode b_L_always 15 = .ok (.astore_n 3, 1) := by decide +kernel
theorem d_L_always_16 : decode b_L_always 16 = .ok (.iconst 2, 1) := by decide +kernel
theorem d_L_always_17 : decode b_L_always 17 = .ok (.ireturn, 1) := by decide +kernel
theorem d_L_always_18 : decode b_L_always 18 = .ok (.iconst 0, 1) := by decide +kernel
theorem d_L_always_19 : decode b_L_always 19 = .ok (.ireturn, 1) := by decide +kernel
abbrev y_L_isSame : MethodName := ⟨"StateExplorerLaw", "isSame", "(LStateExplorer;II[J)I"⟩
abbrev b_L_isSame : ByteArray := method_12_code
theorem d_L_isSame_0 : decode b_L_isSame 0 = .ok (.aload_n 3, 1) := by decide +kernel
theorem d_L_isSame_1 : decode b_L_isSame 1 = .ok (.iconst 0, 1) := by decide +kernel
theorem d_L_isSame_2 : decode b_L_isSame 2 = .ok (.aload_n 0, 1) := by decide +kernel
theorem d_L_isSame_3 : decode b_L_isSame 3 = .ok (.iload_n 1, 1) := by decide +kernel
theorem d_L_isSame_4 : decode b_L_isSame 4 = .ok (.iload_n 2, 1) := by decide +kernel
theorem d_L_isSame_5 : decode b_L_isSame 5 = .ok (.invokevirtual 45, 3) := by decide +kernel
theorem d_L_isSame_8 : decode b_L_isSame 8 = .ok (.ifCond .eq 7, 3) := by decide +kernel
theorem d_L_isSame_11 : decode b_L_isSame 11 = .ok (.lconst 1, 1) := by decide +kernel
theorem d_L_isSame_12 : decode b_L_isSame 12 = .ok (.goto 4, 3) := by decide +kernel
theorem d_L_isSame_15 : decode b_L_isSame 15 = .ok (.lconst 0, 1) := by decide +kernel
theorem d_L_isSame_16 : decode b_L_isSame 16 = .ok (.lastore, 1) := by decide +kernel
theorem d_L_isSame_17 : decode b_L_isSame 17 = .ok (.goto 11, 3) := by decide +kernel
theorem d_L_isSame_20 : decode b_L_isSame 20 = .ok (.astore 4, 2) := by decide +kernel
theorem d_L_isSame_22 : decode b_L_isSame 22 = .ok (.iconst 1, 1) := by decide +kernel
theorem d_L_isSame_23 : decode b_L_isSame 23 = .ok (.ireturn, 1) := by decide +kernel
theorem d_L_isSame_24 : decode b_L_isSame 24 = .ok (.astore 4, 2) := by decide +kernel
theorem d_L_isSame_26 : decode b_L_isSame 26 = .ok (.iconst 2, 1) := by decide +kernel
theorem d_L_isSame_27 : decode b_L_isSame 27 = .ok (.ireturn, 1) := by decide +kernel
theorem d_L_isSame_28 : decode b_L_isSame 28 = .ok (.iconst 0, 1) := by decide +kernel
theorem d_L_isSame_29 : decode b_L_isSame 29 = .ok (.ireturn, 1) := by decide +kernel
abbrev y_L_group : MethodName := ⟨"StateExplorerLaw", "group", "(LStateExplorer;I[J)I"⟩
abbrev b_L_group : ByteArray := method_13_code
theorem d_L_group_0 : decode b_L_group 0 = .ok (.aload_n 2, 1) := by decide +kernel
theorem d_L_group_1 : decode b_L_group 1 = .ok (.iconst 0, 1) := by decide +kernel
theorem d_L_group_2 : decode b_L_group 2 = .ok (.aload_n 0, 1) := by decide +kernel
theorem d_L_group_3 : decode b_L_group 3 = .ok (.iload_n 1, 1) := by decide +kernel
theorem d_L_group_4 : decode b_L_group 4 = .ok (.invokevirtual 49, 3) := by decide +kernel
theorem d_L_group_7 : decode b_L_group 7 = .ok (.i2l, 1) := by decide +kernel
theorem d_L_group_8 : decode b_L_group 8 = .ok (.lastore, 1) := by decide +kernel
theorem d_L_group_9 : decode b_L_group 9 = .ok (.goto 9, 3) := by decide +kernel
theorem d_L_group_12 : decode b_L_group 12 = .ok (.astore_n 3, 1) := by decide +kernel
theorem d_L_group_13 : decode b_L_group 13 = .ok (.iconst 1, 1) := by decide +kernel
theorem d_L_group_14 : decode b_L_group 14 = .ok (.ireturn, 1) := by decide +kernel
theorem d_L_group_15 : decode b_L_group 15 = .ok (.astore_n 3, 1) := by decide +kernel
theorem d_L_group_16 : decode b_L_group 16 = .ok (.iconst 2, 1) := by decide +kernel
theorem d_L_group_17 : decode b_L_group 17 = .ok (.ireturn, 1) := by decide +kernel
theorem d_L_group_18 : decode b_L_group 18 = .ok (.iconst 0, 1) := by decide +kernel
theorem d_L_group_19 : decode b_L_group 19 = .ok (.ireturn, 1) := by decide +kernel
