theorem d_LW_poke_0 : decode b_LW_poke 0 = .ok (.aload_n 0, 1) := by decide +kernel
theorem d_LW_poke_1 : decode b_LW_poke 1 = .ok (.iload_n 1, 1) := by decide +kernel
theorem d_LW_poke_2 : decode b_LW_poke 2 = .ok (.iload_n 2, 1) := by decide +kernel
theorem d_LW_poke_3 : decode b_LW_poke 3 = .ok (.invokevirtual 7, 3) := by decide +kernel
theorem d_LW_poke_6 : decode b_LW_poke 6 = .ok (.goto 9, 3) := by decide +kernel
theorem d_LW_poke_9 : decode b_LW_poke 9 = .ok (.astore_n 3, 1) := by decide +kernel
theorem d_LW_poke_10 : decode b_LW_poke 10 = .ok (.iconst 1, 1) := by decide +kernel
theorem d_LW_poke_11 : decode b_LW_poke 11 = .ok (.ireturn, 1) := by decide +kernel
theorem d_LW_poke_12 : decode b_LW_poke 12 = .ok (.astore_n 3, 1) := by decide +kernel
theorem d_LW_poke_13 : decode b_LW_poke 13 = .ok (.iconst 2, 1) := by decide +kernel
theorem d_LW_poke_14 : decode b_LW_poke 14 = .ok (.ireturn, 1) := by decide +kernel
theorem d_LW_poke_15 : decode b_LW_poke 15 = .ok (.iconst 0, 1) := by decide +kernel
theorem d_LW_poke_16 : decode b_LW_poke 16 = .ok (.ireturn, 1) := by decide +kernel
theorem d_LW_forth_0 : decode b_LW_forth 0 = .ok (.aload_n 2, 1) := by decide +kernel
theorem d_LW_forth_1 : decode b_LW_forth 1 = .ok (.iconst 0, 1) := by decide +kernel
theorem d_LW_forth_2 : decode b_LW_forth 2 = .ok (.aload_n 0, 1) := by decide +kernel
theorem d_LW_forth_3 : decode b_LW_forth 3 = .ok (.iload_n 1, 1) := by decide +kernel
theorem d_LW_forth_4 : decode b_LW_forth 4 = .ok (.invokevirtual 17, 3) := by decide +kernel
theorem d_LW_forth_7 : decode b_LW_forth 7 = .ok (.i2l, 1) := by decide +kernel
theorem d_LW_forth_8 : decode b_LW_forth 8 = .ok (.lastore, 1) := by decide +kernel
theorem d_LW_forth_9 : decode b_LW_forth 9 = .ok (.goto 6, 3) := by decide +kernel
theorem d_LW_forth_12 : decode b_LW_forth 12 = .ok (.astore_n 3, 1) := by decide +kernel
theorem d_LW_forth_13 : decode b_LW_forth 13 = .ok (.iconst 1, 1) := by decide +kernel
theorem d_LW_forth_14 : decode b_LW_forth 14 = .ok (.ireturn, 1) := by decide +kernel
theorem d_LW_forth_15 : decode b_LW_forth 15 = .ok (.iconst 0, 1) := by decide +kernel
theorem d_LW_forth_16 : decode b_LW_forth 16 = .ok (.ireturn, 1) := by decide +kernel
theorem d_LW_back_0 : decode b_LW_back 0 = .ok (.aload_n 2, 1) := by decide +kernel
theorem d_LW_back_1 : decode b_LW_back 1 = .ok (.iconst 0, 1) := by decide +kernel
theorem d_LW_back_2 : decode b_LW_back 2 = .ok (.aload_n 0, 1) := by decide +kernel
theorem d_LW_back_3 : decode b_LW_back 3 = .ok (.iload_n 1, 1) := by decide +kernel
theorem d_LW_back_4 : decode b_LW_back 4 = .ok (.invokevirtual 23, 3) := by decide +kernel
theorem d_LW_back_7 : decode b_LW_back 7 = .ok (.i2l, 1) := by decide +kernel
theorem d_LW_back_8 : decode b_LW_back 8 = .ok (.lastore, 1) := by decide +kernel
theorem d_LW_back_9 : decode b_LW_back 9 = .ok (.goto 6, 3) := by decide +kernel
theorem d_LW_back_12 : decode b_LW_back 12 = .ok (.astore_n 3, 1) := by decide +kernel
theorem d_LW_back_13 : decode b_LW_back 13 = .ok (.iconst 1, 1) := by decide +kernel
theorem d_LW_back_14 : decode b_LW_back 14 = .ok (.ireturn, 1) := by decide +kernel
theorem d_LW_back_15 : decode b_LW_back 15 = .ok (.iconst 0, 1) := by decide +kernel
theorem d_LW_back_16 : decode b_LW_back 16 = .ok (.ireturn, 1) := by decide +kernel
theorem d_LW_go_0 : decode b_LW_go 0 = .ok (.aload_n 0, 1) := by decide +kernel
theorem d_LW_go_1 : decode b_LW_go 1 = .ok (.iload_n 1, 1) := by decide +kernel
theorem d_LW_go_2 : decode b_LW_go 2 = .ok (.invokevirtual 26, 3) := by decide +kernel
theorem d_LW_go_5 : decode b_LW_go 5 = .ok (.goto 6, 3) := by decide +kernel
theorem d_LW_go_8 : decode b_LW_go 8 = .ok (.astore_n 2, 1) := by decide +kernel
theorem d_LW_go_9 : decode b_LW_go 9 = .ok (.iconst 1, 1) := by decide +kernel
theorem d_LW_go_10 : decode b_LW_go 10 = .ok (.ireturn, 1) := by decide +kernel
theorem d_LW_go_11 : decode b_LW_go 11 = .ok (.iconst 0, 1) := by decide +kernel
theorem d_LW_go_12 : decode b_LW_go 12 = .ok (.ireturn, 1) := by decide +kernel
theorem d_LW_setBreak_0 : decode b_LW_setBreak 0 = .ok (.aload_n 2, 1) := by decide +kernel
theorem d_LW_setBreak_1 : decode b_LW_setBreak 1 = .ok (.iconst 0, 1) := by decide +kernel
theorem d_LW_setBreak_2 : decode b_LW_setBreak 2 = .ok (.aload_n 0, 1) := by decide +kernel
theorem d_LW_setBreak_3 : decode b_LW_setBreak 3 = .ok (.iload_n 1, 1) := by decide +kernel
theorem d_LW_setBreak_4 : decode b_LW_setBreak 4 = .ok (.invokevirtual 30, 3) := by decide +kernel
theorem d_LW_setBreak_7 : decode b_LW_setBreak 7 = .ok (.ifCond .eq 7, 3) := by decide +kernel
theorem d_LW_setBreak_10 : decode b_LW_setBreak 10 = .ok (.lconst 1, 1) := by decide +kernel
theorem d_LW_setBreak_11 : decode b_LW_setBreak 11 = .ok (.goto 4, 3) := by decide +kernel
theorem d_LW_setBreak_14 : decode b_LW_setBreak 14 = .ok (.lconst 0, 1) := by decide +kernel
theorem d_LW_setBreak_15 : decode b_LW_setBreak 15 = .ok (.lastore, 1) := by decide +kernel
theorem d_LW_setBreak_16 : decode b_LW_setBreak 16 = .ok (.goto 6, 3) := by decide +kernel
theorem d_LW_setBreak_19 : decode b_LW_setBreak 19 = .ok (.astore_n 3, 1) := by decide +kernel
theorem d_LW_setBreak_20 : decode b_LW_setBreak 20 = .ok (.iconst 1, 1) := by decide +kernel
theorem d_LW_setBreak_21 : decode b_LW_setBreak 21 = .ok (.ireturn, 1) := by decide +kernel
theorem d_LW_setBreak_22 : decode b_LW_setBreak 22 = .ok (.iconst 0, 1) := by decide +kernel
theorem d_LW_setBreak_23 : decode b_LW_setBreak 23 = .ok (.ireturn, 1) := by decide +kernel
theorem d_LW_clearBreak_0 : decode b_LW_clearBreak 0 = .ok (.aload_n 2, 1) := by decide +kernel
theorem d_LW_clearBreak_1 : decode b_LW_clearBreak 1 = .ok (.iconst 0, 1) := by decide +kernel
theorem d_LW_clearBreak_2 : decode b_LW_clearBreak 2 = .ok (.aload_n 0, 1) := by decide +kernel
theorem d_LW_clearBreak_3 : decode b_LW_clearBreak 3 = .ok (.iload_n 1, 1) := by decide +kernel
theorem d_LW_clearBreak_4 : decode b_LW_clearBreak 4 = .ok (.invokevirtual 34, 3) := by decide +kernel
theorem d_LW_clearBreak_7 : decode b_LW_clearBreak 7 = .ok (.ifCond .eq 7, 3) := by decide +kernel
theorem d_LW_clearBreak_10 : decode b_LW_clearBreak 10 = .ok (.lconst 1, 1) := by decide +kernel
theorem d_LW_clearBreak_11 : decode b_LW_clearBreak 11 = .ok (.goto 4, 3) := by decide +kernel
theorem d_LW_clearBreak_14 : decode b_LW_clearBreak 14 = .ok (.lconst 0, 1) := by decide +kernel
theorem d_LW_clearBreak_15 : decode b_LW_clearBreak 15 = .ok (.lastore, 1) := by decide +kernel
theorem d_LW_clearBreak_16 : decode b_LW_clearBreak 16 = .ok (.goto 6, 3) := by decide +kernel
theorem d_LW_clearBreak_19 : decode b_LW_clearBreak 19 = .ok (.astore_n 3, 1) := by decide +kernel
theorem d_LW_clearBreak_20 : decode b_LW_clearBreak 20 = .ok (.iconst 1, 1) := by decide +kernel
theorem d_LW_clearBreak_21 : decode b_LW_clearBreak 21 = .ok (.ireturn, 1) := by decide +kernel
theorem d_LW_clearBreak_22 : decode b_LW_clearBreak 22 = .ok (.iconst 0, 1) := by decide +kernel
theorem d_LW_clearBreak_23 : decode b_LW_clearBreak 23 = .ok (.ireturn, 1) := by decide +kernel
theorem d_LW_setWatch_0 : decode b_LW_setWatch 0 = .ok (.aload_n 2, 1) := by decide +kernel
theorem d_LW_setWatch_1 : decode b_LW_setWatch 1 = .ok (.iconst 0, 1) := by decide +kernel
theorem d_LW_setWatch_2 : decode b_LW_setWatch 2 = .ok (.aload_n 0, 1) := by decide +kernel
theorem d_LW_setWatch_3 : decode b_LW_setWatch 3 = .ok (.iload_n 1, 1) := by decide +kernel
theorem d_LW_setWatch_4 : decode b_LW_setWatch 4 = .ok (.invokevirtual 37, 3) := by decide +kernel
theorem d_LW_setWatch_7 : decode b_LW_setWatch 7 = .ok (.ifCond .eq 7, 3) := by decide +kernel
theorem d_LW_setWatch_10 : decode b_LW_setWatch 10 = .ok (.lconst 1, 1) := by decide +kernel
theorem d_LW_setWatch_11 : decode b_LW_setWatch 11 = .ok (.goto 4, 3) := by decide +kernel
theorem d_LW_setWatch_14 : decode b_LW_setWatch 14 = .ok (.lconst 0, 1) := by decide +kernel
theorem d_LW_setWatch_15 : decode b_LW_setWatch 15 = .ok (.lastore, 1) := by decide +kernel
theorem d_LW_setWatch_16 : decode b_LW_setWatch 16 = .ok (.goto 6, 3) := by decide +kernel
theorem d_LW_setWatch_19 : decode b_LW_setWatch 19 = .ok (.astore_n 3, 1) := by decide +kernel
theorem d_LW_setWatch_20 : decode b_LW_setWatch 20 = .ok (.iconst 1, 1) := by decide +kernel
theorem d_LW_setWatch_21 : decode b_LW_setWatch 21 = .ok (.ireturn, 1) := by decide +kernel
theorem d_LW_setWatch_22 : decode b_LW_setWatch 22 = .ok (.iconst 0, 1) := by decide +kernel
theorem d_LW_setWatch_23 : decode b_LW_setWatch 23 = .ok (.ireturn, 1) := by decide +kernel
theorem d_LW_clearWatch_0 : decode b_LW_clearWatch 0 = .ok (.aload_n 2, 1) := by decide +kernel
theorem d_LW_clearWatch_1 : decode b_LW_clearWatch 1 = .ok (.iconst 0, 1) := by decide +kernel
theorem d_LW_clearWatch_2 : decode b_LW_clearWatch 2 = .ok (.aload_n 0, 1) := by decide +kernel
theorem d_LW_clearWatch_3 : decode b_LW_clearWatch 3 = .ok (.iload_n 1, 1) := by decide +kernel
theorem d_LW_clearWatch_4 : decode b_LW_clearWatch 4 = .ok (.invokevirtual 40, 3) := by decide +kernel
theorem d_LW_clearWatch_7 : decode b_LW_clearWatch 7 = .ok (.ifCond .eq 7, 3) := by decide +kernel
theorem d_LW_clearWatch_10 : decode b_LW_clearWatch 10 = .ok (.lconst 1, 1) := by decide +kernel
theorem d_LW_clearWatch_11 : decode b_LW_clearWatch 11 = .ok (.goto 4, 3) := by decide +kernel
theorem d_LW_clearWatch_14 : decode b_LW_clearWatch 14 = .ok (.lconst 0, 1) := by decide +kernel
theorem d_LW_clearWatch_15 : decode b_LW_clearWatch 15 = .ok (.lastore, 1) := by decide +kernel
theorem d_LW_clearWatch_16 : decode b_LW_clearWatch 16 = .ok (.goto 6, 3) := by decide +kernel
theorem d_LW_clearWatch_19 : decode b_LW_clearWatch 19 = .ok (.astore_n 3, 1) := by decide +kernel
theorem d_LW_clearWatch_20 : decode b_LW_clearWatch 20 = .ok (.iconst 1, 1) := by decide +kernel
theorem d_LW_clearWatch_21 : decode b_LW_clearWatch 21 = .ok (.ireturn, 1) := by decide +kernel
theorem d_LW_clearWatch_22 : decode b_LW_clearWatch 22 = .ok (.iconst 0, 1) := by decide +kernel
theorem d_LW_clearWatch_23 : decode b_LW_clearWatch 23 = .ok (.ireturn, 1) := by decide +kernel
theorem d_LW_state_0 : decode b_LW_state 0 = .ok (.aload_n 2, 1) := by decide +kernel
theorem d_LW_state_1 : decode b_LW_state 1 = .ok (.iconst 0, 1) := by decide +kernel
theorem d_LW_state_2 : decode b_LW_state 2 = .ok (.aload_n 0, 1) := by decide +kernel
theorem d_LW_state_3 : decode b_LW_state 3 = .ok (.iload_n 1, 1) := by decide +kernel
theorem d_LW_state_4 : decode b_LW_state 4 = .ok (.invokevirtual 43, 3) := by decide +kernel
theorem d_LW_state_7 : decode b_LW_state 7 = .ok (.i2l, 1) := by decide +kernel
theorem d_LW_state_8 : decode b_LW_state 8 = .ok (.lastore, 1) := by decide +kernel
theorem d_LW_state_9 : decode b_LW_state 9 = .ok (.goto 6, 3) := by decide +kernel
theorem d_LW_state_12 : decode b_LW_state 12 = .ok (.astore_n 3, 1) := by decide +kernel
theorem d_LW_state_13 : decode b_LW_state 13 = .ok (.iconst 1, 1) := by decide +kernel
theorem d_LW_state_14 : decode b_LW_state 14 = .ok (.ireturn, 1) := by decide +kernel
theorem d_LW_state_15 : decode b_LW_state 15 = .ok (.iconst 0, 1) := by decide +kernel
theorem d_LW_state_16 : decode b_LW_state 16 = .ok (.ireturn, 1) := by decide +kernel
theorem d_LW_stack_0 : decode b_LW_stack 0 = .ok (.aload_n 2, 1) := by decide +kernel
theorem d_LW_stack_1 : decode b_LW_stack 1 = .ok (.iconst 0, 1) := by decide +kernel
theorem d_LW_stack_2 : decode b_LW_stack 2 = .ok (.aload_n 0, 1) := by decide +kernel
theorem d_LW_stack_3 : decode b_LW_stack 3 = .ok (.iload_n 1, 1) := by decide +kernel
theorem d_LW_stack_4 : decode b_LW_stack 4 = .ok (.invokevirtual 46, 3) := by decide +kernel
theorem d_LW_stack_7 : decode b_LW_stack 7 = .ok (.i2l, 1) := by decide +kernel
theorem d_LW_stack_8 : decode b_LW_stack 8 = .ok (.lastore, 1) := by decide +kernel
theorem d_LW_stack_9 : decode b_LW_stack 9 = .ok (.goto 6, 3) := by decide +kernel
theorem d_LW_stack_12 : decode b_LW_stack 12 = .ok (.astore_n 3, 1) := by decide +kernel
theorem d_LW_stack_13 : decode b_LW_stack 13 = .ok (.iconst 1, 1) := by decide +kernel
theorem d_LW_stack_14 : decode b_LW_stack 14 = .ok (.ireturn, 1) := by decide +kernel
theorem d_LW_stack_15 : decode b_LW_stack 15 = .ok (.iconst 0, 1) := by decide +kernel
theorem d_LW_stack_16 : decode b_LW_stack 16 = .ok (.ireturn, 1) := by decide +kernel
theorem d_LW_checkpoint_0 : decode b_LW_checkpoint 0 = .ok (.aload_n 2, 1) := by decide +kernel
theorem d_LW_checkpoint_1 : decode b_LW_checkpoint 1 = .ok (.iconst 0, 1) := by decide +kernel
theorem d_LW_checkpoint_2 : decode b_LW_checkpoint 2 = .ok (.aload_n 0, 1) := by decide +kernel
theorem d_LW_checkpoint_3 : decode b_LW_checkpoint 3 = .ok (.iload_n 1, 1) := by decide +kernel
theorem d_LW_checkpoint_4 : decode b_LW_checkpoint 4 = .ok (.invokevirtual 49, 3) := by decide +kernel
theorem d_LW_checkpoint_7 : decode b_LW_checkpoint 7 = .ok (.i2l, 1) := by decide +kernel
theorem d_LW_checkpoint_8 : decode b_LW_checkpoint 8 = .ok (.lastore, 1) := by decide +kernel
theorem d_LW_checkpoint_9 : decode b_LW_checkpoint 9 = .ok (.goto 6, 3) := by decide +kernel
theorem d_LW_checkpoint_12 : decode b_LW_checkpoint 12 = .ok (.astore_n 3, 1) := by decide +kernel
theorem d_LW_checkpoint_13 : decode b_LW_checkpoint 13 = .ok (.iconst 1, 1) := by decide +kernel
theorem d_LW_checkpoint_14 : decode b_LW_checkpoint 14 = .ok (.ireturn, 1) := by decide +kernel
theorem d_LW_checkpoint_15 : decode b_LW_checkpoint 15 = .ok (.iconst 0, 1) := by decide +kernel
theorem d_LW_checkpoint_16 : decode b_LW_checkpoint 16 = .ok (.ireturn, 1) := by decide +kernel
theorem d_LW_law_0 : decode code 0 = .ok (.new 8, 3) := by decide +kernel
theorem d_LW_law_3 : decode code 3 = .ok (.dup, 1) := by decide +kernel
theorem d_LW_law_4 : decode code 4 = .ok (.aload_n 0, 1) := by decide +kernel
theorem d_LW_law_5 : decode code 5 = .ok (.iconst 0, 1) := by decide +kernel
theorem d_LW_law_6 : decode code 6 = .ok (.invokestatic 52, 3) := by decide +kernel
theorem d_LW_law_9 : decode code 9 = .ok (.invokespecial 58, 3) := by decide +kernel
theorem d_LW_law_12 : decode code 12 = .ok (.astore_n 1, 1) := by decide +kernel
theorem d_LW_law_13 : decode code 13 = .ok (.new 60, 3) := by decide +kernel
theorem d_LW_law_16 : decode code 16 = .ok (.dup, 1) := by decide +kernel
theorem d_LW_law_17 : decode code 17 = .ok (.aload_n 0, 1) := by decide +kernel
theorem d_LW_law_18 : decode code 18 = .ok (.iconst 0, 1) := by decide +kernel
theorem d_LW_law_19 : decode code 19 = .ok (.invokestatic 52, 3) := by decide +kernel
theorem d_LW_law_22 : decode code 22 = .ok (.invokespecial 62, 3) := by decide +kernel
theorem d_LW_law_25 : decode code 25 = .ok (.astore_n 2, 1) := by decide +kernel
theorem d_LW_law_26 : decode code 26 = .ok (.iconst 1, 1) := by decide +kernel
theorem d_LW_law_27 : decode code 27 = .ok (.newarray .long, 2) := by decide +kernel
theorem d_LW_law_29 : decode code 29 = .ok (.astore_n 3, 1) := by decide +kernel
theorem d_LW_law_30 : decode code 30 = .ok (.iconst 1, 1) := by decide +kernel
theorem d_LW_law_31 : decode code 31 = .ok (.istore 4, 2) := by decide +kernel
theorem d_LW_law_33 : decode code 33 = .ok (.iload 4, 2) := by decide +kernel
theorem d_LW_law_35 : decode code 35 = .ok (.aload_n 0, 1) := by decide +kernel
theorem d_LW_law_36 : decode code 36 = .ok (.arraylength, 1) := by decide +kernel
theorem d_LW_law_37 : decode code 37 = .ok (.iconst 3, 1) := by decide +kernel
theorem d_LW_law_38 : decode code 38 = .ok (.isub, 1) := by decide +kernel
theorem d_LW_law_39 : decode code 39 = .ok (.if_icmp .gt 766, 3) := by decide +kernel
theorem d_LW_law_42 : decode code 42 = .ok (.aload_n 0, 1) := by decide +kernel
theorem d_LW_law_43 : decode code 43 = .ok (.iload 4, 2) := by decide +kernel
theorem d_LW_law_45 : decode code 45 = .ok (.iaload, 1) := by decide +kernel
theorem d_LW_law_46 : decode code 46 = .ok (.bipush 15, 2) := by decide +kernel
theorem d_LW_law_48 : decode code 48 = .ok (.iand, 1) := by decide +kernel
theorem d_LW_law_49 : decode code 49 = .ok (.tableswitch 750 0 13 #[71, 119, 144, 157, 213, 269, 305, 368, 431, 494, 557, 613, 638, 694], 71) := by decide +kernel
theorem d_LW_law_120 : decode code 120 = .ok (.aload_n 1, 1) := by decide +kernel
theorem d_LW_law_121 : decode code 121 = .ok (.aload_n 0, 1) := by decide +kernel
theorem d_LW_law_122 : decode code 122 = .ok (.iload 4, 2) := by decide +kernel
theorem d_LW_law_124 : decode code 124 = .ok (.iconst 1, 1) := by decide +kernel
theorem d_LW_law_125 : decode code 125 = .ok (.iadd, 1) := by decide +kernel
theorem d_LW_law_126 : decode code 126 = .ok (.iaload, 1) := by decide +kernel
theorem d_LW_law_127 : decode code 127 = .ok (.aload_n 0, 1) := by decide +kernel
theorem d_LW_law_128 : decode code 128 = .ok (.iload 4, 2) := by decide +kernel
theorem d_LW_law_130 : decode code 130 = .ok (.iconst 2, 1) := by decide +kernel
theorem d_LW_law_131 : decode code 131 = .ok (.iadd, 1) := by decide +kernel
theorem d_LW_law_132 : decode code 132 = .ok (.iaload, 1) := by decide +kernel
theorem d_LW_law_133 : decode code 133 = .ok (.invokestatic 63, 3) := by decide +kernel
theorem d_LW_law_136 : decode code 136 = .ok (.istore 5, 2) := by decide +kernel
theorem d_LW_law_138 : decode code 138 = .ok (.aload_n 2, 1) := by decide +kernel
theorem d_LW_law_139 : decode code 139 = .ok (.aload_n 0, 1) := by decide +kernel
theorem d_LW_law_140 : decode code 140 = .ok (.iload 4, 2) := by decide +kernel
theorem d_LW_law_142 : decode code 142 = .ok (.iconst 1, 1) := by decide +kernel
theorem d_LW_law_143 : decode code 143 = .ok (.iadd, 1) := by decide +kernel
theorem d_LW_law_144 : decode code 144 = .ok (.iaload, 1) := by decide +kernel
theorem d_LW_law_145 : decode code 145 = .ok (.aload_n 0, 1) := by decide +kernel
theorem d_LW_law_146 : decode code 146 = .ok (.iload 4, 2) := by decide +kernel
theorem d_LW_law_148 : decode code 148 = .ok (.iconst 2, 1) := by decide +kernel
theorem d_LW_law_149 : decode code 149 = .ok (.iadd, 1) := by decide +kernel
theorem d_LW_law_150 : decode code 150 = .ok (.iaload, 1) := by decide +kernel
theorem d_LW_law_151 : decode code 151 = .ok (.invokevirtual 66, 3) := by decide +kernel
theorem d_LW_law_154 : decode code 154 = .ok (.aload_n 2, 1) := by decide +kernel
theorem d_LW_law_155 : decode code 155 = .ok (.invokevirtual 67, 3) := by decide +kernel
theorem d_LW_law_158 : decode code 158 = .ok (.iload 5, 2) := by decide +kernel
theorem d_LW_law_160 : decode code 160 = .ok (.if_icmp .eq 5, 3) := by decide +kernel
theorem d_LW_law_163 : decode code 163 = .ok (.iconst 0, 1) := by decide +kernel
theorem d_LW_law_164 : decode code 164 = .ok (.ireturn, 1) := by decide +kernel
theorem d_LW_law_165 : decode code 165 = .ok (.goto 634, 3) := by decide +kernel
theorem d_LW_law_168 : decode code 168 = .ok (.aload_n 1, 1) := by decide +kernel
theorem d_LW_law_169 : decode code 169 = .ok (.aload_n 0, 1) := by decide +kernel
theorem d_LW_law_170 : decode code 170 = .ok (.iload 4, 2) := by decide +kernel
theorem d_LW_law_172 : decode code 172 = .ok (.iconst 1, 1) := by decide +kernel
theorem d_LW_law_173 : decode code 173 = .ok (.iadd, 1) := by decide +kernel
theorem d_LW_law_174 : decode code 174 = .ok (.iaload, 1) := by decide +kernel
theorem d_LW_law_175 : decode code 175 = .ok (.invokevirtual 71, 3) := by decide +kernel
theorem d_LW_law_178 : decode code 178 = .ok (.aload_n 2, 1) := by decide +kernel
theorem d_LW_law_179 : decode code 179 = .ok (.aload_n 0, 1) := by decide +kernel
theorem d_LW_law_180 : decode code 180 = .ok (.iload 4, 2) := by decide +kernel
theorem d_LW_law_182 : decode code 182 = .ok (.iconst 1, 1) := by decide +kernel
theorem d_LW_law_183 : decode code 183 = .ok (.iadd, 1) := by decide +kernel
theorem d_LW_law_184 : decode code 184 = .ok (.iaload, 1) := by decide +kernel
theorem d_LW_law_185 : decode code 185 = .ok (.invokevirtual 74, 3) := by decide +kernel
theorem d_LW_law_188 : decode code 188 = .ok (.if_icmp .eq 611, 3) := by decide +kernel
theorem d_LW_law_191 : decode code 191 = .ok (.iconst 0, 1) := by decide +kernel
theorem d_LW_law_192 : decode code 192 = .ok (.ireturn, 1) := by decide +kernel
theorem d_LW_law_193 : decode code 193 = .ok (.aload_n 1, 1) := by decide +kernel
theorem d_LW_law_194 : decode code 194 = .ok (.invokevirtual 75, 3) := by decide +kernel
theorem d_LW_law_197 : decode code 197 = .ok (.aload_n 2, 1) := by decide +kernel
theorem d_LW_law_198 : decode code 198 = .ok (.invokevirtual 78, 3) := by decide +kernel
theorem d_LW_law_201 : decode code 201 = .ok (.if_icmp .eq 598, 3) := by decide +kernel
theorem d_LW_law_204 : decode code 204 = .ok (.iconst 0, 1) := by decide +kernel
theorem d_LW_law_205 : decode code 205 = .ok (.ireturn, 1) := by decide +kernel
theorem d_LW_law_206 : decode code 206 = .ok (.aload_n 1, 1) := by decide +kernel
theorem d_LW_law_207 : decode code 207 = .ok (.aload_n 0, 1) := by decide +kernel
theorem d_LW_law_208 : decode code 208 = .ok (.iload 4, 2) := by decide +kernel
theorem d_LW_law_210 : decode code 210 = .ok (.iconst 1, 1) := by decide +kernel
theorem d_LW_law_211 : decode code 211 = .ok (.iadd, 1) := by decide +kernel
theorem d_LW_law_212 : decode code 212 = .ok (.iaload, 1) := by decide +kernel
theorem d_LW_law_213 : decode code 213 = .ok (.aload_n 3, 1) := by decide +kernel
theorem d_LW_law_214 : decode code 214 = .ok (.invokestatic 79, 3) := by decide +kernel
theorem d_LW_law_217 : decode code 217 = .ok (.istore 5, 2) := by decide +kernel
theorem d_LW_law_219 : decode code 219 = .ok (.aload_n 2, 1) := by decide +kernel
theorem d_LW_law_220 : decode code 220 = .ok (.aload_n 0, 1) := by decide +kernel
theorem d_LW_law_221 : decode code 221 = .ok (.iload 4, 2) := by decide +kernel
theorem d_LW_law_223 : decode code 223 = .ok (.iconst 1, 1) := by decide +kernel
theorem d_LW_law_224 : decode code 224 = .ok (.iadd, 1) := by decide +kernel
theorem d_LW_law_225 : decode code 225 = .ok (.iaload, 1) := by decide +kernel
theorem d_LW_law_226 : decode code 226 = .ok (.invokevirtual 82, 3) := by decide +kernel
theorem d_LW_law_229 : decode code 229 = .ok (.istore 6, 2) := by decide +kernel
theorem d_LW_law_231 : decode code 231 = .ok (.aload_n 2, 1) := by decide +kernel
theorem d_LW_law_232 : decode code 232 = .ok (.invokevirtual 67, 3) := by decide +kernel
theorem d_LW_law_235 : decode code 235 = .ok (.iload 5, 2) := by decide +kernel
theorem d_LW_law_237 : decode code 237 = .ok (.if_icmp .eq 5, 3) := by decide +kernel
theorem d_LW_law_240 : decode code 240 = .ok (.iconst 0, 1) := by decide +kernel
theorem d_LW_law_241 : decode code 241 = .ok (.ireturn, 1) := by decide +kernel
theorem d_LW_law_242 : decode code 242 = .ok (.iload 5, 2) := by decide +kernel
theorem d_LW_law_244 : decode code 244 = .ok (.ifCond .ne 15, 3) := by decide +kernel
theorem d_LW_law_247 : decode code 247 = .ok (.aload_n 3, 1) := by decide +kernel
theorem d_LW_law_248 : decode code 248 = .ok (.iconst 0, 1) := by decide +kernel
theorem d_LW_law_249 : decode code 249 = .ok (.laload, 1) := by decide +kernel
theorem d_LW_law_250 : decode code 250 = .ok (.iload 6, 2) := by decide +kernel
theorem d_LW_law_252 : decode code 252 = .ok (.i2l, 1) := by decide +kernel
theorem d_LW_law_253 : decode code 253 = .ok (.lcmp, 1) := by decide +kernel
theorem d_LW_law_254 : decode code 254 = .ok (.ifCond .eq 5, 3) := by decide +kernel
theorem d_LW_law_257 : decode code 257 = .ok (.iconst 0, 1) := by decide +kernel
theorem d_LW_law_258 : decode code 258 = .ok (.ireturn, 1) := by decide +kernel
theorem d_LW_law_259 : decode code 259 = .ok (.goto 540, 3) := by decide +kernel
theorem d_LW_law_262 : decode code 262 = .ok (.aload_n 1, 1) := by decide +kernel
theorem d_LW_law_263 : decode code 263 = .ok (.aload_n 0, 1) := by decide +kernel
theorem d_LW_law_264 : decode code 264 = .ok (.iload 4, 2) := by decide +kernel
theorem d_LW_law_266 : decode code 266 = .ok (.iconst 1, 1) := by decide +kernel
theorem d_LW_law_267 : decode code 267 = .ok (.iadd, 1) := by decide +kernel
theorem d_LW_law_268 : decode code 268 = .ok (.iaload, 1) := by decide +kernel
theorem d_LW_law_269 : decode code 269 = .ok (.aload_n 3, 1) := by decide +kernel
theorem d_LW_law_270 : decode code 270 = .ok (.invokestatic 83, 3) := by decide +kernel
theorem d_LW_law_273 : decode code 273 = .ok (.istore 5, 2) := by decide +kernel
theorem d_LW_law_275 : decode code 275 = .ok (.aload_n 2, 1) := by decide +kernel
theorem d_LW_law_276 : decode code 276 = .ok (.aload_n 0, 1) := by decide +kernel
theorem d_LW_law_277 : decode code 277 = .ok (.iload 4, 2) := by decide +kernel
theorem d_LW_law_279 : decode code 279 = .ok (.iconst 1, 1) := by decide +kernel
theorem d_LW_law_280 : decode code 280 = .ok (.iadd, 1) := by decide +kernel
theorem d_LW_law_281 : decode code 281 = .ok (.iaload, 1) := by decide +kernel
theorem d_LW_law_282 : decode code 282 = .ok (.invokevirtual 85, 3) := by decide +kernel
theorem d_LW_law_285 : decode code 285 = .ok (.istore 6, 2) := by decide +kernel
theorem d_LW_law_287 : decode code 287 = .ok (.aload_n 2, 1) := by decide +kernel
theorem d_LW_law_288 : decode code 288 = .ok (.invokevirtual 67, 3) := by decide +kernel
theorem d_LW_law_291 : decode code 291 = .ok (.iload 5, 2) := by decide +kernel
theorem d_LW_law_293 : decode code 293 = .ok (.if_icmp .eq 5, 3) := by decide +kernel
theorem d_LW_law_296 : decode code 296 = .ok (.iconst 0, 1) := by decide +kernel
theorem d_LW_law_297 : decode code 297 = .ok (.ireturn, 1) := by decide +kernel
theorem d_LW_law_298 : decode code 298 = .ok (.iload 5, 2) := by decide +kernel
theorem d_LW_law_300 : decode code 300 = .ok (.ifCond .ne 15, 3) := by decide +kernel
theorem d_LW_law_303 : decode code 303 = .ok (.aload_n 3, 1) := by decide +kernel
theorem d_LW_law_304 : decode code 304 = .ok (.iconst 0, 1) := by decide +kernel
theorem d_LW_law_305 : decode code 305 = .ok (.laload, 1) := by decide +kernel
theorem d_LW_law_306 : decode code 306 = .ok (.iload 6, 2) := by decide +kernel
theorem d_LW_law_308 : decode code 308 = .ok (.i2l, 1) := by decide +kernel
theorem d_LW_law_309 : decode code 309 = .ok (.lcmp, 1) := by decide +kernel
theorem d_LW_law_310 : decode code 310 = .ok (.ifCond .eq 5, 3) := by decide +kernel
theorem d_LW_law_313 : decode code 313 = .ok (.iconst 0, 1) := by decide +kernel
theorem d_LW_law_314 : decode code 314 = .ok (.ireturn, 1) := by decide +kernel
theorem d_LW_law_315 : decode code 315 = .ok (.goto 484, 3) := by decide +kernel
theorem d_LW_law_318 : decode code 318 = .ok (.aload_n 1, 1) := by decide +kernel
theorem d_LW_law_319 : decode code 319 = .ok (.aload_n 0, 1) := by decide +kernel
theorem d_LW_law_320 : decode code 320 = .ok (.iload 4, 2) := by decide +kernel
theorem d_LW_law_322 : decode code 322 = .ok (.iconst 1, 1) := by decide +kernel
theorem d_LW_law_323 : decode code 323 = .ok (.iadd, 1) := by decide +kernel
theorem d_LW_law_324 : decode code 324 = .ok (.iaload, 1) := by decide +kernel
theorem d_LW_law_325 : decode code 325 = .ok (.invokestatic 86, 3) := by decide +kernel
theorem d_LW_law_328 : decode code 328 = .ok (.istore 5, 2) := by decide +kernel
theorem d_LW_law_330 : decode code 330 = .ok (.aload_n 2, 1) := by decide +kernel
theorem d_LW_law_331 : decode code 331 = .ok (.aload_n 0, 1) := by decide +kernel
theorem d_LW_law_332 : decode code 332 = .ok (.iload 4, 2) := by decide +kernel
theorem d_LW_law_334 : decode code 334 = .ok (.iconst 1, 1) := by decide +kernel
theorem d_LW_law_335 : decode code 335 = .ok (.iadd, 1) := by decide +kernel
theorem d_LW_law_336 : decode code 336 = .ok (.iaload, 1) := by decide +kernel
theorem d_LW_law_337 : decode code 337 = .ok (.invokevirtual 89, 3) := by decide +kernel
theorem d_LW_law_340 : decode code 340 = .ok (.aload_n 2, 1) := by decide +kernel
theorem d_LW_law_341 : decode code 341 = .ok (.invokevirtual 67, 3) := by decide +kernel
theorem d_LW_law_344 : decode code 344 = .ok (.iload 5, 2) := by decide +kernel
theorem d_LW_law_346 : decode code 346 = .ok (.if_icmp .eq 5, 3) := by decide +kernel
theorem d_LW_law_349 : decode code 349 = .ok (.iconst 0, 1) := by decide +kernel
theorem d_LW_law_350 : decode code 350 = .ok (.ireturn, 1) := by decide +kernel
theorem d_LW_law_351 : decode code 351 = .ok (.goto 448, 3) := by decide +kernel
theorem d_LW_law_354 : decode code 354 = .ok (.aload_n 1, 1) := by decide +kernel
theorem d_LW_law_355 : decode code 355 = .ok (.aload_n 0, 1) := by decide +kernel
theorem d_LW_law_356 : decode code 356 = .ok (.iload 4, 2) := by decide +kernel
theorem d_LW_law_358 : decode code 358 = .ok (.iconst 1, 1) := by decide +kernel
theorem d_LW_law_359 : decode code 359 = .ok (.iadd, 1) := by decide +kernel
theorem d_LW_law_360 : decode code 360 = .ok (.iaload, 1) := by decide +kernel
theorem d_LW_law_361 : decode code 361 = .ok (.aload_n 3, 1) := by decide +kernel
theorem d_LW_law_362 : decode code 362 = .ok (.invokestatic 90, 3) := by decide +kernel
theorem d_LW_law_365 : decode code 365 = .ok (.istore 5, 2) := by decide +kernel
theorem d_LW_law_367 : decode code 367 = .ok (.aload_n 2, 1) := by decide +kernel
theorem d_LW_law_368 : decode code 368 = .ok (.aload_n 0, 1) := by decide +kernel
theorem d_LW_law_369 : decode code 369 = .ok (.iload 4, 2) := by decide +kernel
theorem d_LW_law_371 : decode code 371 = .ok (.iconst 1, 1) := by decide +kernel
theorem d_LW_law_372 : decode code 372 = .ok (.iadd, 1) := by decide +kernel
theorem d_LW_law_373 : decode code 373 = .ok (.iaload, 1) := by decide +kernel
theorem d_LW_law_374 : decode code 374 = .ok (.invokevirtual 92, 3) := by decide +kernel
theorem d_LW_law_377 : decode code 377 = .ok (.istore 6, 2) := by decide +kernel
theorem d_LW_law_379 : decode code 379 = .ok (.aload_n 2, 1) := by decide +kernel
theorem d_LW_law_380 : decode code 380 = .ok (.invokevirtual 67, 3) := by decide +kernel
theorem d_LW_law_383 : decode code 383 = .ok (.iload 5, 2) := by decide +kernel
theorem d_LW_law_385 : decode code 385 = .ok (.if_icmp .eq 5, 3) := by decide +kernel
theorem d_LW_law_388 : decode code 388 = .ok (.iconst 0, 1) := by decide +kernel
theorem d_LW_law_389 : decode code 389 = .ok (.ireturn, 1) := by decide +kernel
theorem d_LW_law_390 : decode code 390 = .ok (.iload 5, 2) := by decide +kernel
theorem d_LW_law_392 : decode code 392 = .ok (.ifCond .ne 22, 3) := by decide +kernel
theorem d_LW_law_395 : decode code 395 = .ok (.aload_n 3, 1) := by decide +kernel
theorem d_LW_law_396 : decode code 396 = .ok (.iconst 0, 1) := by decide +kernel
theorem d_LW_law_397 : decode code 397 = .ok (.laload, 1) := by decide +kernel
theorem d_LW_law_398 : decode code 398 = .ok (.iload 6, 2) := by decide +kernel
theorem d_LW_law_400 : decode code 400 = .ok (.ifCond .eq 7, 3) := by decide +kernel
theorem d_LW_law_403 : decode code 403 = .ok (.lconst 1, 1) := by decide +kernel
theorem d_LW_law_404 : decode code 404 = .ok (.goto 4, 3) := by decide +kernel
theorem d_LW_law_407 : decode code 407 = .ok (.lconst 0, 1) := by decide +kernel
theorem d_LW_law_408 : decode code 408 = .ok (.lcmp, 1) := by decide +kernel
theorem d_LW_law_409 : decode code 409 = .ok (.ifCond .eq 5, 3) := by decide +kernel
theorem d_LW_law_412 : decode code 412 = .ok (.iconst 0, 1) := by decide +kernel
theorem d_LW_law_413 : decode code 413 = .ok (.ireturn, 1) := by decide +kernel
theorem d_LW_law_414 : decode code 414 = .ok (.goto 385, 3) := by decide +kernel
theorem d_LW_law_417 : decode code 417 = .ok (.aload_n 1, 1) := by decide +kernel
theorem d_LW_law_418 : decode code 418 = .ok (.aload_n 0, 1) := by decide +kernel
theorem d_LW_law_419 : decode code 419 = .ok (.iload 4, 2) := by decide +kernel
theorem d_LW_law_421 : decode code 421 = .ok (.iconst 1, 1) := by decide +kernel
theorem d_LW_law_422 : decode code 422 = .ok (.iadd, 1) := by decide +kernel
theorem d_LW_law_423 : decode code 423 = .ok (.iaload, 1) := by decide +kernel
theorem d_LW_law_424 : decode code 424 = .ok (.aload_n 3, 1) := by decide +kernel
theorem d_LW_law_425 : decode code 425 = .ok (.invokestatic 93, 3) := by decide +kernel
theorem d_LW_law_428 : decode code 428 = .ok (.istore 5, 2) := by decide +kernel
theorem d_LW_law_430 : decode code 430 = .ok (.aload_n 2, 1) := by decide +kernel
theorem d_LW_law_431 : decode code 431 = .ok (.aload_n 0, 1) := by decide +kernel
theorem d_LW_law_432 : decode code 432 = .ok (.iload 4, 2) := by decide +kernel
theorem d_LW_law_434 : decode code 434 = .ok (.iconst 1, 1) := by decide +kernel
theorem d_LW_law_435 : decode code 435 = .ok (.iadd, 1) := by decide +kernel
theorem d_LW_law_436 : decode code 436 = .ok (.iaload, 1) := by decide +kernel
theorem d_LW_law_437 : decode code 437 = .ok (.invokevirtual 95, 3) := by decide +kernel
theorem d_LW_law_440 : decode code 440 = .ok (.istore 6, 2) := by decide +kernel
theorem d_LW_law_442 : decode code 442 = .ok (.aload_n 2, 1) := by decide +kernel
theorem d_LW_law_443 : decode code 443 = .ok (.invokevirtual 67, 3) := by decide +kernel
theorem d_LW_law_446 : decode code 446 = .ok (.iload 5, 2) := by decide +kernel
theorem d_LW_law_448 : decode code 448 = .ok (.if_icmp .eq 5, 3) := by decide +kernel
theorem d_LW_law_451 : decode code 451 = .ok (.iconst 0, 1) := by decide +kernel
theorem d_LW_law_452 : decode code 452 = .ok (.ireturn, 1) := by decide +kernel
theorem d_LW_law_453 : decode code 453 = .ok (.iload 5, 2) := by decide +kernel
theorem d_LW_law_455 : decode code 455 = .ok (.ifCond .ne 22, 3) := by decide +kernel
theorem d_LW_law_458 : decode code 458 = .ok (.aload_n 3, 1) := by decide +kernel
theorem d_LW_law_459 : decode code 459 = .ok (.iconst 0, 1) := by decide +kernel
theorem d_LW_law_460 : decode code 460 = .ok (.laload, 1) := by decide +kernel
theorem d_LW_law_461 : decode code 461 = .ok (.iload 6, 2) := by decide +kernel
theorem d_LW_law_463 : decode code 463 = .ok (.ifCond .eq 7, 3) := by decide +kernel
theorem d_LW_law_466 : decode code 466 = .ok (.lconst 1, 1) := by decide +kernel
theorem d_LW_law_467 : decode code 467 = .ok (.goto 4, 3) := by decide +kernel
theorem d_LW_law_470 : decode code 470 = .ok (.lconst 0, 1) := by decide +kernel
theorem d_LW_law_471 : decode code 471 = .ok (.lcmp, 1) := by decide +kernel
theorem d_LW_law_472 : decode code 472 = .ok (.ifCond .eq 5, 3) := by decide +kernel
theorem d_LW_law_475 : decode code 475 = .ok (.iconst 0, 1) := by decide +kernel
theorem d_LW_law_476 : decode code 476 = .ok (.ireturn, 1) := by decide +kernel
theorem d_LW_law_477 : decode code 477 = .ok (.goto 322, 3) := by decide +kernel
theorem d_LW_law_480 : decode code 480 = .ok (.aload_n 1, 1) := by decide +kernel
theorem d_LW_law_481 : decode code 481 = .ok (.aload_n 0, 1) := by decide +kernel
theorem d_LW_law_482 : decode code 482 = .ok (.iload 4, 2) := by decide +kernel
theorem d_LW_law_484 : decode code 484 = .ok (.iconst 1, 1) := by decide +kernel
theorem d_LW_law_485 : decode code 485 = .ok (.iadd, 1) := by decide +kernel
theorem d_LW_law_486 : decode code 486 = .ok (.iaload, 1) := by decide +kernel
theorem d_LW_law_487 : decode code 487 = .ok (.aload_n 3, 1) := by decide +kernel
theorem d_LW_law_488 : decode code 488 = .ok (.invokestatic 96, 3) := by decide +kernel
theorem d_LW_law_491 : decode code 491 = .ok (.istore 5, 2) := by decide +kernel
theorem d_LW_law_493 : decode code 493 = .ok (.aload_n 2, 1) := by decide +kernel
theorem d_LW_law_494 : decode code 494 = .ok (.aload_n 0, 1) := by decide +kernel
theorem d_LW_law_495 : decode code 495 = .ok (.iload 4, 2) := by decide +kernel
theorem d_LW_law_497 : decode code 497 = .ok (.iconst 1, 1) := by decide +kernel
theorem d_LW_law_498 : decode code 498 = .ok (.iadd, 1) := by decide +kernel
theorem d_LW_law_499 : decode code 499 = .ok (.iaload, 1) := by decide +kernel
theorem d_LW_law_500 : decode code 500 = .ok (.invokevirtual 98, 3) := by decide +kernel
theorem d_LW_law_503 : decode code 503 = .ok (.istore 6, 2) := by decide +kernel
theorem d_LW_law_505 : decode code 505 = .ok (.aload_n 2, 1) := by decide +kernel
theorem d_LW_law_506 : decode code 506 = .ok (.invokevirtual 67, 3) := by decide +kernel
theorem d_LW_law_509 : decode code 509 = .ok (.iload 5, 2) := by decide +kernel
theorem d_LW_law_511 : decode code 511 = .ok (.if_icmp .eq 5, 3) := by decide +kernel
theorem d_LW_law_514 : decode code 514 = .ok (.iconst 0, 1) := by decide +kernel
theorem d_LW_law_515 : decode code 515 = .ok (.ireturn, 1) := by decide +kernel
theorem d_LW_law_516 : decode code 516 = .ok (.iload 5, 2) := by decide +kernel
theorem d_LW_law_518 : decode code 518 = .ok (.ifCond .ne 22, 3) := by decide +kernel
theorem d_LW_law_521 : decode code 521 = .ok (.aload_n 3, 1) := by decide +kernel
theorem d_LW_law_522 : decode code 522 = .ok (.iconst 0, 1) := by decide +kernel
theorem d_LW_law_523 : decode code 523 = .ok (.laload, 1) := by decide +kernel
theorem d_LW_law_524 : decode code 524 = .ok (.iload 6, 2) := by decide +kernel
theorem d_LW_law_526 : decode code 526 = .ok (.ifCond .eq 7, 3) := by decide +kernel
theorem d_LW_law_529 : decode code 529 = .ok (.lconst 1, 1) := by decide +kernel
theorem d_LW_law_530 : decode code 530 = .ok (.goto 4, 3) := by decide +kernel
theorem d_LW_law_533 : decode code 533 = .ok (.lconst 0, 1) := by decide +kernel
theorem d_LW_law_534 : decode code 534 = .ok (.lcmp, 1) := by decide +kernel
theorem d_LW_law_535 : decode code 535 = .ok (.ifCond .eq 5, 3) := by decide +kernel
theorem d_LW_law_538 : decode code 538 = .ok (.iconst 0, 1) := by decide +kernel
theorem d_LW_law_539 : decode code 539 = .ok (.ireturn, 1) := by decide +kernel
theorem d_LW_law_540 : decode code 540 = .ok (.goto 259, 3) := by decide +kernel
theorem d_LW_law_543 : decode code 543 = .ok (.aload_n 1, 1) := by decide +kernel
theorem d_LW_law_544 : decode code 544 = .ok (.aload_n 0, 1) := by decide +kernel
theorem d_LW_law_545 : decode code 545 = .ok (.iload 4, 2) := by decide +kernel
theorem d_LW_law_547 : decode code 547 = .ok (.iconst 1, 1) := by decide +kernel
theorem d_LW_law_548 : decode code 548 = .ok (.iadd, 1) := by decide +kernel
theorem d_LW_law_549 : decode code 549 = .ok (.iaload, 1) := by decide +kernel
theorem d_LW_law_550 : decode code 550 = .ok (.aload_n 3, 1) := by decide +kernel
theorem d_LW_law_551 : decode code 551 = .ok (.invokestatic 99, 3) := by decide +kernel
theorem d_LW_law_554 : decode code 554 = .ok (.istore 5, 2) := by decide +kernel
theorem d_LW_law_556 : decode code 556 = .ok (.aload_n 2, 1) := by decide +kernel
theorem d_LW_law_557 : decode code 557 = .ok (.aload_n 0, 1) := by decide +kernel
theorem d_LW_law_558 : decode code 558 = .ok (.iload 4, 2) := by decide +kernel
theorem d_LW_law_560 : decode code 560 = .ok (.iconst 1, 1) := by decide +kernel
theorem d_LW_law_561 : decode code 561 = .ok (.iadd, 1) := by decide +kernel
theorem d_LW_law_562 : decode code 562 = .ok (.iaload, 1) := by decide +kernel
theorem d_LW_law_563 : decode code 563 = .ok (.invokevirtual 101, 3) := by decide +kernel
theorem d_LW_law_566 : decode code 566 = .ok (.istore 6, 2) := by decide +kernel
theorem d_LW_law_568 : decode code 568 = .ok (.aload_n 2, 1) := by decide +kernel
theorem d_LW_law_569 : decode code 569 = .ok (.invokevirtual 67, 3) := by decide +kernel
theorem d_LW_law_572 : decode code 572 = .ok (.iload 5, 2) := by decide +kernel
theorem d_LW_law_574 : decode code 574 = .ok (.if_icmp .eq 5, 3) := by decide +kernel
theorem d_LW_law_577 : decode code 577 = .ok (.iconst 0, 1) := by decide +kernel
theorem d_LW_law_578 : decode code 578 = .ok (.ireturn, 1) := by decide +kernel
theorem d_LW_law_579 : decode code 579 = .ok (.iload 5, 2) := by decide +kernel
theorem d_LW_law_581 : decode code 581 = .ok (.ifCond .ne 22, 3) := by decide +kernel
theorem d_LW_law_584 : decode code 584 = .ok (.aload_n 3, 1) := by decide +kernel
theorem d_LW_law_585 : decode code 585 = .ok (.iconst 0, 1) := by decide +kernel
theorem d_LW_law_586 : decode code 586 = .ok (.laload, 1) := by decide +kernel
theorem d_LW_law_587 : decode code 587 = .ok (.iload 6, 2) := by decide +kernel
theorem d_LW_law_589 : decode code 589 = .ok (.ifCond .eq 7, 3) := by decide +kernel
theorem d_LW_law_592 : decode code 592 = .ok (.lconst 1, 1) := by decide +kernel
theorem d_LW_law_593 : decode code 593 = .ok (.goto 4, 3) := by decide +kernel
theorem d_LW_law_596 : decode code 596 = .ok (.lconst 0, 1) := by decide +kernel
theorem d_LW_law_597 : decode code 597 = .ok (.lcmp, 1) := by decide +kernel
theorem d_LW_law_598 : decode code 598 = .ok (.ifCond .eq 5, 3) := by decide +kernel
theorem d_LW_law_601 : decode code 601 = .ok (.iconst 0, 1) := by decide +kernel
theorem d_LW_law_602 : decode code 602 = .ok (.ireturn, 1) := by decide +kernel
theorem d_LW_law_603 : decode code 603 = .ok (.goto 196, 3) := by decide +kernel
theorem d_LW_law_606 : decode code 606 = .ok (.aload_n 1, 1) := by decide +kernel
theorem d_LW_law_607 : decode code 607 = .ok (.aload_n 0, 1) := by decide +kernel
theorem d_LW_law_608 : decode code 608 = .ok (.iload 4, 2) := by decide +kernel
theorem d_LW_law_610 : decode code 610 = .ok (.iconst 1, 1) := by decide +kernel
theorem d_LW_law_611 : decode code 611 = .ok (.iadd, 1) := by decide +kernel
theorem d_LW_law_612 : decode code 612 = .ok (.iaload, 1) := by decide +kernel
theorem d_LW_law_613 : decode code 613 = .ok (.aload_n 3, 1) := by decide +kernel
theorem d_LW_law_614 : decode code 614 = .ok (.invokestatic 102, 3) := by decide +kernel
theorem d_LW_law_617 : decode code 617 = .ok (.istore 5, 2) := by decide +kernel
theorem d_LW_law_619 : decode code 619 = .ok (.aload_n 2, 1) := by decide +kernel
theorem d_LW_law_620 : decode code 620 = .ok (.aload_n 0, 1) := by decide +kernel
theorem d_LW_law_621 : decode code 621 = .ok (.iload 4, 2) := by decide +kernel
theorem d_LW_law_623 : decode code 623 = .ok (.iconst 1, 1) := by decide +kernel
theorem d_LW_law_624 : decode code 624 = .ok (.iadd, 1) := by decide +kernel
theorem d_LW_law_625 : decode code 625 = .ok (.iaload, 1) := by decide +kernel
theorem d_LW_law_626 : decode code 626 = .ok (.invokevirtual 104, 3) := by decide +kernel
theorem d_LW_law_629 : decode code 629 = .ok (.istore 6, 2) := by decide +kernel
theorem d_LW_law_631 : decode code 631 = .ok (.aload_n 2, 1) := by decide +kernel
theorem d_LW_law_632 : decode code 632 = .ok (.invokevirtual 67, 3) := by decide +kernel
theorem d_LW_law_635 : decode code 635 = .ok (.iload 5, 2) := by decide +kernel
theorem d_LW_law_637 : decode code 637 = .ok (.if_icmp .eq 5, 3) := by decide +kernel
theorem d_LW_law_640 : decode code 640 = .ok (.iconst 0, 1) := by decide +kernel
theorem d_LW_law_641 : decode code 641 = .ok (.ireturn, 1) := by decide +kernel
theorem d_LW_law_642 : decode code 642 = .ok (.iload 5, 2) := by decide +kernel
theorem d_LW_law_644 : decode code 644 = .ok (.ifCond .ne 15, 3) := by decide +kernel
theorem d_LW_law_647 : decode code 647 = .ok (.aload_n 3, 1) := by decide +kernel
theorem d_LW_law_648 : decode code 648 = .ok (.iconst 0, 1) := by decide +kernel
theorem d_LW_law_649 : decode code 649 = .ok (.laload, 1) := by decide +kernel
theorem d_LW_law_650 : decode code 650 = .ok (.iload 6, 2) := by decide +kernel
theorem d_LW_law_652 : decode code 652 = .ok (.i2l, 1) := by decide +kernel
theorem d_LW_law_653 : decode code 653 = .ok (.lcmp, 1) := by decide +kernel
theorem d_LW_law_654 : decode code 654 = .ok (.ifCond .eq 5, 3) := by decide +kernel
theorem d_LW_law_657 : decode code 657 = .ok (.iconst 0, 1) := by decide +kernel
theorem d_LW_law_658 : decode code 658 = .ok (.ireturn, 1) := by decide +kernel
theorem d_LW_law_659 : decode code 659 = .ok (.goto 140, 3) := by decide +kernel
theorem d_LW_law_662 : decode code 662 = .ok (.aload_n 1, 1) := by decide +kernel
theorem d_LW_law_663 : decode code 663 = .ok (.aload_n 0, 1) := by decide +kernel
theorem d_LW_law_664 : decode code 664 = .ok (.iload 4, 2) := by decide +kernel
theorem d_LW_law_666 : decode code 666 = .ok (.iconst 1, 1) := by decide +kernel
theorem d_LW_law_667 : decode code 667 = .ok (.iadd, 1) := by decide +kernel
theorem d_LW_law_668 : decode code 668 = .ok (.iaload, 1) := by decide +kernel
theorem d_LW_law_669 : decode code 669 = .ok (.invokevirtual 105, 3) := by decide +kernel
theorem d_LW_law_672 : decode code 672 = .ok (.aload_n 2, 1) := by decide +kernel
theorem d_LW_law_673 : decode code 673 = .ok (.aload_n 0, 1) := by decide +kernel
theorem d_LW_law_674 : decode code 674 = .ok (.iload 4, 2) := by decide +kernel
theorem d_LW_law_676 : decode code 676 = .ok (.iconst 1, 1) := by decide +kernel
theorem d_LW_law_677 : decode code 677 = .ok (.iadd, 1) := by decide +kernel
theorem d_LW_law_678 : decode code 678 = .ok (.iaload, 1) := by decide +kernel
theorem d_LW_law_679 : decode code 679 = .ok (.invokevirtual 107, 3) := by decide +kernel
theorem d_LW_law_682 : decode code 682 = .ok (.if_icmp .eq 117, 3) := by decide +kernel
theorem d_LW_law_685 : decode code 685 = .ok (.iconst 0, 1) := by decide +kernel
theorem d_LW_law_686 : decode code 686 = .ok (.ireturn, 1) := by decide +kernel
theorem d_LW_law_687 : decode code 687 = .ok (.aload_n 1, 1) := by decide +kernel
theorem d_LW_law_688 : decode code 688 = .ok (.aload_n 0, 1) := by decide +kernel
theorem d_LW_law_689 : decode code 689 = .ok (.iload 4, 2) := by decide +kernel
theorem d_LW_law_691 : decode code 691 = .ok (.iconst 1, 1) := by decide +kernel
theorem d_LW_law_692 : decode code 692 = .ok (.iadd, 1) := by decide +kernel
theorem d_LW_law_693 : decode code 693 = .ok (.iaload, 1) := by decide +kernel
theorem d_LW_law_694 : decode code 694 = .ok (.aload_n 3, 1) := by decide +kernel
theorem d_LW_law_695 : decode code 695 = .ok (.invokestatic 108, 3) := by decide +kernel
theorem d_LW_law_698 : decode code 698 = .ok (.istore 5, 2) := by decide +kernel
theorem d_LW_law_700 : decode code 700 = .ok (.aload_n 2, 1) := by decide +kernel
theorem d_LW_law_701 : decode code 701 = .ok (.aload_n 0, 1) := by decide +kernel
theorem d_LW_law_702 : decode code 702 = .ok (.iload 4, 2) := by decide +kernel
theorem d_LW_law_704 : decode code 704 = .ok (.iconst 1, 1) := by decide +kernel
theorem d_LW_law_705 : decode code 705 = .ok (.iadd, 1) := by decide +kernel
theorem d_LW_law_706 : decode code 706 = .ok (.iaload, 1) := by decide +kernel
theorem d_LW_law_707 : decode code 707 = .ok (.invokevirtual 110, 3) := by decide +kernel
theorem d_LW_law_710 : decode code 710 = .ok (.istore 6, 2) := by decide +kernel
theorem d_LW_law_712 : decode code 712 = .ok (.aload_n 2, 1) := by decide +kernel
theorem d_LW_law_713 : decode code 713 = .ok (.invokevirtual 67, 3) := by decide +kernel
theorem d_LW_law_716 : decode code 716 = .ok (.iload 5, 2) := by decide +kernel
theorem d_LW_law_718 : decode code 718 = .ok (.if_icmp .eq 5, 3) := by decide +kernel
theorem d_LW_law_721 : decode code 721 = .ok (.iconst 0, 1) := by decide +kernel
theorem d_LW_law_722 : decode code 722 = .ok (.ireturn, 1) := by decide +kernel
theorem d_LW_law_723 : decode code 723 = .ok (.iload 5, 2) := by decide +kernel
theorem d_LW_law_725 : decode code 725 = .ok (.ifCond .ne 15, 3) := by decide +kernel
theorem d_LW_law_728 : decode code 728 = .ok (.aload_n 3, 1) := by decide +kernel
theorem d_LW_law_729 : decode code 729 = .ok (.iconst 0, 1) := by decide +kernel
theorem d_LW_law_730 : decode code 730 = .ok (.laload, 1) := by decide +kernel
theorem d_LW_law_731 : decode code 731 = .ok (.iload 6, 2) := by decide +kernel
theorem d_LW_law_733 : decode code 733 = .ok (.i2l, 1) := by decide +kernel
theorem d_LW_law_734 : decode code 734 = .ok (.lcmp, 1) := by decide +kernel
theorem d_LW_law_735 : decode code 735 = .ok (.ifCond .eq 5, 3) := by decide +kernel
theorem d_LW_law_738 : decode code 738 = .ok (.iconst 0, 1) := by decide +kernel
theorem d_LW_law_739 : decode code 739 = .ok (.ireturn, 1) := by decide +kernel
theorem d_LW_law_740 : decode code 740 = .ok (.goto 59, 3) := by decide +kernel
theorem d_LW_law_743 : decode code 743 = .ok (.aload_n 1, 1) := by decide +kernel
theorem d_LW_law_744 : decode code 744 = .ok (.aload_n 0, 1) := by decide +kernel
theorem d_LW_law_745 : decode code 745 = .ok (.iload 4, 2) := by decide +kernel
theorem d_LW_law_747 : decode code 747 = .ok (.iconst 1, 1) := by decide +kernel
theorem d_LW_law_748 : decode code 748 = .ok (.iadd, 1) := by decide +kernel
theorem d_LW_law_749 : decode code 749 = .ok (.iaload, 1) := by decide +kernel
theorem d_LW_law_750 : decode code 750 = .ok (.aload_n 3, 1) := by decide +kernel
theorem d_LW_law_751 : decode code 751 = .ok (.invokestatic 111, 3) := by decide +kernel
theorem d_LW_law_754 : decode code 754 = .ok (.istore 5, 2) := by decide +kernel
theorem d_LW_law_756 : decode code 756 = .ok (.aload_n 2, 1) := by decide +kernel
theorem d_LW_law_757 : decode code 757 = .ok (.aload_n 0, 1) := by decide +kernel
theorem d_LW_law_758 : decode code 758 = .ok (.iload 4, 2) := by decide +kernel
theorem d_LW_law_760 : decode code 760 = .ok (.iconst 1, 1) := by decide +kernel
theorem d_LW_law_761 : decode code 761 = .ok (.iadd, 1) := by decide +kernel
theorem d_LW_law_762 : decode code 762 = .ok (.iaload, 1) := by decide +kernel
theorem d_LW_law_763 : decode code 763 = .ok (.invokevirtual 113, 3) := by decide +kernel
theorem d_LW_law_766 : decode code 766 = .ok (.istore 6, 2) := by decide +kernel
theorem d_LW_law_768 : decode code 768 = .ok (.aload_n 2, 1) := by decide +kernel
theorem d_LW_law_769 : decode code 769 = .ok (.invokevirtual 67, 3) := by decide +kernel
theorem d_LW_law_772 : decode code 772 = .ok (.iload 5, 2) := by decide +kernel
theorem d_LW_law_774 : decode code 774 = .ok (.if_icmp .eq 5, 3) := by decide +kernel
theorem d_LW_law_777 : decode code 777 = .ok (.iconst 0, 1) := by decide +kernel
theorem d_LW_law_778 : decode code 778 = .ok (.ireturn, 1) := by decide +kernel
theorem d_LW_law_779 : decode code 779 = .ok (.iload 5, 2) := by decide +kernel
theorem d_LW_law_781 : decode code 781 = .ok (.ifCond .ne 15, 3) := by decide +kernel
theorem d_LW_law_784 : decode code 784 = .ok (.aload_n 3, 1) := by decide +kernel
theorem d_LW_law_785 : decode code 785 = .ok (.iconst 0, 1) := by decide +kernel
theorem d_LW_law_786 : decode code 786 = .ok (.laload, 1) := by decide +kernel
theorem d_LW_law_787 : decode code 787 = .ok (.iload 6, 2) := by decide +kernel
theorem d_LW_law_789 : decode code 789 = .ok (.i2l, 1) := by decide +kernel
theorem d_LW_law_790 : decode code 790 = .ok (.lcmp, 1) := by decide +kernel
theorem d_LW_law_791 : decode code 791 = .ok (.ifCond .eq 5, 3) := by decide +kernel
theorem d_LW_law_794 : decode code 794 = .ok (.iconst 0, 1) := by decide +kernel
theorem d_LW_law_795 : decode code 795 = .ok (.ireturn, 1) := by decide +kernel
theorem d_LW_law_796 : decode code 796 = .ok (.goto 3, 3) := by decide +kernel
theorem d_LW_law_799 : decode code 799 = .ok (.iinc 4 3, 3) := by decide +kernel
theorem d_LW_law_802 : decode code 802 = .ok (.goto (-769), 3) := by decide +kernel
theorem d_LW_law_805 : decode code 805 = .ok (.iconst 1, 1) := by decide +kernel
theorem d_LW_law_806 : decode code 806 = .ok (.ireturn, 1) := by decide +kernel
theorem d_EN_ordinal_0 : decode b_EN_ordinal 0 = .ok (.aload_n 0, 1) := by decide +kernel
theorem d_EN_ordinal_1 : decode b_EN_ordinal 1 = .ok (.getfield 7, 3) := by decide +kernel
theorem d_EN_ordinal_4 : decode b_EN_ordinal 4 = .ok (.ireturn, 1) := by decide +kernel
