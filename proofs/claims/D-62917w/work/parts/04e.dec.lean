theorem d_MO_setBreak_0 : decode b_MO_setBreak 0 = .ok (.aload_n 0, 1) := by decide +kernel
theorem d_MO_setBreak_1 : decode b_MO_setBreak 1 = .ok (.iload_n 1, 1) := by decide +kernel
theorem d_MO_setBreak_2 : decode b_MO_setBreak 2 = .ok (.bipush 64, 2) := by decide +kernel
theorem d_MO_setBreak_4 : decode b_MO_setBreak 4 = .ok (.invokestatic 149, 3) := by decide +kernel
theorem d_MO_setBreak_7 : decode b_MO_setBreak 7 = .ok (.ifCond .eq 7, 3) := by decide +kernel
theorem d_MO_setBreak_10 : decode b_MO_setBreak 10 = .ok (.iconst 1, 1) := by decide +kernel
theorem d_MO_setBreak_11 : decode b_MO_setBreak 11 = .ok (.goto 4, 3) := by decide +kernel
theorem d_MO_setBreak_14 : decode b_MO_setBreak 14 = .ok (.iconst 0, 1) := by decide +kernel
theorem d_MO_setBreak_15 : decode b_MO_setBreak 15 = .ok (.putfield 54, 3) := by decide +kernel
theorem d_MO_setBreak_18 : decode b_MO_setBreak 18 = .ok (.aload_n 0, 1) := by decide +kernel
theorem d_MO_setBreak_19 : decode b_MO_setBreak 19 = .ok (.getfield 54, 3) := by decide +kernel
theorem d_MO_setBreak_22 : decode b_MO_setBreak 22 = .ok (.ifCond .gt 12, 3) := by decide +kernel
theorem d_MO_setBreak_25 : decode b_MO_setBreak 25 = .ok (.aload_n 0, 1) := by decide +kernel
theorem d_MO_setBreak_26 : decode b_MO_setBreak 26 = .ok (.getfield 16, 3) := by decide +kernel
theorem d_MO_setBreak_29 : decode b_MO_setBreak 29 = .ok (.iload_n 1, 1) := by decide +kernel
theorem d_MO_setBreak_30 : decode b_MO_setBreak 30 = .ok (.baload, 1) := by decide +kernel
theorem d_MO_setBreak_31 : decode b_MO_setBreak 31 = .ok (.ifCond .eq 5, 3) := by decide +kernel
theorem d_MO_setBreak_34 : decode b_MO_setBreak 34 = .ok (.iconst 0, 1) := by decide +kernel
theorem d_MO_setBreak_35 : decode b_MO_setBreak 35 = .ok (.ireturn, 1) := by decide +kernel
theorem d_MO_setBreak_36 : decode b_MO_setBreak 36 = .ok (.aload_n 0, 1) := by decide +kernel
theorem d_MO_setBreak_37 : decode b_MO_setBreak 37 = .ok (.getfield 16, 3) := by decide +kernel
theorem d_MO_setBreak_40 : decode b_MO_setBreak 40 = .ok (.iload_n 1, 1) := by decide +kernel
theorem d_MO_setBreak_41 : decode b_MO_setBreak 41 = .ok (.iconst 1, 1) := by decide +kernel
theorem d_MO_setBreak_42 : decode b_MO_setBreak 42 = .ok (.bastore, 1) := by decide +kernel
theorem d_MO_setBreak_43 : decode b_MO_setBreak 43 = .ok (.iconst 1, 1) := by decide +kernel
theorem d_MO_setBreak_44 : decode b_MO_setBreak 44 = .ok (.ireturn, 1) := by decide +kernel
theorem d_MO_clearBreak_0 : decode b_MO_clearBreak 0 = .ok (.aload_n 0, 1) := by decide +kernel
theorem d_MO_clearBreak_1 : decode b_MO_clearBreak 1 = .ok (.iload_n 1, 1) := by decide +kernel
theorem d_MO_clearBreak_2 : decode b_MO_clearBreak 2 = .ok (.bipush 64, 2) := by decide +kernel
theorem d_MO_clearBreak_4 : decode b_MO_clearBreak 4 = .ok (.invokestatic 149, 3) := by decide +kernel
theorem d_MO_clearBreak_7 : decode b_MO_clearBreak 7 = .ok (.ifCond .eq 7, 3) := by decide +kernel
theorem d_MO_clearBreak_10 : decode b_MO_clearBreak 10 = .ok (.iconst 1, 1) := by decide +kernel
theorem d_MO_clearBreak_11 : decode b_MO_clearBreak 11 = .ok (.goto 4, 3) := by decide +kernel
theorem d_MO_clearBreak_14 : decode b_MO_clearBreak 14 = .ok (.iconst 0, 1) := by decide +kernel
theorem d_MO_clearBreak_15 : decode b_MO_clearBreak 15 = .ok (.putfield 54, 3) := by decide +kernel
theorem d_MO_clearBreak_18 : decode b_MO_clearBreak 18 = .ok (.aload_n 0, 1) := by decide +kernel
theorem d_MO_clearBreak_19 : decode b_MO_clearBreak 19 = .ok (.getfield 54, 3) := by decide +kernel
theorem d_MO_clearBreak_22 : decode b_MO_clearBreak 22 = .ok (.ifCond .gt 12, 3) := by decide +kernel
theorem d_MO_clearBreak_25 : decode b_MO_clearBreak 25 = .ok (.aload_n 0, 1) := by decide +kernel
theorem d_MO_clearBreak_26 : decode b_MO_clearBreak 26 = .ok (.getfield 16, 3) := by decide +kernel
theorem d_MO_clearBreak_29 : decode b_MO_clearBreak 29 = .ok (.iload_n 1, 1) := by decide +kernel
theorem d_MO_clearBreak_30 : decode b_MO_clearBreak 30 = .ok (.baload, 1) := by decide +kernel
theorem d_MO_clearBreak_31 : decode b_MO_clearBreak 31 = .ok (.ifCond .ne 5, 3) := by decide +kernel
theorem d_MO_clearBreak_34 : decode b_MO_clearBreak 34 = .ok (.iconst 0, 1) := by decide +kernel
theorem d_MO_clearBreak_35 : decode b_MO_clearBreak 35 = .ok (.ireturn, 1) := by decide +kernel
theorem d_MO_clearBreak_36 : decode b_MO_clearBreak 36 = .ok (.aload_n 0, 1) := by decide +kernel
theorem d_MO_clearBreak_37 : decode b_MO_clearBreak 37 = .ok (.getfield 16, 3) := by decide +kernel
theorem d_MO_clearBreak_40 : decode b_MO_clearBreak 40 = .ok (.iload_n 1, 1) := by decide +kernel
theorem d_MO_clearBreak_41 : decode b_MO_clearBreak 41 = .ok (.iconst 0, 1) := by decide +kernel
theorem d_MO_clearBreak_42 : decode b_MO_clearBreak 42 = .ok (.bastore, 1) := by decide +kernel
theorem d_MO_clearBreak_43 : decode b_MO_clearBreak 43 = .ok (.iconst 1, 1) := by decide +kernel
theorem d_MO_clearBreak_44 : decode b_MO_clearBreak 44 = .ok (.ireturn, 1) := by decide +kernel
theorem d_MO_setWatch_0 : decode b_MO_setWatch 0 = .ok (.aload_n 0, 1) := by decide +kernel
theorem d_MO_setWatch_1 : decode b_MO_setWatch 1 = .ok (.iload_n 1, 1) := by decide +kernel
theorem d_MO_setWatch_2 : decode b_MO_setWatch 2 = .ok (.bipush 32, 2) := by decide +kernel
theorem d_MO_setWatch_4 : decode b_MO_setWatch 4 = .ok (.invokestatic 149, 3) := by decide +kernel
theorem d_MO_setWatch_7 : decode b_MO_setWatch 7 = .ok (.ifCond .eq 7, 3) := by decide +kernel
theorem d_MO_setWatch_10 : decode b_MO_setWatch 10 = .ok (.iconst 1, 1) := by decide +kernel
theorem d_MO_setWatch_11 : decode b_MO_setWatch 11 = .ok (.goto 4, 3) := by decide +kernel
theorem d_MO_setWatch_14 : decode b_MO_setWatch 14 = .ok (.iconst 0, 1) := by decide +kernel
theorem d_MO_setWatch_15 : decode b_MO_setWatch 15 = .ok (.putfield 54, 3) := by decide +kernel
theorem d_MO_setWatch_18 : decode b_MO_setWatch 18 = .ok (.aload_n 0, 1) := by decide +kernel
theorem d_MO_setWatch_19 : decode b_MO_setWatch 19 = .ok (.getfield 54, 3) := by decide +kernel
theorem d_MO_setWatch_22 : decode b_MO_setWatch 22 = .ok (.ifCond .gt 12, 3) := by decide +kernel
theorem d_MO_setWatch_25 : decode b_MO_setWatch 25 = .ok (.aload_n 0, 1) := by decide +kernel
theorem d_MO_setWatch_26 : decode b_MO_setWatch 26 = .ok (.getfield 20, 3) := by decide +kernel
theorem d_MO_setWatch_29 : decode b_MO_setWatch 29 = .ok (.iload_n 1, 1) := by decide +kernel
theorem d_MO_setWatch_30 : decode b_MO_setWatch 30 = .ok (.baload, 1) := by decide +kernel
theorem d_MO_setWatch_31 : decode b_MO_setWatch 31 = .ok (.ifCond .eq 5, 3) := by decide +kernel
theorem d_MO_setWatch_34 : decode b_MO_setWatch 34 = .ok (.iconst 0, 1) := by decide +kernel
theorem d_MO_setWatch_35 : decode b_MO_setWatch 35 = .ok (.ireturn, 1) := by decide +kernel
theorem d_MO_setWatch_36 : decode b_MO_setWatch 36 = .ok (.aload_n 0, 1) := by decide +kernel
theorem d_MO_setWatch_37 : decode b_MO_setWatch 37 = .ok (.getfield 20, 3) := by decide +kernel
theorem d_MO_setWatch_40 : decode b_MO_setWatch 40 = .ok (.iload_n 1, 1) := by decide +kernel
theorem d_MO_setWatch_41 : decode b_MO_setWatch 41 = .ok (.iconst 1, 1) := by decide +kernel
theorem d_MO_setWatch_42 : decode b_MO_setWatch 42 = .ok (.bastore, 1) := by decide +kernel
theorem d_MO_setWatch_43 : decode b_MO_setWatch 43 = .ok (.iconst 1, 1) := by decide +kernel
theorem d_MO_setWatch_44 : decode b_MO_setWatch 44 = .ok (.ireturn, 1) := by decide +kernel
theorem d_MO_clearWatch_0 : decode b_MO_clearWatch 0 = .ok (.aload_n 0, 1) := by decide +kernel
theorem d_MO_clearWatch_1 : decode b_MO_clearWatch 1 = .ok (.iload_n 1, 1) := by decide +kernel
theorem d_MO_clearWatch_2 : decode b_MO_clearWatch 2 = .ok (.bipush 32, 2) := by decide +kernel
theorem d_MO_clearWatch_4 : decode b_MO_clearWatch 4 = .ok (.invokestatic 149, 3) := by decide +kernel
theorem d_MO_clearWatch_7 : decode b_MO_clearWatch 7 = .ok (.ifCond .eq 7, 3) := by decide +kernel
theorem d_MO_clearWatch_10 : decode b_MO_clearWatch 10 = .ok (.iconst 1, 1) := by decide +kernel
theorem d_MO_clearWatch_11 : decode b_MO_clearWatch 11 = .ok (.goto 4, 3) := by decide +kernel
theorem d_MO_clearWatch_14 : decode b_MO_clearWatch 14 = .ok (.iconst 0, 1) := by decide +kernel
theorem d_MO_clearWatch_15 : decode b_MO_clearWatch 15 = .ok (.putfield 54, 3) := by decide +kernel
theorem d_MO_clearWatch_18 : decode b_MO_clearWatch 18 = .ok (.aload_n 0, 1) := by decide +kernel
theorem d_MO_clearWatch_19 : decode b_MO_clearWatch 19 = .ok (.getfield 54, 3) := by decide +kernel
theorem d_MO_clearWatch_22 : decode b_MO_clearWatch 22 = .ok (.ifCond .gt 12, 3) := by decide +kernel
theorem d_MO_clearWatch_25 : decode b_MO_clearWatch 25 = .ok (.aload_n 0, 1) := by decide +kernel
theorem d_MO_clearWatch_26 : decode b_MO_clearWatch 26 = .ok (.getfield 20, 3) := by decide +kernel
theorem d_MO_clearWatch_29 : decode b_MO_clearWatch 29 = .ok (.iload_n 1, 1) := by decide +kernel
theorem d_MO_clearWatch_30 : decode b_MO_clearWatch 30 = .ok (.baload, 1) := by decide +kernel
theorem d_MO_clearWatch_31 : decode b_MO_clearWatch 31 = .ok (.ifCond .ne 5, 3) := by decide +kernel
theorem d_MO_clearWatch_34 : decode b_MO_clearWatch 34 = .ok (.iconst 0, 1) := by decide +kernel
theorem d_MO_clearWatch_35 : decode b_MO_clearWatch 35 = .ok (.ireturn, 1) := by decide +kernel
theorem d_MO_clearWatch_36 : decode b_MO_clearWatch 36 = .ok (.aload_n 0, 1) := by decide +kernel
theorem d_MO_clearWatch_37 : decode b_MO_clearWatch 37 = .ok (.getfield 20, 3) := by decide +kernel
theorem d_MO_clearWatch_40 : decode b_MO_clearWatch 40 = .ok (.iload_n 1, 1) := by decide +kernel
theorem d_MO_clearWatch_41 : decode b_MO_clearWatch 41 = .ok (.iconst 0, 1) := by decide +kernel
theorem d_MO_clearWatch_42 : decode b_MO_clearWatch 42 = .ok (.bastore, 1) := by decide +kernel
theorem d_MO_clearWatch_43 : decode b_MO_clearWatch 43 = .ok (.iconst 1, 1) := by decide +kernel
theorem d_MO_clearWatch_44 : decode b_MO_clearWatch 44 = .ok (.ireturn, 1) := by decide +kernel
theorem d_MO_state_0 : decode b_MO_state 0 = .ok (.aload_n 0, 1) := by decide +kernel
theorem d_MO_state_1 : decode b_MO_state 1 = .ok (.iconst 0, 1) := by decide +kernel
theorem d_MO_state_2 : decode b_MO_state 2 = .ok (.putfield 54, 3) := by decide +kernel
theorem d_MO_state_5 : decode b_MO_state 5 = .ok (.iload_n 1, 1) := by decide +kernel
theorem d_MO_state_6 : decode b_MO_state 6 = .ok (.tableswitch 113 0 10 #[58, 63, 68, 73, 78, 83, 88, 93, 98, 103, 108], 58) := by decide +kernel
theorem d_MO_state_64 : decode b_MO_state 64 = .ok (.aload_n 0, 1) := by decide +kernel
theorem d_MO_state_65 : decode b_MO_state 65 = .ok (.getfield 63, 3) := by decide +kernel
theorem d_MO_state_68 : decode b_MO_state 68 = .ok (.ireturn, 1) := by decide +kernel
theorem d_MO_state_69 : decode b_MO_state 69 = .ok (.aload_n 0, 1) := by decide +kernel
theorem d_MO_state_70 : decode b_MO_state 70 = .ok (.getfield 57, 3) := by decide +kernel
theorem d_MO_state_73 : decode b_MO_state 73 = .ok (.ireturn, 1) := by decide +kernel
theorem d_MO_state_74 : decode b_MO_state 74 = .ok (.aload_n 0, 1) := by decide +kernel
theorem d_MO_state_75 : decode b_MO_state 75 = .ok (.getfield 66, 3) := by decide +kernel
theorem d_MO_state_78 : decode b_MO_state 78 = .ok (.ireturn, 1) := by decide +kernel
theorem d_MO_state_79 : decode b_MO_state 79 = .ok (.aload_n 0, 1) := by decide +kernel
theorem d_MO_state_80 : decode b_MO_state 80 = .ok (.getfield 69, 3) := by decide +kernel
theorem d_MO_state_83 : decode b_MO_state 83 = .ok (.ireturn, 1) := by decide +kernel
theorem d_MO_state_84 : decode b_MO_state 84 = .ok (.aload_n 0, 1) := by decide +kernel
theorem d_MO_state_85 : decode b_MO_state 85 = .ok (.getfield 45, 3) := by decide +kernel
theorem d_MO_state_88 : decode b_MO_state 88 = .ok (.ireturn, 1) := by decide +kernel
theorem d_MO_state_89 : decode b_MO_state 89 = .ok (.aload_n 0, 1) := by decide +kernel
theorem d_MO_state_90 : decode b_MO_state 90 = .ok (.getfield 72, 3) := by decide +kernel
theorem d_MO_state_93 : decode b_MO_state 93 = .ok (.ireturn, 1) := by decide +kernel
theorem d_MO_state_94 : decode b_MO_state 94 = .ok (.aload_n 0, 1) := by decide +kernel
theorem d_MO_state_95 : decode b_MO_state 95 = .ok (.getfield 75, 3) := by decide +kernel
theorem d_MO_state_98 : decode b_MO_state 98 = .ok (.ireturn, 1) := by decide +kernel
theorem d_MO_state_99 : decode b_MO_state 99 = .ok (.aload_n 0, 1) := by decide +kernel
theorem d_MO_state_100 : decode b_MO_state 100 = .ok (.getfield 128, 3) := by decide +kernel
theorem d_MO_state_103 : decode b_MO_state 103 = .ok (.ireturn, 1) := by decide +kernel
theorem d_MO_state_104 : decode b_MO_state 104 = .ok (.aload_n 0, 1) := by decide +kernel
theorem d_MO_state_105 : decode b_MO_state 105 = .ok (.getfield 122, 3) := by decide +kernel
theorem d_MO_state_108 : decode b_MO_state 108 = .ok (.ireturn, 1) := by decide +kernel
theorem d_MO_state_109 : decode b_MO_state 109 = .ok (.aload_n 0, 1) := by decide +kernel
theorem d_MO_state_110 : decode b_MO_state 110 = .ok (.getfield 38, 3) := by decide +kernel
theorem d_MO_state_113 : decode b_MO_state 113 = .ok (.ireturn, 1) := by decide +kernel
theorem d_MO_state_114 : decode b_MO_state 114 = .ok (.aload_n 0, 1) := by decide +kernel
theorem d_MO_state_115 : decode b_MO_state 115 = .ok (.getfield 51, 3) := by decide +kernel
theorem d_MO_state_118 : decode b_MO_state 118 = .ok (.ireturn, 1) := by decide +kernel
theorem d_MO_state_119 : decode b_MO_state 119 = .ok (.aload_n 0, 1) := by decide +kernel
theorem d_MO_state_120 : decode b_MO_state 120 = .ok (.iconst 1, 1) := by decide +kernel
theorem d_MO_state_121 : decode b_MO_state 121 = .ok (.invokevirtual 153, 3) := by decide +kernel
theorem d_MO_state_124 : decode b_MO_state 124 = .ok (.ireturn, 1) := by decide +kernel
theorem d_MO_cell_0 : decode b_MO_cell 0 = .ok (.aload_n 0, 1) := by decide +kernel
theorem d_MO_cell_1 : decode b_MO_cell 1 = .ok (.iconst 0, 1) := by decide +kernel
theorem d_MO_cell_2 : decode b_MO_cell 2 = .ok (.putfield 54, 3) := by decide +kernel
theorem d_MO_cell_5 : decode b_MO_cell 5 = .ok (.iload_n 1, 1) := by decide +kernel
theorem d_MO_cell_6 : decode b_MO_cell 6 = .ok (.bipush 32, 2) := by decide +kernel
theorem d_MO_cell_8 : decode b_MO_cell 8 = .ok (.invokestatic 149, 3) := by decide +kernel
theorem d_MO_cell_11 : decode b_MO_cell 11 = .ok (.ifCond .eq 7, 3) := by decide +kernel
theorem d_MO_cell_14 : decode b_MO_cell 14 = .ok (.iconst 0, 1) := by decide +kernel
theorem d_MO_cell_15 : decode b_MO_cell 15 = .ok (.goto 9, 3) := by decide +kernel
theorem d_MO_cell_18 : decode b_MO_cell 18 = .ok (.aload_n 0, 1) := by decide +kernel
theorem d_MO_cell_19 : decode b_MO_cell 19 = .ok (.getfield 23, 3) := by decide +kernel
theorem d_MO_cell_22 : decode b_MO_cell 22 = .ok (.iload_n 1, 1) := by decide +kernel
theorem d_MO_cell_23 : decode b_MO_cell 23 = .ok (.iaload, 1) := by decide +kernel
theorem d_MO_cell_24 : decode b_MO_cell 24 = .ok (.ireturn, 1) := by decide +kernel
theorem d_MO_stack_0 : decode b_MO_stack 0 = .ok (.aload_n 0, 1) := by decide +kernel
theorem d_MO_stack_1 : decode b_MO_stack 1 = .ok (.iconst 0, 1) := by decide +kernel
theorem d_MO_stack_2 : decode b_MO_stack 2 = .ok (.putfield 54, 3) := by decide +kernel
theorem d_MO_stack_5 : decode b_MO_stack 5 = .ok (.iload_n 1, 1) := by decide +kernel
theorem d_MO_stack_6 : decode b_MO_stack 6 = .ok (.aload_n 0, 1) := by decide +kernel
theorem d_MO_stack_7 : decode b_MO_stack 7 = .ok (.getfield 75, 3) := by decide +kernel
theorem d_MO_stack_10 : decode b_MO_stack 10 = .ok (.invokestatic 149, 3) := by decide +kernel
theorem d_MO_stack_13 : decode b_MO_stack 13 = .ok (.ifCond .eq 11, 3) := by decide +kernel
theorem d_MO_stack_16 : decode b_MO_stack 16 = .ok (.aload_n 0, 1) := by decide +kernel
theorem d_MO_stack_17 : decode b_MO_stack 17 = .ok (.iconst 1, 1) := by decide +kernel
theorem d_MO_stack_18 : decode b_MO_stack 18 = .ok (.invokevirtual 153, 3) := by decide +kernel
theorem d_MO_stack_21 : decode b_MO_stack 21 = .ok (.goto 9, 3) := by decide +kernel
theorem d_MO_stack_24 : decode b_MO_stack 24 = .ok (.aload_n 0, 1) := by decide +kernel
theorem d_MO_stack_25 : decode b_MO_stack 25 = .ok (.getfield 26, 3) := by decide +kernel
theorem d_MO_stack_28 : decode b_MO_stack 28 = .ok (.iload_n 1, 1) := by decide +kernel
theorem d_MO_stack_29 : decode b_MO_stack 29 = .ok (.iaload, 1) := by decide +kernel
theorem d_MO_stack_30 : decode b_MO_stack 30 = .ok (.ireturn, 1) := by decide +kernel
theorem d_MO_checkpoint_0 : decode b_MO_checkpoint 0 = .ok (.aload_n 0, 1) := by decide +kernel
theorem d_MO_checkpoint_1 : decode b_MO_checkpoint 1 = .ok (.iconst 0, 1) := by decide +kernel
theorem d_MO_checkpoint_2 : decode b_MO_checkpoint 2 = .ok (.putfield 54, 3) := by decide +kernel
theorem d_MO_checkpoint_5 : decode b_MO_checkpoint 5 = .ok (.iload_n 1, 1) := by decide +kernel
theorem d_MO_checkpoint_6 : decode b_MO_checkpoint 6 = .ok (.aload_n 0, 1) := by decide +kernel
theorem d_MO_checkpoint_7 : decode b_MO_checkpoint 7 = .ok (.getfield 51, 3) := by decide +kernel
theorem d_MO_checkpoint_10 : decode b_MO_checkpoint 10 = .ok (.invokestatic 149, 3) := by decide +kernel
theorem d_MO_checkpoint_13 : decode b_MO_checkpoint 13 = .ok (.ifCond .eq 11, 3) := by decide +kernel
theorem d_MO_checkpoint_16 : decode b_MO_checkpoint 16 = .ok (.aload_n 0, 1) := by decide +kernel
theorem d_MO_checkpoint_17 : decode b_MO_checkpoint 17 = .ok (.iconst 1, 1) := by decide +kernel
theorem d_MO_checkpoint_18 : decode b_MO_checkpoint 18 = .ok (.invokevirtual 153, 3) := by decide +kernel
theorem d_MO_checkpoint_21 : decode b_MO_checkpoint 21 = .ok (.goto 9, 3) := by decide +kernel
theorem d_MO_checkpoint_24 : decode b_MO_checkpoint 24 = .ok (.aload_n 0, 1) := by decide +kernel
theorem d_MO_checkpoint_25 : decode b_MO_checkpoint 25 = .ok (.getfield 42, 3) := by decide +kernel
theorem d_MO_checkpoint_28 : decode b_MO_checkpoint 28 = .ok (.iload_n 1, 1) := by decide +kernel
theorem d_MO_checkpoint_29 : decode b_MO_checkpoint 29 = .ok (.iaload, 1) := by decide +kernel
theorem d_MO_checkpoint_30 : decode b_MO_checkpoint 30 = .ok (.ireturn, 1) := by decide +kernel
theorem d_NT_init_0 : decode b_NT_init 0 = .ok (.aload_n 0, 1) := by decide +kernel
theorem d_NT_init_1 : decode b_NT_init 1 = .ok (.invokespecial 1, 3) := by decide +kernel
theorem d_NT_init_4 : decode b_NT_init 4 = .ok (.aload_n 0, 1) := by decide +kernel
theorem d_NT_init_5 : decode b_NT_init 5 = .ok (.iconst 4, 1) := by decide +kernel
theorem d_NT_init_6 : decode b_NT_init 6 = .ok (.newarray .int, 2) := by decide +kernel
theorem d_NT_init_8 : decode b_NT_init 8 = .ok (.putfield 7, 3) := by decide +kernel
theorem d_NT_init_11 : decode b_NT_init 11 = .ok (.aload_n 0, 1) := by decide +kernel
theorem d_NT_init_12 : decode b_NT_init 12 = .ok (.iconst 4, 1) := by decide +kernel
theorem d_NT_init_13 : decode b_NT_init 13 = .ok (.newarray .int, 2) := by decide +kernel
theorem d_NT_init_15 : decode b_NT_init 15 = .ok (.putfield 13, 3) := by decide +kernel
theorem d_NT_init_18 : decode b_NT_init 18 = .ok (.return_, 1) := by decide +kernel
theorem d_NT_add_0 : decode b_NT_add 0 = .ok (.aload_n 0, 1) := by decide +kernel
theorem d_NT_add_1 : decode b_NT_add 1 = .ok (.getfield 7, 3) := by decide +kernel
theorem d_NT_add_4 : decode b_NT_add 4 = .ok (.aload_n 0, 1) := by decide +kernel
theorem d_NT_add_5 : decode b_NT_add 5 = .ok (.getfield 16, 3) := by decide +kernel
theorem d_NT_add_8 : decode b_NT_add 8 = .ok (.iload_n 1, 1) := by decide +kernel
theorem d_NT_add_9 : decode b_NT_add 9 = .ok (.iastore, 1) := by decide +kernel
theorem d_NT_add_10 : decode b_NT_add 10 = .ok (.aload_n 0, 1) := by decide +kernel
theorem d_NT_add_11 : decode b_NT_add 11 = .ok (.getfield 13, 3) := by decide +kernel
theorem d_NT_add_14 : decode b_NT_add 14 = .ok (.aload_n 0, 1) := by decide +kernel
theorem d_NT_add_15 : decode b_NT_add 15 = .ok (.getfield 16, 3) := by decide +kernel
theorem d_NT_add_18 : decode b_NT_add 18 = .ok (.iload_n 2, 1) := by decide +kernel
theorem d_NT_add_19 : decode b_NT_add 19 = .ok (.iastore, 1) := by decide +kernel
theorem d_NT_add_20 : decode b_NT_add 20 = .ok (.aload_n 0, 1) := by decide +kernel
theorem d_NT_add_21 : decode b_NT_add 21 = .ok (.dup, 1) := by decide +kernel
theorem d_NT_add_22 : decode b_NT_add 22 = .ok (.getfield 16, 3) := by decide +kernel
theorem d_NT_add_25 : decode b_NT_add 25 = .ok (.iconst 1, 1) := by decide +kernel
theorem d_NT_add_26 : decode b_NT_add 26 = .ok (.iadd, 1) := by decide +kernel
theorem d_NT_add_27 : decode b_NT_add 27 = .ok (.putfield 16, 3) := by decide +kernel
theorem d_NT_add_30 : decode b_NT_add 30 = .ok (.return_, 1) := by decide +kernel
theorem d_NB_init_0 : decode b_NB_init 0 = .ok (.aload_n 0, 1) := by decide +kernel
theorem d_NB_init_1 : decode b_NB_init 1 = .ok (.invokespecial 3, 3) := by decide +kernel
theorem d_NB_init_4 : decode b_NB_init 4 = .ok (.aload_n 0, 1) := by decide +kernel
theorem d_NB_init_5 : decode b_NB_init 5 = .ok (.bipush 32, 2) := by decide +kernel
theorem d_NB_init_7 : decode b_NB_init 7 = .ok (.anewarray 9, 3) := by decide +kernel
theorem d_NB_init_10 : decode b_NB_init 10 = .ok (.putfield 11, 3) := by decide +kernel
theorem d_NB_init_13 : decode b_NB_init 13 = .ok (.iconst 0, 1) := by decide +kernel
theorem d_NB_init_14 : decode b_NB_init 14 = .ok (.istore_n 1, 1) := by decide +kernel
theorem d_NB_init_15 : decode b_NB_init 15 = .ok (.iload_n 1, 1) := by decide +kernel
theorem d_NB_init_16 : decode b_NB_init 16 = .ok (.bipush 32, 2) := by decide +kernel
theorem d_NB_init_18 : decode b_NB_init 18 = .ok (.if_icmp .ge 22, 3) := by decide +kernel
theorem d_NB_init_21 : decode b_NB_init 21 = .ok (.aload_n 0, 1) := by decide +kernel
theorem d_NB_init_22 : decode b_NB_init 22 = .ok (.getfield 11, 3) := by decide +kernel
theorem d_NB_init_25 : decode b_NB_init 25 = .ok (.iload_n 1, 1) := by decide +kernel
theorem d_NB_init_26 : decode b_NB_init 26 = .ok (.new 9, 3) := by decide +kernel
theorem d_NB_init_29 : decode b_NB_init 29 = .ok (.dup, 1) := by decide +kernel
theorem d_NB_init_30 : decode b_NB_init 30 = .ok (.invokespecial 17, 3) := by decide +kernel
theorem d_NB_init_33 : decode b_NB_init 33 = .ok (.aastore, 1) := by decide +kernel
theorem d_NB_init_34 : decode b_NB_init 34 = .ok (.iinc 1 1, 3) := by decide +kernel
theorem d_NB_init_37 : decode b_NB_init 37 = .ok (.goto (-22), 3) := by decide +kernel
theorem d_NB_init_40 : decode b_NB_init 40 = .ok (.return_, 1) := by decide +kernel
theorem d_NB_begin_0 : decode b_NB_begin 0 = .ok (.aload_n 0, 1) := by decide +kernel
theorem d_NB_begin_1 : decode b_NB_begin 1 = .ok (.aload_n 0, 1) := by decide +kernel
theorem d_NB_begin_2 : decode b_NB_begin 2 = .ok (.getfield 18, 3) := by decide +kernel
theorem d_NB_begin_5 : decode b_NB_begin 5 = .ok (.iconst 1, 1) := by decide +kernel
theorem d_NB_begin_6 : decode b_NB_begin 6 = .ok (.iadd, 1) := by decide +kernel
theorem d_NB_begin_7 : decode b_NB_begin 7 = .ok (.bipush 32, 2) := by decide +kernel
theorem d_NB_begin_9 : decode b_NB_begin 9 = .ok (.irem, 1) := by decide +kernel
theorem d_NB_begin_10 : decode b_NB_begin 10 = .ok (.putfield 18, 3) := by decide +kernel
theorem d_NB_begin_13 : decode b_NB_begin 13 = .ok (.aload_n 0, 1) := by decide +kernel
theorem d_NB_begin_14 : decode b_NB_begin 14 = .ok (.getfield 22, 3) := by decide +kernel
theorem d_NB_begin_17 : decode b_NB_begin 17 = .ok (.bipush 32, 2) := by decide +kernel
theorem d_NB_begin_19 : decode b_NB_begin 19 = .ok (.if_icmp .ge 13, 3) := by decide +kernel
theorem d_NB_begin_22 : decode b_NB_begin 22 = .ok (.aload_n 0, 1) := by decide +kernel
theorem d_NB_begin_23 : decode b_NB_begin 23 = .ok (.dup, 1) := by decide +kernel
theorem d_NB_begin_24 : decode b_NB_begin 24 = .ok (.getfield 22, 3) := by decide +kernel
theorem d_NB_begin_27 : decode b_NB_begin 27 = .ok (.iconst 1, 1) := by decide +kernel
theorem d_NB_begin_28 : decode b_NB_begin 28 = .ok (.iadd, 1) := by decide +kernel
theorem d_NB_begin_29 : decode b_NB_begin 29 = .ok (.putfield 22, 3) := by decide +kernel
theorem d_NB_begin_32 : decode b_NB_begin 32 = .ok (.aload_n 0, 1) := by decide +kernel
theorem d_NB_begin_33 : decode b_NB_begin 33 = .ok (.getfield 11, 3) := by decide +kernel
theorem d_NB_begin_36 : decode b_NB_begin 36 = .ok (.aload_n 0, 1) := by decide +kernel
theorem d_NB_begin_37 : decode b_NB_begin 37 = .ok (.getfield 18, 3) := by decide +kernel
theorem d_NB_begin_40 : decode b_NB_begin 40 = .ok (.aaload, 1) := by decide +kernel
theorem d_NB_begin_41 : decode b_NB_begin 41 = .ok (.astore_n 2, 1) := by decide +kernel
theorem d_NB_begin_42 : decode b_NB_begin 42 = .ok (.aload_n 2, 1) := by decide +kernel
theorem d_NB_begin_43 : decode b_NB_begin 43 = .ok (.aload_n 1, 1) := by decide +kernel
theorem d_NB_begin_44 : decode b_NB_begin 44 = .ok (.getfield 25, 3) := by decide +kernel
theorem d_NB_begin_47 : decode b_NB_begin 47 = .ok (.putfield 30, 3) := by decide +kernel
theorem d_NB_begin_50 : decode b_NB_begin 50 = .ok (.aload_n 2, 1) := by decide +kernel
theorem d_NB_begin_51 : decode b_NB_begin 51 = .ok (.aload_n 1, 1) := by decide +kernel
theorem d_NB_begin_52 : decode b_NB_begin 52 = .ok (.getfield 31, 3) := by decide +kernel
theorem d_NB_begin_55 : decode b_NB_begin 55 = .ok (.putfield 34, 3) := by decide +kernel
theorem d_NB_begin_58 : decode b_NB_begin 58 = .ok (.aload_n 2, 1) := by decide +kernel
theorem d_NB_begin_59 : decode b_NB_begin 59 = .ok (.aload_n 1, 1) := by decide +kernel
theorem d_NB_begin_60 : decode b_NB_begin 60 = .ok (.getfield 35, 3) := by decide +kernel
theorem d_NB_begin_63 : decode b_NB_begin 63 = .ok (.putfield 38, 3) := by decide +kernel
theorem d_NB_begin_66 : decode b_NB_begin 66 = .ok (.aload_n 2, 1) := by decide +kernel
theorem d_NB_begin_67 : decode b_NB_begin 67 = .ok (.aload_n 1, 1) := by decide +kernel
theorem d_NB_begin_68 : decode b_NB_begin 68 = .ok (.getfield 39, 3) := by decide +kernel
theorem d_NB_begin_71 : decode b_NB_begin 71 = .ok (.putfield 42, 3) := by decide +kernel
theorem d_NB_begin_74 : decode b_NB_begin 74 = .ok (.aload_n 2, 1) := by decide +kernel
theorem d_NB_begin_75 : decode b_NB_begin 75 = .ok (.aload_n 1, 1) := by decide +kernel
theorem d_NB_begin_76 : decode b_NB_begin 76 = .ok (.getfield 43, 3) := by decide +kernel
theorem d_NB_begin_79 : decode b_NB_begin 79 = .ok (.putfield 46, 3) := by decide +kernel
theorem d_NB_begin_82 : decode b_NB_begin 82 = .ok (.aload_n 2, 1) := by decide +kernel
theorem d_NB_begin_83 : decode b_NB_begin 83 = .ok (.iconst 0, 1) := by decide +kernel
theorem d_NB_begin_84 : decode b_NB_begin 84 = .ok (.putfield 47, 3) := by decide +kernel
theorem d_NB_begin_87 : decode b_NB_begin 87 = .ok (.aload_n 2, 1) := by decide +kernel
theorem d_NB_begin_88 : decode b_NB_begin 88 = .ok (.areturn, 1) := by decide +kernel
theorem d_NB_undo_0 : decode b_NB_undo 0 = .ok (.aload_n 0, 1) := by decide +kernel
theorem d_NB_undo_1 : decode b_NB_undo 1 = .ok (.getfield 11, 3) := by decide +kernel
theorem d_NB_undo_4 : decode b_NB_undo 4 = .ok (.aload_n 0, 1) := by decide +kernel
theorem d_NB_undo_5 : decode b_NB_undo 5 = .ok (.getfield 18, 3) := by decide +kernel
theorem d_NB_undo_8 : decode b_NB_undo 8 = .ok (.aaload, 1) := by decide +kernel
theorem d_NB_undo_9 : decode b_NB_undo 9 = .ok (.astore_n 2, 1) := by decide +kernel
theorem d_NB_undo_10 : decode b_NB_undo 10 = .ok (.aload_n 0, 1) := by decide +kernel
theorem d_NB_undo_11 : decode b_NB_undo 11 = .ok (.aload_n 0, 1) := by decide +kernel
theorem d_NB_undo_12 : decode b_NB_undo 12 = .ok (.getfield 18, 3) := by decide +kernel
theorem d_NB_undo_15 : decode b_NB_undo 15 = .ok (.bipush 32, 2) := by decide +kernel
theorem d_NB_undo_17 : decode b_NB_undo 17 = .ok (.iadd, 1) := by decide +kernel
theorem d_NB_undo_18 : decode b_NB_undo 18 = .ok (.iconst 1, 1) := by decide +kernel
theorem d_NB_undo_19 : decode b_NB_undo 19 = .ok (.isub, 1) := by decide +kernel
theorem d_NB_undo_20 : decode b_NB_undo 20 = .ok (.bipush 32, 2) := by decide +kernel
theorem d_NB_undo_22 : decode b_NB_undo 22 = .ok (.irem, 1) := by decide +kernel
theorem d_NB_undo_23 : decode b_NB_undo 23 = .ok (.putfield 18, 3) := by decide +kernel
theorem d_NB_undo_26 : decode b_NB_undo 26 = .ok (.aload_n 0, 1) := by decide +kernel
theorem d_NB_undo_27 : decode b_NB_undo 27 = .ok (.dup, 1) := by decide +kernel
theorem d_NB_undo_28 : decode b_NB_undo 28 = .ok (.getfield 22, 3) := by decide +kernel
theorem d_NB_undo_31 : decode b_NB_undo 31 = .ok (.iconst 1, 1) := by decide +kernel
theorem d_NB_undo_32 : decode b_NB_undo 32 = .ok (.isub, 1) := by decide +kernel
theorem d_NB_undo_33 : decode b_NB_undo 33 = .ok (.putfield 22, 3) := by decide +kernel
theorem d_NB_undo_36 : decode b_NB_undo 36 = .ok (.aload_n 2, 1) := by decide +kernel
theorem d_NB_undo_37 : decode b_NB_undo 37 = .ok (.getfield 47, 3) := by decide +kernel
theorem d_NB_undo_40 : decode b_NB_undo 40 = .ok (.iconst 1, 1) := by decide +kernel
theorem d_NB_undo_41 : decode b_NB_undo 41 = .ok (.isub, 1) := by decide +kernel
theorem d_NB_undo_42 : decode b_NB_undo 42 = .ok (.istore_n 3, 1) := by decide +kernel
theorem d_NB_undo_43 : decode b_NB_undo 43 = .ok (.iload_n 3, 1) := by decide +kernel
theorem d_NB_undo_44 : decode b_NB_undo 44 = .ok (.ifCond .lt 60, 3) := by decide +kernel
theorem d_NB_undo_47 : decode b_NB_undo 47 = .ok (.aload_n 2, 1) := by decide +kernel
theorem d_NB_undo_48 : decode b_NB_undo 48 = .ok (.getfield 50, 3) := by decide +kernel
theorem d_NB_undo_51 : decode b_NB_undo 51 = .ok (.iload_n 3, 1) := by decide +kernel
theorem d_NB_undo_52 : decode b_NB_undo 52 = .ok (.iaload, 1) := by decide +kernel
theorem d_NB_undo_53 : decode b_NB_undo 53 = .ok (.bipush 100, 2) := by decide +kernel
theorem d_NB_undo_55 : decode b_NB_undo 55 = .ok (.if_icmp .ge 23, 3) := by decide +kernel
theorem d_NB_undo_58 : decode b_NB_undo 58 = .ok (.aload_n 1, 1) := by decide +kernel
theorem d_NB_undo_59 : decode b_NB_undo 59 = .ok (.getfield 54, 3) := by decide +kernel
theorem d_NB_undo_62 : decode b_NB_undo 62 = .ok (.aload_n 2, 1) := by decide +kernel
theorem d_NB_undo_63 : decode b_NB_undo 63 = .ok (.getfield 50, 3) := by decide +kernel
theorem d_NB_undo_66 : decode b_NB_undo 66 = .ok (.iload_n 3, 1) := by decide +kernel
theorem d_NB_undo_67 : decode b_NB_undo 67 = .ok (.iaload, 1) := by decide +kernel
theorem d_NB_undo_68 : decode b_NB_undo 68 = .ok (.aload_n 2, 1) := by decide +kernel
theorem d_NB_undo_69 : decode b_NB_undo 69 = .ok (.getfield 57, 3) := by decide +kernel
theorem d_NB_undo_72 : decode b_NB_undo 72 = .ok (.iload_n 3, 1) := by decide +kernel
theorem d_NB_undo_73 : decode b_NB_undo 73 = .ok (.iaload, 1) := by decide +kernel
theorem d_NB_undo_74 : decode b_NB_undo 74 = .ok (.iastore, 1) := by decide +kernel
theorem d_NB_undo_75 : decode b_NB_undo 75 = .ok (.goto 23, 3) := by decide +kernel
theorem d_NB_undo_78 : decode b_NB_undo 78 = .ok (.aload_n 1, 1) := by decide +kernel
theorem d_NB_undo_79 : decode b_NB_undo 79 = .ok (.getfield 60, 3) := by decide +kernel
theorem d_NB_undo_82 : decode b_NB_undo 82 = .ok (.aload_n 2, 1) := by decide +kernel
theorem d_NB_undo_83 : decode b_NB_undo 83 = .ok (.getfield 50, 3) := by decide +kernel
theorem d_NB_undo_86 : decode b_NB_undo 86 = .ok (.iload_n 3, 1) := by decide +kernel
theorem d_NB_undo_87 : decode b_NB_undo 87 = .ok (.iaload, 1) := by decide +kernel
theorem d_NB_undo_88 : decode b_NB_undo 88 = .ok (.bipush 100, 2) := by decide +kernel
theorem d_NB_undo_90 : decode b_NB_undo 90 = .ok (.isub, 1) := by decide +kernel
theorem d_NB_undo_91 : decode b_NB_undo 91 = .ok (.aload_n 2, 1) := by decide +kernel
theorem d_NB_undo_92 : decode b_NB_undo 92 = .ok (.getfield 57, 3) := by decide +kernel
theorem d_NB_undo_95 : decode b_NB_undo 95 = .ok (.iload_n 3, 1) := by decide +kernel
theorem d_NB_undo_96 : decode b_NB_undo 96 = .ok (.iaload, 1) := by decide +kernel
theorem d_NB_undo_97 : decode b_NB_undo 97 = .ok (.iastore, 1) := by decide +kernel
theorem d_NB_undo_98 : decode b_NB_undo 98 = .ok (.iinc 3 (-1), 3) := by decide +kernel
theorem d_NB_undo_101 : decode b_NB_undo 101 = .ok (.goto (-58), 3) := by decide +kernel
theorem d_NB_undo_104 : decode b_NB_undo 104 = .ok (.aload_n 1, 1) := by decide +kernel
theorem d_NB_undo_105 : decode b_NB_undo 105 = .ok (.aload_n 2, 1) := by decide +kernel
theorem d_NB_undo_106 : decode b_NB_undo 106 = .ok (.getfield 30, 3) := by decide +kernel
theorem d_NB_undo_109 : decode b_NB_undo 109 = .ok (.putfield 25, 3) := by decide +kernel
theorem d_NB_undo_112 : decode b_NB_undo 112 = .ok (.aload_n 1, 1) := by decide +kernel
theorem d_NB_undo_113 : decode b_NB_undo 113 = .ok (.aload_n 2, 1) := by decide +kernel
theorem d_NB_undo_114 : decode b_NB_undo 114 = .ok (.getfield 34, 3) := by decide +kernel
theorem d_NB_undo_117 : decode b_NB_undo 117 = .ok (.putfield 31, 3) := by decide +kernel
theorem d_NB_undo_120 : decode b_NB_undo 120 = .ok (.aload_n 1, 1) := by decide +kernel
theorem d_NB_undo_121 : decode b_NB_undo 121 = .ok (.aload_n 2, 1) := by decide +kernel
theorem d_NB_undo_122 : decode b_NB_undo 122 = .ok (.getfield 38, 3) := by decide +kernel
theorem d_NB_undo_125 : decode b_NB_undo 125 = .ok (.putfield 35, 3) := by decide +kernel
theorem d_NB_undo_128 : decode b_NB_undo 128 = .ok (.aload_n 1, 1) := by decide +kernel
theorem d_NB_undo_129 : decode b_NB_undo 129 = .ok (.aload_n 2, 1) := by decide +kernel
theorem d_NB_undo_130 : decode b_NB_undo 130 = .ok (.getfield 42, 3) := by decide +kernel
theorem d_NB_undo_133 : decode b_NB_undo 133 = .ok (.putfield 39, 3) := by decide +kernel
theorem d_NB_undo_136 : decode b_NB_undo 136 = .ok (.aload_n 1, 1) := by decide +kernel
theorem d_NB_undo_137 : decode b_NB_undo 137 = .ok (.aload_n 2, 1) := by decide +kernel
theorem d_NB_undo_138 : decode b_NB_undo 138 = .ok (.getfield 46, 3) := by decide +kernel
theorem d_NB_undo_141 : decode b_NB_undo 141 = .ok (.putfield 43, 3) := by decide +kernel
theorem d_NB_undo_144 : decode b_NB_undo 144 = .ok (.aload_n 1, 1) := by decide +kernel
theorem d_NB_undo_145 : decode b_NB_undo 145 = .ok (.dup, 1) := by decide +kernel
theorem d_NB_undo_146 : decode b_NB_undo 146 = .ok (.getfield 63, 3) := by decide +kernel
theorem d_NB_undo_149 : decode b_NB_undo 149 = .ok (.iconst 1, 1) := by decide +kernel
theorem d_NB_undo_150 : decode b_NB_undo 150 = .ok (.isub, 1) := by decide +kernel
theorem d_NB_undo_151 : decode b_NB_undo 151 = .ok (.putfield 63, 3) := by decide +kernel
theorem d_NB_undo_154 : decode b_NB_undo 154 = .ok (.return_, 1) := by decide +kernel
theorem d_NB_clear_0 : decode b_NB_clear 0 = .ok (.aload_n 0, 1) := by decide +kernel
theorem d_NB_clear_1 : decode b_NB_clear 1 = .ok (.iconst 0, 1) := by decide +kernel
theorem d_NB_clear_2 : decode b_NB_clear 2 = .ok (.putfield 22, 3) := by decide +kernel
theorem d_NB_clear_5 : decode b_NB_clear 5 = .ok (.return_, 1) := by decide +kernel
theorem d_ST_init_0 : decode b_ST_init 0 = .ok (.aload_n 0, 1) := by decide +kernel
theorem d_ST_init_1 : decode b_ST_init 1 = .ok (.invokespecial 3, 3) := by decide +kernel
theorem d_ST_init_4 : decode b_ST_init 4 = .ok (.aload_n 0, 1) := by decide +kernel
theorem d_ST_init_5 : decode b_ST_init 5 = .ok (.bipush 32, 2) := by decide +kernel
theorem d_ST_init_7 : decode b_ST_init 7 = .ok (.newarray .int, 2) := by decide +kernel
theorem d_ST_init_9 : decode b_ST_init 9 = .ok (.putfield 9, 3) := by decide +kernel
theorem d_ST_init_12 : decode b_ST_init 12 = .ok (.aload_n 0, 1) := by decide +kernel
theorem d_ST_init_13 : decode b_ST_init 13 = .ok (.bipush 24, 2) := by decide +kernel
theorem d_ST_init_15 : decode b_ST_init 15 = .ok (.newarray .int, 2) := by decide +kernel
theorem d_ST_init_17 : decode b_ST_init 17 = .ok (.putfield 15, 3) := by decide +kernel
theorem d_ST_init_20 : decode b_ST_init 20 = .ok (.return_, 1) := by decide +kernel
theorem d_ST_become_0 : decode b_ST_become 0 = .ok (.aload_n 1, 1) := by decide +kernel
theorem d_ST_become_1 : decode b_ST_become 1 = .ok (.getfield 9, 3) := by decide +kernel
theorem d_ST_become_4 : decode b_ST_become 4 = .ok (.iconst 0, 1) := by decide +kernel
theorem d_ST_become_5 : decode b_ST_become 5 = .ok (.aload_n 0, 1) := by decide +kernel
theorem d_ST_become_6 : decode b_ST_become 6 = .ok (.getfield 9, 3) := by decide +kernel
theorem d_ST_become_9 : decode b_ST_become 9 = .ok (.iconst 0, 1) := by decide +kernel
theorem d_ST_become_10 : decode b_ST_become 10 = .ok (.bipush 32, 2) := by decide +kernel
theorem d_ST_become_12 : decode b_ST_become 12 = .ok (.invokestatic 18, 3) := by decide +kernel
theorem d_ST_become_15 : decode b_ST_become 15 = .ok (.aload_n 1, 1) := by decide +kernel
theorem d_ST_become_16 : decode b_ST_become 16 = .ok (.getfield 15, 3) := by decide +kernel
theorem d_ST_become_19 : decode b_ST_become 19 = .ok (.iconst 0, 1) := by decide +kernel
theorem d_ST_become_20 : decode b_ST_become 20 = .ok (.aload_n 0, 1) := by decide +kernel
theorem d_ST_become_21 : decode b_ST_become 21 = .ok (.getfield 15, 3) := by decide +kernel
theorem d_ST_become_24 : decode b_ST_become 24 = .ok (.iconst 0, 1) := by decide +kernel
theorem d_ST_become_25 : decode b_ST_become 25 = .ok (.bipush 24, 2) := by decide +kernel
theorem d_ST_become_27 : decode b_ST_become 27 = .ok (.invokestatic 18, 3) := by decide +kernel
theorem d_ST_become_30 : decode b_ST_become 30 = .ok (.aload_n 0, 1) := by decide +kernel
theorem d_ST_become_31 : decode b_ST_become 31 = .ok (.aload_n 1, 1) := by decide +kernel
theorem d_ST_become_32 : decode b_ST_become 32 = .ok (.getfield 24, 3) := by decide +kernel
theorem d_ST_become_35 : decode b_ST_become 35 = .ok (.putfield 24, 3) := by decide +kernel
theorem d_ST_become_38 : decode b_ST_become 38 = .ok (.aload_n 0, 1) := by decide +kernel
theorem d_ST_become_39 : decode b_ST_become 39 = .ok (.aload_n 1, 1) := by decide +kernel
theorem d_ST_become_40 : decode b_ST_become 40 = .ok (.getfield 28, 3) := by decide +kernel
theorem d_ST_become_43 : decode b_ST_become 43 = .ok (.putfield 28, 3) := by decide +kernel
theorem d_ST_become_46 : decode b_ST_become 46 = .ok (.aload_n 0, 1) := by decide +kernel
theorem d_ST_become_47 : decode b_ST_become 47 = .ok (.aload_n 1, 1) := by decide +kernel
theorem d_ST_become_48 : decode b_ST_become 48 = .ok (.getfield 31, 3) := by decide +kernel
theorem d_ST_become_51 : decode b_ST_become 51 = .ok (.putfield 31, 3) := by decide +kernel
theorem d_ST_become_54 : decode b_ST_become 54 = .ok (.aload_n 0, 1) := by decide +kernel
theorem d_ST_become_55 : decode b_ST_become 55 = .ok (.aload_n 1, 1) := by decide +kernel
theorem d_ST_become_56 : decode b_ST_become 56 = .ok (.getfield 34, 3) := by decide +kernel
theorem d_ST_become_59 : decode b_ST_become 59 = .ok (.putfield 34, 3) := by decide +kernel
theorem d_ST_become_62 : decode b_ST_become 62 = .ok (.aload_n 0, 1) := by decide +kernel
theorem d_ST_become_63 : decode b_ST_become 63 = .ok (.aload_n 1, 1) := by decide +kernel
theorem d_ST_become_64 : decode b_ST_become 64 = .ok (.getfield 37, 3) := by decide +kernel
theorem d_ST_become_67 : decode b_ST_become 67 = .ok (.putfield 37, 3) := by decide +kernel
theorem d_ST_become_70 : decode b_ST_become 70 = .ok (.aload_n 0, 1) := by decide +kernel
theorem d_ST_become_71 : decode b_ST_become 71 = .ok (.aload_n 1, 1) := by decide +kernel
theorem d_ST_become_72 : decode b_ST_become 72 = .ok (.getfield 40, 3) := by decide +kernel
theorem d_ST_become_75 : decode b_ST_become 75 = .ok (.putfield 40, 3) := by decide +kernel
theorem d_ST_become_78 : decode b_ST_become 78 = .ok (.return_, 1) := by decide +kernel
theorem d_ST_top_0 : decode b_ST_top 0 = .ok (.aload_n 0, 1) := by decide +kernel
theorem d_ST_top_1 : decode b_ST_top 1 = .ok (.getfield 15, 3) := by decide +kernel
theorem d_ST_top_4 : decode b_ST_top 4 = .ok (.aload_n 0, 1) := by decide +kernel
theorem d_ST_top_5 : decode b_ST_top 5 = .ok (.getfield 24, 3) := by decide +kernel
theorem d_ST_top_8 : decode b_ST_top 8 = .ok (.iconst 1, 1) := by decide +kernel
theorem d_ST_top_9 : decode b_ST_top 9 = .ok (.isub, 1) := by decide +kernel
theorem d_ST_top_10 : decode b_ST_top 10 = .ok (.iaload, 1) := by decide +kernel
theorem d_ST_top_11 : decode b_ST_top 11 = .ok (.ireturn, 1) := by decide +kernel
theorem d_ST_below_0 : decode b_ST_below 0 = .ok (.aload_n 0, 1) := by decide +kernel
theorem d_ST_below_1 : decode b_ST_below 1 = .ok (.getfield 15, 3) := by decide +kernel
theorem d_ST_below_4 : decode b_ST_below 4 = .ok (.aload_n 0, 1) := by decide +kernel
theorem d_ST_below_5 : decode b_ST_below 5 = .ok (.getfield 24, 3) := by decide +kernel
theorem d_ST_below_8 : decode b_ST_below 8 = .ok (.iconst 2, 1) := by decide +kernel
theorem d_ST_below_9 : decode b_ST_below 9 = .ok (.isub, 1) := by decide +kernel
theorem d_ST_below_10 : decode b_ST_below 10 = .ok (.iaload, 1) := by decide +kernel
theorem d_ST_below_11 : decode b_ST_below 11 = .ok (.ireturn, 1) := by decide +kernel
theorem d_ST_write_0 : decode b_ST_write 0 = .ok (.aload_n 1, 1) := by decide +kernel
theorem d_ST_write_1 : decode b_ST_write 1 = .ok (.iload_n 2, 1) := by decide +kernel
theorem d_ST_write_2 : decode b_ST_write 2 = .ok (.aload_n 0, 1) := by decide +kernel
theorem d_ST_write_3 : decode b_ST_write 3 = .ok (.getfield 15, 3) := by decide +kernel
theorem d_ST_write_6 : decode b_ST_write 6 = .ok (.iload_n 2, 1) := by decide +kernel
theorem d_ST_write_7 : decode b_ST_write 7 = .ok (.iaload, 1) := by decide +kernel
theorem d_ST_write_8 : decode b_ST_write 8 = .ok (.invokevirtual 43, 3) := by decide +kernel
theorem d_ST_write_11 : decode b_ST_write 11 = .ok (.aload_n 0, 1) := by decide +kernel
theorem d_ST_write_12 : decode b_ST_write 12 = .ok (.getfield 15, 3) := by decide +kernel
theorem d_ST_write_15 : decode b_ST_write 15 = .ok (.iload_n 2, 1) := by decide +kernel
theorem d_ST_write_16 : decode b_ST_write 16 = .ok (.iload_n 3, 1) := by decide +kernel
theorem d_ST_write_17 : decode b_ST_write 17 = .ok (.iastore, 1) := by decide +kernel
theorem d_ST_write_18 : decode b_ST_write 18 = .ok (.return_, 1) := by decide +kernel
theorem d_ST_push_0 : decode b_ST_push 0 = .ok (.aload_n 0, 1) := by decide +kernel
theorem d_ST_push_1 : decode b_ST_push 1 = .ok (.aload_n 1, 1) := by decide +kernel
theorem d_ST_push_2 : decode b_ST_push 2 = .ok (.aload_n 0, 1) := by decide +kernel
theorem d_ST_push_3 : decode b_ST_push 3 = .ok (.getfield 24, 3) := by decide +kernel
theorem d_ST_push_6 : decode b_ST_push 6 = .ok (.iload_n 2, 1) := by decide +kernel
theorem d_ST_push_7 : decode b_ST_push 7 = .ok (.invokevirtual 49, 3) := by decide +kernel
theorem d_ST_push_10 : decode b_ST_push 10 = .ok (.aload_n 0, 1) := by decide +kernel
theorem d_ST_push_11 : decode b_ST_push 11 = .ok (.dup, 1) := by decide +kernel
theorem d_ST_push_12 : decode b_ST_push 12 = .ok (.getfield 24, 3) := by decide +kernel
theorem d_ST_push_15 : decode b_ST_push 15 = .ok (.iconst 1, 1) := by decide +kernel
theorem d_ST_push_16 : decode b_ST_push 16 = .ok (.iadd, 1) := by decide +kernel
theorem d_ST_push_17 : decode b_ST_push 17 = .ok (.putfield 24, 3) := by decide +kernel
theorem d_ST_push_20 : decode b_ST_push 20 = .ok (.return_, 1) := by decide +kernel
theorem d_ST_join_0 : decode b_ST_join 0 = .ok (.aload_n 0, 1) := by decide +kernel
theorem d_ST_join_1 : decode b_ST_join 1 = .ok (.dup, 1) := by decide +kernel
theorem d_ST_join_2 : decode b_ST_join 2 = .ok (.getfield 24, 3) := by decide +kernel
theorem d_ST_join_5 : decode b_ST_join 5 = .ok (.iconst 1, 1) := by decide +kernel
theorem d_ST_join_6 : decode b_ST_join 6 = .ok (.isub, 1) := by decide +kernel
theorem d_ST_join_7 : decode b_ST_join 7 = .ok (.putfield 24, 3) := by decide +kernel
theorem d_ST_join_10 : decode b_ST_join 10 = .ok (.aload_n 0, 1) := by decide +kernel
theorem d_ST_join_11 : decode b_ST_join 11 = .ok (.aload_n 1, 1) := by decide +kernel
theorem d_ST_join_12 : decode b_ST_join 12 = .ok (.aload_n 0, 1) := by decide +kernel
theorem d_ST_join_13 : decode b_ST_join 13 = .ok (.getfield 24, 3) := by decide +kernel
theorem d_ST_join_16 : decode b_ST_join 16 = .ok (.iconst 1, 1) := by decide +kernel
theorem d_ST_join_17 : decode b_ST_join 17 = .ok (.isub, 1) := by decide +kernel
theorem d_ST_join_18 : decode b_ST_join 18 = .ok (.iload_n 2, 1) := by decide +kernel
theorem d_ST_join_19 : decode b_ST_join 19 = .ok (.invokevirtual 49, 3) := by decide +kernel
theorem d_ST_join_22 : decode b_ST_join 22 = .ok (.return_, 1) := by decide +kernel
theorem d_ST_store_0 : decode b_ST_store 0 = .ok (.aload_n 0, 1) := by decide +kernel
theorem d_ST_store_1 : decode b_ST_store 1 = .ok (.invokevirtual 53, 3) := by decide +kernel
theorem d_ST_store_4 : decode b_ST_store 4 = .ok (.istore_n 2, 1) := by decide +kernel
theorem d_ST_store_5 : decode b_ST_store 5 = .ok (.aload_n 1, 1) := by decide +kernel
theorem d_ST_store_6 : decode b_ST_store 6 = .ok (.bipush 100, 2) := by decide +kernel
theorem d_ST_store_8 : decode b_ST_store 8 = .ok (.iload_n 2, 1) := by decide +kernel
theorem d_ST_store_9 : decode b_ST_store 9 = .ok (.iadd, 1) := by decide +kernel
theorem d_ST_store_10 : decode b_ST_store 10 = .ok (.aload_n 0, 1) := by decide +kernel
theorem d_ST_store_11 : decode b_ST_store 11 = .ok (.getfield 9, 3) := by decide +kernel
theorem d_ST_store_14 : decode b_ST_store 14 = .ok (.iload_n 2, 1) := by decide +kernel
theorem d_ST_store_15 : decode b_ST_store 15 = .ok (.iaload, 1) := by decide +kernel
theorem d_ST_store_16 : decode b_ST_store 16 = .ok (.invokevirtual 43, 3) := by decide +kernel
theorem d_ST_store_19 : decode b_ST_store 19 = .ok (.aload_n 0, 1) := by decide +kernel
theorem d_ST_store_20 : decode b_ST_store 20 = .ok (.getfield 9, 3) := by decide +kernel
theorem d_ST_store_23 : decode b_ST_store 23 = .ok (.iload_n 2, 1) := by decide +kernel
theorem d_ST_store_24 : decode b_ST_store 24 = .ok (.aload_n 0, 1) := by decide +kernel
theorem d_ST_store_25 : decode b_ST_store 25 = .ok (.invokevirtual 57, 3) := by decide +kernel
theorem d_ST_store_28 : decode b_ST_store 28 = .ok (.iastore, 1) := by decide +kernel
theorem d_ST_store_29 : decode b_ST_store 29 = .ok (.aload_n 0, 1) := by decide +kernel
theorem d_ST_store_30 : decode b_ST_store 30 = .ok (.dup, 1) := by decide +kernel
theorem d_ST_store_31 : decode b_ST_store 31 = .ok (.getfield 24, 3) := by decide +kernel
theorem d_ST_store_34 : decode b_ST_store 34 = .ok (.iconst 2, 1) := by decide +kernel
theorem d_ST_store_35 : decode b_ST_store 35 = .ok (.isub, 1) := by decide +kernel
theorem d_ST_store_36 : decode b_ST_store 36 = .ok (.putfield 24, 3) := by decide +kernel
theorem d_ST_store_39 : decode b_ST_store 39 = .ok (.return_, 1) := by decide +kernel
theorem d_ST_swap_0 : decode b_ST_swap 0 = .ok (.aload_n 0, 1) := by decide +kernel
theorem d_ST_swap_1 : decode b_ST_swap 1 = .ok (.invokevirtual 53, 3) := by decide +kernel
theorem d_ST_swap_4 : decode b_ST_swap 4 = .ok (.istore_n 2, 1) := by decide +kernel
theorem d_ST_swap_5 : decode b_ST_swap 5 = .ok (.aload_n 0, 1) := by decide +kernel
theorem d_ST_swap_6 : decode b_ST_swap 6 = .ok (.invokevirtual 57, 3) := by decide +kernel
theorem d_ST_swap_9 : decode b_ST_swap 9 = .ok (.istore_n 3, 1) := by decide +kernel
theorem d_ST_swap_10 : decode b_ST_swap 10 = .ok (.aload_n 0, 1) := by decide +kernel
theorem d_ST_swap_11 : decode b_ST_swap 11 = .ok (.aload_n 1, 1) := by decide +kernel
theorem d_ST_swap_12 : decode b_ST_swap 12 = .ok (.aload_n 0, 1) := by decide +kernel
theorem d_ST_swap_13 : decode b_ST_swap 13 = .ok (.getfield 24, 3) := by decide +kernel
theorem d_ST_swap_16 : decode b_ST_swap 16 = .ok (.iconst 1, 1) := by decide +kernel
theorem d_ST_swap_17 : decode b_ST_swap 17 = .ok (.isub, 1) := by decide +kernel
theorem d_ST_swap_18 : decode b_ST_swap 18 = .ok (.iload_n 3, 1) := by decide +kernel
theorem d_ST_swap_19 : decode b_ST_swap 19 = .ok (.invokevirtual 49, 3) := by decide +kernel
theorem d_ST_swap_22 : decode b_ST_swap 22 = .ok (.aload_n 0, 1) := by decide +kernel
theorem d_ST_swap_23 : decode b_ST_swap 23 = .ok (.aload_n 1, 1) := by decide +kernel
theorem d_ST_swap_24 : decode b_ST_swap 24 = .ok (.aload_n 0, 1) := by decide +kernel
theorem d_ST_swap_25 : decode b_ST_swap 25 = .ok (.getfield 24, 3) := by decide +kernel
theorem d_ST_swap_28 : decode b_ST_swap 28 = .ok (.iconst 2, 1) := by decide +kernel
theorem d_ST_swap_29 : decode b_ST_swap 29 = .ok (.isub, 1) := by decide +kernel
theorem d_ST_swap_30 : decode b_ST_swap 30 = .ok (.iload_n 2, 1) := by decide +kernel
theorem d_ST_swap_31 : decode b_ST_swap 31 = .ok (.invokevirtual 49, 3) := by decide +kernel
theorem d_ST_swap_34 : decode b_ST_swap 34 = .ok (.return_, 1) := by decide +kernel
theorem d_ST_call_0 : decode b_ST_call 0 = .ok (.aload_n 0, 1) := by decide +kernel
theorem d_ST_call_1 : decode b_ST_call 1 = .ok (.aload_n 1, 1) := by decide +kernel
theorem d_ST_call_2 : decode b_ST_call 2 = .ok (.aload_n 0, 1) := by decide +kernel
theorem d_ST_call_3 : decode b_ST_call 3 = .ok (.getfield 28, 3) := by decide +kernel
theorem d_ST_call_6 : decode b_ST_call 6 = .ok (.invokevirtual 60, 3) := by decide +kernel
theorem d_ST_call_9 : decode b_ST_call 9 = .ok (.aload_n 0, 1) := by decide +kernel
theorem d_ST_call_10 : decode b_ST_call 10 = .ok (.aload_n 1, 1) := by decide +kernel
theorem d_ST_call_11 : decode b_ST_call 11 = .ok (.aload_n 0, 1) := by decide +kernel
theorem d_ST_call_12 : decode b_ST_call 12 = .ok (.getfield 31, 3) := by decide +kernel
theorem d_ST_call_15 : decode b_ST_call 15 = .ok (.invokevirtual 60, 3) := by decide +kernel
theorem d_ST_call_18 : decode b_ST_call 18 = .ok (.aload_n 0, 1) := by decide +kernel
theorem d_ST_call_19 : decode b_ST_call 19 = .ok (.aload_n 0, 1) := by decide +kernel
theorem d_ST_call_20 : decode b_ST_call 20 = .ok (.getfield 24, 3) := by decide +kernel
theorem d_ST_call_23 : decode b_ST_call 23 = .ok (.putfield 31, 3) := by decide +kernel
theorem d_ST_call_26 : decode b_ST_call 26 = .ok (.aload_n 0, 1) := by decide +kernel
theorem d_ST_call_27 : decode b_ST_call 27 = .ok (.iload_n 2, 1) := by decide +kernel
theorem d_ST_call_28 : decode b_ST_call 28 = .ok (.putfield 28, 3) := by decide +kernel
theorem d_ST_call_31 : decode b_ST_call 31 = .ok (.return_, 1) := by decide +kernel
theorem d_ST_giveBack_0 : decode b_ST_giveBack 0 = .ok (.aload_n 0, 1) := by decide +kernel
theorem d_ST_giveBack_1 : decode b_ST_giveBack 1 = .ok (.invokevirtual 53, 3) := by decide +kernel
theorem d_ST_giveBack_4 : decode b_ST_giveBack 4 = .ok (.istore_n 2, 1) := by decide +kernel
theorem d_ST_giveBack_5 : decode b_ST_giveBack 5 = .ok (.aload_n 0, 1) := by decide +kernel
theorem d_ST_giveBack_6 : decode b_ST_giveBack 6 = .ok (.aload_n 0, 1) := by decide +kernel
theorem d_ST_giveBack_7 : decode b_ST_giveBack 7 = .ok (.getfield 31, 3) := by decide +kernel
theorem d_ST_giveBack_10 : decode b_ST_giveBack 10 = .ok (.putfield 24, 3) := by decide +kernel
theorem d_ST_giveBack_13 : decode b_ST_giveBack 13 = .ok (.aload_n 0, 1) := by decide +kernel
theorem d_ST_giveBack_14 : decode b_ST_giveBack 14 = .ok (.aload_n 0, 1) := by decide +kernel
theorem d_ST_giveBack_15 : decode b_ST_giveBack 15 = .ok (.invokevirtual 53, 3) := by decide +kernel
theorem d_ST_giveBack_18 : decode b_ST_giveBack 18 = .ok (.putfield 31, 3) := by decide +kernel
theorem d_ST_giveBack_21 : decode b_ST_giveBack 21 = .ok (.aload_n 0, 1) := by decide +kernel
theorem d_ST_giveBack_22 : decode b_ST_giveBack 22 = .ok (.aload_n 0, 1) := by decide +kernel
theorem d_ST_giveBack_23 : decode b_ST_giveBack 23 = .ok (.invokevirtual 57, 3) := by decide +kernel
theorem d_ST_giveBack_26 : decode b_ST_giveBack 26 = .ok (.putfield 28, 3) := by decide +kernel
theorem d_ST_giveBack_29 : decode b_ST_giveBack 29 = .ok (.aload_n 0, 1) := by decide +kernel
theorem d_ST_giveBack_30 : decode b_ST_giveBack 30 = .ok (.dup, 1) := by decide +kernel
theorem d_ST_giveBack_31 : decode b_ST_giveBack 31 = .ok (.getfield 24, 3) := by decide +kernel
theorem d_ST_giveBack_34 : decode b_ST_giveBack 34 = .ok (.iconst 2, 1) := by decide +kernel
theorem d_ST_giveBack_35 : decode b_ST_giveBack 35 = .ok (.isub, 1) := by decide +kernel
theorem d_ST_giveBack_36 : decode b_ST_giveBack 36 = .ok (.putfield 24, 3) := by decide +kernel
theorem d_ST_giveBack_39 : decode b_ST_giveBack 39 = .ok (.aload_n 0, 1) := by decide +kernel
theorem d_ST_giveBack_40 : decode b_ST_giveBack 40 = .ok (.aload_n 1, 1) := by decide +kernel
theorem d_ST_giveBack_41 : decode b_ST_giveBack 41 = .ok (.iload_n 2, 1) := by decide +kernel
theorem d_ST_giveBack_42 : decode b_ST_giveBack 42 = .ok (.invokevirtual 60, 3) := by decide +kernel
theorem d_ST_giveBack_45 : decode b_ST_giveBack 45 = .ok (.return_, 1) := by decide +kernel
theorem d_ST_draw_0 : decode b_ST_draw 0 = .ok (.aload_n 0, 1) := by decide +kernel
theorem d_ST_draw_1 : decode b_ST_draw 1 = .ok (.ldc 64, 2) := by decide +kernel
theorem d_ST_draw_3 : decode b_ST_draw 3 = .ok (.aload_n 0, 1) := by decide +kernel
theorem d_ST_draw_4 : decode b_ST_draw 4 = .ok (.getfield 34, 3) := by decide +kernel
theorem d_ST_draw_7 : decode b_ST_draw 7 = .ok (.imul, 1) := by decide +kernel
theorem d_ST_draw_8 : decode b_ST_draw 8 = .ok (.sipush 12345, 3) := by decide +kernel
theorem d_ST_draw_11 : decode b_ST_draw 11 = .ok (.iadd, 1) := by decide +kernel
theorem d_ST_draw_12 : decode b_ST_draw 12 = .ok (.putfield 34, 3) := by decide +kernel
theorem d_ST_draw_15 : decode b_ST_draw 15 = .ok (.aload_n 0, 1) := by decide +kernel
theorem d_ST_draw_16 : decode b_ST_draw 16 = .ok (.getfield 34, 3) := by decide +kernel
theorem d_ST_draw_19 : decode b_ST_draw 19 = .ok (.bipush 16, 2) := by decide +kernel
theorem d_ST_draw_21 : decode b_ST_draw 21 = .ok (.iushr, 1) := by decide +kernel
theorem d_ST_draw_22 : decode b_ST_draw 22 = .ok (.iload_n 1, 1) := by decide +kernel
theorem d_ST_draw_23 : decode b_ST_draw 23 = .ok (.irem, 1) := by decide +kernel
theorem d_ST_draw_24 : decode b_ST_draw 24 = .ok (.ireturn, 1) := by decide +kernel
theorem d_LW_cell_0 : decode b_LW_cell 0 = .ok (.iload_n 1, 1) := by decide +kernel
theorem d_LW_cell_1 : decode b_LW_cell 1 = .ok (.aload_n 0, 1) := by decide +kernel
theorem d_LW_cell_2 : decode b_LW_cell 2 = .ok (.arraylength, 1) := by decide +kernel
theorem d_LW_cell_3 : decode b_LW_cell 3 = .ok (.if_icmp .ge 9, 3) := by decide +kernel
theorem d_LW_cell_6 : decode b_LW_cell 6 = .ok (.aload_n 0, 1) := by decide +kernel
theorem d_LW_cell_7 : decode b_LW_cell 7 = .ok (.iload_n 1, 1) := by decide +kernel
theorem d_LW_cell_8 : decode b_LW_cell 8 = .ok (.iaload, 1) := by decide +kernel
theorem d_LW_cell_9 : decode b_LW_cell 9 = .ok (.goto 4, 3) := by decide +kernel
theorem d_LW_cell_12 : decode b_LW_cell 12 = .ok (.iconst 0, 1) := by decide +kernel
theorem d_LW_cell_13 : decode b_LW_cell 13 = .ok (.ireturn, 1) := by decide +kernel
