theorem d_MO_poke_0 : decode b_MO_poke 0 = .ok (.aload_n 0, 1) := by decide +kernel
theorem d_MO_poke_1 : decode b_MO_poke 1 = .ok (.iload_n 1, 1) := by decide +kernel
theorem d_MO_poke_2 : decode b_MO_poke 2 = .ok (.ifCond .lt 9, 3) := by decide +kernel
theorem d_MO_poke_5 : decode b_MO_poke 5 = .ok (.iload_n 1, 1) := by decide +kernel
theorem d_MO_poke_6 : decode b_MO_poke 6 = .ok (.bipush 64, 2) := by decide +kernel
theorem d_MO_poke_8 : decode b_MO_poke 8 = .ok (.if_icmp .lt 7, 3) := by decide +kernel
theorem d_MO_poke_11 : decode b_MO_poke 11 = .ok (.iconst 1, 1) := by decide +kernel
theorem d_MO_poke_12 : decode b_MO_poke 12 = .ok (.goto 15, 3) := by decide +kernel
theorem d_MO_poke_15 : decode b_MO_poke 15 = .ok (.aload_n 0, 1) := by decide +kernel
theorem d_MO_poke_16 : decode b_MO_poke 16 = .ok (.getfield 57, 3) := by decide +kernel
theorem d_MO_poke_19 : decode b_MO_poke 19 = .ok (.ifCond .le 7, 3) := by decide +kernel
theorem d_MO_poke_22 : decode b_MO_poke 22 = .ok (.iconst 2, 1) := by decide +kernel
theorem d_MO_poke_23 : decode b_MO_poke 23 = .ok (.goto 4, 3) := by decide +kernel
theorem d_MO_poke_26 : decode b_MO_poke 26 = .ok (.iconst 0, 1) := by decide +kernel
theorem d_MO_poke_27 : decode b_MO_poke 27 = .ok (.putfield 54, 3) := by decide +kernel
theorem d_MO_poke_30 : decode b_MO_poke 30 = .ok (.aload_n 0, 1) := by decide +kernel
theorem d_MO_poke_31 : decode b_MO_poke 31 = .ok (.getfield 54, 3) := by decide +kernel
theorem d_MO_poke_34 : decode b_MO_poke 34 = .ok (.ifCond .ne 10, 3) := by decide +kernel
theorem d_MO_poke_37 : decode b_MO_poke 37 = .ok (.aload_n 0, 1) := by decide +kernel
theorem d_MO_poke_38 : decode b_MO_poke 38 = .ok (.getfield 7, 3) := by decide +kernel
theorem d_MO_poke_41 : decode b_MO_poke 41 = .ok (.iload_n 1, 1) := by decide +kernel
theorem d_MO_poke_42 : decode b_MO_poke 42 = .ok (.iload_n 2, 1) := by decide +kernel
theorem d_MO_poke_43 : decode b_MO_poke 43 = .ok (.iastore, 1) := by decide +kernel
theorem d_MO_poke_44 : decode b_MO_poke 44 = .ok (.return_, 1) := by decide +kernel
theorem d_MO_input_0 : decode b_MO_input 0 = .ok (.aload_n 0, 1) := by decide +kernel
theorem d_MO_input_1 : decode b_MO_input 1 = .ok (.iconst 0, 1) := by decide +kernel
theorem d_MO_input_2 : decode b_MO_input 2 = .ok (.putfield 54, 3) := by decide +kernel
theorem d_MO_input_5 : decode b_MO_input 5 = .ok (.aload_n 0, 1) := by decide +kernel
theorem d_MO_input_6 : decode b_MO_input 6 = .ok (.getfield 60, 3) := by decide +kernel
theorem d_MO_input_9 : decode b_MO_input 9 = .ok (.bipush 40, 2) := by decide +kernel
theorem d_MO_input_11 : decode b_MO_input 11 = .ok (.if_icmp .ne 5, 3) := by decide +kernel
theorem d_MO_input_14 : decode b_MO_input 14 = .ok (.iconst (-1), 1) := by decide +kernel
theorem d_MO_input_15 : decode b_MO_input 15 = .ok (.ireturn, 1) := by decide +kernel
theorem d_MO_input_16 : decode b_MO_input 16 = .ok (.aload_n 0, 1) := by decide +kernel
theorem d_MO_input_17 : decode b_MO_input 17 = .ok (.getfield 13, 3) := by decide +kernel
theorem d_MO_input_20 : decode b_MO_input 20 = .ok (.aload_n 0, 1) := by decide +kernel
theorem d_MO_input_21 : decode b_MO_input 21 = .ok (.getfield 60, 3) := by decide +kernel
theorem d_MO_input_24 : decode b_MO_input 24 = .ok (.iload_n 1, 1) := by decide +kernel
theorem d_MO_input_25 : decode b_MO_input 25 = .ok (.iastore, 1) := by decide +kernel
theorem d_MO_input_26 : decode b_MO_input 26 = .ok (.aload_n 0, 1) := by decide +kernel
theorem d_MO_input_27 : decode b_MO_input 27 = .ok (.dup, 1) := by decide +kernel
theorem d_MO_input_28 : decode b_MO_input 28 = .ok (.getfield 60, 3) := by decide +kernel
theorem d_MO_input_31 : decode b_MO_input 31 = .ok (.iconst 1, 1) := by decide +kernel
theorem d_MO_input_32 : decode b_MO_input 32 = .ok (.iadd, 1) := by decide +kernel
theorem d_MO_input_33 : decode b_MO_input 33 = .ok (.putfield 60, 3) := by decide +kernel
theorem d_MO_input_36 : decode b_MO_input 36 = .ok (.aload_n 0, 1) := by decide +kernel
theorem d_MO_input_37 : decode b_MO_input 37 = .ok (.getfield 60, 3) := by decide +kernel
theorem d_MO_input_40 : decode b_MO_input 40 = .ok (.ireturn, 1) := by decide +kernel
theorem d_MO_mark_0 : decode b_MO_mark 0 = .ok (.aload_n 0, 1) := by decide +kernel
theorem d_MO_mark_1 : decode b_MO_mark 1 = .ok (.getfield 63, 3) := by decide +kernel
theorem d_MO_mark_4 : decode b_MO_mark 4 = .ok (.sipush 250, 3) := by decide +kernel
theorem d_MO_mark_7 : decode b_MO_mark 7 = .ok (.idiv, 1) := by decide +kernel
theorem d_MO_mark_8 : decode b_MO_mark 8 = .ok (.istore_n 1, 1) := by decide +kernel
theorem d_MO_mark_9 : decode b_MO_mark 9 = .ok (.iconst 0, 1) := by decide +kernel
theorem d_MO_mark_10 : decode b_MO_mark 10 = .ok (.istore_n 2, 1) := by decide +kernel
theorem d_MO_mark_11 : decode b_MO_mark 11 = .ok (.iload_n 2, 1) := by decide +kernel
theorem d_MO_mark_12 : decode b_MO_mark 12 = .ok (.bipush 32, 2) := by decide +kernel
theorem d_MO_mark_14 : decode b_MO_mark 14 = .ok (.if_icmp .ge 26, 3) := by decide +kernel
theorem d_MO_mark_17 : decode b_MO_mark 17 = .ok (.aload_n 0, 1) := by decide +kernel
theorem d_MO_mark_18 : decode b_MO_mark 18 = .ok (.getfield 32, 3) := by decide +kernel
theorem d_MO_mark_21 : decode b_MO_mark 21 = .ok (.bipush 56, 2) := by decide +kernel
theorem d_MO_mark_23 : decode b_MO_mark 23 = .ok (.iload_n 1, 1) := by decide +kernel
theorem d_MO_mark_24 : decode b_MO_mark 24 = .ok (.imul, 1) := by decide +kernel
theorem d_MO_mark_25 : decode b_MO_mark 25 = .ok (.iload_n 2, 1) := by decide +kernel
theorem d_MO_mark_26 : decode b_MO_mark 26 = .ok (.iadd, 1) := by decide +kernel
theorem d_MO_mark_27 : decode b_MO_mark 27 = .ok (.aload_n 0, 1) := by decide +kernel
theorem d_MO_mark_28 : decode b_MO_mark 28 = .ok (.getfield 23, 3) := by decide +kernel
theorem d_MO_mark_31 : decode b_MO_mark 31 = .ok (.iload_n 2, 1) := by decide +kernel
theorem d_MO_mark_32 : decode b_MO_mark 32 = .ok (.iaload, 1) := by decide +kernel
theorem d_MO_mark_33 : decode b_MO_mark 33 = .ok (.iastore, 1) := by decide +kernel
theorem d_MO_mark_34 : decode b_MO_mark 34 = .ok (.iinc 2 1, 3) := by decide +kernel
theorem d_MO_mark_37 : decode b_MO_mark 37 = .ok (.goto (-26), 3) := by decide +kernel
theorem d_MO_mark_40 : decode b_MO_mark 40 = .ok (.iconst 0, 1) := by decide +kernel
theorem d_MO_mark_41 : decode b_MO_mark 41 = .ok (.istore_n 2, 1) := by decide +kernel
theorem d_MO_mark_42 : decode b_MO_mark 42 = .ok (.iload_n 2, 1) := by decide +kernel
theorem d_MO_mark_43 : decode b_MO_mark 43 = .ok (.bipush 24, 2) := by decide +kernel
theorem d_MO_mark_45 : decode b_MO_mark 45 = .ok (.if_icmp .ge 29, 3) := by decide +kernel
theorem d_MO_mark_48 : decode b_MO_mark 48 = .ok (.aload_n 0, 1) := by decide +kernel
theorem d_MO_mark_49 : decode b_MO_mark 49 = .ok (.getfield 32, 3) := by decide +kernel
theorem d_MO_mark_52 : decode b_MO_mark 52 = .ok (.bipush 56, 2) := by decide +kernel
theorem d_MO_mark_54 : decode b_MO_mark 54 = .ok (.iload_n 1, 1) := by decide +kernel
theorem d_MO_mark_55 : decode b_MO_mark 55 = .ok (.imul, 1) := by decide +kernel
theorem d_MO_mark_56 : decode b_MO_mark 56 = .ok (.bipush 32, 2) := by decide +kernel
theorem d_MO_mark_58 : decode b_MO_mark 58 = .ok (.iadd, 1) := by decide +kernel
theorem d_MO_mark_59 : decode b_MO_mark 59 = .ok (.iload_n 2, 1) := by decide +kernel
theorem d_MO_mark_60 : decode b_MO_mark 60 = .ok (.iadd, 1) := by decide +kernel
theorem d_MO_mark_61 : decode b_MO_mark 61 = .ok (.aload_n 0, 1) := by decide +kernel
theorem d_MO_mark_62 : decode b_MO_mark 62 = .ok (.getfield 26, 3) := by decide +kernel
theorem d_MO_mark_65 : decode b_MO_mark 65 = .ok (.iload_n 2, 1) := by decide +kernel
theorem d_MO_mark_66 : decode b_MO_mark 66 = .ok (.iaload, 1) := by decide +kernel
theorem d_MO_mark_67 : decode b_MO_mark 67 = .ok (.iastore, 1) := by decide +kernel
theorem d_MO_mark_68 : decode b_MO_mark 68 = .ok (.iinc 2 1, 3) := by decide +kernel
theorem d_MO_mark_71 : decode b_MO_mark 71 = .ok (.goto (-29), 3) := by decide +kernel
theorem d_MO_mark_74 : decode b_MO_mark 74 = .ok (.aload_n 0, 1) := by decide +kernel
theorem d_MO_mark_75 : decode b_MO_mark 75 = .ok (.getfield 35, 3) := by decide +kernel
theorem d_MO_mark_78 : decode b_MO_mark 78 = .ok (.iconst 5, 1) := by decide +kernel
theorem d_MO_mark_79 : decode b_MO_mark 79 = .ok (.iload_n 1, 1) := by decide +kernel
theorem d_MO_mark_80 : decode b_MO_mark 80 = .ok (.imul, 1) := by decide +kernel
theorem d_MO_mark_81 : decode b_MO_mark 81 = .ok (.aload_n 0, 1) := by decide +kernel
theorem d_MO_mark_82 : decode b_MO_mark 82 = .ok (.getfield 66, 3) := by decide +kernel
theorem d_MO_mark_85 : decode b_MO_mark 85 = .ok (.iastore, 1) := by decide +kernel
theorem d_MO_mark_86 : decode b_MO_mark 86 = .ok (.aload_n 0, 1) := by decide +kernel
theorem d_MO_mark_87 : decode b_MO_mark 87 = .ok (.getfield 35, 3) := by decide +kernel
theorem d_MO_mark_90 : decode b_MO_mark 90 = .ok (.iconst 5, 1) := by decide +kernel
theorem d_MO_mark_91 : decode b_MO_mark 91 = .ok (.iload_n 1, 1) := by decide +kernel
theorem d_MO_mark_92 : decode b_MO_mark 92 = .ok (.imul, 1) := by decide +kernel
theorem d_MO_mark_93 : decode b_MO_mark 93 = .ok (.iconst 1, 1) := by decide +kernel
theorem d_MO_mark_94 : decode b_MO_mark 94 = .ok (.iadd, 1) := by decide +kernel
theorem d_MO_mark_95 : decode b_MO_mark 95 = .ok (.aload_n 0, 1) := by decide +kernel
theorem d_MO_mark_96 : decode b_MO_mark 96 = .ok (.getfield 69, 3) := by decide +kernel
theorem d_MO_mark_99 : decode b_MO_mark 99 = .ok (.iastore, 1) := by decide +kernel
theorem d_MO_mark_100 : decode b_MO_mark 100 = .ok (.aload_n 0, 1) := by decide +kernel
theorem d_MO_mark_101 : decode b_MO_mark 101 = .ok (.getfield 35, 3) := by decide +kernel
theorem d_MO_mark_104 : decode b_MO_mark 104 = .ok (.iconst 5, 1) := by decide +kernel
theorem d_MO_mark_105 : decode b_MO_mark 105 = .ok (.iload_n 1, 1) := by decide +kernel
theorem d_MO_mark_106 : decode b_MO_mark 106 = .ok (.imul, 1) := by decide +kernel
theorem d_MO_mark_107 : decode b_MO_mark 107 = .ok (.iconst 2, 1) := by decide +kernel
theorem d_MO_mark_108 : decode b_MO_mark 108 = .ok (.iadd, 1) := by decide +kernel
theorem d_MO_mark_109 : decode b_MO_mark 109 = .ok (.aload_n 0, 1) := by decide +kernel
theorem d_MO_mark_110 : decode b_MO_mark 110 = .ok (.getfield 45, 3) := by decide +kernel
theorem d_MO_mark_113 : decode b_MO_mark 113 = .ok (.iastore, 1) := by decide +kernel
theorem d_MO_mark_114 : decode b_MO_mark 114 = .ok (.aload_n 0, 1) := by decide +kernel
theorem d_MO_mark_115 : decode b_MO_mark 115 = .ok (.getfield 35, 3) := by decide +kernel
theorem d_MO_mark_118 : decode b_MO_mark 118 = .ok (.iconst 5, 1) := by decide +kernel
theorem d_MO_mark_119 : decode b_MO_mark 119 = .ok (.iload_n 1, 1) := by decide +kernel
theorem d_MO_mark_120 : decode b_MO_mark 120 = .ok (.imul, 1) := by decide +kernel
theorem d_MO_mark_121 : decode b_MO_mark 121 = .ok (.iconst 3, 1) := by decide +kernel
theorem d_MO_mark_122 : decode b_MO_mark 122 = .ok (.iadd, 1) := by decide +kernel
theorem d_MO_mark_123 : decode b_MO_mark 123 = .ok (.aload_n 0, 1) := by decide +kernel
theorem d_MO_mark_124 : decode b_MO_mark 124 = .ok (.getfield 72, 3) := by decide +kernel
theorem d_MO_mark_127 : decode b_MO_mark 127 = .ok (.iastore, 1) := by decide +kernel
theorem d_MO_mark_128 : decode b_MO_mark 128 = .ok (.aload_n 0, 1) := by decide +kernel
theorem d_MO_mark_129 : decode b_MO_mark 129 = .ok (.getfield 35, 3) := by decide +kernel
theorem d_MO_mark_132 : decode b_MO_mark 132 = .ok (.iconst 5, 1) := by decide +kernel
theorem d_MO_mark_133 : decode b_MO_mark 133 = .ok (.iload_n 1, 1) := by decide +kernel
theorem d_MO_mark_134 : decode b_MO_mark 134 = .ok (.imul, 1) := by decide +kernel
theorem d_MO_mark_135 : decode b_MO_mark 135 = .ok (.iconst 4, 1) := by decide +kernel
theorem d_MO_mark_136 : decode b_MO_mark 136 = .ok (.iadd, 1) := by decide +kernel
theorem d_MO_mark_137 : decode b_MO_mark 137 = .ok (.aload_n 0, 1) := by decide +kernel
theorem d_MO_mark_138 : decode b_MO_mark 138 = .ok (.getfield 75, 3) := by decide +kernel
theorem d_MO_mark_141 : decode b_MO_mark 141 = .ok (.iastore, 1) := by decide +kernel
theorem d_MO_mark_142 : decode b_MO_mark 142 = .ok (.return_, 1) := by decide +kernel
theorem d_MO_seek_0 : decode b_MO_seek 0 = .ok (.iload_n 1, 1) := by decide +kernel
theorem d_MO_seek_1 : decode b_MO_seek 1 = .ok (.aload_n 0, 1) := by decide +kernel
theorem d_MO_seek_2 : decode b_MO_seek 2 = .ok (.getfield 63, 3) := by decide +kernel
theorem d_MO_seek_5 : decode b_MO_seek 5 = .ok (.if_icmp .ge 151, 3) := by decide +kernel
theorem d_MO_seek_8 : decode b_MO_seek 8 = .ok (.iload_n 1, 1) := by decide +kernel
theorem d_MO_seek_9 : decode b_MO_seek 9 = .ok (.sipush 250, 3) := by decide +kernel
theorem d_MO_seek_12 : decode b_MO_seek 12 = .ok (.idiv, 1) := by decide +kernel
theorem d_MO_seek_13 : decode b_MO_seek 13 = .ok (.istore_n 2, 1) := by decide +kernel
theorem d_MO_seek_14 : decode b_MO_seek 14 = .ok (.iconst 0, 1) := by decide +kernel
theorem d_MO_seek_15 : decode b_MO_seek 15 = .ok (.istore_n 3, 1) := by decide +kernel
theorem d_MO_seek_16 : decode b_MO_seek 16 = .ok (.iload_n 3, 1) := by decide +kernel
theorem d_MO_seek_17 : decode b_MO_seek 17 = .ok (.bipush 32, 2) := by decide +kernel
theorem d_MO_seek_19 : decode b_MO_seek 19 = .ok (.if_icmp .ge 26, 3) := by decide +kernel
theorem d_MO_seek_22 : decode b_MO_seek 22 = .ok (.aload_n 0, 1) := by decide +kernel
theorem d_MO_seek_23 : decode b_MO_seek 23 = .ok (.getfield 23, 3) := by decide +kernel
theorem d_MO_seek_26 : decode b_MO_seek 26 = .ok (.iload_n 3, 1) := by decide +kernel
theorem d_MO_seek_27 : decode b_MO_seek 27 = .ok (.aload_n 0, 1) := by decide +kernel
theorem d_MO_seek_28 : decode b_MO_seek 28 = .ok (.getfield 32, 3) := by decide +kernel
theorem d_MO_seek_31 : decode b_MO_seek 31 = .ok (.bipush 56, 2) := by decide +kernel
theorem d_MO_seek_33 : decode b_MO_seek 33 = .ok (.iload_n 2, 1) := by decide +kernel
theorem d_MO_seek_34 : decode b_MO_seek 34 = .ok (.imul, 1) := by decide +kernel
theorem d_MO_seek_35 : decode b_MO_seek 35 = .ok (.iload_n 3, 1) := by decide +kernel
theorem d_MO_seek_36 : decode b_MO_seek 36 = .ok (.iadd, 1) := by decide +kernel
theorem d_MO_seek_37 : decode b_MO_seek 37 = .ok (.iaload, 1) := by decide +kernel
theorem d_MO_seek_38 : decode b_MO_seek 38 = .ok (.iastore, 1) := by decide +kernel
theorem d_MO_seek_39 : decode b_MO_seek 39 = .ok (.iinc 3 1, 3) := by decide +kernel
theorem d_MO_seek_42 : decode b_MO_seek 42 = .ok (.goto (-26), 3) := by decide +kernel
theorem d_MO_seek_45 : decode b_MO_seek 45 = .ok (.iconst 0, 1) := by decide +kernel
theorem d_MO_seek_46 : decode b_MO_seek 46 = .ok (.istore_n 3, 1) := by decide +kernel
theorem d_MO_seek_47 : decode b_MO_seek 47 = .ok (.iload_n 3, 1) := by decide +kernel
theorem d_MO_seek_48 : decode b_MO_seek 48 = .ok (.bipush 24, 2) := by decide +kernel
theorem d_MO_seek_50 : decode b_MO_seek 50 = .ok (.if_icmp .ge 29, 3) := by decide +kernel
theorem d_MO_seek_53 : decode b_MO_seek 53 = .ok (.aload_n 0, 1) := by decide +kernel
theorem d_MO_seek_54 : decode b_MO_seek 54 = .ok (.getfield 26, 3) := by decide +kernel
theorem d_MO_seek_57 : decode b_MO_seek 57 = .ok (.iload_n 3, 1) := by decide +kernel
theorem d_MO_seek_58 : decode b_MO_seek 58 = .ok (.aload_n 0, 1) := by decide +kernel
theorem d_MO_seek_59 : decode b_MO_seek 59 = .ok (.getfield 32, 3) := by decide +kernel
theorem d_MO_seek_62 : decode b_MO_seek 62 = .ok (.bipush 56, 2) := by decide +kernel
theorem d_MO_seek_64 : decode b_MO_seek 64 = .ok (.iload_n 2, 1) := by decide +kernel
theorem d_MO_seek_65 : decode b_MO_seek 65 = .ok (.imul, 1) := by decide +kernel
theorem d_MO_seek_66 : decode b_MO_seek 66 = .ok (.bipush 32, 2) := by decide +kernel
theorem d_MO_seek_68 : decode b_MO_seek 68 = .ok (.iadd, 1) := by decide +kernel
theorem d_MO_seek_69 : decode b_MO_seek 69 = .ok (.iload_n 3, 1) := by decide +kernel
theorem d_MO_seek_70 : decode b_MO_seek 70 = .ok (.iadd, 1) := by decide +kernel
theorem d_MO_seek_71 : decode b_MO_seek 71 = .ok (.iaload, 1) := by decide +kernel
theorem d_MO_seek_72 : decode b_MO_seek 72 = .ok (.iastore, 1) := by decide +kernel
theorem d_MO_seek_73 : decode b_MO_seek 73 = .ok (.iinc 3 1, 3) := by decide +kernel
theorem d_MO_seek_76 : decode b_MO_seek 76 = .ok (.goto (-29), 3) := by decide +kernel
theorem d_MO_seek_79 : decode b_MO_seek 79 = .ok (.aload_n 0, 1) := by decide +kernel
theorem d_MO_seek_80 : decode b_MO_seek 80 = .ok (.aload_n 0, 1) := by decide +kernel
theorem d_MO_seek_81 : decode b_MO_seek 81 = .ok (.getfield 35, 3) := by decide +kernel
theorem d_MO_seek_84 : decode b_MO_seek 84 = .ok (.iconst 5, 1) := by decide +kernel
theorem d_MO_seek_85 : decode b_MO_seek 85 = .ok (.iload_n 2, 1) := by decide +kernel
theorem d_MO_seek_86 : decode b_MO_seek 86 = .ok (.imul, 1) := by decide +kernel
theorem d_MO_seek_87 : decode b_MO_seek 87 = .ok (.iaload, 1) := by decide +kernel
theorem d_MO_seek_88 : decode b_MO_seek 88 = .ok (.putfield 66, 3) := by decide +kernel
theorem d_MO_seek_91 : decode b_MO_seek 91 = .ok (.aload_n 0, 1) := by decide +kernel
theorem d_MO_seek_92 : decode b_MO_seek 92 = .ok (.aload_n 0, 1) := by decide +kernel
theorem d_MO_seek_93 : decode b_MO_seek 93 = .ok (.getfield 35, 3) := by decide +kernel
theorem d_MO_seek_96 : decode b_MO_seek 96 = .ok (.iconst 5, 1) := by decide +kernel
theorem d_MO_seek_97 : decode b_MO_seek 97 = .ok (.iload_n 2, 1) := by decide +kernel
theorem d_MO_seek_98 : decode b_MO_seek 98 = .ok (.imul, 1) := by decide +kernel
theorem d_MO_seek_99 : decode b_MO_seek 99 = .ok (.iconst 1, 1) := by decide +kernel
theorem d_MO_seek_100 : decode b_MO_seek 100 = .ok (.iadd, 1) := by decide +kernel
theorem d_MO_seek_101 : decode b_MO_seek 101 = .ok (.iaload, 1) := by decide +kernel
theorem d_MO_seek_102 : decode b_MO_seek 102 = .ok (.putfield 69, 3) := by decide +kernel
theorem d_MO_seek_105 : decode b_MO_seek 105 = .ok (.aload_n 0, 1) := by decide +kernel
theorem d_MO_seek_106 : decode b_MO_seek 106 = .ok (.aload_n 0, 1) := by decide +kernel
theorem d_MO_seek_107 : decode b_MO_seek 107 = .ok (.getfield 35, 3) := by decide +kernel
theorem d_MO_seek_110 : decode b_MO_seek 110 = .ok (.iconst 5, 1) := by decide +kernel
theorem d_MO_seek_111 : decode b_MO_seek 111 = .ok (.iload_n 2, 1) := by decide +kernel
theorem d_MO_seek_112 : decode b_MO_seek 112 = .ok (.imul, 1) := by decide +kernel
theorem d_MO_seek_113 : decode b_MO_seek 113 = .ok (.iconst 2, 1) := by decide +kernel
theorem d_MO_seek_114 : decode b_MO_seek 114 = .ok (.iadd, 1) := by decide +kernel
theorem d_MO_seek_115 : decode b_MO_seek 115 = .ok (.iaload, 1) := by decide +kernel
theorem d_MO_seek_116 : decode b_MO_seek 116 = .ok (.putfield 45, 3) := by decide +kernel
theorem d_MO_seek_119 : decode b_MO_seek 119 = .ok (.aload_n 0, 1) := by decide +kernel
theorem d_MO_seek_120 : decode b_MO_seek 120 = .ok (.aload_n 0, 1) := by decide +kernel
theorem d_MO_seek_121 : decode b_MO_seek 121 = .ok (.getfield 35, 3) := by decide +kernel
theorem d_MO_seek_124 : decode b_MO_seek 124 = .ok (.iconst 5, 1) := by decide +kernel
theorem d_MO_seek_125 : decode b_MO_seek 125 = .ok (.iload_n 2, 1) := by decide +kernel
theorem d_MO_seek_126 : decode b_MO_seek 126 = .ok (.imul, 1) := by decide +kernel
theorem d_MO_seek_127 : decode b_MO_seek 127 = .ok (.iconst 3, 1) := by decide +kernel
theorem d_MO_seek_128 : decode b_MO_seek 128 = .ok (.iadd, 1) := by decide +kernel
theorem d_MO_seek_129 : decode b_MO_seek 129 = .ok (.iaload, 1) := by decide +kernel
theorem d_MO_seek_130 : decode b_MO_seek 130 = .ok (.putfield 72, 3) := by decide +kernel
theorem d_MO_seek_133 : decode b_MO_seek 133 = .ok (.aload_n 0, 1) := by decide +kernel
theorem d_MO_seek_134 : decode b_MO_seek 134 = .ok (.aload_n 0, 1) := by decide +kernel
theorem d_MO_seek_135 : decode b_MO_seek 135 = .ok (.getfield 35, 3) := by decide +kernel
theorem d_MO_seek_138 : decode b_MO_seek 138 = .ok (.iconst 5, 1) := by decide +kernel
theorem d_MO_seek_139 : decode b_MO_seek 139 = .ok (.iload_n 2, 1) := by decide +kernel
theorem d_MO_seek_140 : decode b_MO_seek 140 = .ok (.imul, 1) := by decide +kernel
theorem d_MO_seek_141 : decode b_MO_seek 141 = .ok (.iconst 4, 1) := by decide +kernel
theorem d_MO_seek_142 : decode b_MO_seek 142 = .ok (.iadd, 1) := by decide +kernel
theorem d_MO_seek_143 : decode b_MO_seek 143 = .ok (.iaload, 1) := by decide +kernel
theorem d_MO_seek_144 : decode b_MO_seek 144 = .ok (.putfield 75, 3) := by decide +kernel
theorem d_MO_seek_147 : decode b_MO_seek 147 = .ok (.aload_n 0, 1) := by decide +kernel
theorem d_MO_seek_148 : decode b_MO_seek 148 = .ok (.sipush 250, 3) := by decide +kernel
theorem d_MO_seek_151 : decode b_MO_seek 151 = .ok (.iload_n 2, 1) := by decide +kernel
theorem d_MO_seek_152 : decode b_MO_seek 152 = .ok (.imul, 1) := by decide +kernel
theorem d_MO_seek_153 : decode b_MO_seek 153 = .ok (.putfield 63, 3) := by decide +kernel
theorem d_MO_seek_156 : decode b_MO_seek 156 = .ok (.aload_n 0, 1) := by decide +kernel
theorem d_MO_seek_157 : decode b_MO_seek 157 = .ok (.getfield 63, 3) := by decide +kernel
theorem d_MO_seek_160 : decode b_MO_seek 160 = .ok (.iload_n 1, 1) := by decide +kernel
theorem d_MO_seek_161 : decode b_MO_seek 161 = .ok (.if_icmp .ge 10, 3) := by decide +kernel
theorem d_MO_seek_164 : decode b_MO_seek 164 = .ok (.aload_n 0, 1) := by decide +kernel
theorem d_MO_seek_165 : decode b_MO_seek 165 = .ok (.invokevirtual 78, 3) := by decide +kernel
theorem d_MO_seek_168 : decode b_MO_seek 168 = .ok (.goto (-12), 3) := by decide +kernel
theorem d_MO_seek_171 : decode b_MO_seek 171 = .ok (.return_, 1) := by decide +kernel
theorem d_MO_needs_0 : decode b_MO_needs 0 = .ok (.iload_n 0, 1) := by decide +kernel
theorem d_MO_needs_1 : decode b_MO_needs 1 = .ok (.tableswitch 79 2 16 #[75, 75, 77, 77, 77, 77, 77, 77, 75, 77, 79, 75, 75, 79, 75], 75) := by decide +kernel
theorem d_MO_needs_76 : decode b_MO_needs 76 = .ok (.iconst 1, 1) := by decide +kernel
theorem d_MO_needs_77 : decode b_MO_needs 77 = .ok (.ireturn, 1) := by decide +kernel
theorem d_MO_needs_78 : decode b_MO_needs 78 = .ok (.iconst 2, 1) := by decide +kernel
theorem d_MO_needs_79 : decode b_MO_needs 79 = .ok (.ireturn, 1) := by decide +kernel
theorem d_MO_needs_80 : decode b_MO_needs 80 = .ok (.iconst 0, 1) := by decide +kernel
theorem d_MO_needs_81 : decode b_MO_needs 81 = .ok (.ireturn, 1) := by decide +kernel
theorem d_MO_grows_0 : decode b_MO_grows 0 = .ok (.iload_n 0, 1) := by decide +kernel
theorem d_MO_grows_1 : decode b_MO_grows 1 = .ok (.tableswitch 104 1 20 #[95, 99, 95, 104, 99, 99, 99, 99, 99, 104, 101, 104, 99, 99, 97, 104, 95, 95, 95, 95], 95) := by decide +kernel
theorem d_MO_grows_96 : decode b_MO_grows 96 = .ok (.iconst 1, 1) := by decide +kernel
theorem d_MO_grows_97 : decode b_MO_grows 97 = .ok (.ireturn, 1) := by decide +kernel
theorem d_MO_grows_98 : decode b_MO_grows 98 = .ok (.iconst 2, 1) := by decide +kernel
theorem d_MO_grows_99 : decode b_MO_grows 99 = .ok (.ireturn, 1) := by decide +kernel
theorem d_MO_grows_100 : decode b_MO_grows 100 = .ok (.iconst (-1), 1) := by decide +kernel
theorem d_MO_grows_101 : decode b_MO_grows 101 = .ok (.ireturn, 1) := by decide +kernel
theorem d_MO_grows_102 : decode b_MO_grows 102 = .ok (.bipush (-2), 2) := by decide +kernel
theorem d_MO_grows_104 : decode b_MO_grows 104 = .ok (.ireturn, 1) := by decide +kernel
theorem d_MO_grows_105 : decode b_MO_grows 105 = .ok (.iconst 0, 1) := by decide +kernel
theorem d_MO_grows_106 : decode b_MO_grows 106 = .ok (.ireturn, 1) := by decide +kernel
theorem d_MO_isArgument_0 : decode b_MO_isArgument 0 = .ok (.aload_n 0, 1) := by decide +kernel
theorem d_MO_isArgument_1 : decode b_MO_isArgument 1 = .ok (.getfield 69, 3) := by decide +kernel
theorem d_MO_isArgument_4 : decode b_MO_isArgument 4 = .ok (.iconst 3, 1) := by decide +kernel
theorem d_MO_isArgument_5 : decode b_MO_isArgument 5 = .ok (.isub, 1) := by decide +kernel
theorem d_MO_isArgument_6 : decode b_MO_isArgument 6 = .ok (.istore_n 2, 1) := by decide +kernel
theorem d_MO_isArgument_7 : decode b_MO_isArgument 7 = .ok (.iload_n 1, 1) := by decide +kernel
theorem d_MO_isArgument_8 : decode b_MO_isArgument 8 = .ok (.iload_n 2, 1) := by decide +kernel
theorem d_MO_isArgument_9 : decode b_MO_isArgument 9 = .ok (.if_icmp .gt 17, 3) := by decide +kernel
theorem d_MO_isArgument_12 : decode b_MO_isArgument 12 = .ok (.iload_n 1, 1) := by decide +kernel
theorem d_MO_isArgument_13 : decode b_MO_isArgument 13 = .ok (.iload_n 2, 1) := by decide +kernel
theorem d_MO_isArgument_14 : decode b_MO_isArgument 14 = .ok (.aload_n 0, 1) := by decide +kernel
theorem d_MO_isArgument_15 : decode b_MO_isArgument 15 = .ok (.getfield 75, 3) := by decide +kernel
theorem d_MO_isArgument_18 : decode b_MO_isArgument 18 = .ok (.isub, 1) := by decide +kernel
theorem d_MO_isArgument_19 : decode b_MO_isArgument 19 = .ok (.if_icmp .le 7, 3) := by decide +kernel
theorem d_MO_isArgument_22 : decode b_MO_isArgument 22 = .ok (.iconst 1, 1) := by decide +kernel
theorem d_MO_isArgument_23 : decode b_MO_isArgument 23 = .ok (.goto 4, 3) := by decide +kernel
theorem d_MO_isArgument_26 : decode b_MO_isArgument 26 = .ok (.iconst 0, 1) := by decide +kernel
theorem d_MO_isArgument_27 : decode b_MO_isArgument 27 = .ok (.ireturn, 1) := by decide +kernel
theorem d_MO_check_0 : decode b_MO_check 0 = .ok (.aload_n 0, 1) := by decide +kernel
theorem d_MO_check_1 : decode b_MO_check 1 = .ok (.getfield 66, 3) := by decide +kernel
theorem d_MO_check_4 : decode b_MO_check 4 = .ok (.ifCond .lt 12, 3) := by decide +kernel
theorem d_MO_check_7 : decode b_MO_check 7 = .ok (.aload_n 0, 1) := by decide +kernel
theorem d_MO_check_8 : decode b_MO_check 8 = .ok (.getfield 66, 3) := by decide +kernel
theorem d_MO_check_11 : decode b_MO_check 11 = .ok (.bipush 64, 2) := by decide +kernel
theorem d_MO_check_13 : decode b_MO_check 13 = .ok (.if_icmp .lt 5, 3) := by decide +kernel
theorem d_MO_check_16 : decode b_MO_check 16 = .ok (.iconst 4, 1) := by decide +kernel
theorem d_MO_check_17 : decode b_MO_check 17 = .ok (.ireturn, 1) := by decide +kernel
theorem d_MO_check_18 : decode b_MO_check 18 = .ok (.aload_n 0, 1) := by decide +kernel
theorem d_MO_check_19 : decode b_MO_check 19 = .ok (.getfield 7, 3) := by decide +kernel
theorem d_MO_check_22 : decode b_MO_check 22 = .ok (.aload_n 0, 1) := by decide +kernel
theorem d_MO_check_23 : decode b_MO_check 23 = .ok (.getfield 66, 3) := by decide +kernel
theorem d_MO_check_26 : decode b_MO_check 26 = .ok (.iaload, 1) := by decide +kernel
theorem d_MO_check_27 : decode b_MO_check 27 = .ok (.bipush 31, 2) := by decide +kernel
theorem d_MO_check_29 : decode b_MO_check 29 = .ok (.iand, 1) := by decide +kernel
theorem d_MO_check_30 : decode b_MO_check 30 = .ok (.istore_n 1, 1) := by decide +kernel
theorem d_MO_check_31 : decode b_MO_check 31 = .ok (.aload_n 0, 1) := by decide +kernel
theorem d_MO_check_32 : decode b_MO_check 32 = .ok (.getfield 7, 3) := by decide +kernel
theorem d_MO_check_35 : decode b_MO_check 35 = .ok (.aload_n 0, 1) := by decide +kernel
theorem d_MO_check_36 : decode b_MO_check 36 = .ok (.getfield 66, 3) := by decide +kernel
theorem d_MO_check_39 : decode b_MO_check 39 = .ok (.iaload, 1) := by decide +kernel
theorem d_MO_check_40 : decode b_MO_check 40 = .ok (.iconst 5, 1) := by decide +kernel
theorem d_MO_check_41 : decode b_MO_check 41 = .ok (.ishr, 1) := by decide +kernel
theorem d_MO_check_42 : decode b_MO_check 42 = .ok (.istore_n 2, 1) := by decide +kernel
theorem d_MO_check_43 : decode b_MO_check 43 = .ok (.iload_n 1, 1) := by decide +kernel
theorem d_MO_check_44 : decode b_MO_check 44 = .ok (.bipush 20, 2) := by decide +kernel
theorem d_MO_check_46 : decode b_MO_check 46 = .ok (.if_icmp .le 5, 3) := by decide +kernel
theorem d_MO_check_49 : decode b_MO_check 49 = .ok (.iconst 5, 1) := by decide +kernel
theorem d_MO_check_50 : decode b_MO_check 50 = .ok (.ireturn, 1) := by decide +kernel
theorem d_MO_check_51 : decode b_MO_check 51 = .ok (.iload_n 1, 1) := by decide +kernel
theorem d_MO_check_52 : decode b_MO_check 52 = .ok (.ifCond .ne 5, 3) := by decide +kernel
theorem d_MO_check_55 : decode b_MO_check 55 = .ok (.iconst 1, 1) := by decide +kernel
theorem d_MO_check_56 : decode b_MO_check 56 = .ok (.ireturn, 1) := by decide +kernel
theorem d_MO_check_57 : decode b_MO_check 57 = .ok (.aload_n 0, 1) := by decide +kernel
theorem d_MO_check_58 : decode b_MO_check 58 = .ok (.getfield 75, 3) := by decide +kernel
theorem d_MO_check_61 : decode b_MO_check 61 = .ok (.iload_n 1, 1) := by decide +kernel
theorem d_MO_check_62 : decode b_MO_check 62 = .ok (.invokestatic 81, 3) := by decide +kernel
theorem d_MO_check_65 : decode b_MO_check 65 = .ok (.if_icmp .lt 42, 3) := by decide +kernel
theorem d_MO_check_68 : decode b_MO_check 68 = .ok (.iload_n 1, 1) := by decide +kernel
theorem d_MO_check_69 : decode b_MO_check 69 = .ok (.bipush 16, 2) := by decide +kernel
theorem d_MO_check_71 : decode b_MO_check 71 = .ok (.if_icmp .ne 22, 3) := by decide +kernel
theorem d_MO_check_74 : decode b_MO_check 74 = .ok (.aload_n 0, 1) := by decide +kernel
theorem d_MO_check_75 : decode b_MO_check 75 = .ok (.getfield 69, 3) := by decide +kernel
theorem d_MO_check_78 : decode b_MO_check 78 = .ok (.iconst 2, 1) := by decide +kernel
theorem d_MO_check_79 : decode b_MO_check 79 = .ok (.if_icmp .lt 28, 3) := by decide +kernel
theorem d_MO_check_82 : decode b_MO_check 82 = .ok (.aload_n 0, 1) := by decide +kernel
theorem d_MO_check_83 : decode b_MO_check 83 = .ok (.getfield 69, 3) := by decide +kernel
theorem d_MO_check_86 : decode b_MO_check 86 = .ok (.aload_n 0, 1) := by decide +kernel
theorem d_MO_check_87 : decode b_MO_check 87 = .ok (.getfield 75, 3) := by decide +kernel
theorem d_MO_check_90 : decode b_MO_check 90 = .ok (.if_icmp .ge 17, 3) := by decide +kernel
theorem d_MO_check_93 : decode b_MO_check 93 = .ok (.iload_n 1, 1) := by decide +kernel
theorem d_MO_check_94 : decode b_MO_check 94 = .ok (.bipush 17, 2) := by decide +kernel
theorem d_MO_check_96 : decode b_MO_check 96 = .ok (.if_icmp .ne 13, 3) := by decide +kernel
theorem d_MO_check_99 : decode b_MO_check 99 = .ok (.aload_n 0, 1) := by decide +kernel
theorem d_MO_check_100 : decode b_MO_check 100 = .ok (.iload_n 2, 1) := by decide +kernel
theorem d_MO_check_101 : decode b_MO_check 101 = .ok (.invokevirtual 85, 3) := by decide +kernel
theorem d_MO_check_104 : decode b_MO_check 104 = .ok (.ifCond .ne 5, 3) := by decide +kernel
theorem d_MO_check_107 : decode b_MO_check 107 = .ok (.iconst 2, 1) := by decide +kernel
theorem d_MO_check_108 : decode b_MO_check 108 = .ok (.ireturn, 1) := by decide +kernel
theorem d_MO_check_109 : decode b_MO_check 109 = .ok (.aload_n 0, 1) := by decide +kernel
theorem d_MO_check_110 : decode b_MO_check 110 = .ok (.getfield 75, 3) := by decide +kernel
theorem d_MO_check_113 : decode b_MO_check 113 = .ok (.ifCond .le 17, 3) := by decide +kernel
theorem d_MO_check_116 : decode b_MO_check 116 = .ok (.aload_n 0, 1) := by decide +kernel
theorem d_MO_check_117 : decode b_MO_check 117 = .ok (.getfield 26, 3) := by decide +kernel
theorem d_MO_check_120 : decode b_MO_check 120 = .ok (.aload_n 0, 1) := by decide +kernel
theorem d_MO_check_121 : decode b_MO_check 121 = .ok (.getfield 75, 3) := by decide +kernel
theorem d_MO_check_124 : decode b_MO_check 124 = .ok (.iconst 1, 1) := by decide +kernel
theorem d_MO_check_125 : decode b_MO_check 125 = .ok (.isub, 1) := by decide +kernel
theorem d_MO_check_126 : decode b_MO_check 126 = .ok (.iaload, 1) := by decide +kernel
theorem d_MO_check_127 : decode b_MO_check 127 = .ok (.goto 4, 3) := by decide +kernel
theorem d_MO_check_130 : decode b_MO_check 130 = .ok (.iconst 0, 1) := by decide +kernel
theorem d_MO_check_131 : decode b_MO_check 131 = .ok (.istore_n 3, 1) := by decide +kernel
theorem d_MO_check_132 : decode b_MO_check 132 = .ok (.iload_n 1, 1) := by decide +kernel
theorem d_MO_check_133 : decode b_MO_check 133 = .ok (.bipush 10, 2) := by decide +kernel
theorem d_MO_check_135 : decode b_MO_check 135 = .ok (.if_icmp .eq 9, 3) := by decide +kernel
theorem d_MO_check_138 : decode b_MO_check 138 = .ok (.iload_n 1, 1) := by decide +kernel
theorem d_MO_check_139 : decode b_MO_check 139 = .ok (.bipush 11, 2) := by decide +kernel
theorem d_MO_check_141 : decode b_MO_check 141 = .ok (.if_icmp .ne 15, 3) := by decide +kernel
theorem d_MO_check_144 : decode b_MO_check 144 = .ok (.iload_n 3, 1) := by decide +kernel
theorem d_MO_check_145 : decode b_MO_check 145 = .ok (.ifCond .lt 9, 3) := by decide +kernel
theorem d_MO_check_148 : decode b_MO_check 148 = .ok (.iload_n 3, 1) := by decide +kernel
theorem d_MO_check_149 : decode b_MO_check 149 = .ok (.bipush 32, 2) := by decide +kernel
theorem d_MO_check_151 : decode b_MO_check 151 = .ok (.if_icmp .lt 5, 3) := by decide +kernel
theorem d_MO_check_154 : decode b_MO_check 154 = .ok (.iconst 4, 1) := by decide +kernel
theorem d_MO_check_155 : decode b_MO_check 155 = .ok (.ireturn, 1) := by decide +kernel
theorem d_MO_check_156 : decode b_MO_check 156 = .ok (.iload_n 1, 1) := by decide +kernel
theorem d_MO_check_157 : decode b_MO_check 157 = .ok (.bipush 8, 2) := by decide +kernel
theorem d_MO_check_159 : decode b_MO_check 159 = .ok (.if_icmp .ne 7, 3) := by decide +kernel
theorem d_MO_check_162 : decode b_MO_check 162 = .ok (.iload_n 3, 1) := by decide +kernel
theorem d_MO_check_163 : decode b_MO_check 163 = .ok (.ifCond .eq 14, 3) := by decide +kernel
theorem d_MO_check_166 : decode b_MO_check 166 = .ok (.iload_n 1, 1) := by decide +kernel
theorem d_MO_check_167 : decode b_MO_check 167 = .ok (.bipush 19, 2) := by decide +kernel
theorem d_MO_check_169 : decode b_MO_check 169 = .ok (.if_icmp .ne 11, 3) := by decide +kernel
theorem d_MO_check_172 : decode b_MO_check 172 = .ok (.iload_n 2, 1) := by decide +kernel
theorem d_MO_check_173 : decode b_MO_check 173 = .ok (.iconst 1, 1) := by decide +kernel
theorem d_MO_check_174 : decode b_MO_check 174 = .ok (.if_icmp .ge 6, 3) := by decide +kernel
theorem d_MO_check_177 : decode b_MO_check 177 = .ok (.bipush 6, 2) := by decide +kernel
theorem d_MO_check_179 : decode b_MO_check 179 = .ok (.ireturn, 1) := by decide +kernel
theorem d_MO_check_180 : decode b_MO_check 180 = .ok (.iload_n 1, 1) := by decide +kernel
theorem d_MO_check_181 : decode b_MO_check 181 = .ok (.bipush 18, 2) := by decide +kernel
theorem d_MO_check_183 : decode b_MO_check 183 = .ok (.if_icmp .ne 17, 3) := by decide +kernel
theorem d_MO_check_186 : decode b_MO_check 186 = .ok (.aload_n 0, 1) := by decide +kernel
theorem d_MO_check_187 : decode b_MO_check 187 = .ok (.getfield 72, 3) := by decide +kernel
theorem d_MO_check_190 : decode b_MO_check 190 = .ok (.aload_n 0, 1) := by decide +kernel
theorem d_MO_check_191 : decode b_MO_check 191 = .ok (.getfield 60, 3) := by decide +kernel
theorem d_MO_check_194 : decode b_MO_check 194 = .ok (.if_icmp .ne 6, 3) := by decide +kernel
theorem d_MO_check_197 : decode b_MO_check 197 = .ok (.bipush 7, 2) := by decide +kernel
theorem d_MO_check_199 : decode b_MO_check 199 = .ok (.ireturn, 1) := by decide +kernel
theorem d_MO_check_200 : decode b_MO_check 200 = .ok (.aload_n 0, 1) := by decide +kernel
theorem d_MO_check_201 : decode b_MO_check 201 = .ok (.getfield 75, 3) := by decide +kernel
theorem d_MO_check_204 : decode b_MO_check 204 = .ok (.iload_n 1, 1) := by decide +kernel
theorem d_MO_check_205 : decode b_MO_check 205 = .ok (.invokestatic 89, 3) := by decide +kernel
theorem d_MO_check_208 : decode b_MO_check 208 = .ok (.iadd, 1) := by decide +kernel
theorem d_MO_check_209 : decode b_MO_check 209 = .ok (.bipush 24, 2) := by decide +kernel
theorem d_MO_check_211 : decode b_MO_check 211 = .ok (.if_icmp .le 7, 3) := by decide +kernel
theorem d_MO_check_214 : decode b_MO_check 214 = .ok (.iconst 3, 1) := by decide +kernel
theorem d_MO_check_215 : decode b_MO_check 215 = .ok (.goto 4, 3) := by decide +kernel
theorem d_MO_check_218 : decode b_MO_check 218 = .ok (.iconst 0, 1) := by decide +kernel
theorem d_MO_check_219 : decode b_MO_check 219 = .ok (.ireturn, 1) := by decide +kernel
theorem d_MO_push_0 : decode b_MO_push 0 = .ok (.aload_n 0, 1) := by decide +kernel
theorem d_MO_push_1 : decode b_MO_push 1 = .ok (.getfield 26, 3) := by decide +kernel
theorem d_MO_push_4 : decode b_MO_push 4 = .ok (.aload_n 0, 1) := by decide +kernel
theorem d_MO_push_5 : decode b_MO_push 5 = .ok (.getfield 75, 3) := by decide +kernel
theorem d_MO_push_8 : decode b_MO_push 8 = .ok (.iload_n 1, 1) := by decide +kernel
theorem d_MO_push_9 : decode b_MO_push 9 = .ok (.iastore, 1) := by decide +kernel
theorem d_MO_push_10 : decode b_MO_push 10 = .ok (.aload_n 0, 1) := by decide +kernel
theorem d_MO_push_11 : decode b_MO_push 11 = .ok (.dup, 1) := by decide +kernel
theorem d_MO_push_12 : decode b_MO_push 12 = .ok (.getfield 75, 3) := by decide +kernel
theorem d_MO_push_15 : decode b_MO_push 15 = .ok (.iconst 1, 1) := by decide +kernel
theorem d_MO_push_16 : decode b_MO_push 16 = .ok (.iadd, 1) := by decide +kernel
theorem d_MO_push_17 : decode b_MO_push 17 = .ok (.putfield 75, 3) := by decide +kernel
theorem d_MO_push_20 : decode b_MO_push 20 = .ok (.return_, 1) := by decide +kernel
theorem d_MO_pop_0 : decode b_MO_pop 0 = .ok (.aload_n 0, 1) := by decide +kernel
theorem d_MO_pop_1 : decode b_MO_pop 1 = .ok (.dup, 1) := by decide +kernel
theorem d_MO_pop_2 : decode b_MO_pop 2 = .ok (.getfield 75, 3) := by decide +kernel
theorem d_MO_pop_5 : decode b_MO_pop 5 = .ok (.iconst 1, 1) := by decide +kernel
theorem d_MO_pop_6 : decode b_MO_pop 6 = .ok (.isub, 1) := by decide +kernel
theorem d_MO_pop_7 : decode b_MO_pop 7 = .ok (.putfield 75, 3) := by decide +kernel
theorem d_MO_pop_10 : decode b_MO_pop 10 = .ok (.aload_n 0, 1) := by decide +kernel
theorem d_MO_pop_11 : decode b_MO_pop 11 = .ok (.getfield 26, 3) := by decide +kernel
theorem d_MO_pop_14 : decode b_MO_pop 14 = .ok (.aload_n 0, 1) := by decide +kernel
theorem d_MO_pop_15 : decode b_MO_pop 15 = .ok (.getfield 75, 3) := by decide +kernel
theorem d_MO_pop_18 : decode b_MO_pop 18 = .ok (.iaload, 1) := by decide +kernel
theorem d_MO_pop_19 : decode b_MO_pop 19 = .ok (.ireturn, 1) := by decide +kernel
theorem d_MO_reckon_0 : decode b_MO_reckon 0 = .ok (.iload_n 0, 1) := by decide +kernel
theorem d_MO_reckon_1 : decode b_MO_reckon 1 = .ok (.tableswitch 47 5 8 #[31, 35, 39, 43], 31) := by decide +kernel
theorem d_MO_reckon_32 : decode b_MO_reckon 32 = .ok (.iload_n 1, 1) := by decide +kernel
theorem d_MO_reckon_33 : decode b_MO_reckon 33 = .ok (.iload_n 2, 1) := by decide +kernel
theorem d_MO_reckon_34 : decode b_MO_reckon 34 = .ok (.iadd, 1) := by decide +kernel
theorem d_MO_reckon_35 : decode b_MO_reckon 35 = .ok (.ireturn, 1) := by decide +kernel
theorem d_MO_reckon_36 : decode b_MO_reckon 36 = .ok (.iload_n 1, 1) := by decide +kernel
theorem d_MO_reckon_37 : decode b_MO_reckon 37 = .ok (.iload_n 2, 1) := by decide +kernel
theorem d_MO_reckon_38 : decode b_MO_reckon 38 = .ok (.isub, 1) := by decide +kernel
theorem d_MO_reckon_39 : decode b_MO_reckon 39 = .ok (.ireturn, 1) := by decide +kernel
theorem d_MO_reckon_40 : decode b_MO_reckon 40 = .ok (.iload_n 1, 1) := by decide +kernel
theorem d_MO_reckon_41 : decode b_MO_reckon 41 = .ok (.iload_n 2, 1) := by decide +kernel
theorem d_MO_reckon_42 : decode b_MO_reckon 42 = .ok (.imul, 1) := by decide +kernel
theorem d_MO_reckon_43 : decode b_MO_reckon 43 = .ok (.ireturn, 1) := by decide +kernel
theorem d_MO_reckon_44 : decode b_MO_reckon 44 = .ok (.iload_n 1, 1) := by decide +kernel
theorem d_MO_reckon_45 : decode b_MO_reckon 45 = .ok (.iload_n 2, 1) := by decide +kernel
theorem d_MO_reckon_46 : decode b_MO_reckon 46 = .ok (.idiv, 1) := by decide +kernel
theorem d_MO_reckon_47 : decode b_MO_reckon 47 = .ok (.ireturn, 1) := by decide +kernel
theorem d_MO_reckon_48 : decode b_MO_reckon 48 = .ok (.iload_n 1, 1) := by decide +kernel
theorem d_MO_reckon_49 : decode b_MO_reckon 49 = .ok (.iload_n 2, 1) := by decide +kernel
theorem d_MO_reckon_50 : decode b_MO_reckon 50 = .ok (.if_icmp .ge 7, 3) := by decide +kernel
theorem d_MO_reckon_53 : decode b_MO_reckon 53 = .ok (.iconst 1, 1) := by decide +kernel
theorem d_MO_reckon_54 : decode b_MO_reckon 54 = .ok (.goto 4, 3) := by decide +kernel
theorem d_MO_reckon_57 : decode b_MO_reckon 57 = .ok (.iconst 0, 1) := by decide +kernel
theorem d_MO_reckon_58 : decode b_MO_reckon 58 = .ok (.ireturn, 1) := by decide +kernel
theorem d_MO_branch_0 : decode b_MO_branch 0 = .ok (.iload_n 1, 1) := by decide +kernel
theorem d_MO_branch_1 : decode b_MO_branch 1 = .ok (.bipush 12, 2) := by decide +kernel
theorem d_MO_branch_3 : decode b_MO_branch 3 = .ok (.if_icmp .ne 7, 3) := by decide +kernel
theorem d_MO_branch_6 : decode b_MO_branch 6 = .ok (.iconst 0, 1) := by decide +kernel
theorem d_MO_branch_7 : decode b_MO_branch 7 = .ok (.goto 7, 3) := by decide +kernel
theorem d_MO_branch_10 : decode b_MO_branch 10 = .ok (.aload_n 0, 1) := by decide +kernel
theorem d_MO_branch_11 : decode b_MO_branch 11 = .ok (.invokevirtual 92, 3) := by decide +kernel
theorem d_MO_branch_14 : decode b_MO_branch 14 = .ok (.istore_n 3, 1) := by decide +kernel
theorem d_MO_branch_15 : decode b_MO_branch 15 = .ok (.iload_n 1, 1) := by decide +kernel
theorem d_MO_branch_16 : decode b_MO_branch 16 = .ok (.bipush 12, 2) := by decide +kernel
theorem d_MO_branch_18 : decode b_MO_branch 18 = .ok (.if_icmp .eq 23, 3) := by decide +kernel
theorem d_MO_branch_21 : decode b_MO_branch 21 = .ok (.iload_n 1, 1) := by decide +kernel
theorem d_MO_branch_22 : decode b_MO_branch 22 = .ok (.bipush 13, 2) := by decide +kernel
theorem d_MO_branch_24 : decode b_MO_branch 24 = .ok (.if_icmp .ne 7, 3) := by decide +kernel
theorem d_MO_branch_27 : decode b_MO_branch 27 = .ok (.iload_n 3, 1) := by decide +kernel
theorem d_MO_branch_28 : decode b_MO_branch 28 = .ok (.ifCond .eq 13, 3) := by decide +kernel
theorem d_MO_branch_31 : decode b_MO_branch 31 = .ok (.iload_n 1, 1) := by decide +kernel
theorem d_MO_branch_32 : decode b_MO_branch 32 = .ok (.bipush 14, 2) := by decide +kernel
theorem d_MO_branch_34 : decode b_MO_branch 34 = .ok (.if_icmp .ne 12, 3) := by decide +kernel
theorem d_MO_branch_37 : decode b_MO_branch 37 = .ok (.iload_n 3, 1) := by decide +kernel
theorem d_MO_branch_38 : decode b_MO_branch 38 = .ok (.ifCond .ge 8, 3) := by decide +kernel
theorem d_MO_branch_41 : decode b_MO_branch 41 = .ok (.aload_n 0, 1) := by decide +kernel
theorem d_MO_branch_42 : decode b_MO_branch 42 = .ok (.iload_n 2, 1) := by decide +kernel
theorem d_MO_branch_43 : decode b_MO_branch 43 = .ok (.putfield 66, 3) := by decide +kernel
theorem d_MO_branch_46 : decode b_MO_branch 46 = .ok (.return_, 1) := by decide +kernel
theorem d_MO_giveBack_0 : decode b_MO_giveBack 0 = .ok (.aload_n 0, 1) := by decide +kernel
theorem d_MO_giveBack_1 : decode b_MO_giveBack 1 = .ok (.getfield 26, 3) := by decide +kernel
theorem d_MO_giveBack_4 : decode b_MO_giveBack 4 = .ok (.aload_n 0, 1) := by decide +kernel
theorem d_MO_giveBack_5 : decode b_MO_giveBack 5 = .ok (.getfield 75, 3) := by decide +kernel
theorem d_MO_giveBack_8 : decode b_MO_giveBack 8 = .ok (.iconst 1, 1) := by decide +kernel
theorem d_MO_giveBack_9 : decode b_MO_giveBack 9 = .ok (.isub, 1) := by decide +kernel
theorem d_MO_giveBack_10 : decode b_MO_giveBack 10 = .ok (.iaload, 1) := by decide +kernel
theorem d_MO_giveBack_11 : decode b_MO_giveBack 11 = .ok (.istore_n 1, 1) := by decide +kernel
theorem d_MO_giveBack_12 : decode b_MO_giveBack 12 = .ok (.aload_n 0, 1) := by decide +kernel
theorem d_MO_giveBack_13 : decode b_MO_giveBack 13 = .ok (.aload_n 0, 1) := by decide +kernel
theorem d_MO_giveBack_14 : decode b_MO_giveBack 14 = .ok (.getfield 69, 3) := by decide +kernel
theorem d_MO_giveBack_17 : decode b_MO_giveBack 17 = .ok (.putfield 75, 3) := by decide +kernel
theorem d_MO_giveBack_20 : decode b_MO_giveBack 20 = .ok (.aload_n 0, 1) := by decide +kernel
theorem d_MO_giveBack_21 : decode b_MO_giveBack 21 = .ok (.aload_n 0, 1) := by decide +kernel
theorem d_MO_giveBack_22 : decode b_MO_giveBack 22 = .ok (.invokevirtual 92, 3) := by decide +kernel
theorem d_MO_giveBack_25 : decode b_MO_giveBack 25 = .ok (.putfield 69, 3) := by decide +kernel
theorem d_MO_giveBack_28 : decode b_MO_giveBack 28 = .ok (.aload_n 0, 1) := by decide +kernel
theorem d_MO_giveBack_29 : decode b_MO_giveBack 29 = .ok (.aload_n 0, 1) := by decide +kernel
theorem d_MO_giveBack_30 : decode b_MO_giveBack 30 = .ok (.invokevirtual 92, 3) := by decide +kernel
theorem d_MO_giveBack_33 : decode b_MO_giveBack 33 = .ok (.putfield 66, 3) := by decide +kernel
theorem d_MO_giveBack_36 : decode b_MO_giveBack 36 = .ok (.aload_n 0, 1) := by decide +kernel
theorem d_MO_giveBack_37 : decode b_MO_giveBack 37 = .ok (.iload_n 1, 1) := by decide +kernel
theorem d_MO_giveBack_38 : decode b_MO_giveBack 38 = .ok (.invokevirtual 96, 3) := by decide +kernel
theorem d_MO_giveBack_41 : decode b_MO_giveBack 41 = .ok (.return_, 1) := by decide +kernel
theorem d_MO_call_0 : decode b_MO_call 0 = .ok (.aload_n 0, 1) := by decide +kernel
theorem d_MO_call_1 : decode b_MO_call 1 = .ok (.aload_n 0, 1) := by decide +kernel
theorem d_MO_call_2 : decode b_MO_call 2 = .ok (.getfield 66, 3) := by decide +kernel
theorem d_MO_call_5 : decode b_MO_call 5 = .ok (.invokevirtual 96, 3) := by decide +kernel
theorem d_MO_call_8 : decode b_MO_call 8 = .ok (.aload_n 0, 1) := by decide +kernel
theorem d_MO_call_9 : decode b_MO_call 9 = .ok (.aload_n 0, 1) := by decide +kernel
theorem d_MO_call_10 : decode b_MO_call 10 = .ok (.getfield 69, 3) := by decide +kernel
theorem d_MO_call_13 : decode b_MO_call 13 = .ok (.invokevirtual 96, 3) := by decide +kernel
theorem d_MO_call_16 : decode b_MO_call 16 = .ok (.aload_n 0, 1) := by decide +kernel
theorem d_MO_call_17 : decode b_MO_call 17 = .ok (.aload_n 0, 1) := by decide +kernel
theorem d_MO_call_18 : decode b_MO_call 18 = .ok (.getfield 75, 3) := by decide +kernel
theorem d_MO_call_21 : decode b_MO_call 21 = .ok (.putfield 69, 3) := by decide +kernel
theorem d_MO_call_24 : decode b_MO_call 24 = .ok (.aload_n 0, 1) := by decide +kernel
theorem d_MO_call_25 : decode b_MO_call 25 = .ok (.iload_n 1, 1) := by decide +kernel
theorem d_MO_call_26 : decode b_MO_call 26 = .ok (.putfield 66, 3) := by decide +kernel
theorem d_MO_call_29 : decode b_MO_call 29 = .ok (.return_, 1) := by decide +kernel
theorem d_MO_draw_0 : decode b_MO_draw 0 = .ok (.aload_n 0, 1) := by decide +kernel
theorem d_MO_draw_1 : decode b_MO_draw 1 = .ok (.ldc 100, 2) := by decide +kernel
theorem d_MO_draw_3 : decode b_MO_draw 3 = .ok (.aload_n 0, 1) := by decide +kernel
theorem d_MO_draw_4 : decode b_MO_draw 4 = .ok (.getfield 45, 3) := by decide +kernel
theorem d_MO_draw_7 : decode b_MO_draw 7 = .ok (.imul, 1) := by decide +kernel
theorem d_MO_draw_8 : decode b_MO_draw 8 = .ok (.sipush 12345, 3) := by decide +kernel
theorem d_MO_draw_11 : decode b_MO_draw 11 = .ok (.iadd, 1) := by decide +kernel
theorem d_MO_draw_12 : decode b_MO_draw 12 = .ok (.putfield 45, 3) := by decide +kernel
theorem d_MO_draw_15 : decode b_MO_draw 15 = .ok (.aload_n 0, 1) := by decide +kernel
theorem d_MO_draw_16 : decode b_MO_draw 16 = .ok (.getfield 45, 3) := by decide +kernel
theorem d_MO_draw_19 : decode b_MO_draw 19 = .ok (.bipush 16, 2) := by decide +kernel
theorem d_MO_draw_21 : decode b_MO_draw 21 = .ok (.ishr, 1) := by decide +kernel
theorem d_MO_draw_22 : decode b_MO_draw 22 = .ok (.ldc 101, 2) := by decide +kernel
theorem d_MO_draw_24 : decode b_MO_draw 24 = .ok (.iand, 1) := by decide +kernel
theorem d_MO_draw_25 : decode b_MO_draw 25 = .ok (.iload_n 1, 1) := by decide +kernel
theorem d_MO_draw_26 : decode b_MO_draw 26 = .ok (.irem, 1) := by decide +kernel
theorem d_MO_draw_27 : decode b_MO_draw 27 = .ok (.ireturn, 1) := by decide +kernel
