theorem d_RM_stop_0 : decode b_RM_stop 0 = .ok (.aload_n 0, 1) := by decide +kernel
theorem d_RM_stop_1 : decode b_RM_stop 1 = .ok (.getfield 19, 3) := by decide +kernel
theorem d_RM_stop_4 : decode b_RM_stop 4 = .ok (.getfield 80, 3) := by decide +kernel
theorem d_RM_stop_7 : decode b_RM_stop 7 = .ok (.ifCond .lt 33, 3) := by decide +kernel
theorem d_RM_stop_10 : decode b_RM_stop 10 = .ok (.aload_n 0, 1) := by decide +kernel
theorem d_RM_stop_11 : decode b_RM_stop 11 = .ok (.getfield 19, 3) := by decide +kernel
theorem d_RM_stop_14 : decode b_RM_stop 14 = .ok (.getfield 80, 3) := by decide +kernel
theorem d_RM_stop_17 : decode b_RM_stop 17 = .ok (.bipush 64, 2) := by decide +kernel
theorem d_RM_stop_19 : decode b_RM_stop 19 = .ok (.if_icmp .ge 21, 3) := by decide +kernel
theorem d_RM_stop_22 : decode b_RM_stop 22 = .ok (.aload_n 0, 1) := by decide +kernel
theorem d_RM_stop_23 : decode b_RM_stop 23 = .ok (.getfield 41, 3) := by decide +kernel
theorem d_RM_stop_26 : decode b_RM_stop 26 = .ok (.aload_n 0, 1) := by decide +kernel
theorem d_RM_stop_27 : decode b_RM_stop 27 = .ok (.getfield 19, 3) := by decide +kernel
theorem d_RM_stop_30 : decode b_RM_stop 30 = .ok (.getfield 80, 3) := by decide +kernel
theorem d_RM_stop_33 : decode b_RM_stop 33 = .ok (.baload, 1) := by decide +kernel
theorem d_RM_stop_34 : decode b_RM_stop 34 = .ok (.ifCond .eq 6, 3) := by decide +kernel
theorem d_RM_stop_37 : decode b_RM_stop 37 = .ok (.bipush 9, 2) := by decide +kernel
theorem d_RM_stop_39 : decode b_RM_stop 39 = .ok (.ireturn, 1) := by decide +kernel
theorem d_RM_stop_40 : decode b_RM_stop 40 = .ok (.iconst 0, 1) := by decide +kernel
theorem d_RM_stop_41 : decode b_RM_stop 41 = .ok (.istore_n 1, 1) := by decide +kernel
theorem d_RM_stop_42 : decode b_RM_stop 42 = .ok (.iload_n 1, 1) := by decide +kernel
theorem d_RM_stop_43 : decode b_RM_stop 43 = .ok (.bipush 32, 2) := by decide +kernel
theorem d_RM_stop_45 : decode b_RM_stop 45 = .ok (.if_icmp .ge 39, 3) := by decide +kernel
theorem d_RM_stop_48 : decode b_RM_stop 48 = .ok (.aload_n 0, 1) := by decide +kernel
theorem d_RM_stop_49 : decode b_RM_stop 49 = .ok (.getfield 45, 3) := by decide +kernel
theorem d_RM_stop_52 : decode b_RM_stop 52 = .ok (.iload_n 1, 1) := by decide +kernel
theorem d_RM_stop_53 : decode b_RM_stop 53 = .ok (.baload, 1) := by decide +kernel
theorem d_RM_stop_54 : decode b_RM_stop 54 = .ok (.ifCond .eq 24, 3) := by decide +kernel
theorem d_RM_stop_57 : decode b_RM_stop 57 = .ok (.aload_n 0, 1) := by decide +kernel
theorem d_RM_stop_58 : decode b_RM_stop 58 = .ok (.getfield 19, 3) := by decide +kernel
theorem d_RM_stop_61 : decode b_RM_stop 61 = .ok (.getfield 142, 3) := by decide +kernel
theorem d_RM_stop_64 : decode b_RM_stop 64 = .ok (.iload_n 1, 1) := by decide +kernel
theorem d_RM_stop_65 : decode b_RM_stop 65 = .ok (.iaload, 1) := by decide +kernel
theorem d_RM_stop_66 : decode b_RM_stop 66 = .ok (.aload_n 0, 1) := by decide +kernel
theorem d_RM_stop_67 : decode b_RM_stop 67 = .ok (.getfield 48, 3) := by decide +kernel
theorem d_RM_stop_70 : decode b_RM_stop 70 = .ok (.iload_n 1, 1) := by decide +kernel
theorem d_RM_stop_71 : decode b_RM_stop 71 = .ok (.iaload, 1) := by decide +kernel
theorem d_RM_stop_72 : decode b_RM_stop 72 = .ok (.if_icmp .eq 6, 3) := by decide +kernel
theorem d_RM_stop_75 : decode b_RM_stop 75 = .ok (.bipush 10, 2) := by decide +kernel
theorem d_RM_stop_77 : decode b_RM_stop 77 = .ok (.ireturn, 1) := by decide +kernel
theorem d_RM_stop_78 : decode b_RM_stop 78 = .ok (.iinc 1 1, 3) := by decide +kernel
theorem d_RM_stop_81 : decode b_RM_stop 81 = .ok (.goto (-39), 3) := by decide +kernel
theorem d_RM_stop_84 : decode b_RM_stop 84 = .ok (.iconst 0, 1) := by decide +kernel
theorem d_RM_stop_85 : decode b_RM_stop 85 = .ok (.ireturn, 1) := by decide +kernel
theorem d_RM_forth_0 : decode b_RM_forth 0 = .ok (.iload_n 1, 1) := by decide +kernel
theorem d_RM_forth_1 : decode b_RM_forth 1 = .ok (.ifCond .lt 14, 3) := by decide +kernel
theorem d_RM_forth_4 : decode b_RM_forth 4 = .ok (.iload_n 1, 1) := by decide +kernel
theorem d_RM_forth_5 : decode b_RM_forth 5 = .ok (.sipush 1000, 3) := by decide +kernel
theorem d_RM_forth_8 : decode b_RM_forth 8 = .ok (.if_icmp .gt 7, 3) := by decide +kernel
theorem d_RM_forth_11 : decode b_RM_forth 11 = .ok (.iconst 1, 1) := by decide +kernel
theorem d_RM_forth_12 : decode b_RM_forth 12 = .ok (.goto 4, 3) := by decide +kernel
theorem d_RM_forth_15 : decode b_RM_forth 15 = .ok (.iconst 0, 1) := by decide +kernel
theorem d_RM_forth_16 : decode b_RM_forth 16 = .ok (.invokestatic 194, 3) := by decide +kernel
theorem d_RM_forth_19 : decode b_RM_forth 19 = .ok (.aload_n 0, 1) := by decide +kernel
theorem d_RM_forth_20 : decode b_RM_forth 20 = .ok (.iconst 0, 1) := by decide +kernel
theorem d_RM_forth_21 : decode b_RM_forth 21 = .ok (.putfield 182, 3) := by decide +kernel
theorem d_RM_forth_24 : decode b_RM_forth 24 = .ok (.iconst 0, 1) := by decide +kernel
theorem d_RM_forth_25 : decode b_RM_forth 25 = .ok (.istore_n 2, 1) := by decide +kernel
theorem d_RM_forth_26 : decode b_RM_forth 26 = .ok (.iload_n 2, 1) := by decide +kernel
theorem d_RM_forth_27 : decode b_RM_forth 27 = .ok (.iload_n 1, 1) := by decide +kernel
theorem d_RM_forth_28 : decode b_RM_forth 28 = .ok (.if_icmp .ge 33, 3) := by decide +kernel
theorem d_RM_forth_31 : decode b_RM_forth 31 = .ok (.aload_n 0, 1) := by decide +kernel
theorem d_RM_forth_32 : decode b_RM_forth 32 = .ok (.invokevirtual 197, 3) := by decide +kernel
theorem d_RM_forth_35 : decode b_RM_forth 35 = .ok (.aload_n 0, 1) := by decide +kernel
theorem d_RM_forth_36 : decode b_RM_forth 36 = .ok (.invokevirtual 185, 3) := by decide +kernel
theorem d_RM_forth_39 : decode b_RM_forth 39 = .ok (.istore_n 3, 1) := by decide +kernel
theorem d_RM_forth_40 : decode b_RM_forth 40 = .ok (.iload_n 3, 1) := by decide +kernel
theorem d_RM_forth_41 : decode b_RM_forth 41 = .ok (.ifCond .ne 8, 3) := by decide +kernel
theorem d_RM_forth_44 : decode b_RM_forth 44 = .ok (.aload_n 0, 1) := by decide +kernel
theorem d_RM_forth_45 : decode b_RM_forth 45 = .ok (.invokevirtual 200, 3) := by decide +kernel
theorem d_RM_forth_48 : decode b_RM_forth 48 = .ok (.istore_n 3, 1) := by decide +kernel
theorem d_RM_forth_49 : decode b_RM_forth 49 = .ok (.iload_n 3, 1) := by decide +kernel
theorem d_RM_forth_50 : decode b_RM_forth 50 = .ok (.ifCond .eq 5, 3) := by decide +kernel
theorem d_RM_forth_53 : decode b_RM_forth 53 = .ok (.iload_n 3, 1) := by decide +kernel
theorem d_RM_forth_54 : decode b_RM_forth 54 = .ok (.ireturn, 1) := by decide +kernel
theorem d_RM_forth_55 : decode b_RM_forth 55 = .ok (.iinc 2 1, 3) := by decide +kernel
theorem d_RM_forth_58 : decode b_RM_forth 58 = .ok (.goto (-32), 3) := by decide +kernel
theorem d_RM_forth_61 : decode b_RM_forth 61 = .ok (.bipush 11, 2) := by decide +kernel
theorem d_RM_forth_63 : decode b_RM_forth 63 = .ok (.ireturn, 1) := by decide +kernel
theorem d_RM_moveTo_0 : decode b_RM_moveTo 0 = .ok (.iload_n 1, 1) := by decide +kernel
theorem d_RM_moveTo_1 : decode b_RM_moveTo 1 = .ok (.aload_n 0, 1) := by decide +kernel
theorem d_RM_moveTo_2 : decode b_RM_moveTo 2 = .ok (.getfield 19, 3) := by decide +kernel
theorem d_RM_moveTo_5 : decode b_RM_moveTo 5 = .ok (.getfield 125, 3) := by decide +kernel
theorem d_RM_moveTo_8 : decode b_RM_moveTo 8 = .ok (.if_icmp .ge 48, 3) := by decide +kernel
theorem d_RM_moveTo_11 : decode b_RM_moveTo 11 = .ok (.aload_n 0, 1) := by decide +kernel
theorem d_RM_moveTo_12 : decode b_RM_moveTo 12 = .ok (.getfield 19, 3) := by decide +kernel
theorem d_RM_moveTo_15 : decode b_RM_moveTo 15 = .ok (.getfield 125, 3) := by decide +kernel
theorem d_RM_moveTo_18 : decode b_RM_moveTo 18 = .ok (.iload_n 1, 1) := by decide +kernel
theorem d_RM_moveTo_19 : decode b_RM_moveTo 19 = .ok (.isub, 1) := by decide +kernel
theorem d_RM_moveTo_20 : decode b_RM_moveTo 20 = .ok (.aload_n 0, 1) := by decide +kernel
theorem d_RM_moveTo_21 : decode b_RM_moveTo 21 = .ok (.getfield 26, 3) := by decide +kernel
theorem d_RM_moveTo_24 : decode b_RM_moveTo 24 = .ok (.getfield 203, 3) := by decide +kernel
theorem d_RM_moveTo_27 : decode b_RM_moveTo 27 = .ok (.if_icmp .gt 29, 3) := by decide +kernel
theorem d_RM_moveTo_30 : decode b_RM_moveTo 30 = .ok (.aload_n 0, 1) := by decide +kernel
theorem d_RM_moveTo_31 : decode b_RM_moveTo 31 = .ok (.getfield 19, 3) := by decide +kernel
theorem d_RM_moveTo_34 : decode b_RM_moveTo 34 = .ok (.getfield 125, 3) := by decide +kernel
theorem d_RM_moveTo_37 : decode b_RM_moveTo 37 = .ok (.iload_n 1, 1) := by decide +kernel
theorem d_RM_moveTo_38 : decode b_RM_moveTo 38 = .ok (.if_icmp .le 17, 3) := by decide +kernel
theorem d_RM_moveTo_41 : decode b_RM_moveTo 41 = .ok (.aload_n 0, 1) := by decide +kernel
theorem d_RM_moveTo_42 : decode b_RM_moveTo 42 = .ok (.getfield 26, 3) := by decide +kernel
theorem d_RM_moveTo_45 : decode b_RM_moveTo 45 = .ok (.aload_n 0, 1) := by decide +kernel
theorem d_RM_moveTo_46 : decode b_RM_moveTo 46 = .ok (.getfield 19, 3) := by decide +kernel
theorem d_RM_moveTo_49 : decode b_RM_moveTo 49 = .ok (.invokevirtual 206, 3) := by decide +kernel
theorem d_RM_moveTo_52 : decode b_RM_moveTo 52 = .ok (.goto (-22), 3) := by decide +kernel
theorem d_RM_moveTo_55 : decode b_RM_moveTo 55 = .ok (.return_, 1) := by decide +kernel
theorem d_RM_moveTo_56 : decode b_RM_moveTo 56 = .ok (.aload_n 0, 1) := by decide +kernel
theorem d_RM_moveTo_57 : decode b_RM_moveTo 57 = .ok (.getfield 34, 3) := by decide +kernel
theorem d_RM_moveTo_60 : decode b_RM_moveTo 60 = .ok (.iconst 1, 1) := by decide +kernel
theorem d_RM_moveTo_61 : decode b_RM_moveTo 61 = .ok (.isub, 1) := by decide +kernel
theorem d_RM_moveTo_62 : decode b_RM_moveTo 62 = .ok (.istore_n 2, 1) := by decide +kernel
theorem d_RM_moveTo_63 : decode b_RM_moveTo 63 = .ok (.aload_n 0, 1) := by decide +kernel
theorem d_RM_moveTo_64 : decode b_RM_moveTo 64 = .ok (.getfield 30, 3) := by decide +kernel
theorem d_RM_moveTo_67 : decode b_RM_moveTo 67 = .ok (.iload_n 2, 1) := by decide +kernel
theorem d_RM_moveTo_68 : decode b_RM_moveTo 68 = .ok (.aaload, 1) := by decide +kernel
theorem d_RM_moveTo_69 : decode b_RM_moveTo 69 = .ok (.getfield 125, 3) := by decide +kernel
theorem d_RM_moveTo_72 : decode b_RM_moveTo 72 = .ok (.iload_n 1, 1) := by decide +kernel
theorem d_RM_moveTo_73 : decode b_RM_moveTo 73 = .ok (.if_icmp .le 9, 3) := by decide +kernel
theorem d_RM_moveTo_76 : decode b_RM_moveTo 76 = .ok (.iinc 2 (-1), 3) := by decide +kernel
theorem d_RM_moveTo_79 : decode b_RM_moveTo 79 = .ok (.goto (-16), 3) := by decide +kernel
theorem d_RM_moveTo_82 : decode b_RM_moveTo 82 = .ok (.iload_n 1, 1) := by decide +kernel
theorem d_RM_moveTo_83 : decode b_RM_moveTo 83 = .ok (.aload_n 0, 1) := by decide +kernel
theorem d_RM_moveTo_84 : decode b_RM_moveTo 84 = .ok (.getfield 19, 3) := by decide +kernel
theorem d_RM_moveTo_87 : decode b_RM_moveTo 87 = .ok (.getfield 125, 3) := by decide +kernel
theorem d_RM_moveTo_90 : decode b_RM_moveTo 90 = .ok (.if_icmp .lt 22, 3) := by decide +kernel
theorem d_RM_moveTo_93 : decode b_RM_moveTo 93 = .ok (.aload_n 0, 1) := by decide +kernel
theorem d_RM_moveTo_94 : decode b_RM_moveTo 94 = .ok (.getfield 30, 3) := by decide +kernel
theorem d_RM_moveTo_97 : decode b_RM_moveTo 97 = .ok (.iload_n 2, 1) := by decide +kernel
theorem d_RM_moveTo_98 : decode b_RM_moveTo 98 = .ok (.aaload, 1) := by decide +kernel
theorem d_RM_moveTo_99 : decode b_RM_moveTo 99 = .ok (.getfield 125, 3) := by decide +kernel
theorem d_RM_moveTo_102 : decode b_RM_moveTo 102 = .ok (.aload_n 0, 1) := by decide +kernel
theorem d_RM_moveTo_103 : decode b_RM_moveTo 103 = .ok (.getfield 19, 3) := by decide +kernel
theorem d_RM_moveTo_106 : decode b_RM_moveTo 106 = .ok (.getfield 125, 3) := by decide +kernel
theorem d_RM_moveTo_109 : decode b_RM_moveTo 109 = .ok (.if_icmp .le 23, 3) := by decide +kernel
theorem d_RM_moveTo_112 : decode b_RM_moveTo 112 = .ok (.aload_n 0, 1) := by decide +kernel
theorem d_RM_moveTo_113 : decode b_RM_moveTo 113 = .ok (.getfield 19, 3) := by decide +kernel
theorem d_RM_moveTo_116 : decode b_RM_moveTo 116 = .ok (.aload_n 0, 1) := by decide +kernel
theorem d_RM_moveTo_117 : decode b_RM_moveTo 117 = .ok (.getfield 30, 3) := by decide +kernel
theorem d_RM_moveTo_120 : decode b_RM_moveTo 120 = .ok (.iload_n 2, 1) := by decide +kernel
theorem d_RM_moveTo_121 : decode b_RM_moveTo 121 = .ok (.aaload, 1) := by decide +kernel
theorem d_RM_moveTo_122 : decode b_RM_moveTo 122 = .ok (.invokevirtual 57, 3) := by decide +kernel
theorem d_RM_moveTo_125 : decode b_RM_moveTo 125 = .ok (.aload_n 0, 1) := by decide +kernel
theorem d_RM_moveTo_126 : decode b_RM_moveTo 126 = .ok (.getfield 26, 3) := by decide +kernel
theorem d_RM_moveTo_129 : decode b_RM_moveTo 129 = .ok (.invokevirtual 209, 3) := by decide +kernel
theorem d_RM_moveTo_132 : decode b_RM_moveTo 132 = .ok (.aload_n 0, 1) := by decide +kernel
theorem d_RM_moveTo_133 : decode b_RM_moveTo 133 = .ok (.getfield 19, 3) := by decide +kernel
theorem d_RM_moveTo_136 : decode b_RM_moveTo 136 = .ok (.getfield 125, 3) := by decide +kernel
theorem d_RM_moveTo_139 : decode b_RM_moveTo 139 = .ok (.iload_n 1, 1) := by decide +kernel
theorem d_RM_moveTo_140 : decode b_RM_moveTo 140 = .ok (.if_icmp .ge 20, 3) := by decide +kernel
theorem d_RM_moveTo_143 : decode b_RM_moveTo 143 = .ok (.aload_n 0, 1) := by decide +kernel
theorem d_RM_moveTo_144 : decode b_RM_moveTo 144 = .ok (.invokevirtual 179, 3) := by decide +kernel
theorem d_RM_moveTo_147 : decode b_RM_moveTo 147 = .ok (.aload_n 0, 1) := by decide +kernel
theorem d_RM_moveTo_148 : decode b_RM_moveTo 148 = .ok (.dup, 1) := by decide +kernel
theorem d_RM_moveTo_149 : decode b_RM_moveTo 149 = .ok (.getfield 182, 3) := by decide +kernel
theorem d_RM_moveTo_152 : decode b_RM_moveTo 152 = .ok (.iconst 1, 1) := by decide +kernel
theorem d_RM_moveTo_153 : decode b_RM_moveTo 153 = .ok (.iadd, 1) := by decide +kernel
theorem d_RM_moveTo_154 : decode b_RM_moveTo 154 = .ok (.putfield 182, 3) := by decide +kernel
theorem d_RM_moveTo_157 : decode b_RM_moveTo 157 = .ok (.goto (-25), 3) := by decide +kernel
theorem d_RM_moveTo_160 : decode b_RM_moveTo 160 = .ok (.return_, 1) := by decide +kernel
theorem d_RM_go_0 : decode b_RM_go 0 = .ok (.iload_n 1, 1) := by decide +kernel
theorem d_RM_go_1 : decode b_RM_go 1 = .ok (.ifCond .lt 15, 3) := by decide +kernel
theorem d_RM_go_4 : decode b_RM_go 4 = .ok (.iload_n 1, 1) := by decide +kernel
theorem d_RM_go_5 : decode b_RM_go 5 = .ok (.aload_n 0, 1) := by decide +kernel
theorem d_RM_go_6 : decode b_RM_go 6 = .ok (.getfield 71, 3) := by decide +kernel
theorem d_RM_go_9 : decode b_RM_go 9 = .ok (.if_icmp .gt 7, 3) := by decide +kernel
theorem d_RM_go_12 : decode b_RM_go 12 = .ok (.iconst 1, 1) := by decide +kernel
theorem d_RM_go_13 : decode b_RM_go 13 = .ok (.goto 4, 3) := by decide +kernel
theorem d_RM_go_16 : decode b_RM_go 16 = .ok (.iconst 0, 1) := by decide +kernel
theorem d_RM_go_17 : decode b_RM_go 17 = .ok (.invokestatic 194, 3) := by decide +kernel
theorem d_RM_go_20 : decode b_RM_go 20 = .ok (.aload_n 0, 1) := by decide +kernel
theorem d_RM_go_21 : decode b_RM_go 21 = .ok (.iconst 0, 1) := by decide +kernel
theorem d_RM_go_22 : decode b_RM_go 22 = .ok (.putfield 182, 3) := by decide +kernel
theorem d_RM_go_25 : decode b_RM_go 25 = .ok (.iload_n 1, 1) := by decide +kernel
theorem d_RM_go_26 : decode b_RM_go 26 = .ok (.aload_n 0, 1) := by decide +kernel
theorem d_RM_go_27 : decode b_RM_go 27 = .ok (.getfield 19, 3) := by decide +kernel
theorem d_RM_go_30 : decode b_RM_go 30 = .ok (.getfield 125, 3) := by decide +kernel
theorem d_RM_go_33 : decode b_RM_go 33 = .ok (.if_icmp .eq 8, 3) := by decide +kernel
theorem d_RM_go_36 : decode b_RM_go 36 = .ok (.aload_n 0, 1) := by decide +kernel
theorem d_RM_go_37 : decode b_RM_go 37 = .ok (.iload_n 1, 1) := by decide +kernel
theorem d_RM_go_38 : decode b_RM_go 38 = .ok (.invokevirtual 212, 3) := by decide +kernel
theorem d_RM_go_41 : decode b_RM_go 41 = .ok (.return_, 1) := by decide +kernel
theorem d_RM_back_0 : decode b_RM_back 0 = .ok (.iload_n 1, 1) := by decide +kernel
theorem d_RM_back_1 : decode b_RM_back 1 = .ok (.ifCond .lt 14, 3) := by decide +kernel
theorem d_RM_back_4 : decode b_RM_back 4 = .ok (.iload_n 1, 1) := by decide +kernel
theorem d_RM_back_5 : decode b_RM_back 5 = .ok (.sipush 1000, 3) := by decide +kernel
theorem d_RM_back_8 : decode b_RM_back 8 = .ok (.if_icmp .gt 7, 3) := by decide +kernel
theorem d_RM_back_11 : decode b_RM_back 11 = .ok (.iconst 1, 1) := by decide +kernel
theorem d_RM_back_12 : decode b_RM_back 12 = .ok (.goto 4, 3) := by decide +kernel
theorem d_RM_back_15 : decode b_RM_back 15 = .ok (.iconst 0, 1) := by decide +kernel
theorem d_RM_back_16 : decode b_RM_back 16 = .ok (.invokestatic 194, 3) := by decide +kernel
theorem d_RM_back_19 : decode b_RM_back 19 = .ok (.aload_n 0, 1) := by decide +kernel
theorem d_RM_back_20 : decode b_RM_back 20 = .ok (.iconst 0, 1) := by decide +kernel
theorem d_RM_back_21 : decode b_RM_back 21 = .ok (.putfield 182, 3) := by decide +kernel
theorem d_RM_back_24 : decode b_RM_back 24 = .ok (.iconst 0, 1) := by decide +kernel
theorem d_RM_back_25 : decode b_RM_back 25 = .ok (.istore_n 2, 1) := by decide +kernel
theorem d_RM_back_26 : decode b_RM_back 26 = .ok (.iload_n 2, 1) := by decide +kernel
theorem d_RM_back_27 : decode b_RM_back 27 = .ok (.iload_n 1, 1) := by decide +kernel
theorem d_RM_back_28 : decode b_RM_back 28 = .ok (.if_icmp .ge 59, 3) := by decide +kernel
theorem d_RM_back_31 : decode b_RM_back 31 = .ok (.aload_n 0, 1) := by decide +kernel
theorem d_RM_back_32 : decode b_RM_back 32 = .ok (.getfield 19, 3) := by decide +kernel
theorem d_RM_back_35 : decode b_RM_back 35 = .ok (.getfield 125, 3) := by decide +kernel
theorem d_RM_back_38 : decode b_RM_back 38 = .ok (.ifCond .ne 6, 3) := by decide +kernel
theorem d_RM_back_41 : decode b_RM_back 41 = .ok (.bipush 12, 2) := by decide +kernel
theorem d_RM_back_43 : decode b_RM_back 43 = .ok (.ireturn, 1) := by decide +kernel
theorem d_RM_back_44 : decode b_RM_back 44 = .ok (.aload_n 0, 1) := by decide +kernel
theorem d_RM_back_45 : decode b_RM_back 45 = .ok (.aload_n 0, 1) := by decide +kernel
theorem d_RM_back_46 : decode b_RM_back 46 = .ok (.getfield 19, 3) := by decide +kernel
theorem d_RM_back_49 : decode b_RM_back 49 = .ok (.getfield 125, 3) := by decide +kernel
theorem d_RM_back_52 : decode b_RM_back 52 = .ok (.iconst 1, 1) := by decide +kernel
theorem d_RM_back_53 : decode b_RM_back 53 = .ok (.isub, 1) := by decide +kernel
theorem d_RM_back_54 : decode b_RM_back 54 = .ok (.invokevirtual 212, 3) := by decide +kernel
theorem d_RM_back_57 : decode b_RM_back 57 = .ok (.aload_n 0, 1) := by decide +kernel
theorem d_RM_back_58 : decode b_RM_back 58 = .ok (.getfield 19, 3) := by decide +kernel
theorem d_RM_back_61 : decode b_RM_back 61 = .ok (.getfield 125, 3) := by decide +kernel
theorem d_RM_back_64 : decode b_RM_back 64 = .ok (.ifCond .ne 6, 3) := by decide +kernel
theorem d_RM_back_67 : decode b_RM_back 67 = .ok (.bipush 12, 2) := by decide +kernel
theorem d_RM_back_69 : decode b_RM_back 69 = .ok (.ireturn, 1) := by decide +kernel
theorem d_RM_back_70 : decode b_RM_back 70 = .ok (.aload_n 0, 1) := by decide +kernel
theorem d_RM_back_71 : decode b_RM_back 71 = .ok (.invokevirtual 216, 3) := by decide +kernel
theorem d_RM_back_74 : decode b_RM_back 74 = .ok (.istore_n 3, 1) := by decide +kernel
theorem d_RM_back_75 : decode b_RM_back 75 = .ok (.iload_n 3, 1) := by decide +kernel
theorem d_RM_back_76 : decode b_RM_back 76 = .ok (.ifCond .eq 5, 3) := by decide +kernel
theorem d_RM_back_79 : decode b_RM_back 79 = .ok (.iload_n 3, 1) := by decide +kernel
theorem d_RM_back_80 : decode b_RM_back 80 = .ok (.ireturn, 1) := by decide +kernel
theorem d_RM_back_81 : decode b_RM_back 81 = .ok (.iinc 2 1, 3) := by decide +kernel
theorem d_RM_back_84 : decode b_RM_back 84 = .ok (.goto (-58), 3) := by decide +kernel
theorem d_RM_back_87 : decode b_RM_back 87 = .ok (.aload_n 0, 1) := by decide +kernel
theorem d_RM_back_88 : decode b_RM_back 88 = .ok (.getfield 19, 3) := by decide +kernel
theorem d_RM_back_91 : decode b_RM_back 91 = .ok (.getfield 125, 3) := by decide +kernel
theorem d_RM_back_94 : decode b_RM_back 94 = .ok (.ifCond .ne 8, 3) := by decide +kernel
theorem d_RM_back_97 : decode b_RM_back 97 = .ok (.bipush 12, 2) := by decide +kernel
theorem d_RM_back_99 : decode b_RM_back 99 = .ok (.goto 5, 3) := by decide +kernel
theorem d_RM_back_102 : decode b_RM_back 102 = .ok (.bipush 11, 2) := by decide +kernel
theorem d_RM_back_104 : decode b_RM_back 104 = .ok (.ireturn, 1) := by decide +kernel
theorem d_RM_stopHere_0 : decode b_RM_stopHere 0 = .ok (.aload_n 0, 1) := by decide +kernel
theorem d_RM_stopHere_1 : decode b_RM_stopHere 1 = .ok (.getfield 19, 3) := by decide +kernel
theorem d_RM_stopHere_4 : decode b_RM_stopHere 4 = .ok (.getfield 80, 3) := by decide +kernel
theorem d_RM_stopHere_7 : decode b_RM_stopHere 7 = .ok (.ifCond .lt 33, 3) := by decide +kernel
theorem d_RM_stopHere_10 : decode b_RM_stopHere 10 = .ok (.aload_n 0, 1) := by decide +kernel
theorem d_RM_stopHere_11 : decode b_RM_stopHere 11 = .ok (.getfield 19, 3) := by decide +kernel
theorem d_RM_stopHere_14 : decode b_RM_stopHere 14 = .ok (.getfield 80, 3) := by decide +kernel
theorem d_RM_stopHere_17 : decode b_RM_stopHere 17 = .ok (.bipush 64, 2) := by decide +kernel
theorem d_RM_stopHere_19 : decode b_RM_stopHere 19 = .ok (.if_icmp .ge 21, 3) := by decide +kernel
theorem d_RM_stopHere_22 : decode b_RM_stopHere 22 = .ok (.aload_n 0, 1) := by decide +kernel
theorem d_RM_stopHere_23 : decode b_RM_stopHere 23 = .ok (.getfield 41, 3) := by decide +kernel
theorem d_RM_stopHere_26 : decode b_RM_stopHere 26 = .ok (.aload_n 0, 1) := by decide +kernel
theorem d_RM_stopHere_27 : decode b_RM_stopHere 27 = .ok (.getfield 19, 3) := by decide +kernel
theorem d_RM_stopHere_30 : decode b_RM_stopHere 30 = .ok (.getfield 80, 3) := by decide +kernel
theorem d_RM_stopHere_33 : decode b_RM_stopHere 33 = .ok (.baload, 1) := by decide +kernel
theorem d_RM_stopHere_34 : decode b_RM_stopHere 34 = .ok (.ifCond .eq 6, 3) := by decide +kernel
theorem d_RM_stopHere_37 : decode b_RM_stopHere 37 = .ok (.bipush 9, 2) := by decide +kernel
theorem d_RM_stopHere_39 : decode b_RM_stopHere 39 = .ok (.ireturn, 1) := by decide +kernel
theorem d_RM_stopHere_40 : decode b_RM_stopHere 40 = .ok (.aload_n 0, 1) := by decide +kernel
theorem d_RM_stopHere_41 : decode b_RM_stopHere 41 = .ok (.invokevirtual 219, 3) := by decide +kernel
theorem d_RM_stopHere_44 : decode b_RM_stopHere 44 = .ok (.ifCond .ne 5, 3) := by decide +kernel
theorem d_RM_stopHere_47 : decode b_RM_stopHere 47 = .ok (.iconst 0, 1) := by decide +kernel
theorem d_RM_stopHere_48 : decode b_RM_stopHere 48 = .ok (.ireturn, 1) := by decide +kernel
theorem d_RM_stopHere_49 : decode b_RM_stopHere 49 = .ok (.aload_n 0, 1) := by decide +kernel
theorem d_RM_stopHere_50 : decode b_RM_stopHere 50 = .ok (.getfield 26, 3) := by decide +kernel
theorem d_RM_stopHere_53 : decode b_RM_stopHere 53 = .ok (.getfield 203, 3) := by decide +kernel
theorem d_RM_stopHere_56 : decode b_RM_stopHere 56 = .ok (.ifCond .le 87, 3) := by decide +kernel
theorem d_RM_stopHere_59 : decode b_RM_stopHere 59 = .ok (.aload_n 0, 1) := by decide +kernel
theorem d_RM_stopHere_60 : decode b_RM_stopHere 60 = .ok (.getfield 26, 3) := by decide +kernel
theorem d_RM_stopHere_63 : decode b_RM_stopHere 63 = .ok (.getfield 223, 3) := by decide +kernel
theorem d_RM_stopHere_66 : decode b_RM_stopHere 66 = .ok (.aload_n 0, 1) := by decide +kernel
theorem d_RM_stopHere_67 : decode b_RM_stopHere 67 = .ok (.getfield 26, 3) := by decide +kernel
theorem d_RM_stopHere_70 : decode b_RM_stopHere 70 = .ok (.getfield 227, 3) := by decide +kernel
theorem d_RM_stopHere_73 : decode b_RM_stopHere 73 = .ok (.aaload, 1) := by decide +kernel
theorem d_RM_stopHere_74 : decode b_RM_stopHere 74 = .ok (.astore_n 1, 1) := by decide +kernel
theorem d_RM_stopHere_75 : decode b_RM_stopHere 75 = .ok (.aload_n 1, 1) := by decide +kernel
theorem d_RM_stopHere_76 : decode b_RM_stopHere 76 = .ok (.getfield 230, 3) := by decide +kernel
theorem d_RM_stopHere_79 : decode b_RM_stopHere 79 = .ok (.ifCond .le 62, 3) := by decide +kernel
theorem d_RM_stopHere_82 : decode b_RM_stopHere 82 = .ok (.aload_n 1, 1) := by decide +kernel
theorem d_RM_stopHere_83 : decode b_RM_stopHere 83 = .ok (.getfield 235, 3) := by decide +kernel
theorem d_RM_stopHere_86 : decode b_RM_stopHere 86 = .ok (.iconst 0, 1) := by decide +kernel
theorem d_RM_stopHere_87 : decode b_RM_stopHere 87 = .ok (.iaload, 1) := by decide +kernel
theorem d_RM_stopHere_88 : decode b_RM_stopHere 88 = .ok (.bipush 100, 2) := by decide +kernel
theorem d_RM_stopHere_90 : decode b_RM_stopHere 90 = .ok (.if_icmp .lt 51, 3) := by decide +kernel
theorem d_RM_stopHere_93 : decode b_RM_stopHere 93 = .ok (.aload_n 0, 1) := by decide +kernel
theorem d_RM_stopHere_94 : decode b_RM_stopHere 94 = .ok (.getfield 45, 3) := by decide +kernel
theorem d_RM_stopHere_97 : decode b_RM_stopHere 97 = .ok (.aload_n 1, 1) := by decide +kernel
theorem d_RM_stopHere_98 : decode b_RM_stopHere 98 = .ok (.getfield 235, 3) := by decide +kernel
theorem d_RM_stopHere_101 : decode b_RM_stopHere 101 = .ok (.iconst 0, 1) := by decide +kernel
theorem d_RM_stopHere_102 : decode b_RM_stopHere 102 = .ok (.iaload, 1) := by decide +kernel
theorem d_RM_stopHere_103 : decode b_RM_stopHere 103 = .ok (.bipush 100, 2) := by decide +kernel
theorem d_RM_stopHere_105 : decode b_RM_stopHere 105 = .ok (.isub, 1) := by decide +kernel
theorem d_RM_stopHere_106 : decode b_RM_stopHere 106 = .ok (.baload, 1) := by decide +kernel
theorem d_RM_stopHere_107 : decode b_RM_stopHere 107 = .ok (.ifCond .eq 34, 3) := by decide +kernel
theorem d_RM_stopHere_110 : decode b_RM_stopHere 110 = .ok (.aload_n 0, 1) := by decide +kernel
theorem d_RM_stopHere_111 : decode b_RM_stopHere 111 = .ok (.getfield 19, 3) := by decide +kernel
theorem d_RM_stopHere_114 : decode b_RM_stopHere 114 = .ok (.getfield 142, 3) := by decide +kernel
theorem d_RM_stopHere_117 : decode b_RM_stopHere 117 = .ok (.aload_n 1, 1) := by decide +kernel
theorem d_RM_stopHere_118 : decode b_RM_stopHere 118 = .ok (.getfield 235, 3) := by decide +kernel
theorem d_RM_stopHere_121 : decode b_RM_stopHere 121 = .ok (.iconst 0, 1) := by decide +kernel
theorem d_RM_stopHere_122 : decode b_RM_stopHere 122 = .ok (.iaload, 1) := by decide +kernel
theorem d_RM_stopHere_123 : decode b_RM_stopHere 123 = .ok (.bipush 100, 2) := by decide +kernel
theorem d_RM_stopHere_125 : decode b_RM_stopHere 125 = .ok (.isub, 1) := by decide +kernel
theorem d_RM_stopHere_126 : decode b_RM_stopHere 126 = .ok (.iaload, 1) := by decide +kernel
theorem d_RM_stopHere_127 : decode b_RM_stopHere 127 = .ok (.aload_n 1, 1) := by decide +kernel
theorem d_RM_stopHere_128 : decode b_RM_stopHere 128 = .ok (.getfield 238, 3) := by decide +kernel
theorem d_RM_stopHere_131 : decode b_RM_stopHere 131 = .ok (.iconst 0, 1) := by decide +kernel
theorem d_RM_stopHere_132 : decode b_RM_stopHere 132 = .ok (.iaload, 1) := by decide +kernel
theorem d_RM_stopHere_133 : decode b_RM_stopHere 133 = .ok (.if_icmp .eq 8, 3) := by decide +kernel
theorem d_RM_stopHere_136 : decode b_RM_stopHere 136 = .ok (.bipush 10, 2) := by decide +kernel
theorem d_RM_stopHere_138 : decode b_RM_stopHere 138 = .ok (.goto 4, 3) := by decide +kernel
theorem d_RM_stopHere_141 : decode b_RM_stopHere 141 = .ok (.iconst 0, 1) := by decide +kernel
theorem d_RM_stopHere_142 : decode b_RM_stopHere 142 = .ok (.ireturn, 1) := by decide +kernel
theorem d_RM_stopHere_143 : decode b_RM_stopHere 143 = .ok (.aload_n 0, 1) := by decide +kernel
theorem d_RM_stopHere_144 : decode b_RM_stopHere 144 = .ok (.invokevirtual 241, 3) := by decide +kernel
theorem d_RM_stopHere_147 : decode b_RM_stopHere 147 = .ok (.ifCond .eq 8, 3) := by decide +kernel
theorem d_RM_stopHere_150 : decode b_RM_stopHere 150 = .ok (.bipush 10, 2) := by decide +kernel
theorem d_RM_stopHere_152 : decode b_RM_stopHere 152 = .ok (.goto 4, 3) := by decide +kernel
theorem d_RM_stopHere_155 : decode b_RM_stopHere 155 = .ok (.iconst 0, 1) := by decide +kernel
theorem d_RM_stopHere_156 : decode b_RM_stopHere 156 = .ok (.ireturn, 1) := by decide +kernel
theorem d_RM_watchesAny_0 : decode b_RM_watchesAny 0 = .ok (.iconst 0, 1) := by decide +kernel
theorem d_RM_watchesAny_1 : decode b_RM_watchesAny 1 = .ok (.istore_n 1, 1) := by decide +kernel
theorem d_RM_watchesAny_2 : decode b_RM_watchesAny 2 = .ok (.iload_n 1, 1) := by decide +kernel
theorem d_RM_watchesAny_3 : decode b_RM_watchesAny 3 = .ok (.bipush 32, 2) := by decide +kernel
theorem d_RM_watchesAny_5 : decode b_RM_watchesAny 5 = .ok (.if_icmp .ge 20, 3) := by decide +kernel
theorem d_RM_watchesAny_8 : decode b_RM_watchesAny 8 = .ok (.aload_n 0, 1) := by decide +kernel
theorem d_RM_watchesAny_9 : decode b_RM_watchesAny 9 = .ok (.getfield 45, 3) := by decide +kernel
theorem d_RM_watchesAny_12 : decode b_RM_watchesAny 12 = .ok (.iload_n 1, 1) := by decide +kernel
theorem d_RM_watchesAny_13 : decode b_RM_watchesAny 13 = .ok (.baload, 1) := by decide +kernel
theorem d_RM_watchesAny_14 : decode b_RM_watchesAny 14 = .ok (.ifCond .eq 5, 3) := by decide +kernel
theorem d_RM_watchesAny_17 : decode b_RM_watchesAny 17 = .ok (.iconst 1, 1) := by decide +kernel
theorem d_RM_watchesAny_18 : decode b_RM_watchesAny 18 = .ok (.ireturn, 1) := by decide +kernel
theorem d_RM_watchesAny_19 : decode b_RM_watchesAny 19 = .ok (.iinc 1 1, 3) := by decide +kernel
theorem d_RM_watchesAny_22 : decode b_RM_watchesAny 22 = .ok (.goto (-20), 3) := by decide +kernel
theorem d_RM_watchesAny_25 : decode b_RM_watchesAny 25 = .ok (.iconst 0, 1) := by decide +kernel
theorem d_RM_watchesAny_26 : decode b_RM_watchesAny 26 = .ok (.ireturn, 1) := by decide +kernel
theorem d_RM_changedBefore_0 : decode b_RM_changedBefore 0 = .ok (.aload_n 0, 1) := by decide +kernel
theorem d_RM_changedBefore_1 : decode b_RM_changedBefore 1 = .ok (.getfield 34, 3) := by decide +kernel
theorem d_RM_changedBefore_4 : decode b_RM_changedBefore 4 = .ok (.iconst 1, 1) := by decide +kernel
theorem d_RM_changedBefore_5 : decode b_RM_changedBefore 5 = .ok (.isub, 1) := by decide +kernel
theorem d_RM_changedBefore_6 : decode b_RM_changedBefore 6 = .ok (.istore_n 1, 1) := by decide +kernel
theorem d_RM_changedBefore_7 : decode b_RM_changedBefore 7 = .ok (.aload_n 0, 1) := by decide +kernel
theorem d_RM_changedBefore_8 : decode b_RM_changedBefore 8 = .ok (.getfield 30, 3) := by decide +kernel
theorem d_RM_changedBefore_11 : decode b_RM_changedBefore 11 = .ok (.iload_n 1, 1) := by decide +kernel
theorem d_RM_changedBefore_12 : decode b_RM_changedBefore 12 = .ok (.aaload, 1) := by decide +kernel
theorem d_RM_changedBefore_13 : decode b_RM_changedBefore 13 = .ok (.getfield 125, 3) := by decide +kernel
theorem d_RM_changedBefore_16 : decode b_RM_changedBefore 16 = .ok (.aload_n 0, 1) := by decide +kernel
theorem d_RM_changedBefore_17 : decode b_RM_changedBefore 17 = .ok (.getfield 19, 3) := by decide +kernel
theorem d_RM_changedBefore_20 : decode b_RM_changedBefore 20 = .ok (.getfield 125, 3) := by decide +kernel
theorem d_RM_changedBefore_23 : decode b_RM_changedBefore 23 = .ok (.if_icmp .lt 9, 3) := by decide +kernel
theorem d_RM_changedBefore_26 : decode b_RM_changedBefore 26 = .ok (.iinc 1 (-1), 3) := by decide +kernel
theorem d_RM_changedBefore_29 : decode b_RM_changedBefore 29 = .ok (.goto (-22), 3) := by decide +kernel
theorem d_RM_changedBefore_32 : decode b_RM_changedBefore 32 = .ok (.aload_n 0, 1) := by decide +kernel
theorem d_RM_changedBefore_33 : decode b_RM_changedBefore 33 = .ok (.getfield 51, 3) := by decide +kernel
theorem d_RM_changedBefore_36 : decode b_RM_changedBefore 36 = .ok (.aload_n 0, 1) := by decide +kernel
theorem d_RM_changedBefore_37 : decode b_RM_changedBefore 37 = .ok (.getfield 30, 3) := by decide +kernel
theorem d_RM_changedBefore_40 : decode b_RM_changedBefore 40 = .ok (.iload_n 1, 1) := by decide +kernel
theorem d_RM_changedBefore_41 : decode b_RM_changedBefore 41 = .ok (.aaload, 1) := by decide +kernel
theorem d_RM_changedBefore_42 : decode b_RM_changedBefore 42 = .ok (.invokevirtual 57, 3) := by decide +kernel
theorem d_RM_changedBefore_45 : decode b_RM_changedBefore 45 = .ok (.aload_n 0, 1) := by decide +kernel
theorem d_RM_changedBefore_46 : decode b_RM_changedBefore 46 = .ok (.getfield 51, 3) := by decide +kernel
theorem d_RM_changedBefore_49 : decode b_RM_changedBefore 49 = .ok (.getfield 125, 3) := by decide +kernel
theorem d_RM_changedBefore_52 : decode b_RM_changedBefore 52 = .ok (.aload_n 0, 1) := by decide +kernel
theorem d_RM_changedBefore_53 : decode b_RM_changedBefore 53 = .ok (.getfield 19, 3) := by decide +kernel
theorem d_RM_changedBefore_56 : decode b_RM_changedBefore 56 = .ok (.getfield 125, 3) := by decide +kernel
theorem d_RM_changedBefore_59 : decode b_RM_changedBefore 59 = .ok (.iconst 1, 1) := by decide +kernel
theorem d_RM_changedBefore_60 : decode b_RM_changedBefore 60 = .ok (.isub, 1) := by decide +kernel
theorem d_RM_changedBefore_61 : decode b_RM_changedBefore 61 = .ok (.if_icmp .ge 10, 3) := by decide +kernel
theorem d_RM_changedBefore_64 : decode b_RM_changedBefore 64 = .ok (.aload_n 0, 1) := by decide +kernel
theorem d_RM_changedBefore_65 : decode b_RM_changedBefore 65 = .ok (.invokevirtual 244, 3) := by decide +kernel
theorem d_RM_changedBefore_68 : decode b_RM_changedBefore 68 = .ok (.goto (-23), 3) := by decide +kernel
theorem d_RM_changedBefore_71 : decode b_RM_changedBefore 71 = .ok (.iconst 0, 1) := by decide +kernel
theorem d_RM_changedBefore_72 : decode b_RM_changedBefore 72 = .ok (.istore_n 2, 1) := by decide +kernel
theorem d_RM_changedBefore_73 : decode b_RM_changedBefore 73 = .ok (.iload_n 2, 1) := by decide +kernel
theorem d_RM_changedBefore_74 : decode b_RM_changedBefore 74 = .ok (.bipush 32, 2) := by decide +kernel
theorem d_RM_changedBefore_76 : decode b_RM_changedBefore 76 = .ok (.if_icmp .ge 41, 3) := by decide +kernel
theorem d_RM_changedBefore_79 : decode b_RM_changedBefore 79 = .ok (.aload_n 0, 1) := by decide +kernel
theorem d_RM_changedBefore_80 : decode b_RM_changedBefore 80 = .ok (.getfield 45, 3) := by decide +kernel
theorem d_RM_changedBefore_83 : decode b_RM_changedBefore 83 = .ok (.iload_n 2, 1) := by decide +kernel
theorem d_RM_changedBefore_84 : decode b_RM_changedBefore 84 = .ok (.baload, 1) := by decide +kernel
theorem d_RM_changedBefore_85 : decode b_RM_changedBefore 85 = .ok (.ifCond .eq 26, 3) := by decide +kernel
theorem d_RM_changedBefore_88 : decode b_RM_changedBefore 88 = .ok (.aload_n 0, 1) := by decide +kernel
theorem d_RM_changedBefore_89 : decode b_RM_changedBefore 89 = .ok (.getfield 51, 3) := by decide +kernel
theorem d_RM_changedBefore_92 : decode b_RM_changedBefore 92 = .ok (.getfield 142, 3) := by decide +kernel
theorem d_RM_changedBefore_95 : decode b_RM_changedBefore 95 = .ok (.iload_n 2, 1) := by decide +kernel
theorem d_RM_changedBefore_96 : decode b_RM_changedBefore 96 = .ok (.iaload, 1) := by decide +kernel
theorem d_RM_changedBefore_97 : decode b_RM_changedBefore 97 = .ok (.aload_n 0, 1) := by decide +kernel
theorem d_RM_changedBefore_98 : decode b_RM_changedBefore 98 = .ok (.getfield 19, 3) := by decide +kernel
theorem d_RM_changedBefore_101 : decode b_RM_changedBefore 101 = .ok (.getfield 142, 3) := by decide +kernel
theorem d_RM_changedBefore_104 : decode b_RM_changedBefore 104 = .ok (.iload_n 2, 1) := by decide +kernel
theorem d_RM_changedBefore_105 : decode b_RM_changedBefore 105 = .ok (.iaload, 1) := by decide +kernel
theorem d_RM_changedBefore_106 : decode b_RM_changedBefore 106 = .ok (.if_icmp .eq 5, 3) := by decide +kernel
theorem d_RM_changedBefore_109 : decode b_RM_changedBefore 109 = .ok (.iconst 1, 1) := by decide +kernel
theorem d_RM_changedBefore_110 : decode b_RM_changedBefore 110 = .ok (.ireturn, 1) := by decide +kernel
theorem d_RM_changedBefore_111 : decode b_RM_changedBefore 111 = .ok (.iinc 2 1, 3) := by decide +kernel
theorem d_RM_changedBefore_114 : decode b_RM_changedBefore 114 = .ok (.goto (-41), 3) := by decide +kernel
theorem d_RM_changedBefore_117 : decode b_RM_changedBefore 117 = .ok (.iconst 0, 1) := by decide +kernel
theorem d_RM_changedBefore_118 : decode b_RM_changedBefore 118 = .ok (.ireturn, 1) := by decide +kernel
theorem d_RM_replay_0 : decode b_RM_replay 0 = .ok (.aload_n 0, 1) := by decide +kernel
theorem d_RM_replay_1 : decode b_RM_replay 1 = .ok (.aload_n 0, 1) := by decide +kernel
theorem d_RM_replay_2 : decode b_RM_replay 2 = .ok (.getfield 51, 3) := by decide +kernel
theorem d_RM_replay_5 : decode b_RM_replay 5 = .ok (.invokevirtual 169, 3) := by decide +kernel
theorem d_RM_replay_8 : decode b_RM_replay 8 = .ok (.aload_n 0, 1) := by decide +kernel
theorem d_RM_replay_9 : decode b_RM_replay 9 = .ok (.getfield 26, 3) := by decide +kernel
theorem d_RM_replay_12 : decode b_RM_replay 12 = .ok (.invokevirtual 209, 3) := by decide +kernel
theorem d_RM_replay_15 : decode b_RM_replay 15 = .ok (.return_, 1) := by decide +kernel
theorem d_RM_turn_0 : decode b_RM_turn 0 = .ok (.iload_n 1, 1) := by decide +kernel
theorem d_RM_turn_1 : decode b_RM_turn 1 = .ok (.ifCond .lt 13, 3) := by decide +kernel
theorem d_RM_turn_4 : decode b_RM_turn 4 = .ok (.iload_n 1, 1) := by decide +kernel
theorem d_RM_turn_5 : decode b_RM_turn 5 = .ok (.aload_n 0, 1) := by decide +kernel
theorem d_RM_turn_6 : decode b_RM_turn 6 = .ok (.arraylength, 1) := by decide +kernel
theorem d_RM_turn_7 : decode b_RM_turn 7 = .ok (.if_icmp .ge 7, 3) := by decide +kernel
theorem d_RM_turn_10 : decode b_RM_turn 10 = .ok (.iconst 1, 1) := by decide +kernel
theorem d_RM_turn_11 : decode b_RM_turn 11 = .ok (.goto 4, 3) := by decide +kernel
theorem d_RM_turn_14 : decode b_RM_turn 14 = .ok (.iconst 0, 1) := by decide +kernel
theorem d_RM_turn_15 : decode b_RM_turn 15 = .ok (.invokestatic 67, 3) := by decide +kernel
theorem d_RM_turn_18 : decode b_RM_turn 18 = .ok (.aload_n 0, 1) := by decide +kernel
theorem d_RM_turn_19 : decode b_RM_turn 19 = .ok (.iload_n 1, 1) := by decide +kernel
theorem d_RM_turn_20 : decode b_RM_turn 20 = .ok (.baload, 1) := by decide +kernel
theorem d_RM_turn_21 : decode b_RM_turn 21 = .ok (.iload_n 2, 1) := by decide +kernel
theorem d_RM_turn_22 : decode b_RM_turn 22 = .ok (.if_icmp .eq 7, 3) := by decide +kernel
theorem d_RM_turn_25 : decode b_RM_turn 25 = .ok (.iconst 1, 1) := by decide +kernel
theorem d_RM_turn_26 : decode b_RM_turn 26 = .ok (.goto 4, 3) := by decide +kernel
theorem d_RM_turn_29 : decode b_RM_turn 29 = .ok (.iconst 0, 1) := by decide +kernel
theorem d_RM_turn_30 : decode b_RM_turn 30 = .ok (.istore_n 3, 1) := by decide +kernel
theorem d_RM_turn_31 : decode b_RM_turn 31 = .ok (.aload_n 0, 1) := by decide +kernel
theorem d_RM_turn_32 : decode b_RM_turn 32 = .ok (.iload_n 1, 1) := by decide +kernel
theorem d_RM_turn_33 : decode b_RM_turn 33 = .ok (.iload_n 2, 1) := by decide +kernel
theorem d_RM_turn_34 : decode b_RM_turn 34 = .ok (.bastore, 1) := by decide +kernel
theorem d_RM_turn_35 : decode b_RM_turn 35 = .ok (.iload_n 3, 1) := by decide +kernel
theorem d_RM_turn_36 : decode b_RM_turn 36 = .ok (.ireturn, 1) := by decide +kernel
theorem d_RM_setBreak_0 : decode b_RM_setBreak 0 = .ok (.aload_n 0, 1) := by decide +kernel
theorem d_RM_setBreak_1 : decode b_RM_setBreak 1 = .ok (.getfield 41, 3) := by decide +kernel
theorem d_RM_setBreak_4 : decode b_RM_setBreak 4 = .ok (.iload_n 1, 1) := by decide +kernel
theorem d_RM_setBreak_5 : decode b_RM_setBreak 5 = .ok (.iconst 1, 1) := by decide +kernel
theorem d_RM_setBreak_6 : decode b_RM_setBreak 6 = .ok (.invokestatic 247, 3) := by decide +kernel
theorem d_RM_setBreak_9 : decode b_RM_setBreak 9 = .ok (.ireturn, 1) := by decide +kernel
theorem d_RM_clearBreak_0 : decode b_RM_clearBreak 0 = .ok (.aload_n 0, 1) := by decide +kernel
theorem d_RM_clearBreak_1 : decode b_RM_clearBreak 1 = .ok (.getfield 41, 3) := by decide +kernel
theorem d_RM_clearBreak_4 : decode b_RM_clearBreak 4 = .ok (.iload_n 1, 1) := by decide +kernel
theorem d_RM_clearBreak_5 : decode b_RM_clearBreak 5 = .ok (.iconst 0, 1) := by decide +kernel
theorem d_RM_clearBreak_6 : decode b_RM_clearBreak 6 = .ok (.invokestatic 247, 3) := by decide +kernel
theorem d_RM_clearBreak_9 : decode b_RM_clearBreak 9 = .ok (.ireturn, 1) := by decide +kernel
theorem d_RM_setWatch_0 : decode b_RM_setWatch 0 = .ok (.aload_n 0, 1) := by decide +kernel
theorem d_RM_setWatch_1 : decode b_RM_setWatch 1 = .ok (.getfield 45, 3) := by decide +kernel
theorem d_RM_setWatch_4 : decode b_RM_setWatch 4 = .ok (.iload_n 1, 1) := by decide +kernel
theorem d_RM_setWatch_5 : decode b_RM_setWatch 5 = .ok (.iconst 1, 1) := by decide +kernel
theorem d_RM_setWatch_6 : decode b_RM_setWatch 6 = .ok (.invokestatic 247, 3) := by decide +kernel
theorem d_RM_setWatch_9 : decode b_RM_setWatch 9 = .ok (.ireturn, 1) := by decide +kernel
theorem d_RM_clearWatch_0 : decode b_RM_clearWatch 0 = .ok (.aload_n 0, 1) := by decide +kernel
theorem d_RM_clearWatch_1 : decode b_RM_clearWatch 1 = .ok (.getfield 45, 3) := by decide +kernel
theorem d_RM_clearWatch_4 : decode b_RM_clearWatch 4 = .ok (.iload_n 1, 1) := by decide +kernel
theorem d_RM_clearWatch_5 : decode b_RM_clearWatch 5 = .ok (.iconst 0, 1) := by decide +kernel
theorem d_RM_clearWatch_6 : decode b_RM_clearWatch 6 = .ok (.invokestatic 247, 3) := by decide +kernel
theorem d_RM_clearWatch_9 : decode b_RM_clearWatch 9 = .ok (.ireturn, 1) := by decide +kernel
theorem d_RM_state_0 : decode b_RM_state 0 = .ok (.iload_n 1, 1) := by decide +kernel
theorem d_RM_state_1 : decode b_RM_state 1 = .ok (.tableswitch 135 0 10 #[59, 67, 72, 80, 88, 96, 104, 112, 117, 125, 130], 59) := by decide +kernel
theorem d_RM_state_60 : decode b_RM_state 60 = .ok (.aload_n 0, 1) := by decide +kernel
theorem d_RM_state_61 : decode b_RM_state 61 = .ok (.getfield 19, 3) := by decide +kernel
theorem d_RM_state_64 : decode b_RM_state 64 = .ok (.getfield 125, 3) := by decide +kernel
theorem d_RM_state_67 : decode b_RM_state 67 = .ok (.ireturn, 1) := by decide +kernel
theorem d_RM_state_68 : decode b_RM_state 68 = .ok (.aload_n 0, 1) := by decide +kernel
theorem d_RM_state_69 : decode b_RM_state 69 = .ok (.getfield 71, 3) := by decide +kernel
theorem d_RM_state_72 : decode b_RM_state 72 = .ok (.ireturn, 1) := by decide +kernel
theorem d_RM_state_73 : decode b_RM_state 73 = .ok (.aload_n 0, 1) := by decide +kernel
theorem d_RM_state_74 : decode b_RM_state 74 = .ok (.getfield 19, 3) := by decide +kernel
theorem d_RM_state_77 : decode b_RM_state 77 = .ok (.getfield 80, 3) := by decide +kernel
theorem d_RM_state_80 : decode b_RM_state 80 = .ok (.ireturn, 1) := by decide +kernel
theorem d_RM_state_81 : decode b_RM_state 81 = .ok (.aload_n 0, 1) := by decide +kernel
theorem d_RM_state_82 : decode b_RM_state 82 = .ok (.getfield 19, 3) := by decide +kernel
theorem d_RM_state_85 : decode b_RM_state 85 = .ok (.getfield 103, 3) := by decide +kernel
theorem d_RM_state_88 : decode b_RM_state 88 = .ok (.ireturn, 1) := by decide +kernel
theorem d_RM_state_89 : decode b_RM_state 89 = .ok (.aload_n 0, 1) := by decide +kernel
theorem d_RM_state_90 : decode b_RM_state 90 = .ok (.getfield 19, 3) := by decide +kernel
theorem d_RM_state_93 : decode b_RM_state 93 = .ok (.getfield 54, 3) := by decide +kernel
theorem d_RM_state_96 : decode b_RM_state 96 = .ok (.ireturn, 1) := by decide +kernel
theorem d_RM_state_97 : decode b_RM_state 97 = .ok (.aload_n 0, 1) := by decide +kernel
theorem d_RM_state_98 : decode b_RM_state 98 = .ok (.getfield 19, 3) := by decide +kernel
theorem d_RM_state_101 : decode b_RM_state 101 = .ok (.getfield 113, 3) := by decide +kernel
theorem d_RM_state_104 : decode b_RM_state 104 = .ok (.ireturn, 1) := by decide +kernel
theorem d_RM_state_105 : decode b_RM_state 105 = .ok (.aload_n 0, 1) := by decide +kernel
theorem d_RM_state_106 : decode b_RM_state 106 = .ok (.getfield 19, 3) := by decide +kernel
theorem d_RM_state_109 : decode b_RM_state 109 = .ok (.getfield 93, 3) := by decide +kernel
theorem d_RM_state_112 : decode b_RM_state 112 = .ok (.ireturn, 1) := by decide +kernel
theorem d_RM_state_113 : decode b_RM_state 113 = .ok (.aload_n 0, 1) := by decide +kernel
theorem d_RM_state_114 : decode b_RM_state 114 = .ok (.getfield 182, 3) := by decide +kernel
theorem d_RM_state_117 : decode b_RM_state 117 = .ok (.ireturn, 1) := by decide +kernel
theorem d_RM_state_118 : decode b_RM_state 118 = .ok (.aload_n 0, 1) := by decide +kernel
theorem d_RM_state_119 : decode b_RM_state 119 = .ok (.getfield 26, 3) := by decide +kernel
theorem d_RM_state_122 : decode b_RM_state 122 = .ok (.getfield 203, 3) := by decide +kernel
theorem d_RM_state_125 : decode b_RM_state 125 = .ok (.ireturn, 1) := by decide +kernel
theorem d_RM_state_126 : decode b_RM_state 126 = .ok (.aload_n 0, 1) := by decide +kernel
theorem d_RM_state_127 : decode b_RM_state 127 = .ok (.getfield 38, 3) := by decide +kernel
theorem d_RM_state_130 : decode b_RM_state 130 = .ok (.ireturn, 1) := by decide +kernel
theorem d_RM_state_131 : decode b_RM_state 131 = .ok (.aload_n 0, 1) := by decide +kernel
theorem d_RM_state_132 : decode b_RM_state 132 = .ok (.getfield 34, 3) := by decide +kernel
theorem d_RM_state_135 : decode b_RM_state 135 = .ok (.ireturn, 1) := by decide +kernel
theorem d_RM_state_136 : decode b_RM_state 136 = .ok (.new 61, 3) := by decide +kernel
theorem d_RM_state_139 : decode b_RM_state 139 = .ok (.dup, 1) := by decide +kernel
theorem d_RM_state_140 : decode b_RM_state 140 = .ok (.invokespecial 63, 3) := by decide +kernel
theorem d_RM_state_143 : decode b_RM_state 143 = .ok (.athrow, 1) := by decide +kernel
theorem d_RM_cell_0 : decode b_RM_cell 0 = .ok (.iload_n 1, 1) := by decide +kernel
theorem d_RM_cell_1 : decode b_RM_cell 1 = .ok (.ifCond .lt 21, 3) := by decide +kernel
theorem d_RM_cell_4 : decode b_RM_cell 4 = .ok (.iload_n 1, 1) := by decide +kernel
theorem d_RM_cell_5 : decode b_RM_cell 5 = .ok (.bipush 32, 2) := by decide +kernel
theorem d_RM_cell_7 : decode b_RM_cell 7 = .ok (.if_icmp .ge 15, 3) := by decide +kernel
theorem d_RM_cell_10 : decode b_RM_cell 10 = .ok (.aload_n 0, 1) := by decide +kernel
theorem d_RM_cell_11 : decode b_RM_cell 11 = .ok (.getfield 19, 3) := by decide +kernel
theorem d_RM_cell_14 : decode b_RM_cell 14 = .ok (.getfield 142, 3) := by decide +kernel
theorem d_RM_cell_17 : decode b_RM_cell 17 = .ok (.iload_n 1, 1) := by decide +kernel
theorem d_RM_cell_18 : decode b_RM_cell 18 = .ok (.iaload, 1) := by decide +kernel
theorem d_RM_cell_19 : decode b_RM_cell 19 = .ok (.goto 4, 3) := by decide +kernel
theorem d_RM_cell_22 : decode b_RM_cell 22 = .ok (.iconst 0, 1) := by decide +kernel
theorem d_RM_cell_23 : decode b_RM_cell 23 = .ok (.ireturn, 1) := by decide +kernel
theorem d_RM_stack_0 : decode b_RM_stack 0 = .ok (.iload_n 1, 1) := by decide +kernel
theorem d_RM_stack_1 : decode b_RM_stack 1 = .ok (.ifCond .lt 18, 3) := by decide +kernel
theorem d_RM_stack_4 : decode b_RM_stack 4 = .ok (.iload_n 1, 1) := by decide +kernel
theorem d_RM_stack_5 : decode b_RM_stack 5 = .ok (.aload_n 0, 1) := by decide +kernel
theorem d_RM_stack_6 : decode b_RM_stack 6 = .ok (.getfield 19, 3) := by decide +kernel
theorem d_RM_stack_9 : decode b_RM_stack 9 = .ok (.getfield 93, 3) := by decide +kernel
theorem d_RM_stack_12 : decode b_RM_stack 12 = .ok (.if_icmp .ge 7, 3) := by decide +kernel
theorem d_RM_stack_15 : decode b_RM_stack 15 = .ok (.iconst 1, 1) := by decide +kernel
theorem d_RM_stack_16 : decode b_RM_stack 16 = .ok (.goto 4, 3) := by decide +kernel
theorem d_RM_stack_19 : decode b_RM_stack 19 = .ok (.iconst 0, 1) := by decide +kernel
theorem d_RM_stack_20 : decode b_RM_stack 20 = .ok (.invokestatic 67, 3) := by decide +kernel
theorem d_RM_stack_23 : decode b_RM_stack 23 = .ok (.aload_n 0, 1) := by decide +kernel
theorem d_RM_stack_24 : decode b_RM_stack 24 = .ok (.getfield 19, 3) := by decide +kernel
theorem d_RM_stack_27 : decode b_RM_stack 27 = .ok (.getfield 162, 3) := by decide +kernel
theorem d_RM_stack_30 : decode b_RM_stack 30 = .ok (.iload_n 1, 1) := by decide +kernel
theorem d_RM_stack_31 : decode b_RM_stack 31 = .ok (.iaload, 1) := by decide +kernel
theorem d_RM_stack_32 : decode b_RM_stack 32 = .ok (.ireturn, 1) := by decide +kernel
theorem d_RM_checkpoint_0 : decode b_RM_checkpoint 0 = .ok (.iload_n 1, 1) := by decide +kernel
theorem d_RM_checkpoint_1 : decode b_RM_checkpoint 1 = .ok (.ifCond .lt 15, 3) := by decide +kernel
theorem d_RM_checkpoint_4 : decode b_RM_checkpoint 4 = .ok (.iload_n 1, 1) := by decide +kernel
theorem d_RM_checkpoint_5 : decode b_RM_checkpoint 5 = .ok (.aload_n 0, 1) := by decide +kernel
theorem d_RM_checkpoint_6 : decode b_RM_checkpoint 6 = .ok (.getfield 34, 3) := by decide +kernel
theorem d_RM_checkpoint_9 : decode b_RM_checkpoint 9 = .ok (.if_icmp .ge 7, 3) := by decide +kernel
theorem d_RM_checkpoint_12 : decode b_RM_checkpoint 12 = .ok (.iconst 1, 1) := by decide +kernel
theorem d_RM_checkpoint_13 : decode b_RM_checkpoint 13 = .ok (.goto 4, 3) := by decide +kernel
theorem d_RM_checkpoint_16 : decode b_RM_checkpoint 16 = .ok (.iconst 0, 1) := by decide +kernel
theorem d_RM_checkpoint_17 : decode b_RM_checkpoint 17 = .ok (.invokestatic 67, 3) := by decide +kernel
theorem d_RM_checkpoint_20 : decode b_RM_checkpoint 20 = .ok (.aload_n 0, 1) := by decide +kernel
theorem d_RM_checkpoint_21 : decode b_RM_checkpoint 21 = .ok (.getfield 30, 3) := by decide +kernel
theorem d_RM_checkpoint_24 : decode b_RM_checkpoint 24 = .ok (.iload_n 1, 1) := by decide +kernel
theorem d_RM_checkpoint_25 : decode b_RM_checkpoint 25 = .ok (.aaload, 1) := by decide +kernel
theorem d_RM_checkpoint_26 : decode b_RM_checkpoint 26 = .ok (.getfield 125, 3) := by decide +kernel
theorem d_RM_checkpoint_29 : decode b_RM_checkpoint 29 = .ok (.ireturn, 1) := by decide +kernel
theorem d_MO_init_0 : decode b_MO_init 0 = .ok (.aload_n 0, 1) := by decide +kernel
theorem d_MO_init_1 : decode b_MO_init 1 = .ok (.invokespecial 1, 3) := by decide +kernel
theorem d_MO_init_4 : decode b_MO_init 4 = .ok (.aload_n 0, 1) := by decide +kernel
theorem d_MO_init_5 : decode b_MO_init 5 = .ok (.bipush 64, 2) := by decide +kernel
theorem d_MO_init_7 : decode b_MO_init 7 = .ok (.newarray .int, 2) := by decide +kernel
theorem d_MO_init_9 : decode b_MO_init 9 = .ok (.putfield 7, 3) := by decide +kernel
theorem d_MO_init_12 : decode b_MO_init 12 = .ok (.aload_n 0, 1) := by decide +kernel
theorem d_MO_init_13 : decode b_MO_init 13 = .ok (.bipush 40, 2) := by decide +kernel
theorem d_MO_init_15 : decode b_MO_init 15 = .ok (.newarray .int, 2) := by decide +kernel
theorem d_MO_init_17 : decode b_MO_init 17 = .ok (.putfield 13, 3) := by decide +kernel
theorem d_MO_init_20 : decode b_MO_init 20 = .ok (.aload_n 0, 1) := by decide +kernel
theorem d_MO_init_21 : decode b_MO_init 21 = .ok (.bipush 64, 2) := by decide +kernel
theorem d_MO_init_23 : decode b_MO_init 23 = .ok (.newarray .boolean, 2) := by decide +kernel
theorem d_MO_init_25 : decode b_MO_init 25 = .ok (.putfield 16, 3) := by decide +kernel
theorem d_MO_init_28 : decode b_MO_init 28 = .ok (.aload_n 0, 1) := by decide +kernel
theorem d_MO_init_29 : decode b_MO_init 29 = .ok (.bipush 32, 2) := by decide +kernel
theorem d_MO_init_31 : decode b_MO_init 31 = .ok (.newarray .boolean, 2) := by decide +kernel
theorem d_MO_init_33 : decode b_MO_init 33 = .ok (.putfield 20, 3) := by decide +kernel
theorem d_MO_init_36 : decode b_MO_init 36 = .ok (.aload_n 0, 1) := by decide +kernel
theorem d_MO_init_37 : decode b_MO_init 37 = .ok (.bipush 32, 2) := by decide +kernel
theorem d_MO_init_39 : decode b_MO_init 39 = .ok (.newarray .int, 2) := by decide +kernel
theorem d_MO_init_41 : decode b_MO_init 41 = .ok (.putfield 23, 3) := by decide +kernel
theorem d_MO_init_44 : decode b_MO_init 44 = .ok (.aload_n 0, 1) := by decide +kernel
theorem d_MO_init_45 : decode b_MO_init 45 = .ok (.bipush 24, 2) := by decide +kernel
theorem d_MO_init_47 : decode b_MO_init 47 = .ok (.newarray .int, 2) := by decide +kernel
theorem d_MO_init_49 : decode b_MO_init 49 = .ok (.putfield 26, 3) := by decide +kernel
theorem d_MO_init_52 : decode b_MO_init 52 = .ok (.aload_n 0, 1) := by decide +kernel
theorem d_MO_init_53 : decode b_MO_init 53 = .ok (.bipush 32, 2) := by decide +kernel
theorem d_MO_init_55 : decode b_MO_init 55 = .ok (.newarray .int, 2) := by decide +kernel
theorem d_MO_init_57 : decode b_MO_init 57 = .ok (.putfield 29, 3) := by decide +kernel
theorem d_MO_init_60 : decode b_MO_init 60 = .ok (.aload_n 0, 1) := by decide +kernel
theorem d_MO_init_61 : decode b_MO_init 61 = .ok (.sipush 728, 3) := by decide +kernel
theorem d_MO_init_64 : decode b_MO_init 64 = .ok (.newarray .int, 2) := by decide +kernel
theorem d_MO_init_66 : decode b_MO_init 66 = .ok (.putfield 32, 3) := by decide +kernel
theorem d_MO_init_69 : decode b_MO_init 69 = .ok (.aload_n 0, 1) := by decide +kernel
theorem d_MO_init_70 : decode b_MO_init 70 = .ok (.bipush 65, 2) := by decide +kernel
theorem d_MO_init_72 : decode b_MO_init 72 = .ok (.newarray .int, 2) := by decide +kernel
theorem d_MO_init_74 : decode b_MO_init 74 = .ok (.putfield 35, 3) := by decide +kernel
theorem d_MO_init_77 : decode b_MO_init 77 = .ok (.aload_n 0, 1) := by decide +kernel
theorem d_MO_init_78 : decode b_MO_init 78 = .ok (.bipush 16, 2) := by decide +kernel
theorem d_MO_init_80 : decode b_MO_init 80 = .ok (.putfield 38, 3) := by decide +kernel
theorem d_MO_init_83 : decode b_MO_init 83 = .ok (.aload_n 0, 1) := by decide +kernel
theorem d_MO_init_84 : decode b_MO_init 84 = .ok (.bipush 9, 2) := by decide +kernel
theorem d_MO_init_86 : decode b_MO_init 86 = .ok (.newarray .int, 2) := by decide +kernel
theorem d_MO_init_88 : decode b_MO_init 88 = .ok (.putfield 42, 3) := by decide +kernel
theorem d_MO_init_91 : decode b_MO_init 91 = .ok (.aload_n 0, 1) := by decide +kernel
theorem d_MO_init_92 : decode b_MO_init 92 = .ok (.iload_n 1, 1) := by decide +kernel
theorem d_MO_init_93 : decode b_MO_init 93 = .ok (.putfield 45, 3) := by decide +kernel
theorem d_MO_init_96 : decode b_MO_init 96 = .ok (.aload_n 0, 1) := by decide +kernel
theorem d_MO_init_97 : decode b_MO_init 97 = .ok (.invokevirtual 48, 3) := by decide +kernel
theorem d_MO_init_100 : decode b_MO_init 100 = .ok (.aload_n 0, 1) := by decide +kernel
theorem d_MO_init_101 : decode b_MO_init 101 = .ok (.iconst 1, 1) := by decide +kernel
theorem d_MO_init_102 : decode b_MO_init 102 = .ok (.putfield 51, 3) := by decide +kernel
theorem d_MO_init_105 : decode b_MO_init 105 = .ok (.return_, 1) := by decide +kernel
theorem d_MO_thrown_0 : decode b_MO_thrown 0 = .ok (.aload_n 0, 1) := by decide +kernel
theorem d_MO_thrown_1 : decode b_MO_thrown 1 = .ok (.getfield 54, 3) := by decide +kernel
theorem d_MO_thrown_4 : decode b_MO_thrown 4 = .ok (.ireturn, 1) := by decide +kernel
theorem d_MO_fail_0 : decode b_MO_fail 0 = .ok (.aload_n 0, 1) := by decide +kernel
theorem d_MO_fail_1 : decode b_MO_fail 1 = .ok (.iload_n 1, 1) := by decide +kernel
theorem d_MO_fail_2 : decode b_MO_fail 2 = .ok (.putfield 54, 3) := by decide +kernel
theorem d_MO_fail_5 : decode b_MO_fail 5 = .ok (.iconst 0, 1) := by decide +kernel
theorem d_MO_fail_6 : decode b_MO_fail 6 = .ok (.ireturn, 1) := by decide +kernel
