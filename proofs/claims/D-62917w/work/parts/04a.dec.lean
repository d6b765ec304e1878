theorem d_RM_init_0 : decode b_RM_init 0 = .ok (.aload_n 0, 1) := by decide +kernel
theorem d_RM_init_1 : decode b_RM_init 1 = .ok (.invokespecial 1, 3) := by decide +kernel
theorem d_RM_init_4 : decode b_RM_init 4 = .ok (.aload_n 0, 1) := by decide +kernel
theorem d_RM_init_5 : decode b_RM_init 5 = .ok (.bipush 64, 2) := by decide +kernel
theorem d_RM_init_7 : decode b_RM_init 7 = .ok (.newarray .int, 2) := by decide +kernel
theorem d_RM_init_9 : decode b_RM_init 9 = .ok (.putfield 7, 3) := by decide +kernel
theorem d_RM_init_12 : decode b_RM_init 12 = .ok (.aload_n 0, 1) := by decide +kernel
theorem d_RM_init_13 : decode b_RM_init 13 = .ok (.bipush 40, 2) := by decide +kernel
theorem d_RM_init_15 : decode b_RM_init 15 = .ok (.newarray .int, 2) := by decide +kernel
theorem d_RM_init_17 : decode b_RM_init 17 = .ok (.putfield 13, 3) := by decide +kernel
theorem d_RM_init_20 : decode b_RM_init 20 = .ok (.aload_n 0, 1) := by decide +kernel
theorem d_RM_init_21 : decode b_RM_init 21 = .ok (.new 16, 3) := by decide +kernel
theorem d_RM_init_24 : decode b_RM_init 24 = .ok (.dup, 1) := by decide +kernel
theorem d_RM_init_25 : decode b_RM_init 25 = .ok (.invokespecial 18, 3) := by decide +kernel
theorem d_RM_init_28 : decode b_RM_init 28 = .ok (.putfield 19, 3) := by decide +kernel
theorem d_RM_init_31 : decode b_RM_init 31 = .ok (.aload_n 0, 1) := by decide +kernel
theorem d_RM_init_32 : decode b_RM_init 32 = .ok (.new 23, 3) := by decide +kernel
theorem d_RM_init_35 : decode b_RM_init 35 = .ok (.dup, 1) := by decide +kernel
theorem d_RM_init_36 : decode b_RM_init 36 = .ok (.invokespecial 25, 3) := by decide +kernel
theorem d_RM_init_39 : decode b_RM_init 39 = .ok (.putfield 26, 3) := by decide +kernel
theorem d_RM_init_42 : decode b_RM_init 42 = .ok (.aload_n 0, 1) := by decide +kernel
theorem d_RM_init_43 : decode b_RM_init 43 = .ok (.bipush 8, 2) := by decide +kernel
theorem d_RM_init_45 : decode b_RM_init 45 = .ok (.anewarray 16, 3) := by decide +kernel
theorem d_RM_init_48 : decode b_RM_init 48 = .ok (.putfield 30, 3) := by decide +kernel
theorem d_RM_init_51 : decode b_RM_init 51 = .ok (.aload_n 0, 1) := by decide +kernel
theorem d_RM_init_52 : decode b_RM_init 52 = .ok (.iconst 1, 1) := by decide +kernel
theorem d_RM_init_53 : decode b_RM_init 53 = .ok (.putfield 34, 3) := by decide +kernel
theorem d_RM_init_56 : decode b_RM_init 56 = .ok (.aload_n 0, 1) := by decide +kernel
theorem d_RM_init_57 : decode b_RM_init 57 = .ok (.bipush 16, 2) := by decide +kernel
theorem d_RM_init_59 : decode b_RM_init 59 = .ok (.putfield 38, 3) := by decide +kernel
theorem d_RM_init_62 : decode b_RM_init 62 = .ok (.aload_n 0, 1) := by decide +kernel
theorem d_RM_init_63 : decode b_RM_init 63 = .ok (.bipush 64, 2) := by decide +kernel
theorem d_RM_init_65 : decode b_RM_init 65 = .ok (.newarray .boolean, 2) := by decide +kernel
theorem d_RM_init_67 : decode b_RM_init 67 = .ok (.putfield 41, 3) := by decide +kernel
theorem d_RM_init_70 : decode b_RM_init 70 = .ok (.aload_n 0, 1) := by decide +kernel
theorem d_RM_init_71 : decode b_RM_init 71 = .ok (.bipush 32, 2) := by decide +kernel
theorem d_RM_init_73 : decode b_RM_init 73 = .ok (.newarray .boolean, 2) := by decide +kernel
theorem d_RM_init_75 : decode b_RM_init 75 = .ok (.putfield 45, 3) := by decide +kernel
theorem d_RM_init_78 : decode b_RM_init 78 = .ok (.aload_n 0, 1) := by decide +kernel
theorem d_RM_init_79 : decode b_RM_init 79 = .ok (.bipush 32, 2) := by decide +kernel
theorem d_RM_init_81 : decode b_RM_init 81 = .ok (.newarray .int, 2) := by decide +kernel
theorem d_RM_init_83 : decode b_RM_init 83 = .ok (.putfield 48, 3) := by decide +kernel
theorem d_RM_init_86 : decode b_RM_init 86 = .ok (.aload_n 0, 1) := by decide +kernel
theorem d_RM_init_87 : decode b_RM_init 87 = .ok (.new 16, 3) := by decide +kernel
theorem d_RM_init_90 : decode b_RM_init 90 = .ok (.dup, 1) := by decide +kernel
theorem d_RM_init_91 : decode b_RM_init 91 = .ok (.invokespecial 18, 3) := by decide +kernel
theorem d_RM_init_94 : decode b_RM_init 94 = .ok (.putfield 51, 3) := by decide +kernel
theorem d_RM_init_97 : decode b_RM_init 97 = .ok (.aload_n 0, 1) := by decide +kernel
theorem d_RM_init_98 : decode b_RM_init 98 = .ok (.getfield 19, 3) := by decide +kernel
theorem d_RM_init_101 : decode b_RM_init 101 = .ok (.iload_n 1, 1) := by decide +kernel
theorem d_RM_init_102 : decode b_RM_init 102 = .ok (.putfield 54, 3) := by decide +kernel
theorem d_RM_init_105 : decode b_RM_init 105 = .ok (.iconst 0, 1) := by decide +kernel
theorem d_RM_init_106 : decode b_RM_init 106 = .ok (.istore_n 2, 1) := by decide +kernel
theorem d_RM_init_107 : decode b_RM_init 107 = .ok (.iload_n 2, 1) := by decide +kernel
theorem d_RM_init_108 : decode b_RM_init 108 = .ok (.bipush 8, 2) := by decide +kernel
theorem d_RM_init_110 : decode b_RM_init 110 = .ok (.if_icmp .ge 22, 3) := by decide +kernel
theorem d_RM_init_113 : decode b_RM_init 113 = .ok (.aload_n 0, 1) := by decide +kernel
theorem d_RM_init_114 : decode b_RM_init 114 = .ok (.getfield 30, 3) := by decide +kernel
theorem d_RM_init_117 : decode b_RM_init 117 = .ok (.iload_n 2, 1) := by decide +kernel
theorem d_RM_init_118 : decode b_RM_init 118 = .ok (.new 16, 3) := by decide +kernel
theorem d_RM_init_121 : decode b_RM_init 121 = .ok (.dup, 1) := by decide +kernel
theorem d_RM_init_122 : decode b_RM_init 122 = .ok (.invokespecial 18, 3) := by decide +kernel
theorem d_RM_init_125 : decode b_RM_init 125 = .ok (.aastore, 1) := by decide +kernel
theorem d_RM_init_126 : decode b_RM_init 126 = .ok (.iinc 2 1, 3) := by decide +kernel
theorem d_RM_init_129 : decode b_RM_init 129 = .ok (.goto (-22), 3) := by decide +kernel
theorem d_RM_init_132 : decode b_RM_init 132 = .ok (.aload_n 0, 1) := by decide +kernel
theorem d_RM_init_133 : decode b_RM_init 133 = .ok (.getfield 30, 3) := by decide +kernel
theorem d_RM_init_136 : decode b_RM_init 136 = .ok (.iconst 0, 1) := by decide +kernel
theorem d_RM_init_137 : decode b_RM_init 137 = .ok (.aaload, 1) := by decide +kernel
theorem d_RM_init_138 : decode b_RM_init 138 = .ok (.aload_n 0, 1) := by decide +kernel
theorem d_RM_init_139 : decode b_RM_init 139 = .ok (.getfield 19, 3) := by decide +kernel
theorem d_RM_init_142 : decode b_RM_init 142 = .ok (.invokevirtual 57, 3) := by decide +kernel
theorem d_RM_init_145 : decode b_RM_init 145 = .ok (.return_, 1) := by decide +kernel
theorem d_RM_mustBe_0 : decode b_RM_mustBe 0 = .ok (.iload_n 0, 1) := by decide +kernel
theorem d_RM_mustBe_1 : decode b_RM_mustBe 1 = .ok (.ifCond .ne 11, 3) := by decide +kernel
theorem d_RM_mustBe_4 : decode b_RM_mustBe 4 = .ok (.new 61, 3) := by decide +kernel
theorem d_RM_mustBe_7 : decode b_RM_mustBe 7 = .ok (.dup, 1) := by decide +kernel
theorem d_RM_mustBe_8 : decode b_RM_mustBe 8 = .ok (.invokespecial 63, 3) := by decide +kernel
theorem d_RM_mustBe_11 : decode b_RM_mustBe 11 = .ok (.athrow, 1) := by decide +kernel
theorem d_RM_mustBe_12 : decode b_RM_mustBe 12 = .ok (.return_, 1) := by decide +kernel
theorem d_RM_need_0 : decode b_RM_need 0 = .ok (.iload_n 0, 1) := by decide +kernel
theorem d_RM_need_1 : decode b_RM_need 1 = .ok (.ifCond .ne 11, 3) := by decide +kernel
theorem d_RM_need_4 : decode b_RM_need 4 = .ok (.new 64, 3) := by decide +kernel
theorem d_RM_need_7 : decode b_RM_need 7 = .ok (.dup, 1) := by decide +kernel
theorem d_RM_need_8 : decode b_RM_need 8 = .ok (.invokespecial 66, 3) := by decide +kernel
theorem d_RM_need_11 : decode b_RM_need 11 = .ok (.athrow, 1) := by decide +kernel
theorem d_RM_need_12 : decode b_RM_need 12 = .ok (.return_, 1) := by decide +kernel
theorem d_RM_poke_0 : decode b_RM_poke 0 = .ok (.iload_n 1, 1) := by decide +kernel
theorem d_RM_poke_1 : decode b_RM_poke 1 = .ok (.ifCond .lt 13, 3) := by decide +kernel
theorem d_RM_poke_4 : decode b_RM_poke 4 = .ok (.iload_n 1, 1) := by decide +kernel
theorem d_RM_poke_5 : decode b_RM_poke 5 = .ok (.bipush 64, 2) := by decide +kernel
theorem d_RM_poke_7 : decode b_RM_poke 7 = .ok (.if_icmp .ge 7, 3) := by decide +kernel
theorem d_RM_poke_10 : decode b_RM_poke 10 = .ok (.iconst 1, 1) := by decide +kernel
theorem d_RM_poke_11 : decode b_RM_poke 11 = .ok (.goto 4, 3) := by decide +kernel
theorem d_RM_poke_14 : decode b_RM_poke 14 = .ok (.iconst 0, 1) := by decide +kernel
theorem d_RM_poke_15 : decode b_RM_poke 15 = .ok (.invokestatic 67, 3) := by decide +kernel
theorem d_RM_poke_18 : decode b_RM_poke 18 = .ok (.aload_n 0, 1) := by decide +kernel
theorem d_RM_poke_19 : decode b_RM_poke 19 = .ok (.getfield 71, 3) := by decide +kernel
theorem d_RM_poke_22 : decode b_RM_poke 22 = .ok (.ifCond .le 11, 3) := by decide +kernel
theorem d_RM_poke_25 : decode b_RM_poke 25 = .ok (.new 74, 3) := by decide +kernel
theorem d_RM_poke_28 : decode b_RM_poke 28 = .ok (.dup, 1) := by decide +kernel
theorem d_RM_poke_29 : decode b_RM_poke 29 = .ok (.invokespecial 76, 3) := by decide +kernel
theorem d_RM_poke_32 : decode b_RM_poke 32 = .ok (.athrow, 1) := by decide +kernel
theorem d_RM_poke_33 : decode b_RM_poke 33 = .ok (.aload_n 0, 1) := by decide +kernel
theorem d_RM_poke_34 : decode b_RM_poke 34 = .ok (.getfield 7, 3) := by decide +kernel
theorem d_RM_poke_37 : decode b_RM_poke 37 = .ok (.iload_n 1, 1) := by decide +kernel
theorem d_RM_poke_38 : decode b_RM_poke 38 = .ok (.iload_n 2, 1) := by decide +kernel
theorem d_RM_poke_39 : decode b_RM_poke 39 = .ok (.iastore, 1) := by decide +kernel
theorem d_RM_poke_40 : decode b_RM_poke 40 = .ok (.return_, 1) := by decide +kernel
theorem d_RM_input_0 : decode b_RM_input 0 = .ok (.aload_n 0, 1) := by decide +kernel
theorem d_RM_input_1 : decode b_RM_input 1 = .ok (.getfield 77, 3) := by decide +kernel
theorem d_RM_input_4 : decode b_RM_input 4 = .ok (.bipush 40, 2) := by decide +kernel
theorem d_RM_input_6 : decode b_RM_input 6 = .ok (.if_icmp .lt 5, 3) := by decide +kernel
theorem d_RM_input_9 : decode b_RM_input 9 = .ok (.iconst (-1), 1) := by decide +kernel
theorem d_RM_input_10 : decode b_RM_input 10 = .ok (.ireturn, 1) := by decide +kernel
theorem d_RM_input_11 : decode b_RM_input 11 = .ok (.aload_n 0, 1) := by decide +kernel
theorem d_RM_input_12 : decode b_RM_input 12 = .ok (.getfield 13, 3) := by decide +kernel
theorem d_RM_input_15 : decode b_RM_input 15 = .ok (.aload_n 0, 1) := by decide +kernel
theorem d_RM_input_16 : decode b_RM_input 16 = .ok (.getfield 77, 3) := by decide +kernel
theorem d_RM_input_19 : decode b_RM_input 19 = .ok (.iload_n 1, 1) := by decide +kernel
theorem d_RM_input_20 : decode b_RM_input 20 = .ok (.iastore, 1) := by decide +kernel
theorem d_RM_input_21 : decode b_RM_input 21 = .ok (.aload_n 0, 1) := by decide +kernel
theorem d_RM_input_22 : decode b_RM_input 22 = .ok (.dup, 1) := by decide +kernel
theorem d_RM_input_23 : decode b_RM_input 23 = .ok (.getfield 77, 3) := by decide +kernel
theorem d_RM_input_26 : decode b_RM_input 26 = .ok (.iconst 1, 1) := by decide +kernel
theorem d_RM_input_27 : decode b_RM_input 27 = .ok (.iadd, 1) := by decide +kernel
theorem d_RM_input_28 : decode b_RM_input 28 = .ok (.putfield 77, 3) := by decide +kernel
theorem d_RM_input_31 : decode b_RM_input 31 = .ok (.aload_n 0, 1) := by decide +kernel
theorem d_RM_input_32 : decode b_RM_input 32 = .ok (.getfield 77, 3) := by decide +kernel
theorem d_RM_input_35 : decode b_RM_input 35 = .ok (.ireturn, 1) := by decide +kernel
theorem d_RM_check_0 : decode b_RM_check 0 = .ok (.aload_n 1, 1) := by decide +kernel
theorem d_RM_check_1 : decode b_RM_check 1 = .ok (.getfield 80, 3) := by decide +kernel
theorem d_RM_check_4 : decode b_RM_check 4 = .ok (.ifCond .lt 12, 3) := by decide +kernel
theorem d_RM_check_7 : decode b_RM_check 7 = .ok (.aload_n 1, 1) := by decide +kernel
theorem d_RM_check_8 : decode b_RM_check 8 = .ok (.getfield 80, 3) := by decide +kernel
theorem d_RM_check_11 : decode b_RM_check 11 = .ok (.bipush 64, 2) := by decide +kernel
theorem d_RM_check_13 : decode b_RM_check 13 = .ok (.if_icmp .lt 5, 3) := by decide +kernel
theorem d_RM_check_16 : decode b_RM_check 16 = .ok (.iconst 4, 1) := by decide +kernel
theorem d_RM_check_17 : decode b_RM_check 17 = .ok (.ireturn, 1) := by decide +kernel
theorem d_RM_check_18 : decode b_RM_check 18 = .ok (.aload_n 0, 1) := by decide +kernel
theorem d_RM_check_19 : decode b_RM_check 19 = .ok (.getfield 7, 3) := by decide +kernel
theorem d_RM_check_22 : decode b_RM_check 22 = .ok (.aload_n 1, 1) := by decide +kernel
theorem d_RM_check_23 : decode b_RM_check 23 = .ok (.getfield 80, 3) := by decide +kernel
theorem d_RM_check_26 : decode b_RM_check 26 = .ok (.iaload, 1) := by decide +kernel
theorem d_RM_check_27 : decode b_RM_check 27 = .ok (.istore_n 2, 1) := by decide +kernel
theorem d_RM_check_28 : decode b_RM_check 28 = .ok (.iload_n 2, 1) := by decide +kernel
theorem d_RM_check_29 : decode b_RM_check 29 = .ok (.bipush 31, 2) := by decide +kernel
theorem d_RM_check_31 : decode b_RM_check 31 = .ok (.iand, 1) := by decide +kernel
theorem d_RM_check_32 : decode b_RM_check 32 = .ok (.getstatic 83, 3) := by decide +kernel
theorem d_RM_check_35 : decode b_RM_check 35 = .ok (.arraylength, 1) := by decide +kernel
theorem d_RM_check_36 : decode b_RM_check 36 = .ok (.if_icmp .lt 5, 3) := by decide +kernel
theorem d_RM_check_39 : decode b_RM_check 39 = .ok (.iconst 5, 1) := by decide +kernel
theorem d_RM_check_40 : decode b_RM_check 40 = .ok (.ireturn, 1) := by decide +kernel
theorem d_RM_check_41 : decode b_RM_check 41 = .ok (.getstatic 83, 3) := by decide +kernel
theorem d_RM_check_44 : decode b_RM_check 44 = .ok (.iload_n 2, 1) := by decide +kernel
theorem d_RM_check_45 : decode b_RM_check 45 = .ok (.bipush 31, 2) := by decide +kernel
theorem d_RM_check_47 : decode b_RM_check 47 = .ok (.iand, 1) := by decide +kernel
theorem d_RM_check_48 : decode b_RM_check 48 = .ok (.aaload, 1) := by decide +kernel
theorem d_RM_check_49 : decode b_RM_check 49 = .ok (.astore_n 3, 1) := by decide +kernel
theorem d_RM_check_50 : decode b_RM_check 50 = .ok (.iload_n 2, 1) := by decide +kernel
theorem d_RM_check_51 : decode b_RM_check 51 = .ok (.iconst 5, 1) := by decide +kernel
theorem d_RM_check_52 : decode b_RM_check 52 = .ok (.ishr, 1) := by decide +kernel
theorem d_RM_check_53 : decode b_RM_check 53 = .ok (.istore 4, 2) := by decide +kernel
theorem d_RM_check_55 : decode b_RM_check 55 = .ok (.aload_n 3, 1) := by decide +kernel
theorem d_RM_check_56 : decode b_RM_check 56 = .ok (.getstatic 87, 3) := by decide +kernel
theorem d_RM_check_59 : decode b_RM_check 59 = .ok (.if_acmp .ne 5, 3) := by decide +kernel
theorem d_RM_check_62 : decode b_RM_check 62 = .ok (.iconst 1, 1) := by decide +kernel
theorem d_RM_check_63 : decode b_RM_check 63 = .ok (.ireturn, 1) := by decide +kernel
theorem d_RM_check_64 : decode b_RM_check 64 = .ok (.aload_n 1, 1) := by decide +kernel
theorem d_RM_check_65 : decode b_RM_check 65 = .ok (.getfield 93, 3) := by decide +kernel
theorem d_RM_check_68 : decode b_RM_check 68 = .ok (.aload_n 3, 1) := by decide +kernel
theorem d_RM_check_69 : decode b_RM_check 69 = .ok (.getfield 96, 3) := by decide +kernel
theorem d_RM_check_72 : decode b_RM_check 72 = .ok (.if_icmp .ge 5, 3) := by decide +kernel
theorem d_RM_check_75 : decode b_RM_check 75 = .ok (.iconst 2, 1) := by decide +kernel
theorem d_RM_check_76 : decode b_RM_check 76 = .ok (.ireturn, 1) := by decide +kernel
theorem d_RM_check_77 : decode b_RM_check 77 = .ok (.aload_n 3, 1) := by decide +kernel
theorem d_RM_check_78 : decode b_RM_check 78 = .ok (.invokevirtual 99, 3) := by decide +kernel
theorem d_RM_check_81 : decode b_RM_check 81 = .ok (.tableswitch 146 8 19 #[113, 146, 95, 95, 146, 146, 146, 146, 63, 84, 132, 123], 63) := by decide +kernel
theorem d_RM_check_144 : decode b_RM_check 144 = .ok (.aload_n 1, 1) := by decide +kernel
theorem d_RM_check_145 : decode b_RM_check 145 = .ok (.getfield 103, 3) := by decide +kernel
theorem d_RM_check_148 : decode b_RM_check 148 = .ok (.iconst 2, 1) := by decide +kernel
theorem d_RM_check_149 : decode b_RM_check 149 = .ok (.if_icmp .lt 14, 3) := by decide +kernel
theorem d_RM_check_152 : decode b_RM_check 152 = .ok (.aload_n 1, 1) := by decide +kernel
theorem d_RM_check_153 : decode b_RM_check 153 = .ok (.getfield 103, 3) := by decide +kernel
theorem d_RM_check_156 : decode b_RM_check 156 = .ok (.aload_n 1, 1) := by decide +kernel
theorem d_RM_check_157 : decode b_RM_check 157 = .ok (.getfield 93, 3) := by decide +kernel
theorem d_RM_check_160 : decode b_RM_check 160 = .ok (.if_icmp .lt 67, 3) := by decide +kernel
theorem d_RM_check_163 : decode b_RM_check 163 = .ok (.iconst 2, 1) := by decide +kernel
theorem d_RM_check_164 : decode b_RM_check 164 = .ok (.ireturn, 1) := by decide +kernel
theorem d_RM_check_165 : decode b_RM_check 165 = .ok (.aload_n 1, 1) := by decide +kernel
theorem d_RM_check_166 : decode b_RM_check 166 = .ok (.iload 4, 2) := by decide +kernel
theorem d_RM_check_168 : decode b_RM_check 168 = .ok (.invokestatic 106, 3) := by decide +kernel
theorem d_RM_check_171 : decode b_RM_check 171 = .ok (.ifCond .ne 56, 3) := by decide +kernel
theorem d_RM_check_174 : decode b_RM_check 174 = .ok (.iconst 2, 1) := by decide +kernel
theorem d_RM_check_175 : decode b_RM_check 175 = .ok (.ireturn, 1) := by decide +kernel
theorem d_RM_check_176 : decode b_RM_check 176 = .ok (.aload_n 1, 1) := by decide +kernel
theorem d_RM_check_177 : decode b_RM_check 177 = .ok (.invokevirtual 110, 3) := by decide +kernel
theorem d_RM_check_180 : decode b_RM_check 180 = .ok (.ifCond .lt 12, 3) := by decide +kernel
theorem d_RM_check_183 : decode b_RM_check 183 = .ok (.aload_n 1, 1) := by decide +kernel
theorem d_RM_check_184 : decode b_RM_check 184 = .ok (.invokevirtual 110, 3) := by decide +kernel
theorem d_RM_check_187 : decode b_RM_check 187 = .ok (.bipush 32, 2) := by decide +kernel
theorem d_RM_check_189 : decode b_RM_check 189 = .ok (.if_icmp .lt 38, 3) := by decide +kernel
theorem d_RM_check_192 : decode b_RM_check 192 = .ok (.iconst 4, 1) := by decide +kernel
theorem d_RM_check_193 : decode b_RM_check 193 = .ok (.ireturn, 1) := by decide +kernel
theorem d_RM_check_194 : decode b_RM_check 194 = .ok (.aload_n 1, 1) := by decide +kernel
theorem d_RM_check_195 : decode b_RM_check 195 = .ok (.invokevirtual 110, 3) := by decide +kernel
theorem d_RM_check_198 : decode b_RM_check 198 = .ok (.ifCond .ne 29, 3) := by decide +kernel
theorem d_RM_check_201 : decode b_RM_check 201 = .ok (.bipush 6, 2) := by decide +kernel
theorem d_RM_check_203 : decode b_RM_check 203 = .ok (.ireturn, 1) := by decide +kernel
theorem d_RM_check_204 : decode b_RM_check 204 = .ok (.iload 4, 2) := by decide +kernel
theorem d_RM_check_206 : decode b_RM_check 206 = .ok (.iconst 1, 1) := by decide +kernel
theorem d_RM_check_207 : decode b_RM_check 207 = .ok (.if_icmp .ge 20, 3) := by decide +kernel
theorem d_RM_check_210 : decode b_RM_check 210 = .ok (.bipush 6, 2) := by decide +kernel
theorem d_RM_check_212 : decode b_RM_check 212 = .ok (.ireturn, 1) := by decide +kernel
theorem d_RM_check_213 : decode b_RM_check 213 = .ok (.aload_n 1, 1) := by decide +kernel
theorem d_RM_check_214 : decode b_RM_check 214 = .ok (.getfield 113, 3) := by decide +kernel
theorem d_RM_check_217 : decode b_RM_check 217 = .ok (.aload_n 0, 1) := by decide +kernel
theorem d_RM_check_218 : decode b_RM_check 218 = .ok (.getfield 77, 3) := by decide +kernel
theorem d_RM_check_221 : decode b_RM_check 221 = .ok (.if_icmp .lt 6, 3) := by decide +kernel
theorem d_RM_check_224 : decode b_RM_check 224 = .ok (.bipush 7, 2) := by decide +kernel
theorem d_RM_check_226 : decode b_RM_check 226 = .ok (.ireturn, 1) := by decide +kernel
theorem d_RM_check_227 : decode b_RM_check 227 = .ok (.aload_n 1, 1) := by decide +kernel
theorem d_RM_check_228 : decode b_RM_check 228 = .ok (.getfield 93, 3) := by decide +kernel
theorem d_RM_check_231 : decode b_RM_check 231 = .ok (.aload_n 3, 1) := by decide +kernel
theorem d_RM_check_232 : decode b_RM_check 232 = .ok (.getfield 96, 3) := by decide +kernel
theorem d_RM_check_235 : decode b_RM_check 235 = .ok (.isub, 1) := by decide +kernel
theorem d_RM_check_236 : decode b_RM_check 236 = .ok (.aload_n 3, 1) := by decide +kernel
theorem d_RM_check_237 : decode b_RM_check 237 = .ok (.getfield 116, 3) := by decide +kernel
theorem d_RM_check_240 : decode b_RM_check 240 = .ok (.iadd, 1) := by decide +kernel
theorem d_RM_check_241 : decode b_RM_check 241 = .ok (.bipush 24, 2) := by decide +kernel
theorem d_RM_check_243 : decode b_RM_check 243 = .ok (.if_icmp .le 7, 3) := by decide +kernel
theorem d_RM_check_246 : decode b_RM_check 246 = .ok (.iconst 3, 1) := by decide +kernel
theorem d_RM_check_247 : decode b_RM_check 247 = .ok (.goto 4, 3) := by decide +kernel
theorem d_RM_check_250 : decode b_RM_check 250 = .ok (.iconst 0, 1) := by decide +kernel
theorem d_RM_check_251 : decode b_RM_check 251 = .ok (.ireturn, 1) := by decide +kernel
theorem d_RM_isArgument_0 : decode b_RM_isArgument 0 = .ok (.aload_n 0, 1) := by decide +kernel
theorem d_RM_isArgument_1 : decode b_RM_isArgument 1 = .ok (.getfield 103, 3) := by decide +kernel
theorem d_RM_isArgument_4 : decode b_RM_isArgument 4 = .ok (.i2l, 1) := by decide +kernel
theorem d_RM_isArgument_5 : decode b_RM_isArgument 5 = .ok (.ldc2_w 119, 3) := by decide +kernel
theorem d_RM_isArgument_8 : decode b_RM_isArgument 8 = .ok (.lsub, 1) := by decide +kernel
theorem d_RM_isArgument_9 : decode b_RM_isArgument 9 = .ok (.iload_n 1, 1) := by decide +kernel
theorem d_RM_isArgument_10 : decode b_RM_isArgument 10 = .ok (.i2l, 1) := by decide +kernel
theorem d_RM_isArgument_11 : decode b_RM_isArgument 11 = .ok (.lsub, 1) := by decide +kernel
theorem d_RM_isArgument_12 : decode b_RM_isArgument 12 = .ok (.lstore_n 2, 1) := by decide +kernel
theorem d_RM_isArgument_13 : decode b_RM_isArgument 13 = .ok (.lload_n 2, 1) := by decide +kernel
theorem d_RM_isArgument_14 : decode b_RM_isArgument 14 = .ok (.lconst 0, 1) := by decide +kernel
theorem d_RM_isArgument_15 : decode b_RM_isArgument 15 = .ok (.lcmp, 1) := by decide +kernel
theorem d_RM_isArgument_16 : decode b_RM_isArgument 16 = .ok (.ifCond .lt 17, 3) := by decide +kernel
theorem d_RM_isArgument_19 : decode b_RM_isArgument 19 = .ok (.lload_n 2, 1) := by decide +kernel
theorem d_RM_isArgument_20 : decode b_RM_isArgument 20 = .ok (.aload_n 0, 1) := by decide +kernel
theorem d_RM_isArgument_21 : decode b_RM_isArgument 21 = .ok (.getfield 93, 3) := by decide +kernel
theorem d_RM_isArgument_24 : decode b_RM_isArgument 24 = .ok (.i2l, 1) := by decide +kernel
theorem d_RM_isArgument_25 : decode b_RM_isArgument 25 = .ok (.lcmp, 1) := by decide +kernel
theorem d_RM_isArgument_26 : decode b_RM_isArgument 26 = .ok (.ifCond .ge 7, 3) := by decide +kernel
theorem d_RM_isArgument_29 : decode b_RM_isArgument 29 = .ok (.iconst 1, 1) := by decide +kernel
theorem d_RM_isArgument_30 : decode b_RM_isArgument 30 = .ok (.goto 4, 3) := by decide +kernel
theorem d_RM_isArgument_33 : decode b_RM_isArgument 33 = .ok (.iconst 0, 1) := by decide +kernel
theorem d_RM_isArgument_34 : decode b_RM_isArgument 34 = .ok (.ireturn, 1) := by decide +kernel
theorem d_RM_perform_0 : decode b_RM_perform 0 = .ok (.aload_n 0, 1) := by decide +kernel
theorem d_RM_perform_1 : decode b_RM_perform 1 = .ok (.getfield 26, 3) := by decide +kernel
theorem d_RM_perform_4 : decode b_RM_perform 4 = .ok (.aload_n 1, 1) := by decide +kernel
theorem d_RM_perform_5 : decode b_RM_perform 5 = .ok (.invokevirtual 121, 3) := by decide +kernel
theorem d_RM_perform_8 : decode b_RM_perform 8 = .ok (.astore_n 2, 1) := by decide +kernel
theorem d_RM_perform_9 : decode b_RM_perform 9 = .ok (.aload_n 0, 1) := by decide +kernel
theorem d_RM_perform_10 : decode b_RM_perform 10 = .ok (.getfield 7, 3) := by decide +kernel
theorem d_RM_perform_13 : decode b_RM_perform 13 = .ok (.aload_n 1, 1) := by decide +kernel
theorem d_RM_perform_14 : decode b_RM_perform 14 = .ok (.getfield 80, 3) := by decide +kernel
theorem d_RM_perform_17 : decode b_RM_perform 17 = .ok (.iaload, 1) := by decide +kernel
theorem d_RM_perform_18 : decode b_RM_perform 18 = .ok (.istore_n 3, 1) := by decide +kernel
theorem d_RM_perform_19 : decode b_RM_perform 19 = .ok (.iload_n 3, 1) := by decide +kernel
theorem d_RM_perform_20 : decode b_RM_perform 20 = .ok (.iconst 5, 1) := by decide +kernel
theorem d_RM_perform_21 : decode b_RM_perform 21 = .ok (.ishr, 1) := by decide +kernel
theorem d_RM_perform_22 : decode b_RM_perform 22 = .ok (.istore 4, 2) := by decide +kernel
theorem d_RM_perform_24 : decode b_RM_perform 24 = .ok (.aload_n 1, 1) := by decide +kernel
theorem d_RM_perform_25 : decode b_RM_perform 25 = .ok (.dup, 1) := by decide +kernel
theorem d_RM_perform_26 : decode b_RM_perform 26 = .ok (.getfield 80, 3) := by decide +kernel
theorem d_RM_perform_29 : decode b_RM_perform 29 = .ok (.iconst 1, 1) := by decide +kernel
theorem d_RM_perform_30 : decode b_RM_perform 30 = .ok (.iadd, 1) := by decide +kernel
theorem d_RM_perform_31 : decode b_RM_perform 31 = .ok (.putfield 80, 3) := by decide +kernel
theorem d_RM_perform_34 : decode b_RM_perform 34 = .ok (.aload_n 1, 1) := by decide +kernel
theorem d_RM_perform_35 : decode b_RM_perform 35 = .ok (.dup, 1) := by decide +kernel
theorem d_RM_perform_36 : decode b_RM_perform 36 = .ok (.getfield 125, 3) := by decide +kernel
theorem d_RM_perform_39 : decode b_RM_perform 39 = .ok (.iconst 1, 1) := by decide +kernel
theorem d_RM_perform_40 : decode b_RM_perform 40 = .ok (.iadd, 1) := by decide +kernel
theorem d_RM_perform_41 : decode b_RM_perform 41 = .ok (.putfield 125, 3) := by decide +kernel
theorem d_RM_perform_44 : decode b_RM_perform 44 = .ok (.getstatic 83, 3) := by decide +kernel
theorem d_RM_perform_47 : decode b_RM_perform 47 = .ok (.iload_n 3, 1) := by decide +kernel
theorem d_RM_perform_48 : decode b_RM_perform 48 = .ok (.bipush 31, 2) := by decide +kernel
theorem d_RM_perform_50 : decode b_RM_perform 50 = .ok (.iand, 1) := by decide +kernel
theorem d_RM_perform_51 : decode b_RM_perform 51 = .ok (.aaload, 1) := by decide +kernel
theorem d_RM_perform_52 : decode b_RM_perform 52 = .ok (.invokevirtual 99, 3) := by decide +kernel
theorem d_RM_perform_55 : decode b_RM_perform 55 = .ok (.tableswitch 387 1 19 #[89, 99, 112, 124, 132, 149, 166, 183, 200, 224, 247, 255, 264, 285, 306, 316, 324, 346, 373], 89) := by decide +kernel
theorem d_RM_perform_144 : decode b_RM_perform 144 = .ok (.aload_n 1, 1) := by decide +kernel
theorem d_RM_perform_145 : decode b_RM_perform 145 = .ok (.aload_n 2, 1) := by decide +kernel
theorem d_RM_perform_146 : decode b_RM_perform 146 = .ok (.iload 4, 2) := by decide +kernel
theorem d_RM_perform_148 : decode b_RM_perform 148 = .ok (.invokevirtual 128, 3) := by decide +kernel
theorem d_RM_perform_151 : decode b_RM_perform 151 = .ok (.goto 300, 3) := by decide +kernel
theorem d_RM_perform_154 : decode b_RM_perform 154 = .ok (.aload_n 1, 1) := by decide +kernel
theorem d_RM_perform_155 : decode b_RM_perform 155 = .ok (.dup, 1) := by decide +kernel
theorem d_RM_perform_156 : decode b_RM_perform 156 = .ok (.getfield 93, 3) := by decide +kernel
theorem d_RM_perform_159 : decode b_RM_perform 159 = .ok (.iconst 1, 1) := by decide +kernel
theorem d_RM_perform_160 : decode b_RM_perform 160 = .ok (.isub, 1) := by decide +kernel
theorem d_RM_perform_161 : decode b_RM_perform 161 = .ok (.putfield 93, 3) := by decide +kernel
theorem d_RM_perform_164 : decode b_RM_perform 164 = .ok (.goto 287, 3) := by decide +kernel
theorem d_RM_perform_167 : decode b_RM_perform 167 = .ok (.aload_n 1, 1) := by decide +kernel
theorem d_RM_perform_168 : decode b_RM_perform 168 = .ok (.aload_n 2, 1) := by decide +kernel
theorem d_RM_perform_169 : decode b_RM_perform 169 = .ok (.aload_n 1, 1) := by decide +kernel
theorem d_RM_perform_170 : decode b_RM_perform 170 = .ok (.invokevirtual 110, 3) := by decide +kernel
theorem d_RM_perform_173 : decode b_RM_perform 173 = .ok (.invokevirtual 128, 3) := by decide +kernel
theorem d_RM_perform_176 : decode b_RM_perform 176 = .ok (.goto 275, 3) := by decide +kernel
theorem d_RM_perform_179 : decode b_RM_perform 179 = .ok (.aload_n 1, 1) := by decide +kernel
theorem d_RM_perform_180 : decode b_RM_perform 180 = .ok (.aload_n 2, 1) := by decide +kernel
theorem d_RM_perform_181 : decode b_RM_perform 181 = .ok (.invokevirtual 132, 3) := by decide +kernel
theorem d_RM_perform_184 : decode b_RM_perform 184 = .ok (.goto 267, 3) := by decide +kernel
theorem d_RM_perform_187 : decode b_RM_perform 187 = .ok (.aload_n 1, 1) := by decide +kernel
theorem d_RM_perform_188 : decode b_RM_perform 188 = .ok (.aload_n 2, 1) := by decide +kernel
theorem d_RM_perform_189 : decode b_RM_perform 189 = .ok (.aload_n 1, 1) := by decide +kernel
theorem d_RM_perform_190 : decode b_RM_perform 190 = .ok (.invokevirtual 136, 3) := by decide +kernel
theorem d_RM_perform_193 : decode b_RM_perform 193 = .ok (.aload_n 1, 1) := by decide +kernel
theorem d_RM_perform_194 : decode b_RM_perform 194 = .ok (.invokevirtual 110, 3) := by decide +kernel
theorem d_RM_perform_197 : decode b_RM_perform 197 = .ok (.iadd, 1) := by decide +kernel
theorem d_RM_perform_198 : decode b_RM_perform 198 = .ok (.invokevirtual 139, 3) := by decide +kernel
theorem d_RM_perform_201 : decode b_RM_perform 201 = .ok (.goto 250, 3) := by decide +kernel
theorem d_RM_perform_204 : decode b_RM_perform 204 = .ok (.aload_n 1, 1) := by decide +kernel
theorem d_RM_perform_205 : decode b_RM_perform 205 = .ok (.aload_n 2, 1) := by decide +kernel
theorem d_RM_perform_206 : decode b_RM_perform 206 = .ok (.aload_n 1, 1) := by decide +kernel
theorem d_RM_perform_207 : decode b_RM_perform 207 = .ok (.invokevirtual 136, 3) := by decide +kernel
theorem d_RM_perform_210 : decode b_RM_perform 210 = .ok (.aload_n 1, 1) := by decide +kernel
theorem d_RM_perform_211 : decode b_RM_perform 211 = .ok (.invokevirtual 110, 3) := by decide +kernel
theorem d_RM_perform_214 : decode b_RM_perform 214 = .ok (.isub, 1) := by decide +kernel
theorem d_RM_perform_215 : decode b_RM_perform 215 = .ok (.invokevirtual 139, 3) := by decide +kernel
theorem d_RM_perform_218 : decode b_RM_perform 218 = .ok (.goto 233, 3) := by decide +kernel
theorem d_RM_perform_221 : decode b_RM_perform 221 = .ok (.aload_n 1, 1) := by decide +kernel
theorem d_RM_perform_222 : decode b_RM_perform 222 = .ok (.aload_n 2, 1) := by decide +kernel
theorem d_RM_perform_223 : decode b_RM_perform 223 = .ok (.aload_n 1, 1) := by decide +kernel
theorem d_RM_perform_224 : decode b_RM_perform 224 = .ok (.invokevirtual 136, 3) := by decide +kernel
theorem d_RM_perform_227 : decode b_RM_perform 227 = .ok (.aload_n 1, 1) := by decide +kernel
theorem d_RM_perform_228 : decode b_RM_perform 228 = .ok (.invokevirtual 110, 3) := by decide +kernel
theorem d_RM_perform_231 : decode b_RM_perform 231 = .ok (.imul, 1) := by decide +kernel
theorem d_RM_perform_232 : decode b_RM_perform 232 = .ok (.invokevirtual 139, 3) := by decide +kernel
theorem d_RM_perform_235 : decode b_RM_perform 235 = .ok (.goto 216, 3) := by decide +kernel
theorem d_RM_perform_238 : decode b_RM_perform 238 = .ok (.aload_n 1, 1) := by decide +kernel
theorem d_RM_perform_239 : decode b_RM_perform 239 = .ok (.aload_n 2, 1) := by decide +kernel
theorem d_RM_perform_240 : decode b_RM_perform 240 = .ok (.aload_n 1, 1) := by decide +kernel
theorem d_RM_perform_241 : decode b_RM_perform 241 = .ok (.invokevirtual 136, 3) := by decide +kernel
theorem d_RM_perform_244 : decode b_RM_perform 244 = .ok (.aload_n 1, 1) := by decide +kernel
theorem d_RM_perform_245 : decode b_RM_perform 245 = .ok (.invokevirtual 110, 3) := by decide +kernel
theorem d_RM_perform_248 : decode b_RM_perform 248 = .ok (.idiv, 1) := by decide +kernel
theorem d_RM_perform_249 : decode b_RM_perform 249 = .ok (.invokevirtual 139, 3) := by decide +kernel
theorem d_RM_perform_252 : decode b_RM_perform 252 = .ok (.goto 199, 3) := by decide +kernel
theorem d_RM_perform_255 : decode b_RM_perform 255 = .ok (.aload_n 1, 1) := by decide +kernel
theorem d_RM_perform_256 : decode b_RM_perform 256 = .ok (.aload_n 2, 1) := by decide +kernel
theorem d_RM_perform_257 : decode b_RM_perform 257 = .ok (.aload_n 1, 1) := by decide +kernel
theorem d_RM_perform_258 : decode b_RM_perform 258 = .ok (.invokevirtual 136, 3) := by decide +kernel
theorem d_RM_perform_261 : decode b_RM_perform 261 = .ok (.aload_n 1, 1) := by decide +kernel
theorem d_RM_perform_262 : decode b_RM_perform 262 = .ok (.invokevirtual 110, 3) := by decide +kernel
theorem d_RM_perform_265 : decode b_RM_perform 265 = .ok (.if_icmp .ge 7, 3) := by decide +kernel
theorem d_RM_perform_268 : decode b_RM_perform 268 = .ok (.iconst 1, 1) := by decide +kernel
theorem d_RM_perform_269 : decode b_RM_perform 269 = .ok (.goto 4, 3) := by decide +kernel
theorem d_RM_perform_272 : decode b_RM_perform 272 = .ok (.iconst 0, 1) := by decide +kernel
theorem d_RM_perform_273 : decode b_RM_perform 273 = .ok (.invokevirtual 139, 3) := by decide +kernel
theorem d_RM_perform_276 : decode b_RM_perform 276 = .ok (.goto 175, 3) := by decide +kernel
theorem d_RM_perform_279 : decode b_RM_perform 279 = .ok (.aload_n 1, 1) := by decide +kernel
theorem d_RM_perform_280 : decode b_RM_perform 280 = .ok (.aload_n 2, 1) := by decide +kernel
theorem d_RM_perform_281 : decode b_RM_perform 281 = .ok (.aload_n 1, 1) := by decide +kernel
theorem d_RM_perform_282 : decode b_RM_perform 282 = .ok (.getfield 93, 3) := by decide +kernel
theorem d_RM_perform_285 : decode b_RM_perform 285 = .ok (.iconst 1, 1) := by decide +kernel
theorem d_RM_perform_286 : decode b_RM_perform 286 = .ok (.isub, 1) := by decide +kernel
theorem d_RM_perform_287 : decode b_RM_perform 287 = .ok (.aload_n 1, 1) := by decide +kernel
theorem d_RM_perform_288 : decode b_RM_perform 288 = .ok (.getfield 142, 3) := by decide +kernel
theorem d_RM_perform_291 : decode b_RM_perform 291 = .ok (.aload_n 1, 1) := by decide +kernel
theorem d_RM_perform_292 : decode b_RM_perform 292 = .ok (.invokevirtual 110, 3) := by decide +kernel
theorem d_RM_perform_295 : decode b_RM_perform 295 = .ok (.iaload, 1) := by decide +kernel
theorem d_RM_perform_296 : decode b_RM_perform 296 = .ok (.invokevirtual 145, 3) := by decide +kernel
theorem d_RM_perform_299 : decode b_RM_perform 299 = .ok (.goto 152, 3) := by decide +kernel
theorem d_RM_perform_302 : decode b_RM_perform 302 = .ok (.aload_n 1, 1) := by decide +kernel
theorem d_RM_perform_303 : decode b_RM_perform 303 = .ok (.aload_n 2, 1) := by decide +kernel
theorem d_RM_perform_304 : decode b_RM_perform 304 = .ok (.invokevirtual 149, 3) := by decide +kernel
theorem d_RM_perform_307 : decode b_RM_perform 307 = .ok (.goto 144, 3) := by decide +kernel
theorem d_RM_perform_310 : decode b_RM_perform 310 = .ok (.aload_n 1, 1) := by decide +kernel
theorem d_RM_perform_311 : decode b_RM_perform 311 = .ok (.iload 4, 2) := by decide +kernel
theorem d_RM_perform_313 : decode b_RM_perform 313 = .ok (.putfield 80, 3) := by decide +kernel
theorem d_RM_perform_316 : decode b_RM_perform 316 = .ok (.goto 135, 3) := by decide +kernel
theorem d_RM_perform_319 : decode b_RM_perform 319 = .ok (.aload_n 1, 1) := by decide +kernel
theorem d_RM_perform_320 : decode b_RM_perform 320 = .ok (.iload 4, 2) := by decide +kernel
theorem d_RM_perform_322 : decode b_RM_perform 322 = .ok (.aload_n 1, 1) := by decide +kernel
theorem d_RM_perform_323 : decode b_RM_perform 323 = .ok (.invokevirtual 110, 3) := by decide +kernel
theorem d_RM_perform_326 : decode b_RM_perform 326 = .ok (.ifCond .ne 7, 3) := by decide +kernel
theorem d_RM_perform_329 : decode b_RM_perform 329 = .ok (.iconst 1, 1) := by decide +kernel
theorem d_RM_perform_330 : decode b_RM_perform 330 = .ok (.goto 4, 3) := by decide +kernel
theorem d_RM_perform_333 : decode b_RM_perform 333 = .ok (.iconst 0, 1) := by decide +kernel
theorem d_RM_perform_334 : decode b_RM_perform 334 = .ok (.invokestatic 152, 3) := by decide +kernel
theorem d_RM_perform_337 : decode b_RM_perform 337 = .ok (.goto 114, 3) := by decide +kernel
theorem d_RM_perform_340 : decode b_RM_perform 340 = .ok (.aload_n 1, 1) := by decide +kernel
theorem d_RM_perform_341 : decode b_RM_perform 341 = .ok (.iload 4, 2) := by decide +kernel
theorem d_RM_perform_343 : decode b_RM_perform 343 = .ok (.aload_n 1, 1) := by decide +kernel
theorem d_RM_perform_344 : decode b_RM_perform 344 = .ok (.invokevirtual 110, 3) := by decide +kernel
theorem d_RM_perform_347 : decode b_RM_perform 347 = .ok (.ifCond .ge 7, 3) := by decide +kernel
theorem d_RM_perform_350 : decode b_RM_perform 350 = .ok (.iconst 1, 1) := by decide +kernel
theorem d_RM_perform_351 : decode b_RM_perform 351 = .ok (.goto 4, 3) := by decide +kernel
theorem d_RM_perform_354 : decode b_RM_perform 354 = .ok (.iconst 0, 1) := by decide +kernel
theorem d_RM_perform_355 : decode b_RM_perform 355 = .ok (.invokestatic 152, 3) := by decide +kernel
theorem d_RM_perform_358 : decode b_RM_perform 358 = .ok (.goto 93, 3) := by decide +kernel
theorem d_RM_perform_361 : decode b_RM_perform 361 = .ok (.aload_n 1, 1) := by decide +kernel
theorem d_RM_perform_362 : decode b_RM_perform 362 = .ok (.aload_n 2, 1) := by decide +kernel
theorem d_RM_perform_363 : decode b_RM_perform 363 = .ok (.iload 4, 2) := by decide +kernel
theorem d_RM_perform_365 : decode b_RM_perform 365 = .ok (.invokevirtual 156, 3) := by decide +kernel
theorem d_RM_perform_368 : decode b_RM_perform 368 = .ok (.goto 83, 3) := by decide +kernel
theorem d_RM_perform_371 : decode b_RM_perform 371 = .ok (.aload_n 1, 1) := by decide +kernel
theorem d_RM_perform_372 : decode b_RM_perform 372 = .ok (.aload_n 2, 1) := by decide +kernel
theorem d_RM_perform_373 : decode b_RM_perform 373 = .ok (.invokevirtual 159, 3) := by decide +kernel
theorem d_RM_perform_376 : decode b_RM_perform 376 = .ok (.goto 75, 3) := by decide +kernel
theorem d_RM_perform_379 : decode b_RM_perform 379 = .ok (.aload_n 1, 1) := by decide +kernel
theorem d_RM_perform_380 : decode b_RM_perform 380 = .ok (.aload_n 2, 1) := by decide +kernel
theorem d_RM_perform_381 : decode b_RM_perform 381 = .ok (.aload_n 1, 1) := by decide +kernel
theorem d_RM_perform_382 : decode b_RM_perform 382 = .ok (.getfield 162, 3) := by decide +kernel
theorem d_RM_perform_385 : decode b_RM_perform 385 = .ok (.aload_n 1, 1) := by decide +kernel
theorem d_RM_perform_386 : decode b_RM_perform 386 = .ok (.getfield 103, 3) := by decide +kernel
theorem d_RM_perform_389 : decode b_RM_perform 389 = .ok (.iconst 3, 1) := by decide +kernel
theorem d_RM_perform_390 : decode b_RM_perform 390 = .ok (.isub, 1) := by decide +kernel
theorem d_RM_perform_391 : decode b_RM_perform 391 = .ok (.iload 4, 2) := by decide +kernel
theorem d_RM_perform_393 : decode b_RM_perform 393 = .ok (.isub, 1) := by decide +kernel
theorem d_RM_perform_394 : decode b_RM_perform 394 = .ok (.iaload, 1) := by decide +kernel
theorem d_RM_perform_395 : decode b_RM_perform 395 = .ok (.invokevirtual 128, 3) := by decide +kernel
theorem d_RM_perform_398 : decode b_RM_perform 398 = .ok (.goto 53, 3) := by decide +kernel
theorem d_RM_perform_401 : decode b_RM_perform 401 = .ok (.aload_n 1, 1) := by decide +kernel
theorem d_RM_perform_402 : decode b_RM_perform 402 = .ok (.aload_n 2, 1) := by decide +kernel
theorem d_RM_perform_403 : decode b_RM_perform 403 = .ok (.aload_n 0, 1) := by decide +kernel
theorem d_RM_perform_404 : decode b_RM_perform 404 = .ok (.getfield 13, 3) := by decide +kernel
theorem d_RM_perform_407 : decode b_RM_perform 407 = .ok (.aload_n 1, 1) := by decide +kernel
theorem d_RM_perform_408 : decode b_RM_perform 408 = .ok (.getfield 113, 3) := by decide +kernel
theorem d_RM_perform_411 : decode b_RM_perform 411 = .ok (.iaload, 1) := by decide +kernel
theorem d_RM_perform_412 : decode b_RM_perform 412 = .ok (.invokevirtual 128, 3) := by decide +kernel
theorem d_RM_perform_415 : decode b_RM_perform 415 = .ok (.aload_n 1, 1) := by decide +kernel
theorem d_RM_perform_416 : decode b_RM_perform 416 = .ok (.dup, 1) := by decide +kernel
theorem d_RM_perform_417 : decode b_RM_perform 417 = .ok (.getfield 113, 3) := by decide +kernel
theorem d_RM_perform_420 : decode b_RM_perform 420 = .ok (.iconst 1, 1) := by decide +kernel
theorem d_RM_perform_421 : decode b_RM_perform 421 = .ok (.iadd, 1) := by decide +kernel
theorem d_RM_perform_422 : decode b_RM_perform 422 = .ok (.putfield 113, 3) := by decide +kernel
theorem d_RM_perform_425 : decode b_RM_perform 425 = .ok (.goto 26, 3) := by decide +kernel
theorem d_RM_perform_428 : decode b_RM_perform 428 = .ok (.aload_n 1, 1) := by decide +kernel
theorem d_RM_perform_429 : decode b_RM_perform 429 = .ok (.aload_n 2, 1) := by decide +kernel
theorem d_RM_perform_430 : decode b_RM_perform 430 = .ok (.aload_n 1, 1) := by decide +kernel
theorem d_RM_perform_431 : decode b_RM_perform 431 = .ok (.iload 4, 2) := by decide +kernel
theorem d_RM_perform_433 : decode b_RM_perform 433 = .ok (.invokevirtual 165, 3) := by decide +kernel
theorem d_RM_perform_436 : decode b_RM_perform 436 = .ok (.invokevirtual 128, 3) := by decide +kernel
theorem d_RM_perform_439 : decode b_RM_perform 439 = .ok (.goto 12, 3) := by decide +kernel
theorem d_RM_perform_442 : decode b_RM_perform 442 = .ok (.aload_n 1, 1) := by decide +kernel
theorem d_RM_perform_443 : decode b_RM_perform 443 = .ok (.aload_n 2, 1) := by decide +kernel
theorem d_RM_perform_444 : decode b_RM_perform 444 = .ok (.aload_n 1, 1) := by decide +kernel
theorem d_RM_perform_445 : decode b_RM_perform 445 = .ok (.getfield 103, 3) := by decide +kernel
theorem d_RM_perform_448 : decode b_RM_perform 448 = .ok (.invokevirtual 128, 3) := by decide +kernel
theorem d_RM_perform_451 : decode b_RM_perform 451 = .ok (.return_, 1) := by decide +kernel
theorem d_RM_branch_0 : decode b_RM_branch 0 = .ok (.aload_n 0, 1) := by decide +kernel
theorem d_RM_branch_1 : decode b_RM_branch 1 = .ok (.dup, 1) := by decide +kernel
theorem d_RM_branch_2 : decode b_RM_branch 2 = .ok (.getfield 93, 3) := by decide +kernel
theorem d_RM_branch_5 : decode b_RM_branch 5 = .ok (.iconst 1, 1) := by decide +kernel
theorem d_RM_branch_6 : decode b_RM_branch 6 = .ok (.isub, 1) := by decide +kernel
theorem d_RM_branch_7 : decode b_RM_branch 7 = .ok (.putfield 93, 3) := by decide +kernel
theorem d_RM_branch_10 : decode b_RM_branch 10 = .ok (.iload_n 2, 1) := by decide +kernel
theorem d_RM_branch_11 : decode b_RM_branch 11 = .ok (.ifCond .eq 8, 3) := by decide +kernel
theorem d_RM_branch_14 : decode b_RM_branch 14 = .ok (.aload_n 0, 1) := by decide +kernel
theorem d_RM_branch_15 : decode b_RM_branch 15 = .ok (.iload_n 1, 1) := by decide +kernel
theorem d_RM_branch_16 : decode b_RM_branch 16 = .ok (.putfield 80, 3) := by decide +kernel
theorem d_RM_branch_19 : decode b_RM_branch 19 = .ok (.return_, 1) := by decide +kernel
theorem d_RM_advance_0 : decode b_RM_advance 0 = .ok (.aload_n 0, 1) := by decide +kernel
theorem d_RM_advance_1 : decode b_RM_advance 1 = .ok (.aload_n 0, 1) := by decide +kernel
theorem d_RM_advance_2 : decode b_RM_advance 2 = .ok (.getfield 19, 3) := by decide +kernel
theorem d_RM_advance_5 : decode b_RM_advance 5 = .ok (.invokevirtual 169, 3) := by decide +kernel
theorem d_RM_advance_8 : decode b_RM_advance 8 = .ok (.aload_n 0, 1) := by decide +kernel
theorem d_RM_advance_9 : decode b_RM_advance 9 = .ok (.getfield 19, 3) := by decide +kernel
theorem d_RM_advance_12 : decode b_RM_advance 12 = .ok (.getfield 125, 3) := by decide +kernel
theorem d_RM_advance_15 : decode b_RM_advance 15 = .ok (.aload_n 0, 1) := by decide +kernel
theorem d_RM_advance_16 : decode b_RM_advance 16 = .ok (.getfield 71, 3) := by decide +kernel
theorem d_RM_advance_19 : decode b_RM_advance 19 = .ok (.if_icmp .gt 4, 3) := by decide +kernel
theorem d_RM_advance_22 : decode b_RM_advance 22 = .ok (.return_, 1) := by decide +kernel
theorem d_RM_advance_23 : decode b_RM_advance 23 = .ok (.aload_n 0, 1) := by decide +kernel
theorem d_RM_advance_24 : decode b_RM_advance 24 = .ok (.aload_n 0, 1) := by decide +kernel
theorem d_RM_advance_25 : decode b_RM_advance 25 = .ok (.getfield 19, 3) := by decide +kernel
theorem d_RM_advance_28 : decode b_RM_advance 28 = .ok (.getfield 125, 3) := by decide +kernel
theorem d_RM_advance_31 : decode b_RM_advance 31 = .ok (.putfield 71, 3) := by decide +kernel
theorem d_RM_advance_34 : decode b_RM_advance 34 = .ok (.aload_n 0, 1) := by decide +kernel
theorem d_RM_advance_35 : decode b_RM_advance 35 = .ok (.getfield 71, 3) := by decide +kernel
theorem d_RM_advance_38 : decode b_RM_advance 38 = .ok (.aload_n 0, 1) := by decide +kernel
theorem d_RM_advance_39 : decode b_RM_advance 39 = .ok (.getfield 38, 3) := by decide +kernel
theorem d_RM_advance_42 : decode b_RM_advance 42 = .ok (.irem, 1) := by decide +kernel
theorem d_RM_advance_43 : decode b_RM_advance 43 = .ok (.ifCond .eq 4, 3) := by decide +kernel
theorem d_RM_advance_46 : decode b_RM_advance 46 = .ok (.return_, 1) := by decide +kernel
theorem d_RM_advance_47 : decode b_RM_advance 47 = .ok (.aload_n 0, 1) := by decide +kernel
theorem d_RM_advance_48 : decode b_RM_advance 48 = .ok (.getfield 34, 3) := by decide +kernel
theorem d_RM_advance_51 : decode b_RM_advance 51 = .ok (.bipush 8, 2) := by decide +kernel
theorem d_RM_advance_53 : decode b_RM_advance 53 = .ok (.if_icmp .ne 7, 3) := by decide +kernel
theorem d_RM_advance_56 : decode b_RM_advance 56 = .ok (.aload_n 0, 1) := by decide +kernel
theorem d_RM_advance_57 : decode b_RM_advance 57 = .ok (.invokevirtual 172, 3) := by decide +kernel
theorem d_RM_advance_60 : decode b_RM_advance 60 = .ok (.aload_n 0, 1) := by decide +kernel
theorem d_RM_advance_61 : decode b_RM_advance 61 = .ok (.getfield 71, 3) := by decide +kernel
theorem d_RM_advance_64 : decode b_RM_advance 64 = .ok (.aload_n 0, 1) := by decide +kernel
theorem d_RM_advance_65 : decode b_RM_advance 65 = .ok (.getfield 38, 3) := by decide +kernel
theorem d_RM_advance_68 : decode b_RM_advance 68 = .ok (.irem, 1) := by decide +kernel
theorem d_RM_advance_69 : decode b_RM_advance 69 = .ok (.ifCond .eq 4, 3) := by decide +kernel
theorem d_RM_advance_72 : decode b_RM_advance 72 = .ok (.return_, 1) := by decide +kernel
theorem d_RM_advance_73 : decode b_RM_advance 73 = .ok (.aload_n 0, 1) := by decide +kernel
theorem d_RM_advance_74 : decode b_RM_advance 74 = .ok (.getfield 30, 3) := by decide +kernel
theorem d_RM_advance_77 : decode b_RM_advance 77 = .ok (.aload_n 0, 1) := by decide +kernel
theorem d_RM_advance_78 : decode b_RM_advance 78 = .ok (.getfield 34, 3) := by decide +kernel
theorem d_RM_advance_81 : decode b_RM_advance 81 = .ok (.aaload, 1) := by decide +kernel
theorem d_RM_advance_82 : decode b_RM_advance 82 = .ok (.aload_n 0, 1) := by decide +kernel
theorem d_RM_advance_83 : decode b_RM_advance 83 = .ok (.getfield 19, 3) := by decide +kernel
theorem d_RM_advance_86 : decode b_RM_advance 86 = .ok (.invokevirtual 57, 3) := by decide +kernel
theorem d_RM_advance_89 : decode b_RM_advance 89 = .ok (.aload_n 0, 1) := by decide +kernel
theorem d_RM_advance_90 : decode b_RM_advance 90 = .ok (.dup, 1) := by decide +kernel
theorem d_RM_advance_91 : decode b_RM_advance 91 = .ok (.getfield 34, 3) := by decide +kernel
theorem d_RM_advance_94 : decode b_RM_advance 94 = .ok (.iconst 1, 1) := by decide +kernel
theorem d_RM_advance_95 : decode b_RM_advance 95 = .ok (.iadd, 1) := by decide +kernel
theorem d_RM_advance_96 : decode b_RM_advance 96 = .ok (.putfield 34, 3) := by decide +kernel
theorem d_RM_advance_99 : decode b_RM_advance 99 = .ok (.return_, 1) := by decide +kernel
theorem d_RM_thin_0 : decode b_RM_thin 0 = .ok (.aload_n 0, 1) := by decide +kernel
theorem d_RM_thin_1 : decode b_RM_thin 1 = .ok (.dup, 1) := by decide +kernel
theorem d_RM_thin_2 : decode b_RM_thin 2 = .ok (.getfield 38, 3) := by decide +kernel
theorem d_RM_thin_5 : decode b_RM_thin 5 = .ok (.iconst 2, 1) := by decide +kernel
theorem d_RM_thin_6 : decode b_RM_thin 6 = .ok (.imul, 1) := by decide +kernel
theorem d_RM_thin_7 : decode b_RM_thin 7 = .ok (.putfield 38, 3) := by decide +kernel
theorem d_RM_thin_10 : decode b_RM_thin 10 = .ok (.iconst 0, 1) := by decide +kernel
theorem d_RM_thin_11 : decode b_RM_thin 11 = .ok (.istore_n 1, 1) := by decide +kernel
theorem d_RM_thin_12 : decode b_RM_thin 12 = .ok (.iconst 0, 1) := by decide +kernel
theorem d_RM_thin_13 : decode b_RM_thin 13 = .ok (.istore_n 2, 1) := by decide +kernel
theorem d_RM_thin_14 : decode b_RM_thin 14 = .ok (.iload_n 2, 1) := by decide +kernel
theorem d_RM_thin_15 : decode b_RM_thin 15 = .ok (.aload_n 0, 1) := by decide +kernel
theorem d_RM_thin_16 : decode b_RM_thin 16 = .ok (.getfield 34, 3) := by decide +kernel
theorem d_RM_thin_19 : decode b_RM_thin 19 = .ok (.if_icmp .ge 58, 3) := by decide +kernel
theorem d_RM_thin_22 : decode b_RM_thin 22 = .ok (.aload_n 0, 1) := by decide +kernel
theorem d_RM_thin_23 : decode b_RM_thin 23 = .ok (.getfield 30, 3) := by decide +kernel
theorem d_RM_thin_26 : decode b_RM_thin 26 = .ok (.iload_n 2, 1) := by decide +kernel
theorem d_RM_thin_27 : decode b_RM_thin 27 = .ok (.aaload, 1) := by decide +kernel
theorem d_RM_thin_28 : decode b_RM_thin 28 = .ok (.getfield 125, 3) := by decide +kernel
theorem d_RM_thin_31 : decode b_RM_thin 31 = .ok (.aload_n 0, 1) := by decide +kernel
theorem d_RM_thin_32 : decode b_RM_thin 32 = .ok (.getfield 38, 3) := by decide +kernel
theorem d_RM_thin_35 : decode b_RM_thin 35 = .ok (.irem, 1) := by decide +kernel
theorem d_RM_thin_36 : decode b_RM_thin 36 = .ok (.ifCond .eq 6, 3) := by decide +kernel
theorem d_RM_thin_39 : decode b_RM_thin 39 = .ok (.goto 32, 3) := by decide +kernel
theorem d_RM_thin_42 : decode b_RM_thin 42 = .ok (.aload_n 0, 1) := by decide +kernel
theorem d_RM_thin_43 : decode b_RM_thin 43 = .ok (.getfield 30, 3) := by decide +kernel
theorem d_RM_thin_46 : decode b_RM_thin 46 = .ok (.iload_n 1, 1) := by decide +kernel
theorem d_RM_thin_47 : decode b_RM_thin 47 = .ok (.aaload, 1) := by decide +kernel
theorem d_RM_thin_48 : decode b_RM_thin 48 = .ok (.astore_n 3, 1) := by decide +kernel
theorem d_RM_thin_49 : decode b_RM_thin 49 = .ok (.aload_n 0, 1) := by decide +kernel
theorem d_RM_thin_50 : decode b_RM_thin 50 = .ok (.getfield 30, 3) := by decide +kernel
theorem d_RM_thin_53 : decode b_RM_thin 53 = .ok (.iload_n 1, 1) := by decide +kernel
theorem d_RM_thin_54 : decode b_RM_thin 54 = .ok (.aload_n 0, 1) := by decide +kernel
theorem d_RM_thin_55 : decode b_RM_thin 55 = .ok (.getfield 30, 3) := by decide +kernel
theorem d_RM_thin_58 : decode b_RM_thin 58 = .ok (.iload_n 2, 1) := by decide +kernel
theorem d_RM_thin_59 : decode b_RM_thin 59 = .ok (.aaload, 1) := by decide +kernel
theorem d_RM_thin_60 : decode b_RM_thin 60 = .ok (.aastore, 1) := by decide +kernel
theorem d_RM_thin_61 : decode b_RM_thin 61 = .ok (.aload_n 0, 1) := by decide +kernel
theorem d_RM_thin_62 : decode b_RM_thin 62 = .ok (.getfield 30, 3) := by decide +kernel
theorem d_RM_thin_65 : decode b_RM_thin 65 = .ok (.iload_n 2, 1) := by decide +kernel
theorem d_RM_thin_66 : decode b_RM_thin 66 = .ok (.aload_n 3, 1) := by decide +kernel
theorem d_RM_thin_67 : decode b_RM_thin 67 = .ok (.aastore, 1) := by decide +kernel
theorem d_RM_thin_68 : decode b_RM_thin 68 = .ok (.iinc 1 1, 3) := by decide +kernel
theorem d_RM_thin_71 : decode b_RM_thin 71 = .ok (.iinc 2 1, 3) := by decide +kernel
theorem d_RM_thin_74 : decode b_RM_thin 74 = .ok (.goto (-60), 3) := by decide +kernel
theorem d_RM_thin_77 : decode b_RM_thin 77 = .ok (.aload_n 0, 1) := by decide +kernel
theorem d_RM_thin_78 : decode b_RM_thin 78 = .ok (.iload_n 1, 1) := by decide +kernel
theorem d_RM_thin_79 : decode b_RM_thin 79 = .ok (.putfield 34, 3) := by decide +kernel
theorem d_RM_thin_82 : decode b_RM_thin 82 = .ok (.return_, 1) := by decide +kernel
theorem d_RM_tryStep_0 : decode b_RM_tryStep 0 = .ok (.aload_n 0, 1) := by decide +kernel
theorem d_RM_tryStep_1 : decode b_RM_tryStep 1 = .ok (.aload_n 0, 1) := by decide +kernel
theorem d_RM_tryStep_2 : decode b_RM_tryStep 2 = .ok (.getfield 19, 3) := by decide +kernel
theorem d_RM_tryStep_5 : decode b_RM_tryStep 5 = .ok (.invokevirtual 175, 3) := by decide +kernel
theorem d_RM_tryStep_8 : decode b_RM_tryStep 8 = .ok (.istore_n 1, 1) := by decide +kernel
theorem d_RM_tryStep_9 : decode b_RM_tryStep 9 = .ok (.iload_n 1, 1) := by decide +kernel
theorem d_RM_tryStep_10 : decode b_RM_tryStep 10 = .ok (.ifCond .eq 5, 3) := by decide +kernel
theorem d_RM_tryStep_13 : decode b_RM_tryStep 13 = .ok (.iload_n 1, 1) := by decide +kernel
theorem d_RM_tryStep_14 : decode b_RM_tryStep 14 = .ok (.ireturn, 1) := by decide +kernel
theorem d_RM_tryStep_15 : decode b_RM_tryStep 15 = .ok (.aload_n 0, 1) := by decide +kernel
theorem d_RM_tryStep_16 : decode b_RM_tryStep 16 = .ok (.getfield 19, 3) := by decide +kernel
theorem d_RM_tryStep_19 : decode b_RM_tryStep 19 = .ok (.getfield 125, 3) := by decide +kernel
theorem d_RM_tryStep_22 : decode b_RM_tryStep 22 = .ok (.sipush 3000, 3) := by decide +kernel
theorem d_RM_tryStep_25 : decode b_RM_tryStep 25 = .ok (.if_icmp .lt 6, 3) := by decide +kernel
theorem d_RM_tryStep_28 : decode b_RM_tryStep 28 = .ok (.bipush 8, 2) := by decide +kernel
theorem d_RM_tryStep_30 : decode b_RM_tryStep 30 = .ok (.ireturn, 1) := by decide +kernel
theorem d_RM_tryStep_31 : decode b_RM_tryStep 31 = .ok (.aload_n 0, 1) := by decide +kernel
theorem d_RM_tryStep_32 : decode b_RM_tryStep 32 = .ok (.invokevirtual 179, 3) := by decide +kernel
theorem d_RM_tryStep_35 : decode b_RM_tryStep 35 = .ok (.iconst 0, 1) := by decide +kernel
theorem d_RM_tryStep_36 : decode b_RM_tryStep 36 = .ok (.ireturn, 1) := by decide +kernel
theorem d_RM_step_0 : decode b_RM_step 0 = .ok (.aload_n 0, 1) := by decide +kernel
theorem d_RM_step_1 : decode b_RM_step 1 = .ok (.iconst 0, 1) := by decide +kernel
theorem d_RM_step_2 : decode b_RM_step 2 = .ok (.putfield 182, 3) := by decide +kernel
theorem d_RM_step_5 : decode b_RM_step 5 = .ok (.aload_n 0, 1) := by decide +kernel
theorem d_RM_step_6 : decode b_RM_step 6 = .ok (.invokevirtual 185, 3) := by decide +kernel
theorem d_RM_step_9 : decode b_RM_step 9 = .ok (.ireturn, 1) := by decide +kernel
theorem d_RM_remember_0 : decode b_RM_remember 0 = .ok (.aload_n 0, 1) := by decide +kernel
theorem d_RM_remember_1 : decode b_RM_remember 1 = .ok (.getfield 19, 3) := by decide +kernel
theorem d_RM_remember_4 : decode b_RM_remember 4 = .ok (.getfield 142, 3) := by decide +kernel
theorem d_RM_remember_7 : decode b_RM_remember 7 = .ok (.iconst 0, 1) := by decide +kernel
theorem d_RM_remember_8 : decode b_RM_remember 8 = .ok (.aload_n 0, 1) := by decide +kernel
theorem d_RM_remember_9 : decode b_RM_remember 9 = .ok (.getfield 48, 3) := by decide +kernel
theorem d_RM_remember_12 : decode b_RM_remember 12 = .ok (.iconst 0, 1) := by decide +kernel
theorem d_RM_remember_13 : decode b_RM_remember 13 = .ok (.bipush 32, 2) := by decide +kernel
theorem d_RM_remember_15 : decode b_RM_remember 15 = .ok (.invokestatic 188, 3) := by decide +kernel
theorem d_RM_remember_18 : decode b_RM_remember 18 = .ok (.return_, 1) := by decide +kernel
