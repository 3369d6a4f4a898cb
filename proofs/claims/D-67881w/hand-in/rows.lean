section
theorem d_s1_0 : decode prog_1_method_1_code 0 = .ok (.aload_n 0, 1) := by decide +kernel
theorem d_s1_1 : decode prog_1_method_1_code 1 = .ok (.invokespecial 1, 3) := by decide +kernel
theorem d_s1_4 : decode prog_1_method_1_code 4 = .ok (.aload_n 0, 1) := by decide +kernel
theorem d_s1_5 : decode prog_1_method_1_code 5 = .ok (.sipush 200, 3) := by decide +kernel
theorem d_s1_8 : decode prog_1_method_1_code 8 = .ok (.anewarray 9, 3) := by decide +kernel
theorem d_s1_11 : decode prog_1_method_1_code 11 = .ok (.putfield 11, 3) := by decide +kernel
theorem d_s1_14 : decode prog_1_method_1_code 14 = .ok (.iconst 0, 1) := by decide +kernel
theorem d_s1_15 : decode prog_1_method_1_code 15 = .ok (.istore_n 1, 1) := by decide +kernel
theorem d_s1_16 : decode prog_1_method_1_code 16 = .ok (.iload_n 1, 1) := by decide +kernel
theorem d_s1_17 : decode prog_1_method_1_code 17 = .ok (.sipush 200, 3) := by decide +kernel
theorem d_s1_20 : decode prog_1_method_1_code 20 = .ok (.if_icmp .ge 22, 3) := by decide +kernel
theorem d_s1_23 : decode prog_1_method_1_code 23 = .ok (.aload_n 0, 1) := by decide +kernel
theorem d_s1_24 : decode prog_1_method_1_code 24 = .ok (.getfield 11, 3) := by decide +kernel
theorem d_s1_27 : decode prog_1_method_1_code 27 = .ok (.iload_n 1, 1) := by decide +kernel
theorem d_s1_28 : decode prog_1_method_1_code 28 = .ok (.new 9, 3) := by decide +kernel
theorem d_s1_31 : decode prog_1_method_1_code 31 = .ok (.dup, 1) := by decide +kernel
theorem d_s1_32 : decode prog_1_method_1_code 32 = .ok (.invokespecial 15, 3) := by decide +kernel
theorem d_s1_35 : decode prog_1_method_1_code 35 = .ok (.aastore, 1) := by decide +kernel
theorem d_s1_36 : decode prog_1_method_1_code 36 = .ok (.iinc 1 1, 3) := by decide +kernel
theorem d_s1_39 : decode prog_1_method_1_code 39 = .ok (.goto (-23), 3) := by decide +kernel
theorem d_s1_42 : decode prog_1_method_1_code 42 = .ok (.return_, 1) := by decide +kernel
theorem d_s2_0 : decode prog_1_method_2_code 0 = .ok (.iload_n 0, 1) := by decide +kernel
theorem d_s2_1 : decode prog_1_method_2_code 1 = .ok (.iload_n 1, 1) := by decide +kernel
theorem d_s2_2 : decode prog_1_method_2_code 2 = .ok (.if_icmp .lt 12, 3) := by decide +kernel
theorem d_s2_5 : decode prog_1_method_2_code 5 = .ok (.iload_n 0, 1) := by decide +kernel
theorem d_s2_6 : decode prog_1_method_2_code 6 = .ok (.iload_n 2, 1) := by decide +kernel
theorem d_s2_7 : decode prog_1_method_2_code 7 = .ok (.if_icmp .gt 7, 3) := by decide +kernel
theorem d_s2_10 : decode prog_1_method_2_code 10 = .ok (.iconst 1, 1) := by decide +kernel
theorem d_s2_11 : decode prog_1_method_2_code 11 = .ok (.goto 4, 3) := by decide +kernel
theorem d_s2_14 : decode prog_1_method_2_code 14 = .ok (.iconst 0, 1) := by decide +kernel
theorem d_s2_15 : decode prog_1_method_2_code 15 = .ok (.ireturn, 1) := by decide +kernel
theorem d_s3_0 : decode prog_1_method_3_code 0 = .ok (.iload_n 0, 1) := by decide +kernel
theorem d_s3_1 : decode prog_1_method_3_code 1 = .ok (.ifCond .ne 11, 3) := by decide +kernel
theorem d_s3_4 : decode prog_1_method_3_code 4 = .ok (.new 16, 3) := by decide +kernel
theorem d_s3_7 : decode prog_1_method_3_code 7 = .ok (.dup, 1) := by decide +kernel
theorem d_s3_8 : decode prog_1_method_3_code 8 = .ok (.invokespecial 18, 3) := by decide +kernel
theorem d_s3_11 : decode prog_1_method_3_code 11 = .ok (.athrow, 1) := by decide +kernel
theorem d_s3_12 : decode prog_1_method_3_code 12 = .ok (.return_, 1) := by decide +kernel
theorem d_s4_0 : decode prog_1_method_4_code 0 = .ok (.iload_n 1, 1) := by decide +kernel
theorem d_s4_1 : decode prog_1_method_4_code 1 = .ok (.iconst 0, 1) := by decide +kernel
theorem d_s4_2 : decode prog_1_method_4_code 2 = .ok (.aload_n 0, 1) := by decide +kernel
theorem d_s4_3 : decode prog_1_method_4_code 3 = .ok (.getfield 19, 3) := by decide +kernel
theorem d_s4_6 : decode prog_1_method_4_code 6 = .ok (.iconst 1, 1) := by decide +kernel
theorem d_s4_7 : decode prog_1_method_4_code 7 = .ok (.isub, 1) := by decide +kernel
theorem d_s4_8 : decode prog_1_method_4_code 8 = .ok (.invokestatic 23, 3) := by decide +kernel
theorem d_s4_11 : decode prog_1_method_4_code 11 = .ok (.ifCond .ne 11, 3) := by decide +kernel
theorem d_s4_14 : decode prog_1_method_4_code 14 = .ok (.new 27, 3) := by decide +kernel
theorem d_s4_17 : decode prog_1_method_4_code 17 = .ok (.dup, 1) := by decide +kernel
theorem d_s4_18 : decode prog_1_method_4_code 18 = .ok (.invokespecial 29, 3) := by decide +kernel
theorem d_s4_21 : decode prog_1_method_4_code 21 = .ok (.athrow, 1) := by decide +kernel
theorem d_s4_22 : decode prog_1_method_4_code 22 = .ok (.aload_n 0, 1) := by decide +kernel
theorem d_s4_23 : decode prog_1_method_4_code 23 = .ok (.getfield 30, 3) := by decide +kernel
theorem d_s4_26 : decode prog_1_method_4_code 26 = .ok (.iload_n 1, 1) := by decide +kernel
theorem d_s4_27 : decode prog_1_method_4_code 27 = .ok (.if_icmp .gt 24, 3) := by decide +kernel
theorem d_s4_30 : decode prog_1_method_4_code 30 = .ok (.aload_n 0, 1) := by decide +kernel
theorem d_s4_31 : decode prog_1_method_4_code 31 = .ok (.aload_n 0, 1) := by decide +kernel
theorem d_s4_32 : decode prog_1_method_4_code 32 = .ok (.getfield 30, 3) := by decide +kernel
theorem d_s4_35 : decode prog_1_method_4_code 35 = .ok (.invokevirtual 33, 3) := by decide +kernel
theorem d_s4_38 : decode prog_1_method_4_code 38 = .ok (.aload_n 0, 1) := by decide +kernel
theorem d_s4_39 : decode prog_1_method_4_code 39 = .ok (.dup, 1) := by decide +kernel
theorem d_s4_40 : decode prog_1_method_4_code 40 = .ok (.getfield 30, 3) := by decide +kernel
theorem d_s4_43 : decode prog_1_method_4_code 43 = .ok (.iconst 1, 1) := by decide +kernel
theorem d_s4_44 : decode prog_1_method_4_code 44 = .ok (.iadd, 1) := by decide +kernel
theorem d_s4_45 : decode prog_1_method_4_code 45 = .ok (.putfield 30, 3) := by decide +kernel
theorem d_s4_48 : decode prog_1_method_4_code 48 = .ok (.goto (-26), 3) := by decide +kernel
theorem d_s4_51 : decode prog_1_method_4_code 51 = .ok (.aload_n 0, 1) := by decide +kernel
theorem d_s4_52 : decode prog_1_method_4_code 52 = .ok (.getfield 11, 3) := by decide +kernel
theorem d_s4_55 : decode prog_1_method_4_code 55 = .ok (.iload_n 1, 1) := by decide +kernel
theorem d_s4_56 : decode prog_1_method_4_code 56 = .ok (.aaload, 1) := by decide +kernel
theorem d_s4_57 : decode prog_1_method_4_code 57 = .ok (.areturn, 1) := by decide +kernel
theorem d_s5_0 : decode prog_1_method_5_code 0 = .ok (.aload_n 1, 1) := by decide +kernel
theorem d_s5_1 : decode prog_1_method_5_code 1 = .ok (.getfield 37, 3) := by decide +kernel
theorem d_s5_4 : decode prog_1_method_5_code 4 = .ok (.iload_n 2, 1) := by decide +kernel
theorem d_s5_5 : decode prog_1_method_5_code 5 = .ok (.iaload, 1) := by decide +kernel
theorem d_s5_6 : decode prog_1_method_5_code 6 = .ok (.ifCond .ge 7, 3) := by decide +kernel
theorem d_s5_9 : decode prog_1_method_5_code 9 = .ok (.iconst 0, 1) := by decide +kernel
theorem d_s5_10 : decode prog_1_method_5_code 10 = .ok (.goto 19, 3) := by decide +kernel
theorem d_s5_13 : decode prog_1_method_5_code 13 = .ok (.aload_n 0, 1) := by decide +kernel
theorem d_s5_14 : decode prog_1_method_5_code 14 = .ok (.getfield 11, 3) := by decide +kernel
theorem d_s5_17 : decode prog_1_method_5_code 17 = .ok (.aload_n 1, 1) := by decide +kernel
theorem d_s5_18 : decode prog_1_method_5_code 18 = .ok (.getfield 37, 3) := by decide +kernel
theorem d_s5_21 : decode prog_1_method_5_code 21 = .ok (.iload_n 2, 1) := by decide +kernel
theorem d_s5_22 : decode prog_1_method_5_code 22 = .ok (.iaload, 1) := by decide +kernel
theorem d_s5_23 : decode prog_1_method_5_code 23 = .ok (.aaload, 1) := by decide +kernel
theorem d_s5_24 : decode prog_1_method_5_code 24 = .ok (.invokevirtual 41, 3) := by decide +kernel
theorem d_s5_27 : decode prog_1_method_5_code 27 = .ok (.iconst 1, 1) := by decide +kernel
theorem d_s5_28 : decode prog_1_method_5_code 28 = .ok (.iadd, 1) := by decide +kernel
theorem d_s5_29 : decode prog_1_method_5_code 29 = .ok (.ireturn, 1) := by decide +kernel
theorem d_s6_0 : decode prog_1_method_6_code 0 = .ok (.aload_n 0, 1) := by decide +kernel
theorem d_s6_1 : decode prog_1_method_6_code 1 = .ok (.getfield 11, 3) := by decide +kernel
theorem d_s6_4 : decode prog_1_method_6_code 4 = .ok (.iload_n 1, 1) := by decide +kernel
theorem d_s6_5 : decode prog_1_method_6_code 5 = .ok (.aaload, 1) := by decide +kernel
theorem d_s6_6 : decode prog_1_method_6_code 6 = .ok (.astore_n 2, 1) := by decide +kernel
theorem d_s6_7 : decode prog_1_method_6_code 7 = .ok (.iload_n 1, 1) := by decide +kernel
theorem d_s6_8 : decode prog_1_method_6_code 8 = .ok (.ifCond .ne 7, 3) := by decide +kernel
theorem d_s6_11 : decode prog_1_method_6_code 11 = .ok (.aconst_null, 1) := by decide +kernel
theorem d_s6_12 : decode prog_1_method_6_code 12 = .ok (.goto 11, 3) := by decide +kernel
theorem d_s6_15 : decode prog_1_method_6_code 15 = .ok (.aload_n 0, 1) := by decide +kernel
theorem d_s6_16 : decode prog_1_method_6_code 16 = .ok (.getfield 11, 3) := by decide +kernel
theorem d_s6_19 : decode prog_1_method_6_code 19 = .ok (.iload_n 1, 1) := by decide +kernel
theorem d_s6_20 : decode prog_1_method_6_code 20 = .ok (.iconst 1, 1) := by decide +kernel
theorem d_s6_21 : decode prog_1_method_6_code 21 = .ok (.isub, 1) := by decide +kernel
theorem d_s6_22 : decode prog_1_method_6_code 22 = .ok (.aaload, 1) := by decide +kernel
theorem d_s6_23 : decode prog_1_method_6_code 23 = .ok (.astore_n 3, 1) := by decide +kernel
theorem d_s6_24 : decode prog_1_method_6_code 24 = .ok (.iconst 0, 1) := by decide +kernel
theorem d_s6_25 : decode prog_1_method_6_code 25 = .ok (.istore 4, 2) := by decide +kernel
theorem d_s6_27 : decode prog_1_method_6_code 27 = .ok (.iload 4, 2) := by decide +kernel
theorem d_s6_29 : decode prog_1_method_6_code 29 = .ok (.bipush 16, 2) := by decide +kernel
theorem d_s6_31 : decode prog_1_method_6_code 31 = .ok (.if_icmp .ge 51, 3) := by decide +kernel
theorem d_s6_34 : decode prog_1_method_6_code 34 = .ok (.aload_n 2, 1) := by decide +kernel
theorem d_s6_35 : decode prog_1_method_6_code 35 = .ok (.getfield 37, 3) := by decide +kernel
theorem d_s6_38 : decode prog_1_method_6_code 38 = .ok (.iload 4, 2) := by decide +kernel
theorem d_s6_40 : decode prog_1_method_6_code 40 = .ok (.aload_n 3, 1) := by decide +kernel
theorem d_s6_41 : decode prog_1_method_6_code 41 = .ok (.ifnonnull 7, 3) := by decide +kernel
theorem d_s6_44 : decode prog_1_method_6_code 44 = .ok (.iconst (-1), 1) := by decide +kernel
theorem d_s6_45 : decode prog_1_method_6_code 45 = .ok (.goto 30, 3) := by decide +kernel
theorem d_s6_48 : decode prog_1_method_6_code 48 = .ok (.aload_n 3, 1) := by decide +kernel
theorem d_s6_49 : decode prog_1_method_6_code 49 = .ok (.getfield 45, 3) := by decide +kernel
theorem d_s6_52 : decode prog_1_method_6_code 52 = .ok (.iload 4, 2) := by decide +kernel
theorem d_s6_54 : decode prog_1_method_6_code 54 = .ok (.if_icmp .ne 14, 3) := by decide +kernel
theorem d_s6_57 : decode prog_1_method_6_code 57 = .ok (.iload 4, 2) := by decide +kernel
theorem d_s6_59 : decode prog_1_method_6_code 59 = .ok (.ifCond .le 9, 3) := by decide +kernel
theorem d_s6_62 : decode prog_1_method_6_code 62 = .ok (.iload_n 1, 1) := by decide +kernel
theorem d_s6_63 : decode prog_1_method_6_code 63 = .ok (.iconst 1, 1) := by decide +kernel
theorem d_s6_64 : decode prog_1_method_6_code 64 = .ok (.isub, 1) := by decide +kernel
theorem d_s6_65 : decode prog_1_method_6_code 65 = .ok (.goto 10, 3) := by decide +kernel
theorem d_s6_68 : decode prog_1_method_6_code 68 = .ok (.aload_n 3, 1) := by decide +kernel
theorem d_s6_69 : decode prog_1_method_6_code 69 = .ok (.getfield 37, 3) := by decide +kernel
theorem d_s6_72 : decode prog_1_method_6_code 72 = .ok (.iload 4, 2) := by decide +kernel
theorem d_s6_74 : decode prog_1_method_6_code 74 = .ok (.iaload, 1) := by decide +kernel
theorem d_s6_75 : decode prog_1_method_6_code 75 = .ok (.iastore, 1) := by decide +kernel
theorem d_s6_76 : decode prog_1_method_6_code 76 = .ok (.iinc 4 1, 3) := by decide +kernel
theorem d_s6_79 : decode prog_1_method_6_code 79 = .ok (.goto (-52), 3) := by decide +kernel
theorem d_s6_82 : decode prog_1_method_6_code 82 = .ok (.aload_n 2, 1) := by decide +kernel
theorem d_s6_83 : decode prog_1_method_6_code 83 = .ok (.getfield 48, 3) := by decide +kernel
theorem d_s6_86 : decode prog_1_method_6_code 86 = .ok (.astore 4, 2) := by decide +kernel
theorem d_s6_88 : decode prog_1_method_6_code 88 = .ok (.aload 4, 2) := by decide +kernel
theorem d_s6_90 : decode prog_1_method_6_code 90 = .ok (.iconst 0, 1) := by decide +kernel
theorem d_s6_91 : decode prog_1_method_6_code 91 = .ok (.aload_n 3, 1) := by decide +kernel
theorem d_s6_92 : decode prog_1_method_6_code 92 = .ok (.ifnonnull 7, 3) := by decide +kernel
theorem d_s6_95 : decode prog_1_method_6_code 95 = .ok (.iconst 1, 1) := by decide +kernel
theorem d_s6_96 : decode prog_1_method_6_code 96 = .ok (.goto 25, 3) := by decide +kernel
theorem d_s6_99 : decode prog_1_method_6_code 99 = .ok (.aload_n 3, 1) := by decide +kernel
theorem d_s6_100 : decode prog_1_method_6_code 100 = .ok (.getfield 51, 3) := by decide +kernel
theorem d_s6_103 : decode prog_1_method_6_code 103 = .ok (.ifCond .eq 12, 3) := by decide +kernel
theorem d_s6_106 : decode prog_1_method_6_code 106 = .ok (.aload_n 3, 1) := by decide +kernel
theorem d_s6_107 : decode prog_1_method_6_code 107 = .ok (.invokevirtual 55, 3) := by decide +kernel
theorem d_s6_110 : decode prog_1_method_6_code 110 = .ok (.iconst 1, 1) := by decide +kernel
theorem d_s6_111 : decode prog_1_method_6_code 111 = .ok (.iadd, 1) := by decide +kernel
theorem d_s6_112 : decode prog_1_method_6_code 112 = .ok (.goto 9, 3) := by decide +kernel
theorem d_s6_115 : decode prog_1_method_6_code 115 = .ok (.aload_n 3, 1) := by decide +kernel
theorem d_s6_116 : decode prog_1_method_6_code 116 = .ok (.getfield 48, 3) := by decide +kernel
theorem d_s6_119 : decode prog_1_method_6_code 119 = .ok (.iconst 1, 1) := by decide +kernel
theorem d_s6_120 : decode prog_1_method_6_code 120 = .ok (.iaload, 1) := by decide +kernel
theorem d_s6_121 : decode prog_1_method_6_code 121 = .ok (.iastore, 1) := by decide +kernel
theorem d_s6_122 : decode prog_1_method_6_code 122 = .ok (.aload 4, 2) := by decide +kernel
theorem d_s6_124 : decode prog_1_method_6_code 124 = .ok (.iconst 1, 1) := by decide +kernel
theorem d_s6_125 : decode prog_1_method_6_code 125 = .ok (.aload 4, 2) := by decide +kernel
theorem d_s6_127 : decode prog_1_method_6_code 127 = .ok (.iconst 0, 1) := by decide +kernel
theorem d_s6_128 : decode prog_1_method_6_code 128 = .ok (.iaload, 1) := by decide +kernel
theorem d_s6_129 : decode prog_1_method_6_code 129 = .ok (.iconst 1, 1) := by decide +kernel
theorem d_s6_130 : decode prog_1_method_6_code 130 = .ok (.iadd, 1) := by decide +kernel
theorem d_s6_131 : decode prog_1_method_6_code 131 = .ok (.aload_n 3, 1) := by decide +kernel
theorem d_s6_132 : decode prog_1_method_6_code 132 = .ok (.ifnonnull 7, 3) := by decide +kernel
theorem d_s6_135 : decode prog_1_method_6_code 135 = .ok (.iconst 0, 1) := by decide +kernel
theorem d_s6_136 : decode prog_1_method_6_code 136 = .ok (.goto 9, 3) := by decide +kernel
theorem d_s6_139 : decode prog_1_method_6_code 139 = .ok (.aload_n 3, 1) := by decide +kernel
theorem d_s6_140 : decode prog_1_method_6_code 140 = .ok (.getfield 48, 3) := by decide +kernel
theorem d_s6_143 : decode prog_1_method_6_code 143 = .ok (.iconst 2, 1) := by decide +kernel
theorem d_s6_144 : decode prog_1_method_6_code 144 = .ok (.iaload, 1) := by decide +kernel
theorem d_s6_145 : decode prog_1_method_6_code 145 = .ok (.invokestatic 58, 3) := by decide +kernel
theorem d_s6_148 : decode prog_1_method_6_code 148 = .ok (.iastore, 1) := by decide +kernel
theorem d_s6_149 : decode prog_1_method_6_code 149 = .ok (.aload 4, 2) := by decide +kernel
theorem d_s6_151 : decode prog_1_method_6_code 151 = .ok (.iconst 2, 1) := by decide +kernel
theorem d_s6_152 : decode prog_1_method_6_code 152 = .ok (.aload 4, 2) := by decide +kernel
theorem d_s6_154 : decode prog_1_method_6_code 154 = .ok (.iconst 1, 1) := by decide +kernel
theorem d_s6_155 : decode prog_1_method_6_code 155 = .ok (.iaload, 1) := by decide +kernel
theorem d_s6_156 : decode prog_1_method_6_code 156 = .ok (.iconst 1, 1) := by decide +kernel
theorem d_s6_157 : decode prog_1_method_6_code 157 = .ok (.iadd, 1) := by decide +kernel
theorem d_s6_158 : decode prog_1_method_6_code 158 = .ok (.aload_n 3, 1) := by decide +kernel
theorem d_s6_159 : decode prog_1_method_6_code 159 = .ok (.ifnonnull 7, 3) := by decide +kernel
theorem d_s6_162 : decode prog_1_method_6_code 162 = .ok (.iconst 0, 1) := by decide +kernel
theorem d_s6_163 : decode prog_1_method_6_code 163 = .ok (.goto 9, 3) := by decide +kernel
theorem d_s6_166 : decode prog_1_method_6_code 166 = .ok (.aload_n 3, 1) := by decide +kernel
theorem d_s6_167 : decode prog_1_method_6_code 167 = .ok (.getfield 48, 3) := by decide +kernel
theorem d_s6_170 : decode prog_1_method_6_code 170 = .ok (.iconst 3, 1) := by decide +kernel
theorem d_s6_171 : decode prog_1_method_6_code 171 = .ok (.iaload, 1) := by decide +kernel
theorem d_s6_172 : decode prog_1_method_6_code 172 = .ok (.invokestatic 58, 3) := by decide +kernel
theorem d_s6_175 : decode prog_1_method_6_code 175 = .ok (.iastore, 1) := by decide +kernel
theorem d_s6_176 : decode prog_1_method_6_code 176 = .ok (.iconst 1, 1) := by decide +kernel
theorem d_s6_177 : decode prog_1_method_6_code 177 = .ok (.istore 5, 2) := by decide +kernel
theorem d_s6_179 : decode prog_1_method_6_code 179 = .ok (.iload 5, 2) := by decide +kernel
theorem d_s6_181 : decode prog_1_method_6_code 181 = .ok (.bipush 16, 2) := by decide +kernel
theorem d_s6_183 : decode prog_1_method_6_code 183 = .ok (.if_icmp .ge 40, 3) := by decide +kernel
theorem d_s6_186 : decode prog_1_method_6_code 186 = .ok (.aload_n 2, 1) := by decide +kernel
theorem d_s6_187 : decode prog_1_method_6_code 187 = .ok (.getfield 64, 3) := by decide +kernel
theorem d_s6_190 : decode prog_1_method_6_code 190 = .ok (.iload 5, 2) := by decide +kernel
theorem d_s6_192 : decode prog_1_method_6_code 192 = .ok (.ishr, 1) := by decide +kernel
theorem d_s6_193 : decode prog_1_method_6_code 193 = .ok (.iconst 1, 1) := by decide +kernel
theorem d_s6_194 : decode prog_1_method_6_code 194 = .ok (.iand, 1) := by decide +kernel
theorem d_s6_195 : decode prog_1_method_6_code 195 = .ok (.iconst 1, 1) := by decide +kernel
theorem d_s6_196 : decode prog_1_method_6_code 196 = .ok (.if_icmp .ne 21, 3) := by decide +kernel
theorem d_s6_199 : decode prog_1_method_6_code 199 = .ok (.aload 4, 2) := by decide +kernel
theorem d_s6_201 : decode prog_1_method_6_code 201 = .ok (.iconst 2, 1) := by decide +kernel
theorem d_s6_202 : decode prog_1_method_6_code 202 = .ok (.aload 4, 2) := by decide +kernel
theorem d_s6_204 : decode prog_1_method_6_code 204 = .ok (.iconst 2, 1) := by decide +kernel
theorem d_s6_205 : decode prog_1_method_6_code 205 = .ok (.iaload, 1) := by decide +kernel
theorem d_s6_206 : decode prog_1_method_6_code 206 = .ok (.aload_n 0, 1) := by decide +kernel
theorem d_s6_207 : decode prog_1_method_6_code 207 = .ok (.aload_n 2, 1) := by decide +kernel
theorem d_s6_208 : decode prog_1_method_6_code 208 = .ok (.iload 5, 2) := by decide +kernel
theorem d_s6_210 : decode prog_1_method_6_code 210 = .ok (.invokevirtual 67, 3) := by decide +kernel
theorem d_s6_213 : decode prog_1_method_6_code 213 = .ok (.invokestatic 58, 3) := by decide +kernel
theorem d_s6_216 : decode prog_1_method_6_code 216 = .ok (.iastore, 1) := by decide +kernel
theorem d_s6_217 : decode prog_1_method_6_code 217 = .ok (.iinc 5 1, 3) := by decide +kernel
theorem d_s6_220 : decode prog_1_method_6_code 220 = .ok (.goto (-41), 3) := by decide +kernel
theorem d_s6_223 : decode prog_1_method_6_code 223 = .ok (.aload 4, 2) := by decide +kernel
theorem d_s6_225 : decode prog_1_method_6_code 225 = .ok (.iconst 3, 1) := by decide +kernel
theorem d_s6_226 : decode prog_1_method_6_code 226 = .ok (.aload_n 2, 1) := by decide +kernel
theorem d_s6_227 : decode prog_1_method_6_code 227 = .ok (.invokevirtual 55, 3) := by decide +kernel
theorem d_s6_230 : decode prog_1_method_6_code 230 = .ok (.iconst 1, 1) := by decide +kernel
theorem d_s6_231 : decode prog_1_method_6_code 231 = .ok (.iadd, 1) := by decide +kernel
theorem d_s6_232 : decode prog_1_method_6_code 232 = .ok (.aload_n 3, 1) := by decide +kernel
theorem d_s6_233 : decode prog_1_method_6_code 233 = .ok (.ifnonnull 7, 3) := by decide +kernel
theorem d_s6_236 : decode prog_1_method_6_code 236 = .ok (.iconst 0, 1) := by decide +kernel
theorem d_s6_237 : decode prog_1_method_6_code 237 = .ok (.goto 9, 3) := by decide +kernel
theorem d_s6_240 : decode prog_1_method_6_code 240 = .ok (.aload_n 3, 1) := by decide +kernel
theorem d_s6_241 : decode prog_1_method_6_code 241 = .ok (.getfield 48, 3) := by decide +kernel
theorem d_s6_244 : decode prog_1_method_6_code 244 = .ok (.iconst 4, 1) := by decide +kernel
theorem d_s6_245 : decode prog_1_method_6_code 245 = .ok (.iaload, 1) := by decide +kernel
theorem d_s6_246 : decode prog_1_method_6_code 246 = .ok (.invokestatic 58, 3) := by decide +kernel
theorem d_s6_249 : decode prog_1_method_6_code 249 = .ok (.iastore, 1) := by decide +kernel
theorem d_s6_250 : decode prog_1_method_6_code 250 = .ok (.aload_n 2, 1) := by decide +kernel
theorem d_s6_251 : decode prog_1_method_6_code 251 = .ok (.getfield 71, 3) := by decide +kernel
theorem d_s6_254 : decode prog_1_method_6_code 254 = .ok (.ifCond .le 23, 3) := by decide +kernel
theorem d_s6_257 : decode prog_1_method_6_code 257 = .ok (.aload 4, 2) := by decide +kernel
theorem d_s6_259 : decode prog_1_method_6_code 259 = .ok (.iconst 3, 1) := by decide +kernel
theorem d_s6_260 : decode prog_1_method_6_code 260 = .ok (.aload 4, 2) := by decide +kernel
theorem d_s6_262 : decode prog_1_method_6_code 262 = .ok (.iconst 3, 1) := by decide +kernel
theorem d_s6_263 : decode prog_1_method_6_code 263 = .ok (.iaload, 1) := by decide +kernel
theorem d_s6_264 : decode prog_1_method_6_code 264 = .ok (.aload_n 0, 1) := by decide +kernel
theorem d_s6_265 : decode prog_1_method_6_code 265 = .ok (.aload_n 2, 1) := by decide +kernel
theorem d_s6_266 : decode prog_1_method_6_code 266 = .ok (.aload_n 2, 1) := by decide +kernel
theorem d_s6_267 : decode prog_1_method_6_code 267 = .ok (.getfield 71, 3) := by decide +kernel
theorem d_s6_270 : decode prog_1_method_6_code 270 = .ok (.invokevirtual 67, 3) := by decide +kernel
theorem d_s6_273 : decode prog_1_method_6_code 273 = .ok (.invokestatic 58, 3) := by decide +kernel
theorem d_s6_276 : decode prog_1_method_6_code 276 = .ok (.iastore, 1) := by decide +kernel
theorem d_s6_277 : decode prog_1_method_6_code 277 = .ok (.aload 4, 2) := by decide +kernel
theorem d_s6_279 : decode prog_1_method_6_code 279 = .ok (.iconst 4, 1) := by decide +kernel
theorem d_s6_280 : decode prog_1_method_6_code 280 = .ok (.aload_n 2, 1) := by decide +kernel
theorem d_s6_281 : decode prog_1_method_6_code 281 = .ok (.invokevirtual 74, 3) := by decide +kernel
theorem d_s6_284 : decode prog_1_method_6_code 284 = .ok (.iconst 1, 1) := by decide +kernel
theorem d_s6_285 : decode prog_1_method_6_code 285 = .ok (.iadd, 1) := by decide +kernel
theorem d_s6_286 : decode prog_1_method_6_code 286 = .ok (.iastore, 1) := by decide +kernel
theorem d_s6_287 : decode prog_1_method_6_code 287 = .ok (.return_, 1) := by decide +kernel
theorem d_s7_0 : decode prog_1_method_7_code 0 = .ok (.iload_n 0, 1) := by decide +kernel
theorem d_s7_1 : decode prog_1_method_7_code 1 = .ok (.iconst 1, 1) := by decide +kernel
theorem d_s7_2 : decode prog_1_method_7_code 2 = .ok (.bipush 12, 2) := by decide +kernel
theorem d_s7_4 : decode prog_1_method_7_code 4 = .ok (.invokestatic 23, 3) := by decide +kernel
theorem d_s7_7 : decode prog_1_method_7_code 7 = .ok (.ifCond .eq 37, 3) := by decide +kernel
theorem d_s7_10 : decode prog_1_method_7_code 10 = .ok (.iload_n 1, 1) := by decide +kernel
theorem d_s7_11 : decode prog_1_method_7_code 11 = .ok (.iconst 0, 1) := by decide +kernel
theorem d_s7_12 : decode prog_1_method_7_code 12 = .ok (.bipush 15, 2) := by decide +kernel
theorem d_s7_14 : decode prog_1_method_7_code 14 = .ok (.invokestatic 23, 3) := by decide +kernel
theorem d_s7_17 : decode prog_1_method_7_code 17 = .ok (.ifCond .eq 27, 3) := by decide +kernel
theorem d_s7_20 : decode prog_1_method_7_code 20 = .ok (.iload_n 2, 1) := by decide +kernel
theorem d_s7_21 : decode prog_1_method_7_code 21 = .ok (.iconst 0, 1) := by decide +kernel
theorem d_s7_22 : decode prog_1_method_7_code 22 = .ok (.bipush 15, 2) := by decide +kernel
theorem d_s7_24 : decode prog_1_method_7_code 24 = .ok (.invokestatic 23, 3) := by decide +kernel
theorem d_s7_27 : decode prog_1_method_7_code 27 = .ok (.ifCond .eq 17, 3) := by decide +kernel
theorem d_s7_30 : decode prog_1_method_7_code 30 = .ok (.iload_n 3, 1) := by decide +kernel
theorem d_s7_31 : decode prog_1_method_7_code 31 = .ok (.iconst 0, 1) := by decide +kernel
theorem d_s7_32 : decode prog_1_method_7_code 32 = .ok (.bipush 8, 2) := by decide +kernel
theorem d_s7_34 : decode prog_1_method_7_code 34 = .ok (.invokestatic 23, 3) := by decide +kernel
theorem d_s7_37 : decode prog_1_method_7_code 37 = .ok (.ifCond .eq 7, 3) := by decide +kernel
theorem d_s7_40 : decode prog_1_method_7_code 40 = .ok (.iconst 1, 1) := by decide +kernel
theorem d_s7_41 : decode prog_1_method_7_code 41 = .ok (.goto 4, 3) := by decide +kernel
theorem d_s7_44 : decode prog_1_method_7_code 44 = .ok (.iconst 0, 1) := by decide +kernel
theorem d_s7_45 : decode prog_1_method_7_code 45 = .ok (.invokestatic 77, 3) := by decide +kernel
theorem d_s7_48 : decode prog_1_method_7_code 48 = .ok (.return_, 1) := by decide +kernel
theorem d_s8_0 : decode prog_1_method_8_code 0 = .ok (.aload_n 0, 1) := by decide +kernel
theorem d_s8_1 : decode prog_1_method_8_code 1 = .ok (.getfield 11, 3) := by decide +kernel
theorem d_s8_4 : decode prog_1_method_8_code 4 = .ok (.iload_n 1, 1) := by decide +kernel
theorem d_s8_5 : decode prog_1_method_8_code 5 = .ok (.aaload, 1) := by decide +kernel
theorem d_s8_6 : decode prog_1_method_8_code 6 = .ok (.astore 9, 2) := by decide +kernel
theorem d_s8_8 : decode prog_1_method_8_code 8 = .ok (.aload 9, 2) := by decide +kernel
theorem d_s8_10 : decode prog_1_method_8_code 10 = .ok (.iload_n 2, 1) := by decide +kernel
theorem d_s8_11 : decode prog_1_method_8_code 11 = .ok (.putfield 81, 3) := by decide +kernel
theorem d_s8_14 : decode prog_1_method_8_code 14 = .ok (.aload 9, 2) := by decide +kernel
theorem d_s8_16 : decode prog_1_method_8_code 16 = .ok (.iload_n 3, 1) := by decide +kernel
theorem d_s8_17 : decode prog_1_method_8_code 17 = .ok (.putfield 45, 3) := by decide +kernel
theorem d_s8_20 : decode prog_1_method_8_code 20 = .ok (.aload 9, 2) := by decide +kernel
theorem d_s8_22 : decode prog_1_method_8_code 22 = .ok (.iload 4, 2) := by decide +kernel
theorem d_s8_24 : decode prog_1_method_8_code 24 = .ok (.putfield 64, 3) := by decide +kernel
theorem d_s8_27 : decode prog_1_method_8_code 27 = .ok (.aload 9, 2) := by decide +kernel
theorem d_s8_29 : decode prog_1_method_8_code 29 = .ok (.iload 5, 2) := by decide +kernel
theorem d_s8_31 : decode prog_1_method_8_code 31 = .ok (.putfield 71, 3) := by decide +kernel
theorem d_s8_34 : decode prog_1_method_8_code 34 = .ok (.aload 9, 2) := by decide +kernel
theorem d_s8_36 : decode prog_1_method_8_code 36 = .ok (.iload 6, 2) := by decide +kernel
theorem d_s8_38 : decode prog_1_method_8_code 38 = .ok (.putfield 84, 3) := by decide +kernel
theorem d_s8_41 : decode prog_1_method_8_code 41 = .ok (.aload 9, 2) := by decide +kernel
theorem d_s8_43 : decode prog_1_method_8_code 43 = .ok (.iload 7, 2) := by decide +kernel
theorem d_s8_45 : decode prog_1_method_8_code 45 = .ok (.putfield 87, 3) := by decide +kernel
theorem d_s8_48 : decode prog_1_method_8_code 48 = .ok (.aload 9, 2) := by decide +kernel
theorem d_s8_50 : decode prog_1_method_8_code 50 = .ok (.iload 8, 2) := by decide +kernel
theorem d_s8_52 : decode prog_1_method_8_code 52 = .ok (.putfield 51, 3) := by decide +kernel
theorem d_s8_55 : decode prog_1_method_8_code 55 = .ok (.aload_n 0, 1) := by decide +kernel
theorem d_s8_56 : decode prog_1_method_8_code 56 = .ok (.aload_n 0, 1) := by decide +kernel
theorem d_s8_57 : decode prog_1_method_8_code 57 = .ok (.getfield 30, 3) := by decide +kernel
theorem d_s8_60 : decode prog_1_method_8_code 60 = .ok (.iload_n 1, 1) := by decide +kernel
theorem d_s8_61 : decode prog_1_method_8_code 61 = .ok (.invokestatic 90, 3) := by decide +kernel
theorem d_s8_64 : decode prog_1_method_8_code 64 = .ok (.putfield 30, 3) := by decide +kernel
theorem d_s8_67 : decode prog_1_method_8_code 67 = .ok (.return_, 1) := by decide +kernel
theorem d_s9_0 : decode prog_1_method_9_code 0 = .ok (.iload_n 1, 1) := by decide +kernel
theorem d_s9_1 : decode prog_1_method_9_code 1 = .ok (.iload_n 2, 1) := by decide +kernel
theorem d_s9_2 : decode prog_1_method_9_code 2 = .ok (.iload 4, 2) := by decide +kernel
theorem d_s9_4 : decode prog_1_method_9_code 4 = .ok (.iload 6, 2) := by decide +kernel
theorem d_s9_6 : decode prog_1_method_9_code 6 = .ok (.invokestatic 93, 3) := by decide +kernel
theorem d_s9_9 : decode prog_1_method_9_code 9 = .ok (.aload_n 0, 1) := by decide +kernel
theorem d_s9_10 : decode prog_1_method_9_code 10 = .ok (.getfield 19, 3) := by decide +kernel
theorem d_s9_13 : decode prog_1_method_9_code 13 = .ok (.sipush 200, 3) := by decide +kernel
theorem d_s9_16 : decode prog_1_method_9_code 16 = .ok (.if_icmp .ne 11, 3) := by decide +kernel
theorem d_s9_19 : decode prog_1_method_9_code 19 = .ok (.new 97, 3) := by decide +kernel
theorem d_s9_22 : decode prog_1_method_9_code 22 = .ok (.dup, 1) := by decide +kernel
theorem d_s9_23 : decode prog_1_method_9_code 23 = .ok (.invokespecial 99, 3) := by decide +kernel
theorem d_s9_26 : decode prog_1_method_9_code 26 = .ok (.athrow, 1) := by decide +kernel
theorem d_s9_27 : decode prog_1_method_9_code 27 = .ok (.aload_n 0, 1) := by decide +kernel
theorem d_s9_28 : decode prog_1_method_9_code 28 = .ok (.aload_n 0, 1) := by decide +kernel
theorem d_s9_29 : decode prog_1_method_9_code 29 = .ok (.getfield 19, 3) := by decide +kernel
theorem d_s9_32 : decode prog_1_method_9_code 32 = .ok (.iload_n 1, 1) := by decide +kernel
theorem d_s9_33 : decode prog_1_method_9_code 33 = .ok (.iload_n 2, 1) := by decide +kernel
theorem d_s9_34 : decode prog_1_method_9_code 34 = .ok (.iload_n 3, 1) := by decide +kernel
theorem d_s9_35 : decode prog_1_method_9_code 35 = .ok (.iload 4, 2) := by decide +kernel
theorem d_s9_37 : decode prog_1_method_9_code 37 = .ok (.iload 5, 2) := by decide +kernel
theorem d_s9_39 : decode prog_1_method_9_code 39 = .ok (.iload 6, 2) := by decide +kernel
theorem d_s9_41 : decode prog_1_method_9_code 41 = .ok (.iload 7, 2) := by decide +kernel
theorem d_s9_43 : decode prog_1_method_9_code 43 = .ok (.invokevirtual 100, 3) := by decide +kernel
theorem d_s9_46 : decode prog_1_method_9_code 46 = .ok (.aload_n 0, 1) := by decide +kernel
theorem d_s9_47 : decode prog_1_method_9_code 47 = .ok (.dup, 1) := by decide +kernel
theorem d_s9_48 : decode prog_1_method_9_code 48 = .ok (.getfield 19, 3) := by decide +kernel
theorem d_s9_51 : decode prog_1_method_9_code 51 = .ok (.dup_x1, 1) := by decide +kernel
theorem d_s9_52 : decode prog_1_method_9_code 52 = .ok (.iconst 1, 1) := by decide +kernel
theorem d_s9_53 : decode prog_1_method_9_code 53 = .ok (.iadd, 1) := by decide +kernel
theorem d_s9_54 : decode prog_1_method_9_code 54 = .ok (.putfield 19, 3) := by decide +kernel
theorem d_s9_57 : decode prog_1_method_9_code 57 = .ok (.ireturn, 1) := by decide +kernel
theorem d_s10_0 : decode prog_1_method_10_code 0 = .ok (.iload_n 2, 1) := by decide +kernel
theorem d_s10_1 : decode prog_1_method_10_code 1 = .ok (.iload_n 3, 1) := by decide +kernel
theorem d_s10_2 : decode prog_1_method_10_code 2 = .ok (.iload 5, 2) := by decide +kernel
theorem d_s10_4 : decode prog_1_method_10_code 4 = .ok (.iload 7, 2) := by decide +kernel
theorem d_s10_6 : decode prog_1_method_10_code 6 = .ok (.invokestatic 93, 3) := by decide +kernel
theorem d_s10_9 : decode prog_1_method_10_code 9 = .ok (.iload_n 1, 1) := by decide +kernel
theorem d_s10_10 : decode prog_1_method_10_code 10 = .ok (.iconst 0, 1) := by decide +kernel
theorem d_s10_11 : decode prog_1_method_10_code 11 = .ok (.aload_n 0, 1) := by decide +kernel
theorem d_s10_12 : decode prog_1_method_10_code 12 = .ok (.getfield 19, 3) := by decide +kernel
theorem d_s10_15 : decode prog_1_method_10_code 15 = .ok (.iconst 1, 1) := by decide +kernel
theorem d_s10_16 : decode prog_1_method_10_code 16 = .ok (.isub, 1) := by decide +kernel
theorem d_s10_17 : decode prog_1_method_10_code 17 = .ok (.invokestatic 23, 3) := by decide +kernel
theorem d_s10_20 : decode prog_1_method_10_code 20 = .ok (.ifCond .ne 11, 3) := by decide +kernel
theorem d_s10_23 : decode prog_1_method_10_code 23 = .ok (.new 27, 3) := by decide +kernel
theorem d_s10_26 : decode prog_1_method_10_code 26 = .ok (.dup, 1) := by decide +kernel
theorem d_s10_27 : decode prog_1_method_10_code 27 = .ok (.invokespecial 29, 3) := by decide +kernel
theorem d_s10_30 : decode prog_1_method_10_code 30 = .ok (.athrow, 1) := by decide +kernel
theorem d_s10_31 : decode prog_1_method_10_code 31 = .ok (.aload_n 0, 1) := by decide +kernel
theorem d_s10_32 : decode prog_1_method_10_code 32 = .ok (.iload_n 1, 1) := by decide +kernel
theorem d_s10_33 : decode prog_1_method_10_code 33 = .ok (.iload_n 2, 1) := by decide +kernel
theorem d_s10_34 : decode prog_1_method_10_code 34 = .ok (.iload_n 3, 1) := by decide +kernel
theorem d_s10_35 : decode prog_1_method_10_code 35 = .ok (.iload 4, 2) := by decide +kernel
theorem d_s10_37 : decode prog_1_method_10_code 37 = .ok (.iload 5, 2) := by decide +kernel
theorem d_s10_39 : decode prog_1_method_10_code 39 = .ok (.iload 6, 2) := by decide +kernel
theorem d_s10_41 : decode prog_1_method_10_code 41 = .ok (.iload 7, 2) := by decide +kernel
theorem d_s10_43 : decode prog_1_method_10_code 43 = .ok (.iload 8, 2) := by decide +kernel
theorem d_s10_45 : decode prog_1_method_10_code 45 = .ok (.invokevirtual 100, 3) := by decide +kernel
theorem d_s10_48 : decode prog_1_method_10_code 48 = .ok (.return_, 1) := by decide +kernel
theorem d_s11_0 : decode prog_1_method_11_code 0 = .ok (.iload_n 1, 1) := by decide +kernel
theorem d_s11_1 : decode prog_1_method_11_code 1 = .ok (.iconst 0, 1) := by decide +kernel
theorem d_s11_2 : decode prog_1_method_11_code 2 = .ok (.aload_n 0, 1) := by decide +kernel
theorem d_s11_3 : decode prog_1_method_11_code 3 = .ok (.getfield 19, 3) := by decide +kernel
theorem d_s11_6 : decode prog_1_method_11_code 6 = .ok (.invokestatic 23, 3) := by decide +kernel
theorem d_s11_9 : decode prog_1_method_11_code 9 = .ok (.invokestatic 77, 3) := by decide +kernel
theorem d_s11_12 : decode prog_1_method_11_code 12 = .ok (.aload_n 0, 1) := by decide +kernel
theorem d_s11_13 : decode prog_1_method_11_code 13 = .ok (.getfield 19, 3) := by decide +kernel
theorem d_s11_16 : decode prog_1_method_11_code 16 = .ok (.istore_n 2, 1) := by decide +kernel
theorem d_s11_17 : decode prog_1_method_11_code 17 = .ok (.aload_n 0, 1) := by decide +kernel
theorem d_s11_18 : decode prog_1_method_11_code 18 = .ok (.iload_n 1, 1) := by decide +kernel
theorem d_s11_19 : decode prog_1_method_11_code 19 = .ok (.putfield 19, 3) := by decide +kernel
theorem d_s11_22 : decode prog_1_method_11_code 22 = .ok (.aload_n 0, 1) := by decide +kernel
theorem d_s11_23 : decode prog_1_method_11_code 23 = .ok (.aload_n 0, 1) := by decide +kernel
theorem d_s11_24 : decode prog_1_method_11_code 24 = .ok (.getfield 30, 3) := by decide +kernel
theorem d_s11_27 : decode prog_1_method_11_code 27 = .ok (.iload_n 1, 1) := by decide +kernel
theorem d_s11_28 : decode prog_1_method_11_code 28 = .ok (.invokestatic 90, 3) := by decide +kernel
theorem d_s11_31 : decode prog_1_method_11_code 31 = .ok (.putfield 30, 3) := by decide +kernel
theorem d_s11_34 : decode prog_1_method_11_code 34 = .ok (.iload_n 2, 1) := by decide +kernel
theorem d_s11_35 : decode prog_1_method_11_code 35 = .ok (.ireturn, 1) := by decide +kernel
theorem d_s12_0 : decode prog_1_method_12_code 0 = .ok (.iload_n 2, 1) := by decide +kernel
theorem d_s12_1 : decode prog_1_method_12_code 1 = .ok (.iconst 0, 1) := by decide +kernel
theorem d_s12_2 : decode prog_1_method_12_code 2 = .ok (.bipush 6, 2) := by decide +kernel
theorem d_s12_4 : decode prog_1_method_12_code 4 = .ok (.invokestatic 23, 3) := by decide +kernel
theorem d_s12_7 : decode prog_1_method_12_code 7 = .ok (.invokestatic 77, 3) := by decide +kernel
theorem d_s12_10 : decode prog_1_method_12_code 10 = .ok (.aload_n 0, 1) := by decide +kernel
theorem d_s12_11 : decode prog_1_method_12_code 11 = .ok (.iload_n 1, 1) := by decide +kernel
theorem d_s12_12 : decode prog_1_method_12_code 12 = .ok (.invokevirtual 104, 3) := by decide +kernel
theorem d_s12_15 : decode prog_1_method_12_code 15 = .ok (.astore_n 3, 1) := by decide +kernel
theorem d_s12_16 : decode prog_1_method_12_code 16 = .ok (.iload_n 2, 1) := by decide +kernel
theorem d_s12_17 : decode prog_1_method_12_code 17 = .ok (.iconst 5, 1) := by decide +kernel
theorem d_s12_18 : decode prog_1_method_12_code 18 = .ok (.if_icmp .ne 10, 3) := by decide +kernel
theorem d_s12_21 : decode prog_1_method_12_code 21 = .ok (.aload_n 3, 1) := by decide +kernel
theorem d_s12_22 : decode prog_1_method_12_code 22 = .ok (.invokevirtual 55, 3) := by decide +kernel
theorem d_s12_25 : decode prog_1_method_12_code 25 = .ok (.goto 22, 3) := by decide +kernel
theorem d_s12_28 : decode prog_1_method_12_code 28 = .ok (.iload_n 2, 1) := by decide +kernel
theorem d_s12_29 : decode prog_1_method_12_code 29 = .ok (.bipush 6, 2) := by decide +kernel
theorem d_s12_31 : decode prog_1_method_12_code 31 = .ok (.if_icmp .ne 10, 3) := by decide +kernel
theorem d_s12_34 : decode prog_1_method_12_code 34 = .ok (.aload_n 3, 1) := by decide +kernel
theorem d_s12_35 : decode prog_1_method_12_code 35 = .ok (.invokevirtual 74, 3) := by decide +kernel
theorem d_s12_38 : decode prog_1_method_12_code 38 = .ok (.goto 9, 3) := by decide +kernel
theorem d_s12_41 : decode prog_1_method_12_code 41 = .ok (.aload_n 3, 1) := by decide +kernel
theorem d_s12_42 : decode prog_1_method_12_code 42 = .ok (.getfield 48, 3) := by decide +kernel
theorem d_s12_45 : decode prog_1_method_12_code 45 = .ok (.iload_n 2, 1) := by decide +kernel
theorem d_s12_46 : decode prog_1_method_12_code 46 = .ok (.iaload, 1) := by decide +kernel
theorem d_s12_47 : decode prog_1_method_12_code 47 = .ok (.ireturn, 1) := by decide +kernel
theorem d_s13_0 : decode prog_1_method_13_code 0 = .ok (.iload_n 1, 1) := by decide +kernel
theorem d_s13_1 : decode prog_1_method_13_code 1 = .ok (.iconst 0, 1) := by decide +kernel
theorem d_s13_2 : decode prog_1_method_13_code 2 = .ok (.iconst 4, 1) := by decide +kernel
theorem d_s13_3 : decode prog_1_method_13_code 3 = .ok (.invokestatic 23, 3) := by decide +kernel
theorem d_s13_6 : decode prog_1_method_13_code 6 = .ok (.invokestatic 77, 3) := by decide +kernel
theorem d_s13_9 : decode prog_1_method_13_code 9 = .ok (.aload_n 0, 1) := by decide +kernel
theorem d_s13_10 : decode prog_1_method_13_code 10 = .ok (.getfield 19, 3) := by decide +kernel
theorem d_s13_13 : decode prog_1_method_13_code 13 = .ok (.ifCond .ne 5, 3) := by decide +kernel
theorem d_s13_16 : decode prog_1_method_13_code 16 = .ok (.iconst (-1), 1) := by decide +kernel
theorem d_s13_17 : decode prog_1_method_13_code 17 = .ok (.ireturn, 1) := by decide +kernel
theorem d_s13_18 : decode prog_1_method_13_code 18 = .ok (.aload_n 0, 1) := by decide +kernel
theorem d_s13_19 : decode prog_1_method_13_code 19 = .ok (.aload_n 0, 1) := by decide +kernel
theorem d_s13_20 : decode prog_1_method_13_code 20 = .ok (.getfield 19, 3) := by decide +kernel
theorem d_s13_23 : decode prog_1_method_13_code 23 = .ok (.iconst 1, 1) := by decide +kernel
theorem d_s13_24 : decode prog_1_method_13_code 24 = .ok (.isub, 1) := by decide +kernel
theorem d_s13_25 : decode prog_1_method_13_code 25 = .ok (.invokevirtual 104, 3) := by decide +kernel
theorem d_s13_28 : decode prog_1_method_13_code 28 = .ok (.pop, 1) := by decide +kernel
theorem d_s13_29 : decode prog_1_method_13_code 29 = .ok (.iconst 0, 1) := by decide +kernel
theorem d_s13_30 : decode prog_1_method_13_code 30 = .ok (.istore_n 3, 1) := by decide +kernel
theorem d_s13_31 : decode prog_1_method_13_code 31 = .ok (.aload_n 0, 1) := by decide +kernel
theorem d_s13_32 : decode prog_1_method_13_code 32 = .ok (.getfield 19, 3) := by decide +kernel
theorem d_s13_35 : decode prog_1_method_13_code 35 = .ok (.istore 4, 2) := by decide +kernel
theorem d_s13_37 : decode prog_1_method_13_code 37 = .ok (.iload_n 3, 1) := by decide +kernel
theorem d_s13_38 : decode prog_1_method_13_code 38 = .ok (.iload 4, 2) := by decide +kernel
theorem d_s13_40 : decode prog_1_method_13_code 40 = .ok (.if_icmp .ge 42, 3) := by decide +kernel
theorem d_s13_43 : decode prog_1_method_13_code 43 = .ok (.iload_n 3, 1) := by decide +kernel
theorem d_s13_44 : decode prog_1_method_13_code 44 = .ok (.iload 4, 2) := by decide +kernel
theorem d_s13_46 : decode prog_1_method_13_code 46 = .ok (.iadd, 1) := by decide +kernel
theorem d_s13_47 : decode prog_1_method_13_code 47 = .ok (.iconst 2, 1) := by decide +kernel
theorem d_s13_48 : decode prog_1_method_13_code 48 = .ok (.idiv, 1) := by decide +kernel
theorem d_s13_49 : decode prog_1_method_13_code 49 = .ok (.istore 5, 2) := by decide +kernel
theorem d_s13_51 : decode prog_1_method_13_code 51 = .ok (.aload_n 0, 1) := by decide +kernel
theorem d_s13_52 : decode prog_1_method_13_code 52 = .ok (.getfield 11, 3) := by decide +kernel
theorem d_s13_55 : decode prog_1_method_13_code 55 = .ok (.iload 5, 2) := by decide +kernel
theorem d_s13_57 : decode prog_1_method_13_code 57 = .ok (.aaload, 1) := by decide +kernel
theorem d_s13_58 : decode prog_1_method_13_code 58 = .ok (.getfield 48, 3) := by decide +kernel
theorem d_s13_61 : decode prog_1_method_13_code 61 = .ok (.iload_n 1, 1) := by decide +kernel
theorem d_s13_62 : decode prog_1_method_13_code 62 = .ok (.iaload, 1) := by decide +kernel
theorem d_s13_63 : decode prog_1_method_13_code 63 = .ok (.iload_n 2, 1) := by decide +kernel
theorem d_s13_64 : decode prog_1_method_13_code 64 = .ok (.if_icmp .gt 11, 3) := by decide +kernel
theorem d_s13_67 : decode prog_1_method_13_code 67 = .ok (.iload 5, 2) := by decide +kernel
theorem d_s13_69 : decode prog_1_method_13_code 69 = .ok (.iconst 1, 1) := by decide +kernel
theorem d_s13_70 : decode prog_1_method_13_code 70 = .ok (.iadd, 1) := by decide +kernel
theorem d_s13_71 : decode prog_1_method_13_code 71 = .ok (.istore_n 3, 1) := by decide +kernel
theorem d_s13_72 : decode prog_1_method_13_code 72 = .ok (.goto 7, 3) := by decide +kernel
theorem d_s13_75 : decode prog_1_method_13_code 75 = .ok (.iload 5, 2) := by decide +kernel
theorem d_s13_77 : decode prog_1_method_13_code 77 = .ok (.istore 4, 2) := by decide +kernel
theorem d_s13_79 : decode prog_1_method_13_code 79 = .ok (.goto (-42), 3) := by decide +kernel
theorem d_s13_82 : decode prog_1_method_13_code 82 = .ok (.iload_n 3, 1) := by decide +kernel
theorem d_s13_83 : decode prog_1_method_13_code 83 = .ok (.ifCond .ne 5, 3) := by decide +kernel
theorem d_s13_86 : decode prog_1_method_13_code 86 = .ok (.iconst (-1), 1) := by decide +kernel
theorem d_s13_87 : decode prog_1_method_13_code 87 = .ok (.ireturn, 1) := by decide +kernel
theorem d_s13_88 : decode prog_1_method_13_code 88 = .ok (.aload_n 0, 1) := by decide +kernel
theorem d_s13_89 : decode prog_1_method_13_code 89 = .ok (.getfield 11, 3) := by decide +kernel
theorem d_s13_92 : decode prog_1_method_13_code 92 = .ok (.iload_n 3, 1) := by decide +kernel
theorem d_s13_93 : decode prog_1_method_13_code 93 = .ok (.iconst 1, 1) := by decide +kernel
theorem d_s13_94 : decode prog_1_method_13_code 94 = .ok (.isub, 1) := by decide +kernel
theorem d_s13_95 : decode prog_1_method_13_code 95 = .ok (.aaload, 1) := by decide +kernel
theorem d_s13_96 : decode prog_1_method_13_code 96 = .ok (.astore 5, 2) := by decide +kernel
theorem d_s13_98 : decode prog_1_method_13_code 98 = .ok (.iload_n 1, 1) := by decide +kernel
theorem d_s13_99 : decode prog_1_method_13_code 99 = .ok (.iconst 4, 1) := by decide +kernel
theorem d_s13_100 : decode prog_1_method_13_code 100 = .ok (.if_icmp .ne 15, 3) := by decide +kernel
theorem d_s13_103 : decode prog_1_method_13_code 103 = .ok (.aload 5, 2) := by decide +kernel
theorem d_s13_105 : decode prog_1_method_13_code 105 = .ok (.getfield 48, 3) := by decide +kernel
theorem d_s13_108 : decode prog_1_method_13_code 108 = .ok (.iload_n 1, 1) := by decide +kernel
theorem d_s13_109 : decode prog_1_method_13_code 109 = .ok (.iaload, 1) := by decide +kernel
theorem d_s13_110 : decode prog_1_method_13_code 110 = .ok (.iconst 1, 1) := by decide +kernel
theorem d_s13_111 : decode prog_1_method_13_code 111 = .ok (.iadd, 1) := by decide +kernel
theorem d_s13_112 : decode prog_1_method_13_code 112 = .ok (.goto 12, 3) := by decide +kernel
theorem d_s13_115 : decode prog_1_method_13_code 115 = .ok (.aload 5, 2) := by decide +kernel
theorem d_s13_117 : decode prog_1_method_13_code 117 = .ok (.getfield 48, 3) := by decide +kernel
theorem d_s13_120 : decode prog_1_method_13_code 120 = .ok (.iload_n 1, 1) := by decide +kernel
theorem d_s13_121 : decode prog_1_method_13_code 121 = .ok (.iconst 1, 1) := by decide +kernel
theorem d_s13_122 : decode prog_1_method_13_code 122 = .ok (.iadd, 1) := by decide +kernel
theorem d_s13_123 : decode prog_1_method_13_code 123 = .ok (.iaload, 1) := by decide +kernel
theorem d_s13_124 : decode prog_1_method_13_code 124 = .ok (.istore 6, 2) := by decide +kernel
theorem d_s13_126 : decode prog_1_method_13_code 126 = .ok (.iload_n 2, 1) := by decide +kernel
theorem d_s13_127 : decode prog_1_method_13_code 127 = .ok (.iload 6, 2) := by decide +kernel
theorem d_s13_129 : decode prog_1_method_13_code 129 = .ok (.if_icmp .ge 9, 3) := by decide +kernel
theorem d_s13_132 : decode prog_1_method_13_code 132 = .ok (.iload_n 3, 1) := by decide +kernel
theorem d_s13_133 : decode prog_1_method_13_code 133 = .ok (.iconst 1, 1) := by decide +kernel
theorem d_s13_134 : decode prog_1_method_13_code 134 = .ok (.isub, 1) := by decide +kernel
theorem d_s13_135 : decode prog_1_method_13_code 135 = .ok (.goto 4, 3) := by decide +kernel
theorem d_s13_138 : decode prog_1_method_13_code 138 = .ok (.iconst (-1), 1) := by decide +kernel
theorem d_s13_139 : decode prog_1_method_13_code 139 = .ok (.ireturn, 1) := by decide +kernel
theorem d_s14_0 : decode prog_1_method_14_code 0 = .ok (.aload_n 0, 1) := by decide +kernel
theorem d_s14_1 : decode prog_1_method_14_code 1 = .ok (.iload_n 1, 1) := by decide +kernel
theorem d_s14_2 : decode prog_1_method_14_code 2 = .ok (.invokevirtual 104, 3) := by decide +kernel
theorem d_s14_5 : decode prog_1_method_14_code 5 = .ok (.astore_n 2, 1) := by decide +kernel
theorem d_s14_6 : decode prog_1_method_14_code 6 = .ok (.aload_n 2, 1) := by decide +kernel
theorem d_s14_7 : decode prog_1_method_14_code 7 = .ok (.getfield 48, 3) := by decide +kernel
theorem d_s14_10 : decode prog_1_method_14_code 10 = .ok (.iconst 2, 1) := by decide +kernel
theorem d_s14_11 : decode prog_1_method_14_code 11 = .ok (.iaload, 1) := by decide +kernel
theorem d_s14_12 : decode prog_1_method_14_code 12 = .ok (.aload_n 2, 1) := by decide +kernel
theorem d_s14_13 : decode prog_1_method_14_code 13 = .ok (.getfield 48, 3) := by decide +kernel
theorem d_s14_16 : decode prog_1_method_14_code 16 = .ok (.iconst 1, 1) := by decide +kernel
theorem d_s14_17 : decode prog_1_method_14_code 17 = .ok (.iaload, 1) := by decide +kernel
theorem d_s14_18 : decode prog_1_method_14_code 18 = .ok (.isub, 1) := by decide +kernel
theorem d_s14_19 : decode prog_1_method_14_code 19 = .ok (.iconst 1, 1) := by decide +kernel
theorem d_s14_20 : decode prog_1_method_14_code 20 = .ok (.isub, 1) := by decide +kernel
theorem d_s14_21 : decode prog_1_method_14_code 21 = .ok (.ireturn, 1) := by decide +kernel
theorem d_s15_0 : decode prog_1_method_15_code 0 = .ok (.iload_n 2, 1) := by decide +kernel
theorem d_s15_1 : decode prog_1_method_15_code 1 = .ok (.iconst 1, 1) := by decide +kernel
theorem d_s15_2 : decode prog_1_method_15_code 2 = .ok (.bipush 15, 2) := by decide +kernel
theorem d_s15_4 : decode prog_1_method_15_code 4 = .ok (.invokestatic 23, 3) := by decide +kernel
theorem d_s15_7 : decode prog_1_method_15_code 7 = .ok (.invokestatic 77, 3) := by decide +kernel
theorem d_s15_10 : decode prog_1_method_15_code 10 = .ok (.aload_n 0, 1) := by decide +kernel
theorem d_s15_11 : decode prog_1_method_15_code 11 = .ok (.iload_n 1, 1) := by decide +kernel
theorem d_s15_12 : decode prog_1_method_15_code 12 = .ok (.invokevirtual 104, 3) := by decide +kernel
theorem d_s15_15 : decode prog_1_method_15_code 15 = .ok (.getfield 37, 3) := by decide +kernel
theorem d_s15_18 : decode prog_1_method_15_code 18 = .ok (.iload_n 2, 1) := by decide +kernel
theorem d_s15_19 : decode prog_1_method_15_code 19 = .ok (.iaload, 1) := by decide +kernel
theorem d_s15_20 : decode prog_1_method_15_code 20 = .ok (.ireturn, 1) := by decide +kernel
theorem d_s16_0 : decode prog_1_method_16_code 0 = .ok (.iload_n 1, 1) := by decide +kernel
theorem d_s16_1 : decode prog_1_method_16_code 1 = .ok (.iconst 0, 1) := by decide +kernel
theorem d_s16_2 : decode prog_1_method_16_code 2 = .ok (.iconst 3, 1) := by decide +kernel
theorem d_s16_3 : decode prog_1_method_16_code 3 = .ok (.invokestatic 23, 3) := by decide +kernel
theorem d_s16_6 : decode prog_1_method_16_code 6 = .ok (.invokestatic 77, 3) := by decide +kernel
theorem d_s16_9 : decode prog_1_method_16_code 9 = .ok (.aload_n 0, 1) := by decide +kernel
theorem d_s16_10 : decode prog_1_method_16_code 10 = .ok (.getfield 19, 3) := by decide +kernel
theorem d_s16_13 : decode prog_1_method_16_code 13 = .ok (.ifCond .ne 7, 3) := by decide +kernel
theorem d_s16_16 : decode prog_1_method_16_code 16 = .ok (.iconst 0, 1) := by decide +kernel
theorem d_s16_17 : decode prog_1_method_16_code 17 = .ok (.goto 18, 3) := by decide +kernel
theorem d_s16_20 : decode prog_1_method_16_code 20 = .ok (.aload_n 0, 1) := by decide +kernel
theorem d_s16_21 : decode prog_1_method_16_code 21 = .ok (.aload_n 0, 1) := by decide +kernel
theorem d_s16_22 : decode prog_1_method_16_code 22 = .ok (.getfield 19, 3) := by decide +kernel
theorem d_s16_25 : decode prog_1_method_16_code 25 = .ok (.iconst 1, 1) := by decide +kernel
theorem d_s16_26 : decode prog_1_method_16_code 26 = .ok (.isub, 1) := by decide +kernel
theorem d_s16_27 : decode prog_1_method_16_code 27 = .ok (.invokevirtual 104, 3) := by decide +kernel
theorem d_s16_30 : decode prog_1_method_16_code 30 = .ok (.getfield 48, 3) := by decide +kernel
theorem d_s16_33 : decode prog_1_method_16_code 33 = .ok (.iconst 4, 1) := by decide +kernel
theorem d_s16_34 : decode prog_1_method_16_code 34 = .ok (.iaload, 1) := by decide +kernel
theorem d_s16_35 : decode prog_1_method_16_code 35 = .ok (.istore_n 2, 1) := by decide +kernel
theorem d_s16_36 : decode prog_1_method_16_code 36 = .ok (.iconst 0, 1) := by decide +kernel
theorem d_s16_37 : decode prog_1_method_16_code 37 = .ok (.istore_n 3, 1) := by decide +kernel
theorem d_s16_38 : decode prog_1_method_16_code 38 = .ok (.iconst 0, 1) := by decide +kernel
theorem d_s16_39 : decode prog_1_method_16_code 39 = .ok (.istore 4, 2) := by decide +kernel
theorem d_s16_41 : decode prog_1_method_16_code 41 = .ok (.iload 4, 2) := by decide +kernel
theorem d_s16_43 : decode prog_1_method_16_code 43 = .ok (.aload_n 0, 1) := by decide +kernel
theorem d_s16_44 : decode prog_1_method_16_code 44 = .ok (.getfield 19, 3) := by decide +kernel
theorem d_s16_47 : decode prog_1_method_16_code 47 = .ok (.if_icmp .ge 25, 3) := by decide +kernel
theorem d_s16_50 : decode prog_1_method_16_code 50 = .ok (.aload_n 0, 1) := by decide +kernel
theorem d_s16_51 : decode prog_1_method_16_code 51 = .ok (.getfield 11, 3) := by decide +kernel
theorem d_s16_54 : decode prog_1_method_16_code 54 = .ok (.iload 4, 2) := by decide +kernel
theorem d_s16_56 : decode prog_1_method_16_code 56 = .ok (.aaload, 1) := by decide +kernel
theorem d_s16_57 : decode prog_1_method_16_code 57 = .ok (.getfield 51, 3) := by decide +kernel
theorem d_s16_60 : decode prog_1_method_16_code 60 = .ok (.ifCond .eq 6, 3) := by decide +kernel
theorem d_s16_63 : decode prog_1_method_16_code 63 = .ok (.iinc 3 1, 3) := by decide +kernel
theorem d_s16_66 : decode prog_1_method_16_code 66 = .ok (.iinc 4 1, 3) := by decide +kernel
theorem d_s16_69 : decode prog_1_method_16_code 69 = .ok (.goto (-28), 3) := by decide +kernel
theorem d_s16_72 : decode prog_1_method_16_code 72 = .ok (.iload_n 1, 1) := by decide +kernel
theorem d_s16_73 : decode prog_1_method_16_code 73 = .ok (.ifCond .ne 10, 3) := by decide +kernel
theorem d_s16_76 : decode prog_1_method_16_code 76 = .ok (.aload_n 0, 1) := by decide +kernel
theorem d_s16_77 : decode prog_1_method_16_code 77 = .ok (.getfield 19, 3) := by decide +kernel
theorem d_s16_80 : decode prog_1_method_16_code 80 = .ok (.goto 27, 3) := by decide +kernel
theorem d_s16_83 : decode prog_1_method_16_code 83 = .ok (.iload_n 1, 1) := by decide +kernel
theorem d_s16_84 : decode prog_1_method_16_code 84 = .ok (.iconst 1, 1) := by decide +kernel
theorem d_s16_85 : decode prog_1_method_16_code 85 = .ok (.if_icmp .ne 7, 3) := by decide +kernel
theorem d_s16_88 : decode prog_1_method_16_code 88 = .ok (.iload_n 2, 1) := by decide +kernel
theorem d_s16_89 : decode prog_1_method_16_code 89 = .ok (.goto 18, 3) := by decide +kernel
theorem d_s16_92 : decode prog_1_method_16_code 92 = .ok (.iload_n 1, 1) := by decide +kernel
theorem d_s16_93 : decode prog_1_method_16_code 93 = .ok (.iconst 2, 1) := by decide +kernel
theorem d_s16_94 : decode prog_1_method_16_code 94 = .ok (.if_icmp .ne 12, 3) := by decide +kernel
theorem d_s16_97 : decode prog_1_method_16_code 97 = .ok (.iload_n 2, 1) := by decide +kernel
theorem d_s16_98 : decode prog_1_method_16_code 98 = .ok (.aload_n 0, 1) := by decide +kernel
theorem d_s16_99 : decode prog_1_method_16_code 99 = .ok (.getfield 19, 3) := by decide +kernel
theorem d_s16_102 : decode prog_1_method_16_code 102 = .ok (.isub, 1) := by decide +kernel
theorem d_s16_103 : decode prog_1_method_16_code 103 = .ok (.goto 4, 3) := by decide +kernel
theorem d_s16_106 : decode prog_1_method_16_code 106 = .ok (.iload_n 3, 1) := by decide +kernel
theorem d_s16_107 : decode prog_1_method_16_code 107 = .ok (.ireturn, 1) := by decide +kernel
theorem d_t1_0 : decode prog_2_method_1_code 0 = .ok (.aload_n 0, 1) := by decide +kernel
theorem d_t1_1 : decode prog_2_method_1_code 1 = .ok (.invokespecial 3, 3) := by decide +kernel
theorem d_t1_4 : decode prog_2_method_1_code 4 = .ok (.aload_n 0, 1) := by decide +kernel
theorem d_t1_5 : decode prog_2_method_1_code 5 = .ok (.iconst 5, 1) := by decide +kernel
theorem d_t1_6 : decode prog_2_method_1_code 6 = .ok (.newarray .int, 2) := by decide +kernel
theorem d_t1_8 : decode prog_2_method_1_code 8 = .ok (.putfield 9, 3) := by decide +kernel
theorem d_t1_11 : decode prog_2_method_1_code 11 = .ok (.aload_n 0, 1) := by decide +kernel
theorem d_t1_12 : decode prog_2_method_1_code 12 = .ok (.bipush 16, 2) := by decide +kernel
theorem d_t1_14 : decode prog_2_method_1_code 14 = .ok (.newarray .int, 2) := by decide +kernel
theorem d_t1_16 : decode prog_2_method_1_code 16 = .ok (.putfield 15, 3) := by decide +kernel
theorem d_t1_19 : decode prog_2_method_1_code 19 = .ok (.return_, 1) := by decide +kernel
theorem d_t2_0 : decode prog_2_method_2_code 0 = .ok (.aload_n 0, 1) := by decide +kernel
theorem d_t2_1 : decode prog_2_method_2_code 1 = .ok (.getfield 9, 3) := by decide +kernel
theorem d_t2_4 : decode prog_2_method_2_code 4 = .ok (.iconst 2, 1) := by decide +kernel
theorem d_t2_5 : decode prog_2_method_2_code 5 = .ok (.iaload, 1) := by decide +kernel
theorem d_t2_6 : decode prog_2_method_2_code 6 = .ok (.aload_n 0, 1) := by decide +kernel
theorem d_t2_7 : decode prog_2_method_2_code 7 = .ok (.getfield 18, 3) := by decide +kernel
theorem d_t2_10 : decode prog_2_method_2_code 10 = .ok (.iadd, 1) := by decide +kernel
theorem d_t2_11 : decode prog_2_method_2_code 11 = .ok (.iconst 1, 1) := by decide +kernel
theorem d_t2_12 : decode prog_2_method_2_code 12 = .ok (.isub, 1) := by decide +kernel
theorem d_t2_13 : decode prog_2_method_2_code 13 = .ok (.ireturn, 1) := by decide +kernel
theorem d_t3_0 : decode prog_2_method_3_code 0 = .ok (.aload_n 0, 1) := by decide +kernel
theorem d_t3_1 : decode prog_2_method_3_code 1 = .ok (.getfield 9, 3) := by decide +kernel
theorem d_t3_4 : decode prog_2_method_3_code 4 = .ok (.iconst 3, 1) := by decide +kernel
theorem d_t3_5 : decode prog_2_method_3_code 5 = .ok (.iaload, 1) := by decide +kernel
theorem d_t3_6 : decode prog_2_method_3_code 6 = .ok (.aload_n 0, 1) := by decide +kernel
theorem d_t3_7 : decode prog_2_method_3_code 7 = .ok (.getfield 22, 3) := by decide +kernel
theorem d_t3_10 : decode prog_2_method_3_code 10 = .ok (.iadd, 1) := by decide +kernel
theorem d_t3_11 : decode prog_2_method_3_code 11 = .ok (.ireturn, 1) := by decide +kernel
theorem d_t4_0 : decode prog_2_method_4_code 0 = .ok (.aload_n 0, 1) := by decide +kernel
theorem d_t4_1 : decode prog_2_method_4_code 1 = .ok (.getfield 25, 3) := by decide +kernel
theorem d_t4_4 : decode prog_2_method_4_code 4 = .ok (.ifCond .eq 10, 3) := by decide +kernel
theorem d_t4_7 : decode prog_2_method_4_code 7 = .ok (.aload_n 0, 1) := by decide +kernel
theorem d_t4_8 : decode prog_2_method_4_code 8 = .ok (.invokevirtual 29, 3) := by decide +kernel
theorem d_t4_11 : decode prog_2_method_4_code 11 = .ok (.goto 7, 3) := by decide +kernel
theorem d_t4_14 : decode prog_2_method_4_code 14 = .ok (.aload_n 0, 1) := by decide +kernel
theorem d_t4_15 : decode prog_2_method_4_code 15 = .ok (.invokevirtual 33, 3) := by decide +kernel
theorem d_t4_18 : decode prog_2_method_4_code 18 = .ok (.ireturn, 1) := by decide +kernel
theorem d_w3_0 : decode method_3_code 0 = .ok (.aload 8, 2) := by decide +kernel
theorem d_w3_2 : decode method_3_code 2 = .ok (.iconst 0, 1) := by decide +kernel
theorem d_w3_3 : decode method_3_code 3 = .ok (.aload_n 0, 1) := by decide +kernel
theorem d_w3_4 : decode method_3_code 4 = .ok (.iload_n 1, 1) := by decide +kernel
theorem d_w3_5 : decode method_3_code 5 = .ok (.iload_n 2, 1) := by decide +kernel
theorem d_w3_6 : decode method_3_code 6 = .ok (.iload_n 3, 1) := by decide +kernel
theorem d_w3_7 : decode method_3_code 7 = .ok (.iload 4, 2) := by decide +kernel
theorem d_w3_9 : decode method_3_code 9 = .ok (.iload 5, 2) := by decide +kernel
theorem d_w3_11 : decode method_3_code 11 = .ok (.iload 6, 2) := by decide +kernel
theorem d_w3_13 : decode method_3_code 13 = .ok (.iload 7, 2) := by decide +kernel
theorem d_w3_15 : decode method_3_code 15 = .ok (.invokevirtual 7, 3) := by decide +kernel
theorem d_w3_18 : decode method_3_code 18 = .ok (.i2l, 1) := by decide +kernel
theorem d_w3_19 : decode method_3_code 19 = .ok (.lastore, 1) := by decide +kernel
theorem d_w3_20 : decode method_3_code 20 = .ok (.goto 11, 3) := by decide +kernel
theorem d_w3_23 : decode method_3_code 23 = .ok (.astore 9, 2) := by decide +kernel
theorem d_w3_25 : decode method_3_code 25 = .ok (.iconst 1, 1) := by decide +kernel
theorem d_w3_26 : decode method_3_code 26 = .ok (.ireturn, 1) := by decide +kernel
theorem d_w3_27 : decode method_3_code 27 = .ok (.astore 9, 2) := by decide +kernel
theorem d_w3_29 : decode method_3_code 29 = .ok (.iconst 2, 1) := by decide +kernel
theorem d_w3_30 : decode method_3_code 30 = .ok (.ireturn, 1) := by decide +kernel
theorem d_w3_31 : decode method_3_code 31 = .ok (.iconst 0, 1) := by decide +kernel
theorem d_w3_32 : decode method_3_code 32 = .ok (.ireturn, 1) := by decide +kernel
theorem d_w4_0 : decode method_4_code 0 = .ok (.aload_n 0, 1) := by decide +kernel
theorem d_w4_1 : decode method_4_code 1 = .ok (.iload_n 1, 1) := by decide +kernel
theorem d_w4_2 : decode method_4_code 2 = .ok (.iload_n 2, 1) := by decide +kernel
theorem d_w4_3 : decode method_4_code 3 = .ok (.iload_n 3, 1) := by decide +kernel
theorem d_w4_4 : decode method_4_code 4 = .ok (.iload 4, 2) := by decide +kernel
theorem d_w4_6 : decode method_4_code 6 = .ok (.iload 5, 2) := by decide +kernel
theorem d_w4_8 : decode method_4_code 8 = .ok (.iload 6, 2) := by decide +kernel
theorem d_w4_10 : decode method_4_code 10 = .ok (.iload 7, 2) := by decide +kernel
theorem d_w4_12 : decode method_4_code 12 = .ok (.iload 8, 2) := by decide +kernel
theorem d_w4_14 : decode method_4_code 14 = .ok (.invokevirtual 17, 3) := by decide +kernel
theorem d_w4_17 : decode method_4_code 17 = .ok (.goto 11, 3) := by decide +kernel
theorem d_w4_20 : decode method_4_code 20 = .ok (.astore 9, 2) := by decide +kernel
theorem d_w4_22 : decode method_4_code 22 = .ok (.iconst 1, 1) := by decide +kernel
theorem d_w4_23 : decode method_4_code 23 = .ok (.ireturn, 1) := by decide +kernel
theorem d_w4_24 : decode method_4_code 24 = .ok (.astore 9, 2) := by decide +kernel
theorem d_w4_26 : decode method_4_code 26 = .ok (.iconst 2, 1) := by decide +kernel
theorem d_w4_27 : decode method_4_code 27 = .ok (.ireturn, 1) := by decide +kernel
theorem d_w4_28 : decode method_4_code 28 = .ok (.iconst 0, 1) := by decide +kernel
theorem d_w4_29 : decode method_4_code 29 = .ok (.ireturn, 1) := by decide +kernel
theorem d_w5_0 : decode method_5_code 0 = .ok (.aload_n 2, 1) := by decide +kernel
theorem d_w5_1 : decode method_5_code 1 = .ok (.iconst 0, 1) := by decide +kernel
theorem d_w5_2 : decode method_5_code 2 = .ok (.aload_n 0, 1) := by decide +kernel
theorem d_w5_3 : decode method_5_code 3 = .ok (.iload_n 1, 1) := by decide +kernel
theorem d_w5_4 : decode method_5_code 4 = .ok (.invokevirtual 23, 3) := by decide +kernel
theorem d_w5_7 : decode method_5_code 7 = .ok (.i2l, 1) := by decide +kernel
theorem d_w5_8 : decode method_5_code 8 = .ok (.lastore, 1) := by decide +kernel
theorem d_w5_9 : decode method_5_code 9 = .ok (.goto 6, 3) := by decide +kernel
theorem d_w5_12 : decode method_5_code 12 = .ok (.astore_n 3, 1) := by decide +kernel
theorem d_w5_13 : decode method_5_code 13 = .ok (.iconst 1, 1) := by decide +kernel
theorem d_w5_14 : decode method_5_code 14 = .ok (.ireturn, 1) := by decide +kernel
theorem d_w5_15 : decode method_5_code 15 = .ok (.iconst 0, 1) := by decide +kernel
theorem d_w5_16 : decode method_5_code 16 = .ok (.ireturn, 1) := by decide +kernel
theorem d_w6_0 : decode method_6_code 0 = .ok (.aload_n 3, 1) := by decide +kernel
theorem d_w6_1 : decode method_6_code 1 = .ok (.iconst 0, 1) := by decide +kernel
theorem d_w6_2 : decode method_6_code 2 = .ok (.aload_n 0, 1) := by decide +kernel
theorem d_w6_3 : decode method_6_code 3 = .ok (.iload_n 1, 1) := by decide +kernel
theorem d_w6_4 : decode method_6_code 4 = .ok (.iload_n 2, 1) := by decide +kernel
theorem d_w6_5 : decode method_6_code 5 = .ok (.invokevirtual 27, 3) := by decide +kernel
theorem d_w6_8 : decode method_6_code 8 = .ok (.i2l, 1) := by decide +kernel
theorem d_w6_9 : decode method_6_code 9 = .ok (.lastore, 1) := by decide +kernel
theorem d_w6_10 : decode method_6_code 10 = .ok (.goto 11, 3) := by decide +kernel
theorem d_w6_13 : decode method_6_code 13 = .ok (.astore 4, 2) := by decide +kernel
theorem d_w6_15 : decode method_6_code 15 = .ok (.iconst 1, 1) := by decide +kernel
theorem d_w6_16 : decode method_6_code 16 = .ok (.ireturn, 1) := by decide +kernel
theorem d_w6_17 : decode method_6_code 17 = .ok (.astore 4, 2) := by decide +kernel
theorem d_w6_19 : decode method_6_code 19 = .ok (.iconst 2, 1) := by decide +kernel
theorem d_w6_20 : decode method_6_code 20 = .ok (.ireturn, 1) := by decide +kernel
theorem d_w6_21 : decode method_6_code 21 = .ok (.iconst 0, 1) := by decide +kernel
theorem d_w6_22 : decode method_6_code 22 = .ok (.ireturn, 1) := by decide +kernel
theorem d_w7_0 : decode method_7_code 0 = .ok (.aload_n 3, 1) := by decide +kernel
theorem d_w7_1 : decode method_7_code 1 = .ok (.iconst 0, 1) := by decide +kernel
theorem d_w7_2 : decode method_7_code 2 = .ok (.aload_n 0, 1) := by decide +kernel
theorem d_w7_3 : decode method_7_code 3 = .ok (.iload_n 1, 1) := by decide +kernel
theorem d_w7_4 : decode method_7_code 4 = .ok (.iload_n 2, 1) := by decide +kernel
theorem d_w7_5 : decode method_7_code 5 = .ok (.invokevirtual 31, 3) := by decide +kernel
theorem d_w7_8 : decode method_7_code 8 = .ok (.i2l, 1) := by decide +kernel
theorem d_w7_9 : decode method_7_code 9 = .ok (.lastore, 1) := by decide +kernel
theorem d_w7_10 : decode method_7_code 10 = .ok (.goto 7, 3) := by decide +kernel
theorem d_w7_13 : decode method_7_code 13 = .ok (.astore 4, 2) := by decide +kernel
theorem d_w7_15 : decode method_7_code 15 = .ok (.iconst 1, 1) := by decide +kernel
theorem d_w7_16 : decode method_7_code 16 = .ok (.ireturn, 1) := by decide +kernel
theorem d_w7_17 : decode method_7_code 17 = .ok (.iconst 0, 1) := by decide +kernel
theorem d_w7_18 : decode method_7_code 18 = .ok (.ireturn, 1) := by decide +kernel
theorem d_w8_0 : decode method_8_code 0 = .ok (.aload_n 2, 1) := by decide +kernel
theorem d_w8_1 : decode method_8_code 1 = .ok (.iconst 0, 1) := by decide +kernel
theorem d_w8_2 : decode method_8_code 2 = .ok (.aload_n 0, 1) := by decide +kernel
theorem d_w8_3 : decode method_8_code 3 = .ok (.iload_n 1, 1) := by decide +kernel
theorem d_w8_4 : decode method_8_code 4 = .ok (.invokevirtual 34, 3) := by decide +kernel
theorem d_w8_7 : decode method_8_code 7 = .ok (.i2l, 1) := by decide +kernel
theorem d_w8_8 : decode method_8_code 8 = .ok (.lastore, 1) := by decide +kernel
theorem d_w8_9 : decode method_8_code 9 = .ok (.goto 6, 3) := by decide +kernel
theorem d_w8_12 : decode method_8_code 12 = .ok (.astore_n 3, 1) := by decide +kernel
theorem d_w8_13 : decode method_8_code 13 = .ok (.iconst 1, 1) := by decide +kernel
theorem d_w8_14 : decode method_8_code 14 = .ok (.ireturn, 1) := by decide +kernel
theorem d_w8_15 : decode method_8_code 15 = .ok (.iconst 0, 1) := by decide +kernel
theorem d_w8_16 : decode method_8_code 16 = .ok (.ireturn, 1) := by decide +kernel
theorem d_w9_0 : decode method_9_code 0 = .ok (.aload_n 3, 1) := by decide +kernel
theorem d_w9_1 : decode method_9_code 1 = .ok (.iconst 0, 1) := by decide +kernel
theorem d_w9_2 : decode method_9_code 2 = .ok (.aload_n 0, 1) := by decide +kernel
theorem d_w9_3 : decode method_9_code 3 = .ok (.iload_n 1, 1) := by decide +kernel
theorem d_w9_4 : decode method_9_code 4 = .ok (.iload_n 2, 1) := by decide +kernel
theorem d_w9_5 : decode method_9_code 5 = .ok (.invokevirtual 37, 3) := by decide +kernel
theorem d_w9_8 : decode method_9_code 8 = .ok (.i2l, 1) := by decide +kernel
theorem d_w9_9 : decode method_9_code 9 = .ok (.lastore, 1) := by decide +kernel
theorem d_w9_10 : decode method_9_code 10 = .ok (.goto 11, 3) := by decide +kernel
theorem d_w9_13 : decode method_9_code 13 = .ok (.astore 4, 2) := by decide +kernel
theorem d_w9_15 : decode method_9_code 15 = .ok (.iconst 1, 1) := by decide +kernel
theorem d_w9_16 : decode method_9_code 16 = .ok (.ireturn, 1) := by decide +kernel
theorem d_w9_17 : decode method_9_code 17 = .ok (.astore 4, 2) := by decide +kernel
theorem d_w9_19 : decode method_9_code 19 = .ok (.iconst 2, 1) := by decide +kernel
theorem d_w9_20 : decode method_9_code 20 = .ok (.ireturn, 1) := by decide +kernel
theorem d_w9_21 : decode method_9_code 21 = .ok (.iconst 0, 1) := by decide +kernel
theorem d_w9_22 : decode method_9_code 22 = .ok (.ireturn, 1) := by decide +kernel
theorem d_w10_0 : decode method_10_code 0 = .ok (.aload_n 2, 1) := by decide +kernel
theorem d_w10_1 : decode method_10_code 1 = .ok (.iconst 0, 1) := by decide +kernel
theorem d_w10_2 : decode method_10_code 2 = .ok (.aload_n 0, 1) := by decide +kernel
theorem d_w10_3 : decode method_10_code 3 = .ok (.iload_n 1, 1) := by decide +kernel
theorem d_w10_4 : decode method_10_code 4 = .ok (.invokevirtual 40, 3) := by decide +kernel
theorem d_w10_7 : decode method_10_code 7 = .ok (.i2l, 1) := by decide +kernel
theorem d_w10_8 : decode method_10_code 8 = .ok (.lastore, 1) := by decide +kernel
theorem d_w10_9 : decode method_10_code 9 = .ok (.goto 6, 3) := by decide +kernel
theorem d_w10_12 : decode method_10_code 12 = .ok (.astore_n 3, 1) := by decide +kernel
theorem d_w10_13 : decode method_10_code 13 = .ok (.iconst 1, 1) := by decide +kernel
theorem d_w10_14 : decode method_10_code 14 = .ok (.ireturn, 1) := by decide +kernel
theorem d_w10_15 : decode method_10_code 15 = .ok (.iconst 0, 1) := by decide +kernel
theorem d_w10_16 : decode method_10_code 16 = .ok (.ireturn, 1) := by decide +kernel
end
section
theorem d_m1_0 : decode prog_4_method_1_code 0 = .ok (.aload_n 0, 1) := by decide +kernel
theorem d_m1_1 : decode prog_4_method_1_code 1 = .ok (.invokespecial 1, 3) := by decide +kernel
theorem d_m1_4 : decode prog_4_method_1_code 4 = .ok (.aload_n 0, 1) := by decide +kernel
theorem d_m1_5 : decode prog_4_method_1_code 5 = .ok (.sipush 200, 3) := by decide +kernel
theorem d_m1_8 : decode prog_4_method_1_code 8 = .ok (.newarray .int, 2) := by decide +kernel
theorem d_m1_10 : decode prog_4_method_1_code 10 = .ok (.putfield 7, 3) := by decide +kernel
theorem d_m1_13 : decode prog_4_method_1_code 13 = .ok (.aload_n 0, 1) := by decide +kernel
theorem d_m1_14 : decode prog_4_method_1_code 14 = .ok (.sipush 200, 3) := by decide +kernel
theorem d_m1_17 : decode prog_4_method_1_code 17 = .ok (.newarray .int, 2) := by decide +kernel
theorem d_m1_19 : decode prog_4_method_1_code 19 = .ok (.putfield 13, 3) := by decide +kernel
theorem d_m1_22 : decode prog_4_method_1_code 22 = .ok (.aload_n 0, 1) := by decide +kernel
theorem d_m1_23 : decode prog_4_method_1_code 23 = .ok (.sipush 200, 3) := by decide +kernel
theorem d_m1_26 : decode prog_4_method_1_code 26 = .ok (.newarray .int, 2) := by decide +kernel
theorem d_m1_28 : decode prog_4_method_1_code 28 = .ok (.putfield 16, 3) := by decide +kernel
theorem d_m1_31 : decode prog_4_method_1_code 31 = .ok (.aload_n 0, 1) := by decide +kernel
theorem d_m1_32 : decode prog_4_method_1_code 32 = .ok (.sipush 200, 3) := by decide +kernel
theorem d_m1_35 : decode prog_4_method_1_code 35 = .ok (.newarray .int, 2) := by decide +kernel
theorem d_m1_37 : decode prog_4_method_1_code 37 = .ok (.putfield 19, 3) := by decide +kernel
theorem d_m1_40 : decode prog_4_method_1_code 40 = .ok (.aload_n 0, 1) := by decide +kernel
theorem d_m1_41 : decode prog_4_method_1_code 41 = .ok (.sipush 200, 3) := by decide +kernel
theorem d_m1_44 : decode prog_4_method_1_code 44 = .ok (.newarray .int, 2) := by decide +kernel
theorem d_m1_46 : decode prog_4_method_1_code 46 = .ok (.putfield 22, 3) := by decide +kernel
theorem d_m1_49 : decode prog_4_method_1_code 49 = .ok (.aload_n 0, 1) := by decide +kernel
theorem d_m1_50 : decode prog_4_method_1_code 50 = .ok (.sipush 200, 3) := by decide +kernel
theorem d_m1_53 : decode prog_4_method_1_code 53 = .ok (.newarray .boolean, 2) := by decide +kernel
theorem d_m1_55 : decode prog_4_method_1_code 55 = .ok (.putfield 25, 3) := by decide +kernel
theorem d_m1_58 : decode prog_4_method_1_code 58 = .ok (.aload_n 0, 1) := by decide +kernel
theorem d_m1_59 : decode prog_4_method_1_code 59 = .ok (.sipush 200, 3) := by decide +kernel
theorem d_m1_62 : decode prog_4_method_1_code 62 = .ok (.newarray .boolean, 2) := by decide +kernel
theorem d_m1_64 : decode prog_4_method_1_code 64 = .ok (.putfield 29, 3) := by decide +kernel
theorem d_m1_67 : decode prog_4_method_1_code 67 = .ok (.aload_n 0, 1) := by decide +kernel
theorem d_m1_68 : decode prog_4_method_1_code 68 = .ok (.sipush 200, 3) := by decide +kernel
theorem d_m1_71 : decode prog_4_method_1_code 71 = .ok (.newarray .int, 2) := by decide +kernel
theorem d_m1_73 : decode prog_4_method_1_code 73 = .ok (.putfield 32, 3) := by decide +kernel
theorem d_m1_76 : decode prog_4_method_1_code 76 = .ok (.aload_n 0, 1) := by decide +kernel
theorem d_m1_77 : decode prog_4_method_1_code 77 = .ok (.sipush 200, 3) := by decide +kernel
theorem d_m1_80 : decode prog_4_method_1_code 80 = .ok (.newarray .int, 2) := by decide +kernel
theorem d_m1_82 : decode prog_4_method_1_code 82 = .ok (.putfield 35, 3) := by decide +kernel
theorem d_m1_85 : decode prog_4_method_1_code 85 = .ok (.aload_n 0, 1) := by decide +kernel
theorem d_m1_86 : decode prog_4_method_1_code 86 = .ok (.sipush 200, 3) := by decide +kernel
theorem d_m1_89 : decode prog_4_method_1_code 89 = .ok (.newarray .int, 2) := by decide +kernel
theorem d_m1_91 : decode prog_4_method_1_code 91 = .ok (.putfield 38, 3) := by decide +kernel
theorem d_m1_94 : decode prog_4_method_1_code 94 = .ok (.aload_n 0, 1) := by decide +kernel
theorem d_m1_95 : decode prog_4_method_1_code 95 = .ok (.sipush 200, 3) := by decide +kernel
theorem d_m1_98 : decode prog_4_method_1_code 98 = .ok (.newarray .int, 2) := by decide +kernel
theorem d_m1_100 : decode prog_4_method_1_code 100 = .ok (.putfield 41, 3) := by decide +kernel
theorem d_m1_103 : decode prog_4_method_1_code 103 = .ok (.aload_n 0, 1) := by decide +kernel
theorem d_m1_104 : decode prog_4_method_1_code 104 = .ok (.sipush 200, 3) := by decide +kernel
theorem d_m1_107 : decode prog_4_method_1_code 107 = .ok (.newarray .int, 2) := by decide +kernel
theorem d_m1_109 : decode prog_4_method_1_code 109 = .ok (.putfield 44, 3) := by decide +kernel
theorem d_m1_112 : decode prog_4_method_1_code 112 = .ok (.return_, 1) := by decide +kernel
theorem d_m2_0 : decode prog_4_method_2_code 0 = .ok (.aload_n 0, 1) := by decide +kernel
theorem d_m2_1 : decode prog_4_method_2_code 1 = .ok (.getfield 47, 3) := by decide +kernel
theorem d_m2_4 : decode prog_4_method_2_code 4 = .ok (.ireturn, 1) := by decide +kernel
theorem d_m3_0 : decode prog_4_method_3_code 0 = .ok (.aload_n 0, 1) := by decide +kernel
theorem d_m3_1 : decode prog_4_method_3_code 1 = .ok (.iload_n 1, 1) := by decide +kernel
theorem d_m3_2 : decode prog_4_method_3_code 2 = .ok (.ifCond .eq 7, 3) := by decide +kernel
theorem d_m3_5 : decode prog_4_method_3_code 5 = .ok (.iload_n 2, 1) := by decide +kernel
theorem d_m3_6 : decode prog_4_method_3_code 6 = .ok (.goto 4, 3) := by decide +kernel
theorem d_m3_9 : decode prog_4_method_3_code 9 = .ok (.iconst 0, 1) := by decide +kernel
theorem d_m3_10 : decode prog_4_method_3_code 10 = .ok (.putfield 47, 3) := by decide +kernel
theorem d_m3_13 : decode prog_4_method_3_code 13 = .ok (.iload_n 1, 1) := by decide +kernel
theorem d_m3_14 : decode prog_4_method_3_code 14 = .ok (.ireturn, 1) := by decide +kernel
theorem d_m4_0 : decode prog_4_method_4_code 0 = .ok (.iload_n 0, 1) := by decide +kernel
theorem d_m4_1 : decode prog_4_method_4_code 1 = .ok (.iconst 1, 1) := by decide +kernel
theorem d_m4_2 : decode prog_4_method_4_code 2 = .ok (.if_icmp .lt 39, 3) := by decide +kernel
theorem d_m4_5 : decode prog_4_method_4_code 5 = .ok (.iload_n 0, 1) := by decide +kernel
theorem d_m4_6 : decode prog_4_method_4_code 6 = .ok (.bipush 12, 2) := by decide +kernel
theorem d_m4_8 : decode prog_4_method_4_code 8 = .ok (.if_icmp .gt 33, 3) := by decide +kernel
theorem d_m4_11 : decode prog_4_method_4_code 11 = .ok (.iload_n 1, 1) := by decide +kernel
theorem d_m4_12 : decode prog_4_method_4_code 12 = .ok (.ifCond .lt 29, 3) := by decide +kernel
theorem d_m4_15 : decode prog_4_method_4_code 15 = .ok (.iload_n 1, 1) := by decide +kernel
theorem d_m4_16 : decode prog_4_method_4_code 16 = .ok (.bipush 15, 2) := by decide +kernel
theorem d_m4_18 : decode prog_4_method_4_code 18 = .ok (.if_icmp .gt 23, 3) := by decide +kernel
theorem d_m4_21 : decode prog_4_method_4_code 21 = .ok (.iload_n 2, 1) := by decide +kernel
theorem d_m4_22 : decode prog_4_method_4_code 22 = .ok (.ifCond .lt 19, 3) := by decide +kernel
theorem d_m4_25 : decode prog_4_method_4_code 25 = .ok (.iload_n 2, 1) := by decide +kernel
theorem d_m4_26 : decode prog_4_method_4_code 26 = .ok (.bipush 15, 2) := by decide +kernel
theorem d_m4_28 : decode prog_4_method_4_code 28 = .ok (.if_icmp .gt 13, 3) := by decide +kernel
theorem d_m4_31 : decode prog_4_method_4_code 31 = .ok (.iload_n 3, 1) := by decide +kernel
theorem d_m4_32 : decode prog_4_method_4_code 32 = .ok (.ifCond .lt 9, 3) := by decide +kernel
theorem d_m4_35 : decode prog_4_method_4_code 35 = .ok (.iload_n 3, 1) := by decide +kernel
theorem d_m4_36 : decode prog_4_method_4_code 36 = .ok (.bipush 8, 2) := by decide +kernel
theorem d_m4_38 : decode prog_4_method_4_code 38 = .ok (.if_icmp .le 7, 3) := by decide +kernel
theorem d_m4_41 : decode prog_4_method_4_code 41 = .ok (.iconst 1, 1) := by decide +kernel
theorem d_m4_42 : decode prog_4_method_4_code 42 = .ok (.goto 4, 3) := by decide +kernel
theorem d_m4_45 : decode prog_4_method_4_code 45 = .ok (.iconst 0, 1) := by decide +kernel
theorem d_m4_46 : decode prog_4_method_4_code 46 = .ok (.ireturn, 1) := by decide +kernel
theorem d_m5_0 : decode prog_4_method_5_code 0 = .ok (.aload_n 0, 1) := by decide +kernel
theorem d_m5_1 : decode prog_4_method_5_code 1 = .ok (.getfield 7, 3) := by decide +kernel
theorem d_m5_4 : decode prog_4_method_5_code 4 = .ok (.iload_n 1, 1) := by decide +kernel
theorem d_m5_5 : decode prog_4_method_5_code 5 = .ok (.iload_n 2, 1) := by decide +kernel
theorem d_m5_6 : decode prog_4_method_5_code 6 = .ok (.iastore, 1) := by decide +kernel
theorem d_m5_7 : decode prog_4_method_5_code 7 = .ok (.aload_n 0, 1) := by decide +kernel
theorem d_m5_8 : decode prog_4_method_5_code 8 = .ok (.getfield 13, 3) := by decide +kernel
theorem d_m5_11 : decode prog_4_method_5_code 11 = .ok (.iload_n 1, 1) := by decide +kernel
theorem d_m5_12 : decode prog_4_method_5_code 12 = .ok (.iload_n 3, 1) := by decide +kernel
theorem d_m5_13 : decode prog_4_method_5_code 13 = .ok (.iastore, 1) := by decide +kernel
theorem d_m5_14 : decode prog_4_method_5_code 14 = .ok (.aload_n 0, 1) := by decide +kernel
theorem d_m5_15 : decode prog_4_method_5_code 15 = .ok (.getfield 16, 3) := by decide +kernel
theorem d_m5_18 : decode prog_4_method_5_code 18 = .ok (.iload_n 1, 1) := by decide +kernel
theorem d_m5_19 : decode prog_4_method_5_code 19 = .ok (.iload 4, 2) := by decide +kernel
theorem d_m5_21 : decode prog_4_method_5_code 21 = .ok (.iastore, 1) := by decide +kernel
theorem d_m5_22 : decode prog_4_method_5_code 22 = .ok (.aload_n 0, 1) := by decide +kernel
theorem d_m5_23 : decode prog_4_method_5_code 23 = .ok (.getfield 19, 3) := by decide +kernel
theorem d_m5_26 : decode prog_4_method_5_code 26 = .ok (.iload_n 1, 1) := by decide +kernel
theorem d_m5_27 : decode prog_4_method_5_code 27 = .ok (.iload 5, 2) := by decide +kernel
theorem d_m5_29 : decode prog_4_method_5_code 29 = .ok (.iastore, 1) := by decide +kernel
theorem d_m5_30 : decode prog_4_method_5_code 30 = .ok (.aload_n 0, 1) := by decide +kernel
theorem d_m5_31 : decode prog_4_method_5_code 31 = .ok (.getfield 25, 3) := by decide +kernel
theorem d_m5_34 : decode prog_4_method_5_code 34 = .ok (.iload_n 1, 1) := by decide +kernel
theorem d_m5_35 : decode prog_4_method_5_code 35 = .ok (.iload 6, 2) := by decide +kernel
theorem d_m5_37 : decode prog_4_method_5_code 37 = .ok (.bastore, 1) := by decide +kernel
theorem d_m5_38 : decode prog_4_method_5_code 38 = .ok (.aload_n 0, 1) := by decide +kernel
theorem d_m5_39 : decode prog_4_method_5_code 39 = .ok (.getfield 22, 3) := by decide +kernel
theorem d_m5_42 : decode prog_4_method_5_code 42 = .ok (.iload_n 1, 1) := by decide +kernel
theorem d_m5_43 : decode prog_4_method_5_code 43 = .ok (.iload 7, 2) := by decide +kernel
theorem d_m5_45 : decode prog_4_method_5_code 45 = .ok (.iastore, 1) := by decide +kernel
theorem d_m5_46 : decode prog_4_method_5_code 46 = .ok (.aload_n 0, 1) := by decide +kernel
theorem d_m5_47 : decode prog_4_method_5_code 47 = .ok (.getfield 29, 3) := by decide +kernel
theorem d_m5_50 : decode prog_4_method_5_code 50 = .ok (.iload_n 1, 1) := by decide +kernel
theorem d_m5_51 : decode prog_4_method_5_code 51 = .ok (.iload 8, 2) := by decide +kernel
theorem d_m5_53 : decode prog_4_method_5_code 53 = .ok (.bastore, 1) := by decide +kernel
theorem d_m5_54 : decode prog_4_method_5_code 54 = .ok (.aload_n 0, 1) := by decide +kernel
theorem d_m5_55 : decode prog_4_method_5_code 55 = .ok (.iconst 0, 1) := by decide +kernel
theorem d_m5_56 : decode prog_4_method_5_code 56 = .ok (.putfield 51, 3) := by decide +kernel
theorem d_m5_59 : decode prog_4_method_5_code 59 = .ok (.return_, 1) := by decide +kernel
theorem d_m6_0 : decode prog_4_method_6_code 0 = .ok (.aload_n 0, 1) := by decide +kernel
theorem d_m6_1 : decode prog_4_method_6_code 1 = .ok (.iload_n 1, 1) := by decide +kernel
theorem d_m6_2 : decode prog_4_method_6_code 2 = .ok (.iload_n 2, 1) := by decide +kernel
theorem d_m6_3 : decode prog_4_method_6_code 3 = .ok (.iload 4, 2) := by decide +kernel
theorem d_m6_5 : decode prog_4_method_6_code 5 = .ok (.iload 6, 2) := by decide +kernel
theorem d_m6_7 : decode prog_4_method_6_code 7 = .ok (.invokestatic 54, 3) := by decide +kernel
theorem d_m6_10 : decode prog_4_method_6_code 10 = .ok (.iconst 1, 1) := by decide +kernel
theorem d_m6_11 : decode prog_4_method_6_code 11 = .ok (.invokevirtual 58, 3) := by decide +kernel
theorem d_m6_14 : decode prog_4_method_6_code 14 = .ok (.ifCond .eq 5, 3) := by decide +kernel
theorem d_m6_17 : decode prog_4_method_6_code 17 = .ok (.iconst 0, 1) := by decide +kernel
theorem d_m6_18 : decode prog_4_method_6_code 18 = .ok (.ireturn, 1) := by decide +kernel
theorem d_m6_19 : decode prog_4_method_6_code 19 = .ok (.aload_n 0, 1) := by decide +kernel
theorem d_m6_20 : decode prog_4_method_6_code 20 = .ok (.aload_n 0, 1) := by decide +kernel
theorem d_m6_21 : decode prog_4_method_6_code 21 = .ok (.getfield 62, 3) := by decide +kernel
theorem d_m6_24 : decode prog_4_method_6_code 24 = .ok (.sipush 200, 3) := by decide +kernel
theorem d_m6_27 : decode prog_4_method_6_code 27 = .ok (.if_icmp .ne 7, 3) := by decide +kernel
theorem d_m6_30 : decode prog_4_method_6_code 30 = .ok (.iconst 1, 1) := by decide +kernel
theorem d_m6_31 : decode prog_4_method_6_code 31 = .ok (.goto 4, 3) := by decide +kernel
theorem d_m6_34 : decode prog_4_method_6_code 34 = .ok (.iconst 0, 1) := by decide +kernel
theorem d_m6_35 : decode prog_4_method_6_code 35 = .ok (.iconst 2, 1) := by decide +kernel
theorem d_m6_36 : decode prog_4_method_6_code 36 = .ok (.invokevirtual 58, 3) := by decide +kernel
theorem d_m6_39 : decode prog_4_method_6_code 39 = .ok (.ifCond .eq 5, 3) := by decide +kernel
theorem d_m6_42 : decode prog_4_method_6_code 42 = .ok (.iconst 0, 1) := by decide +kernel
theorem d_m6_43 : decode prog_4_method_6_code 43 = .ok (.ireturn, 1) := by decide +kernel
theorem d_m6_44 : decode prog_4_method_6_code 44 = .ok (.aload_n 0, 1) := by decide +kernel
theorem d_m6_45 : decode prog_4_method_6_code 45 = .ok (.aload_n 0, 1) := by decide +kernel
theorem d_m6_46 : decode prog_4_method_6_code 46 = .ok (.dup, 1) := by decide +kernel
theorem d_m6_47 : decode prog_4_method_6_code 47 = .ok (.getfield 62, 3) := by decide +kernel
theorem d_m6_50 : decode prog_4_method_6_code 50 = .ok (.dup_x1, 1) := by decide +kernel
theorem d_m6_51 : decode prog_4_method_6_code 51 = .ok (.iconst 1, 1) := by decide +kernel
theorem d_m6_52 : decode prog_4_method_6_code 52 = .ok (.iadd, 1) := by decide +kernel
theorem d_m6_53 : decode prog_4_method_6_code 53 = .ok (.putfield 62, 3) := by decide +kernel
theorem d_m6_56 : decode prog_4_method_6_code 56 = .ok (.iload_n 1, 1) := by decide +kernel
theorem d_m6_57 : decode prog_4_method_6_code 57 = .ok (.iload_n 2, 1) := by decide +kernel
theorem d_m6_58 : decode prog_4_method_6_code 58 = .ok (.iload_n 3, 1) := by decide +kernel
theorem d_m6_59 : decode prog_4_method_6_code 59 = .ok (.iload 4, 2) := by decide +kernel
theorem d_m6_61 : decode prog_4_method_6_code 61 = .ok (.iload 5, 2) := by decide +kernel
theorem d_m6_63 : decode prog_4_method_6_code 63 = .ok (.iload 6, 2) := by decide +kernel
theorem d_m6_65 : decode prog_4_method_6_code 65 = .ok (.iload 7, 2) := by decide +kernel
theorem d_m6_67 : decode prog_4_method_6_code 67 = .ok (.invokevirtual 65, 3) := by decide +kernel
theorem d_m6_70 : decode prog_4_method_6_code 70 = .ok (.aload_n 0, 1) := by decide +kernel
theorem d_m6_71 : decode prog_4_method_6_code 71 = .ok (.getfield 62, 3) := by decide +kernel
theorem d_m6_74 : decode prog_4_method_6_code 74 = .ok (.iconst 1, 1) := by decide +kernel
theorem d_m6_75 : decode prog_4_method_6_code 75 = .ok (.isub, 1) := by decide +kernel
theorem d_m6_76 : decode prog_4_method_6_code 76 = .ok (.ireturn, 1) := by decide +kernel
theorem d_m7_0 : decode prog_4_method_7_code 0 = .ok (.aload_n 0, 1) := by decide +kernel
theorem d_m7_1 : decode prog_4_method_7_code 1 = .ok (.iload_n 2, 1) := by decide +kernel
theorem d_m7_2 : decode prog_4_method_7_code 2 = .ok (.iload_n 3, 1) := by decide +kernel
theorem d_m7_3 : decode prog_4_method_7_code 3 = .ok (.iload 5, 2) := by decide +kernel
theorem d_m7_5 : decode prog_4_method_7_code 5 = .ok (.iload 7, 2) := by decide +kernel
theorem d_m7_7 : decode prog_4_method_7_code 7 = .ok (.invokestatic 54, 3) := by decide +kernel
theorem d_m7_10 : decode prog_4_method_7_code 10 = .ok (.iconst 1, 1) := by decide +kernel
theorem d_m7_11 : decode prog_4_method_7_code 11 = .ok (.invokevirtual 58, 3) := by decide +kernel
theorem d_m7_14 : decode prog_4_method_7_code 14 = .ok (.ifCond .eq 4, 3) := by decide +kernel
theorem d_m7_17 : decode prog_4_method_7_code 17 = .ok (.return_, 1) := by decide +kernel
theorem d_m7_18 : decode prog_4_method_7_code 18 = .ok (.aload_n 0, 1) := by decide +kernel
theorem d_m7_19 : decode prog_4_method_7_code 19 = .ok (.iload_n 1, 1) := by decide +kernel
theorem d_m7_20 : decode prog_4_method_7_code 20 = .ok (.ifCond .lt 11, 3) := by decide +kernel
theorem d_m7_23 : decode prog_4_method_7_code 23 = .ok (.iload_n 1, 1) := by decide +kernel
theorem d_m7_24 : decode prog_4_method_7_code 24 = .ok (.aload_n 0, 1) := by decide +kernel
theorem d_m7_25 : decode prog_4_method_7_code 25 = .ok (.getfield 62, 3) := by decide +kernel
theorem d_m7_28 : decode prog_4_method_7_code 28 = .ok (.if_icmp .lt 7, 3) := by decide +kernel
theorem d_m7_31 : decode prog_4_method_7_code 31 = .ok (.iconst 1, 1) := by decide +kernel
theorem d_m7_32 : decode prog_4_method_7_code 32 = .ok (.goto 4, 3) := by decide +kernel
theorem d_m7_35 : decode prog_4_method_7_code 35 = .ok (.iconst 0, 1) := by decide +kernel
theorem d_m7_36 : decode prog_4_method_7_code 36 = .ok (.iconst 2, 1) := by decide +kernel
theorem d_m7_37 : decode prog_4_method_7_code 37 = .ok (.invokevirtual 58, 3) := by decide +kernel
theorem d_m7_40 : decode prog_4_method_7_code 40 = .ok (.ifCond .eq 4, 3) := by decide +kernel
theorem d_m7_43 : decode prog_4_method_7_code 43 = .ok (.return_, 1) := by decide +kernel
theorem d_m7_44 : decode prog_4_method_7_code 44 = .ok (.aload_n 0, 1) := by decide +kernel
theorem d_m7_45 : decode prog_4_method_7_code 45 = .ok (.iload_n 1, 1) := by decide +kernel
theorem d_m7_46 : decode prog_4_method_7_code 46 = .ok (.iload_n 2, 1) := by decide +kernel
theorem d_m7_47 : decode prog_4_method_7_code 47 = .ok (.iload_n 3, 1) := by decide +kernel
theorem d_m7_48 : decode prog_4_method_7_code 48 = .ok (.iload 4, 2) := by decide +kernel
theorem d_m7_50 : decode prog_4_method_7_code 50 = .ok (.iload 5, 2) := by decide +kernel
theorem d_m7_52 : decode prog_4_method_7_code 52 = .ok (.iload 6, 2) := by decide +kernel
theorem d_m7_54 : decode prog_4_method_7_code 54 = .ok (.iload 7, 2) := by decide +kernel
theorem d_m7_56 : decode prog_4_method_7_code 56 = .ok (.iload 8, 2) := by decide +kernel
theorem d_m7_58 : decode prog_4_method_7_code 58 = .ok (.invokevirtual 65, 3) := by decide +kernel
theorem d_m7_61 : decode prog_4_method_7_code 61 = .ok (.return_, 1) := by decide +kernel
theorem d_m8_0 : decode prog_4_method_8_code 0 = .ok (.aload_n 0, 1) := by decide +kernel
theorem d_m8_1 : decode prog_4_method_8_code 1 = .ok (.iload_n 1, 1) := by decide +kernel
theorem d_m8_2 : decode prog_4_method_8_code 2 = .ok (.ifCond .lt 11, 3) := by decide +kernel
theorem d_m8_5 : decode prog_4_method_8_code 5 = .ok (.iload_n 1, 1) := by decide +kernel
theorem d_m8_6 : decode prog_4_method_8_code 6 = .ok (.aload_n 0, 1) := by decide +kernel
theorem d_m8_7 : decode prog_4_method_8_code 7 = .ok (.getfield 62, 3) := by decide +kernel
theorem d_m8_10 : decode prog_4_method_8_code 10 = .ok (.if_icmp .le 7, 3) := by decide +kernel
theorem d_m8_13 : decode prog_4_method_8_code 13 = .ok (.iconst 1, 1) := by decide +kernel
theorem d_m8_14 : decode prog_4_method_8_code 14 = .ok (.goto 4, 3) := by decide +kernel
theorem d_m8_17 : decode prog_4_method_8_code 17 = .ok (.iconst 0, 1) := by decide +kernel
theorem d_m8_18 : decode prog_4_method_8_code 18 = .ok (.iconst 1, 1) := by decide +kernel
theorem d_m8_19 : decode prog_4_method_8_code 19 = .ok (.invokevirtual 58, 3) := by decide +kernel
theorem d_m8_22 : decode prog_4_method_8_code 22 = .ok (.ifCond .eq 5, 3) := by decide +kernel
theorem d_m8_25 : decode prog_4_method_8_code 25 = .ok (.iconst 0, 1) := by decide +kernel
theorem d_m8_26 : decode prog_4_method_8_code 26 = .ok (.ireturn, 1) := by decide +kernel
theorem d_m8_27 : decode prog_4_method_8_code 27 = .ok (.aload_n 0, 1) := by decide +kernel
theorem d_m8_28 : decode prog_4_method_8_code 28 = .ok (.getfield 62, 3) := by decide +kernel
theorem d_m8_31 : decode prog_4_method_8_code 31 = .ok (.istore_n 2, 1) := by decide +kernel
theorem d_m8_32 : decode prog_4_method_8_code 32 = .ok (.aload_n 0, 1) := by decide +kernel
theorem d_m8_33 : decode prog_4_method_8_code 33 = .ok (.iload_n 1, 1) := by decide +kernel
theorem d_m8_34 : decode prog_4_method_8_code 34 = .ok (.putfield 62, 3) := by decide +kernel
theorem d_m8_37 : decode prog_4_method_8_code 37 = .ok (.aload_n 0, 1) := by decide +kernel
theorem d_m8_38 : decode prog_4_method_8_code 38 = .ok (.iconst 0, 1) := by decide +kernel
theorem d_m8_39 : decode prog_4_method_8_code 39 = .ok (.putfield 51, 3) := by decide +kernel
theorem d_m8_42 : decode prog_4_method_8_code 42 = .ok (.iload_n 2, 1) := by decide +kernel
theorem d_m8_43 : decode prog_4_method_8_code 43 = .ok (.ireturn, 1) := by decide +kernel
theorem d_m9_0 : decode prog_4_method_9_code 0 = .ok (.iload_n 1, 1) := by decide +kernel
theorem d_m9_1 : decode prog_4_method_9_code 1 = .ok (.iconst 1, 1) := by decide +kernel
theorem d_m9_2 : decode prog_4_method_9_code 2 = .ok (.isub, 1) := by decide +kernel
theorem d_m9_3 : decode prog_4_method_9_code 3 = .ok (.istore_n 3, 1) := by decide +kernel
theorem d_m9_4 : decode prog_4_method_9_code 4 = .ok (.iload_n 3, 1) := by decide +kernel
theorem d_m9_5 : decode prog_4_method_9_code 5 = .ok (.ifCond .lt 19, 3) := by decide +kernel
theorem d_m9_8 : decode prog_4_method_9_code 8 = .ok (.aload_n 0, 1) := by decide +kernel
theorem d_m9_9 : decode prog_4_method_9_code 9 = .ok (.getfield 13, 3) := by decide +kernel
theorem d_m9_12 : decode prog_4_method_9_code 12 = .ok (.iload_n 3, 1) := by decide +kernel
theorem d_m9_13 : decode prog_4_method_9_code 13 = .ok (.iaload, 1) := by decide +kernel
theorem d_m9_14 : decode prog_4_method_9_code 14 = .ok (.iload_n 2, 1) := by decide +kernel
theorem d_m9_15 : decode prog_4_method_9_code 15 = .ok (.if_icmp .eq 9, 3) := by decide +kernel
theorem d_m9_18 : decode prog_4_method_9_code 18 = .ok (.iinc 3 (-1), 3) := by decide +kernel
theorem d_m9_21 : decode prog_4_method_9_code 21 = .ok (.goto (-17), 3) := by decide +kernel
theorem d_m9_24 : decode prog_4_method_9_code 24 = .ok (.iload_n 3, 1) := by decide +kernel
theorem d_m9_25 : decode prog_4_method_9_code 25 = .ok (.ireturn, 1) := by decide +kernel
theorem d_m10_0 : decode prog_4_method_10_code 0 = .ok (.aload_n 0, 1) := by decide +kernel
theorem d_m10_1 : decode prog_4_method_10_code 1 = .ok (.getfield 38, 3) := by decide +kernel
theorem d_m10_4 : decode prog_4_method_10_code 4 = .ok (.iload_n 1, 1) := by decide +kernel
theorem d_m10_5 : decode prog_4_method_10_code 5 = .ok (.iaload, 1) := by decide +kernel
theorem d_m10_6 : decode prog_4_method_10_code 6 = .ok (.aload_n 0, 1) := by decide +kernel
theorem d_m10_7 : decode prog_4_method_10_code 7 = .ok (.getfield 7, 3) := by decide +kernel
theorem d_m10_10 : decode prog_4_method_10_code 10 = .ok (.iload_n 1, 1) := by decide +kernel
theorem d_m10_11 : decode prog_4_method_10_code 11 = .ok (.iaload, 1) := by decide +kernel
theorem d_m10_12 : decode prog_4_method_10_code 12 = .ok (.iadd, 1) := by decide +kernel
theorem d_m10_13 : decode prog_4_method_10_code 13 = .ok (.iconst 1, 1) := by decide +kernel
theorem d_m10_14 : decode prog_4_method_10_code 14 = .ok (.isub, 1) := by decide +kernel
theorem d_m10_15 : decode prog_4_method_10_code 15 = .ok (.ireturn, 1) := by decide +kernel
theorem d_m11_0 : decode prog_4_method_11_code 0 = .ok (.aload_n 0, 1) := by decide +kernel
theorem d_m11_1 : decode prog_4_method_11_code 1 = .ok (.getfield 41, 3) := by decide +kernel
theorem d_m11_4 : decode prog_4_method_11_code 4 = .ok (.iload_n 1, 1) := by decide +kernel
theorem d_m11_5 : decode prog_4_method_11_code 5 = .ok (.iaload, 1) := by decide +kernel
theorem d_m11_6 : decode prog_4_method_11_code 6 = .ok (.aload_n 0, 1) := by decide +kernel
theorem d_m11_7 : decode prog_4_method_11_code 7 = .ok (.getfield 22, 3) := by decide +kernel
theorem d_m11_10 : decode prog_4_method_11_code 10 = .ok (.iload_n 1, 1) := by decide +kernel
theorem d_m11_11 : decode prog_4_method_11_code 11 = .ok (.iaload, 1) := by decide +kernel
theorem d_m11_12 : decode prog_4_method_11_code 12 = .ok (.iadd, 1) := by decide +kernel
theorem d_m11_13 : decode prog_4_method_11_code 13 = .ok (.ireturn, 1) := by decide +kernel
theorem d_m12_0 : decode prog_4_method_12_code 0 = .ok (.aload_n 0, 1) := by decide +kernel
theorem d_m12_1 : decode prog_4_method_12_code 1 = .ok (.iload_n 1, 1) := by decide +kernel
theorem d_m12_2 : decode prog_4_method_12_code 2 = .ok (.iload_n 2, 1) := by decide +kernel
theorem d_m12_3 : decode prog_4_method_12_code 3 = .ok (.invokevirtual 69, 3) := by decide +kernel
theorem d_m12_6 : decode prog_4_method_12_code 6 = .ok (.istore_n 3, 1) := by decide +kernel
theorem d_m12_7 : decode prog_4_method_12_code 7 = .ok (.iload_n 3, 1) := by decide +kernel
theorem d_m12_8 : decode prog_4_method_12_code 8 = .ok (.ifCond .ge 7, 3) := by decide +kernel
theorem d_m12_11 : decode prog_4_method_12_code 11 = .ok (.iconst 0, 1) := by decide +kernel
theorem d_m12_12 : decode prog_4_method_12_code 12 = .ok (.goto 27, 3) := by decide +kernel
theorem d_m12_15 : decode prog_4_method_12_code 15 = .ok (.aload_n 0, 1) := by decide +kernel
theorem d_m12_16 : decode prog_4_method_12_code 16 = .ok (.getfield 25, 3) := by decide +kernel
theorem d_m12_19 : decode prog_4_method_12_code 19 = .ok (.iload_n 3, 1) := by decide +kernel
theorem d_m12_20 : decode prog_4_method_12_code 20 = .ok (.baload, 1) := by decide +kernel
theorem d_m12_21 : decode prog_4_method_12_code 21 = .ok (.ifCond .eq 11, 3) := by decide +kernel
theorem d_m12_24 : decode prog_4_method_12_code 24 = .ok (.aload_n 0, 1) := by decide +kernel
theorem d_m12_25 : decode prog_4_method_12_code 25 = .ok (.iload_n 3, 1) := by decide +kernel
theorem d_m12_26 : decode prog_4_method_12_code 26 = .ok (.invokevirtual 73, 3) := by decide +kernel
theorem d_m12_29 : decode prog_4_method_12_code 29 = .ok (.goto 8, 3) := by decide +kernel
theorem d_m12_32 : decode prog_4_method_12_code 32 = .ok (.aload_n 0, 1) := by decide +kernel
theorem d_m12_33 : decode prog_4_method_12_code 33 = .ok (.iload_n 3, 1) := by decide +kernel
theorem d_m12_34 : decode prog_4_method_12_code 34 = .ok (.invokevirtual 77, 3) := by decide +kernel
theorem d_m12_37 : decode prog_4_method_12_code 37 = .ok (.iconst 1, 1) := by decide +kernel
theorem d_m12_38 : decode prog_4_method_12_code 38 = .ok (.iadd, 1) := by decide +kernel
theorem d_m12_39 : decode prog_4_method_12_code 39 = .ok (.ireturn, 1) := by decide +kernel
theorem d_m13_0 : decode prog_4_method_13_code 0 = .ok (.iload_n 0, 1) := by decide +kernel
theorem d_m13_1 : decode prog_4_method_13_code 1 = .ok (.iload_n 1, 1) := by decide +kernel
theorem d_m13_2 : decode prog_4_method_13_code 2 = .ok (.if_icmp .le 7, 3) := by decide +kernel
theorem d_m13_5 : decode prog_4_method_13_code 5 = .ok (.iload_n 0, 1) := by decide +kernel
theorem d_m13_6 : decode prog_4_method_13_code 6 = .ok (.goto 4, 3) := by decide +kernel
theorem d_m13_9 : decode prog_4_method_13_code 9 = .ok (.iload_n 1, 1) := by decide +kernel
theorem d_m13_10 : decode prog_4_method_13_code 10 = .ok (.ireturn, 1) := by decide +kernel
theorem d_m14_0 : decode prog_4_method_14_code 0 = .ok (.aload_n 0, 1) := by decide +kernel
theorem d_m14_1 : decode prog_4_method_14_code 1 = .ok (.getfield 51, 3) := by decide +kernel
theorem d_m14_4 : decode prog_4_method_14_code 4 = .ok (.aload_n 0, 1) := by decide +kernel
theorem d_m14_5 : decode prog_4_method_14_code 5 = .ok (.getfield 62, 3) := by decide +kernel
theorem d_m14_8 : decode prog_4_method_14_code 8 = .ok (.if_icmp .ge 271, 3) := by decide +kernel
theorem d_m14_11 : decode prog_4_method_14_code 11 = .ok (.aload_n 0, 1) := by decide +kernel
theorem d_m14_12 : decode prog_4_method_14_code 12 = .ok (.getfield 51, 3) := by decide +kernel
theorem d_m14_15 : decode prog_4_method_14_code 15 = .ok (.istore_n 1, 1) := by decide +kernel
theorem d_m14_16 : decode prog_4_method_14_code 16 = .ok (.iload_n 1, 1) := by decide +kernel
theorem d_m14_17 : decode prog_4_method_14_code 17 = .ok (.ifCond .ne 7, 3) := by decide +kernel
theorem d_m14_20 : decode prog_4_method_14_code 20 = .ok (.iconst 1, 1) := by decide +kernel
theorem d_m14_21 : decode prog_4_method_14_code 21 = .ok (.goto 4, 3) := by decide +kernel
theorem d_m14_24 : decode prog_4_method_14_code 24 = .ok (.iconst 0, 1) := by decide +kernel
theorem d_m14_25 : decode prog_4_method_14_code 25 = .ok (.istore_n 2, 1) := by decide +kernel
theorem d_m14_26 : decode prog_4_method_14_code 26 = .ok (.aload_n 0, 1) := by decide +kernel
theorem d_m14_27 : decode prog_4_method_14_code 27 = .ok (.getfield 32, 3) := by decide +kernel
theorem d_m14_30 : decode prog_4_method_14_code 30 = .ok (.iload_n 1, 1) := by decide +kernel
theorem d_m14_31 : decode prog_4_method_14_code 31 = .ok (.iload_n 2, 1) := by decide +kernel
theorem d_m14_32 : decode prog_4_method_14_code 32 = .ok (.ifCond .eq 7, 3) := by decide +kernel
theorem d_m14_35 : decode prog_4_method_14_code 35 = .ok (.iconst 1, 1) := by decide +kernel
theorem d_m14_36 : decode prog_4_method_14_code 36 = .ok (.goto 34, 3) := by decide +kernel
theorem d_m14_39 : decode prog_4_method_14_code 39 = .ok (.aload_n 0, 1) := by decide +kernel
theorem d_m14_40 : decode prog_4_method_14_code 40 = .ok (.getfield 29, 3) := by decide +kernel
theorem d_m14_43 : decode prog_4_method_14_code 43 = .ok (.iload_n 1, 1) := by decide +kernel
theorem d_m14_44 : decode prog_4_method_14_code 44 = .ok (.iconst 1, 1) := by decide +kernel
theorem d_m14_45 : decode prog_4_method_14_code 45 = .ok (.isub, 1) := by decide +kernel
theorem d_m14_46 : decode prog_4_method_14_code 46 = .ok (.baload, 1) := by decide +kernel
theorem d_m14_47 : decode prog_4_method_14_code 47 = .ok (.ifCond .eq 15, 3) := by decide +kernel
theorem d_m14_50 : decode prog_4_method_14_code 50 = .ok (.aload_n 0, 1) := by decide +kernel
theorem d_m14_51 : decode prog_4_method_14_code 51 = .ok (.iload_n 1, 1) := by decide +kernel
theorem d_m14_52 : decode prog_4_method_14_code 52 = .ok (.iconst 1, 1) := by decide +kernel
theorem d_m14_53 : decode prog_4_method_14_code 53 = .ok (.isub, 1) := by decide +kernel
theorem d_m14_54 : decode prog_4_method_14_code 54 = .ok (.invokevirtual 77, 3) := by decide +kernel
theorem d_m14_57 : decode prog_4_method_14_code 57 = .ok (.iconst 1, 1) := by decide +kernel
theorem d_m14_58 : decode prog_4_method_14_code 58 = .ok (.iadd, 1) := by decide +kernel
theorem d_m14_59 : decode prog_4_method_14_code 59 = .ok (.goto 11, 3) := by decide +kernel
theorem d_m14_62 : decode prog_4_method_14_code 62 = .ok (.aload_n 0, 1) := by decide +kernel
theorem d_m14_63 : decode prog_4_method_14_code 63 = .ok (.getfield 35, 3) := by decide +kernel
theorem d_m14_66 : decode prog_4_method_14_code 66 = .ok (.iload_n 1, 1) := by decide +kernel
theorem d_m14_67 : decode prog_4_method_14_code 67 = .ok (.iconst 1, 1) := by decide +kernel
theorem d_m14_68 : decode prog_4_method_14_code 68 = .ok (.isub, 1) := by decide +kernel
theorem d_m14_69 : decode prog_4_method_14_code 69 = .ok (.iaload, 1) := by decide +kernel
theorem d_m14_70 : decode prog_4_method_14_code 70 = .ok (.iastore, 1) := by decide +kernel
theorem d_m14_71 : decode prog_4_method_14_code 71 = .ok (.aload_n 0, 1) := by decide +kernel
theorem d_m14_72 : decode prog_4_method_14_code 72 = .ok (.getfield 35, 3) := by decide +kernel
theorem d_m14_75 : decode prog_4_method_14_code 75 = .ok (.iload_n 1, 1) := by decide +kernel
theorem d_m14_76 : decode prog_4_method_14_code 76 = .ok (.aload_n 0, 1) := by decide +kernel
theorem d_m14_77 : decode prog_4_method_14_code 77 = .ok (.getfield 32, 3) := by decide +kernel
theorem d_m14_80 : decode prog_4_method_14_code 80 = .ok (.iload_n 1, 1) := by decide +kernel
theorem d_m14_81 : decode prog_4_method_14_code 81 = .ok (.iaload, 1) := by decide +kernel
theorem d_m14_82 : decode prog_4_method_14_code 82 = .ok (.iconst 1, 1) := by decide +kernel
theorem d_m14_83 : decode prog_4_method_14_code 83 = .ok (.iadd, 1) := by decide +kernel
theorem d_m14_84 : decode prog_4_method_14_code 84 = .ok (.iload_n 2, 1) := by decide +kernel
theorem d_m14_85 : decode prog_4_method_14_code 85 = .ok (.ifCond .eq 7, 3) := by decide +kernel
theorem d_m14_88 : decode prog_4_method_14_code 88 = .ok (.iconst 0, 1) := by decide +kernel
theorem d_m14_89 : decode prog_4_method_14_code 89 = .ok (.goto 11, 3) := by decide +kernel
theorem d_m14_92 : decode prog_4_method_14_code 92 = .ok (.aload_n 0, 1) := by decide +kernel
theorem d_m14_93 : decode prog_4_method_14_code 93 = .ok (.getfield 38, 3) := by decide +kernel
theorem d_m14_96 : decode prog_4_method_14_code 96 = .ok (.iload_n 1, 1) := by decide +kernel
theorem d_m14_97 : decode prog_4_method_14_code 97 = .ok (.iconst 1, 1) := by decide +kernel
theorem d_m14_98 : decode prog_4_method_14_code 98 = .ok (.isub, 1) := by decide +kernel
theorem d_m14_99 : decode prog_4_method_14_code 99 = .ok (.iaload, 1) := by decide +kernel
theorem d_m14_100 : decode prog_4_method_14_code 100 = .ok (.invokestatic 80, 3) := by decide +kernel
theorem d_m14_103 : decode prog_4_method_14_code 103 = .ok (.iastore, 1) := by decide +kernel
theorem d_m14_104 : decode prog_4_method_14_code 104 = .ok (.aload_n 0, 1) := by decide +kernel
theorem d_m14_105 : decode prog_4_method_14_code 105 = .ok (.getfield 38, 3) := by decide +kernel
theorem d_m14_108 : decode prog_4_method_14_code 108 = .ok (.iload_n 1, 1) := by decide +kernel
theorem d_m14_109 : decode prog_4_method_14_code 109 = .ok (.aload_n 0, 1) := by decide +kernel
theorem d_m14_110 : decode prog_4_method_14_code 110 = .ok (.getfield 35, 3) := by decide +kernel
theorem d_m14_113 : decode prog_4_method_14_code 113 = .ok (.iload_n 1, 1) := by decide +kernel
theorem d_m14_114 : decode prog_4_method_14_code 114 = .ok (.iaload, 1) := by decide +kernel
theorem d_m14_115 : decode prog_4_method_14_code 115 = .ok (.iconst 1, 1) := by decide +kernel
theorem d_m14_116 : decode prog_4_method_14_code 116 = .ok (.iadd, 1) := by decide +kernel
theorem d_m14_117 : decode prog_4_method_14_code 117 = .ok (.iload_n 2, 1) := by decide +kernel
theorem d_m14_118 : decode prog_4_method_14_code 118 = .ok (.ifCond .eq 7, 3) := by decide +kernel
theorem d_m14_121 : decode prog_4_method_14_code 121 = .ok (.iconst 0, 1) := by decide +kernel
theorem d_m14_122 : decode prog_4_method_14_code 122 = .ok (.goto 11, 3) := by decide +kernel
theorem d_m14_125 : decode prog_4_method_14_code 125 = .ok (.aload_n 0, 1) := by decide +kernel
theorem d_m14_126 : decode prog_4_method_14_code 126 = .ok (.getfield 41, 3) := by decide +kernel
theorem d_m14_129 : decode prog_4_method_14_code 129 = .ok (.iload_n 1, 1) := by decide +kernel
theorem d_m14_130 : decode prog_4_method_14_code 130 = .ok (.iconst 1, 1) := by decide +kernel
theorem d_m14_131 : decode prog_4_method_14_code 131 = .ok (.isub, 1) := by decide +kernel
theorem d_m14_132 : decode prog_4_method_14_code 132 = .ok (.iaload, 1) := by decide +kernel
theorem d_m14_133 : decode prog_4_method_14_code 133 = .ok (.invokestatic 80, 3) := by decide +kernel
theorem d_m14_136 : decode prog_4_method_14_code 136 = .ok (.iastore, 1) := by decide +kernel
theorem d_m14_137 : decode prog_4_method_14_code 137 = .ok (.iconst 1, 1) := by decide +kernel
theorem d_m14_138 : decode prog_4_method_14_code 138 = .ok (.istore_n 3, 1) := by decide +kernel
theorem d_m14_139 : decode prog_4_method_14_code 139 = .ok (.iload_n 3, 1) := by decide +kernel
theorem d_m14_140 : decode prog_4_method_14_code 140 = .ok (.bipush 16, 2) := by decide +kernel
theorem d_m14_142 : decode prog_4_method_14_code 142 = .ok (.if_icmp .ge 44, 3) := by decide +kernel
theorem d_m14_145 : decode prog_4_method_14_code 145 = .ok (.aload_n 0, 1) := by decide +kernel
theorem d_m14_146 : decode prog_4_method_14_code 146 = .ok (.getfield 16, 3) := by decide +kernel
theorem d_m14_149 : decode prog_4_method_14_code 149 = .ok (.iload_n 1, 1) := by decide +kernel
theorem d_m14_150 : decode prog_4_method_14_code 150 = .ok (.iaload, 1) := by decide +kernel
theorem d_m14_151 : decode prog_4_method_14_code 151 = .ok (.iload_n 3, 1) := by decide +kernel
theorem d_m14_152 : decode prog_4_method_14_code 152 = .ok (.ishr, 1) := by decide +kernel
theorem d_m14_153 : decode prog_4_method_14_code 153 = .ok (.iconst 1, 1) := by decide +kernel
theorem d_m14_154 : decode prog_4_method_14_code 154 = .ok (.iand, 1) := by decide +kernel
theorem d_m14_155 : decode prog_4_method_14_code 155 = .ok (.iconst 1, 1) := by decide +kernel
theorem d_m14_156 : decode prog_4_method_14_code 156 = .ok (.if_icmp .ne 24, 3) := by decide +kernel
theorem d_m14_159 : decode prog_4_method_14_code 159 = .ok (.aload_n 0, 1) := by decide +kernel
theorem d_m14_160 : decode prog_4_method_14_code 160 = .ok (.getfield 38, 3) := by decide +kernel
theorem d_m14_163 : decode prog_4_method_14_code 163 = .ok (.iload_n 1, 1) := by decide +kernel
theorem d_m14_164 : decode prog_4_method_14_code 164 = .ok (.aload_n 0, 1) := by decide +kernel
theorem d_m14_165 : decode prog_4_method_14_code 165 = .ok (.getfield 38, 3) := by decide +kernel
theorem d_m14_168 : decode prog_4_method_14_code 168 = .ok (.iload_n 1, 1) := by decide +kernel
theorem d_m14_169 : decode prog_4_method_14_code 169 = .ok (.iaload, 1) := by decide +kernel
theorem d_m14_170 : decode prog_4_method_14_code 170 = .ok (.aload_n 0, 1) := by decide +kernel
theorem d_m14_171 : decode prog_4_method_14_code 171 = .ok (.iload_n 1, 1) := by decide +kernel
theorem d_m14_172 : decode prog_4_method_14_code 172 = .ok (.iload_n 3, 1) := by decide +kernel
theorem d_m14_173 : decode prog_4_method_14_code 173 = .ok (.invokevirtual 83, 3) := by decide +kernel
theorem d_m14_176 : decode prog_4_method_14_code 176 = .ok (.invokestatic 80, 3) := by decide +kernel
theorem d_m14_179 : decode prog_4_method_14_code 179 = .ok (.iastore, 1) := by decide +kernel
theorem d_m14_180 : decode prog_4_method_14_code 180 = .ok (.iinc 3 1, 3) := by decide +kernel
theorem d_m14_183 : decode prog_4_method_14_code 183 = .ok (.goto (-44), 3) := by decide +kernel
theorem d_m14_186 : decode prog_4_method_14_code 186 = .ok (.aload_n 0, 1) := by decide +kernel
theorem d_m14_187 : decode prog_4_method_14_code 187 = .ok (.getfield 41, 3) := by decide +kernel
theorem d_m14_190 : decode prog_4_method_14_code 190 = .ok (.iload_n 1, 1) := by decide +kernel
theorem d_m14_191 : decode prog_4_method_14_code 191 = .ok (.aload_n 0, 1) := by decide +kernel
theorem d_m14_192 : decode prog_4_method_14_code 192 = .ok (.iload_n 1, 1) := by decide +kernel
theorem d_m14_193 : decode prog_4_method_14_code 193 = .ok (.invokevirtual 77, 3) := by decide +kernel
theorem d_m14_196 : decode prog_4_method_14_code 196 = .ok (.iconst 1, 1) := by decide +kernel
theorem d_m14_197 : decode prog_4_method_14_code 197 = .ok (.iadd, 1) := by decide +kernel
theorem d_m14_198 : decode prog_4_method_14_code 198 = .ok (.iload_n 2, 1) := by decide +kernel
theorem d_m14_199 : decode prog_4_method_14_code 199 = .ok (.ifCond .eq 7, 3) := by decide +kernel
theorem d_m14_202 : decode prog_4_method_14_code 202 = .ok (.iconst 0, 1) := by decide +kernel
theorem d_m14_203 : decode prog_4_method_14_code 203 = .ok (.goto 11, 3) := by decide +kernel
theorem d_m14_206 : decode prog_4_method_14_code 206 = .ok (.aload_n 0, 1) := by decide +kernel
theorem d_m14_207 : decode prog_4_method_14_code 207 = .ok (.getfield 44, 3) := by decide +kernel
theorem d_m14_210 : decode prog_4_method_14_code 210 = .ok (.iload_n 1, 1) := by decide +kernel
theorem d_m14_211 : decode prog_4_method_14_code 211 = .ok (.iconst 1, 1) := by decide +kernel
theorem d_m14_212 : decode prog_4_method_14_code 212 = .ok (.isub, 1) := by decide +kernel
theorem d_m14_213 : decode prog_4_method_14_code 213 = .ok (.iaload, 1) := by decide +kernel
theorem d_m14_214 : decode prog_4_method_14_code 214 = .ok (.invokestatic 80, 3) := by decide +kernel
theorem d_m14_217 : decode prog_4_method_14_code 217 = .ok (.iastore, 1) := by decide +kernel
theorem d_m14_218 : decode prog_4_method_14_code 218 = .ok (.aload_n 0, 1) := by decide +kernel
theorem d_m14_219 : decode prog_4_method_14_code 219 = .ok (.getfield 19, 3) := by decide +kernel
theorem d_m14_222 : decode prog_4_method_14_code 222 = .ok (.iload_n 1, 1) := by decide +kernel
theorem d_m14_223 : decode prog_4_method_14_code 223 = .ok (.iaload, 1) := by decide +kernel
theorem d_m14_224 : decode prog_4_method_14_code 224 = .ok (.ifCond .le 29, 3) := by decide +kernel
theorem d_m14_227 : decode prog_4_method_14_code 227 = .ok (.aload_n 0, 1) := by decide +kernel
theorem d_m14_228 : decode prog_4_method_14_code 228 = .ok (.getfield 41, 3) := by decide +kernel
theorem d_m14_231 : decode prog_4_method_14_code 231 = .ok (.iload_n 1, 1) := by decide +kernel
theorem d_m14_232 : decode prog_4_method_14_code 232 = .ok (.aload_n 0, 1) := by decide +kernel
theorem d_m14_233 : decode prog_4_method_14_code 233 = .ok (.getfield 41, 3) := by decide +kernel
theorem d_m14_236 : decode prog_4_method_14_code 236 = .ok (.iload_n 1, 1) := by decide +kernel
theorem d_m14_237 : decode prog_4_method_14_code 237 = .ok (.iaload, 1) := by decide +kernel
theorem d_m14_238 : decode prog_4_method_14_code 238 = .ok (.aload_n 0, 1) := by decide +kernel
theorem d_m14_239 : decode prog_4_method_14_code 239 = .ok (.iload_n 1, 1) := by decide +kernel
theorem d_m14_240 : decode prog_4_method_14_code 240 = .ok (.aload_n 0, 1) := by decide +kernel
theorem d_m14_241 : decode prog_4_method_14_code 241 = .ok (.getfield 19, 3) := by decide +kernel
theorem d_m14_244 : decode prog_4_method_14_code 244 = .ok (.iload_n 1, 1) := by decide +kernel
theorem d_m14_245 : decode prog_4_method_14_code 245 = .ok (.iaload, 1) := by decide +kernel
theorem d_m14_246 : decode prog_4_method_14_code 246 = .ok (.invokevirtual 83, 3) := by decide +kernel
theorem d_m14_249 : decode prog_4_method_14_code 249 = .ok (.invokestatic 80, 3) := by decide +kernel
theorem d_m14_252 : decode prog_4_method_14_code 252 = .ok (.iastore, 1) := by decide +kernel
theorem d_m14_253 : decode prog_4_method_14_code 253 = .ok (.aload_n 0, 1) := by decide +kernel
theorem d_m14_254 : decode prog_4_method_14_code 254 = .ok (.getfield 44, 3) := by decide +kernel
theorem d_m14_257 : decode prog_4_method_14_code 257 = .ok (.iload_n 1, 1) := by decide +kernel
theorem d_m14_258 : decode prog_4_method_14_code 258 = .ok (.aload_n 0, 1) := by decide +kernel
theorem d_m14_259 : decode prog_4_method_14_code 259 = .ok (.iload_n 1, 1) := by decide +kernel
theorem d_m14_260 : decode prog_4_method_14_code 260 = .ok (.invokevirtual 73, 3) := by decide +kernel
theorem d_m14_263 : decode prog_4_method_14_code 263 = .ok (.iconst 1, 1) := by decide +kernel
theorem d_m14_264 : decode prog_4_method_14_code 264 = .ok (.iadd, 1) := by decide +kernel
theorem d_m14_265 : decode prog_4_method_14_code 265 = .ok (.iastore, 1) := by decide +kernel
theorem d_m14_266 : decode prog_4_method_14_code 266 = .ok (.aload_n 0, 1) := by decide +kernel
theorem d_m14_267 : decode prog_4_method_14_code 267 = .ok (.dup, 1) := by decide +kernel
theorem d_m14_268 : decode prog_4_method_14_code 268 = .ok (.getfield 51, 3) := by decide +kernel
theorem d_m14_271 : decode prog_4_method_14_code 271 = .ok (.iconst 1, 1) := by decide +kernel
theorem d_m14_272 : decode prog_4_method_14_code 272 = .ok (.iadd, 1) := by decide +kernel
theorem d_m14_273 : decode prog_4_method_14_code 273 = .ok (.putfield 51, 3) := by decide +kernel
theorem d_m14_276 : decode prog_4_method_14_code 276 = .ok (.goto (-276), 3) := by decide +kernel
theorem d_m14_279 : decode prog_4_method_14_code 279 = .ok (.return_, 1) := by decide +kernel
theorem d_m15_0 : decode prog_4_method_15_code 0 = .ok (.aload_n 0, 1) := by decide +kernel
theorem d_m15_1 : decode prog_4_method_15_code 1 = .ok (.iload_n 2, 1) := by decide +kernel
theorem d_m15_2 : decode prog_4_method_15_code 2 = .ok (.ifCond .lt 9, 3) := by decide +kernel
theorem d_m15_5 : decode prog_4_method_15_code 5 = .ok (.iload_n 2, 1) := by decide +kernel
theorem d_m15_6 : decode prog_4_method_15_code 6 = .ok (.bipush 6, 2) := by decide +kernel
theorem d_m15_8 : decode prog_4_method_15_code 8 = .ok (.if_icmp .le 7, 3) := by decide +kernel
theorem d_m15_11 : decode prog_4_method_15_code 11 = .ok (.iconst 1, 1) := by decide +kernel
theorem d_m15_12 : decode prog_4_method_15_code 12 = .ok (.goto 4, 3) := by decide +kernel
theorem d_m15_15 : decode prog_4_method_15_code 15 = .ok (.iconst 0, 1) := by decide +kernel
theorem d_m15_16 : decode prog_4_method_15_code 16 = .ok (.iconst 1, 1) := by decide +kernel
theorem d_m15_17 : decode prog_4_method_15_code 17 = .ok (.invokevirtual 58, 3) := by decide +kernel
theorem d_m15_20 : decode prog_4_method_15_code 20 = .ok (.ifCond .eq 5, 3) := by decide +kernel
theorem d_m15_23 : decode prog_4_method_15_code 23 = .ok (.iconst 0, 1) := by decide +kernel
theorem d_m15_24 : decode prog_4_method_15_code 24 = .ok (.ireturn, 1) := by decide +kernel
theorem d_m15_25 : decode prog_4_method_15_code 25 = .ok (.aload_n 0, 1) := by decide +kernel
theorem d_m15_26 : decode prog_4_method_15_code 26 = .ok (.iload_n 1, 1) := by decide +kernel
theorem d_m15_27 : decode prog_4_method_15_code 27 = .ok (.ifCond .lt 11, 3) := by decide +kernel
theorem d_m15_30 : decode prog_4_method_15_code 30 = .ok (.iload_n 1, 1) := by decide +kernel
theorem d_m15_31 : decode prog_4_method_15_code 31 = .ok (.aload_n 0, 1) := by decide +kernel
theorem d_m15_32 : decode prog_4_method_15_code 32 = .ok (.getfield 62, 3) := by decide +kernel
theorem d_m15_35 : decode prog_4_method_15_code 35 = .ok (.if_icmp .lt 7, 3) := by decide +kernel
theorem d_m15_38 : decode prog_4_method_15_code 38 = .ok (.iconst 1, 1) := by decide +kernel
theorem d_m15_39 : decode prog_4_method_15_code 39 = .ok (.goto 4, 3) := by decide +kernel
theorem d_m15_42 : decode prog_4_method_15_code 42 = .ok (.iconst 0, 1) := by decide +kernel
theorem d_m15_43 : decode prog_4_method_15_code 43 = .ok (.iconst 2, 1) := by decide +kernel
theorem d_m15_44 : decode prog_4_method_15_code 44 = .ok (.invokevirtual 58, 3) := by decide +kernel
theorem d_m15_47 : decode prog_4_method_15_code 47 = .ok (.ifCond .eq 5, 3) := by decide +kernel
theorem d_m15_50 : decode prog_4_method_15_code 50 = .ok (.iconst 0, 1) := by decide +kernel
theorem d_m15_51 : decode prog_4_method_15_code 51 = .ok (.ireturn, 1) := by decide +kernel
theorem d_m15_52 : decode prog_4_method_15_code 52 = .ok (.aload_n 0, 1) := by decide +kernel
theorem d_m15_53 : decode prog_4_method_15_code 53 = .ok (.invokevirtual 86, 3) := by decide +kernel
theorem d_m15_56 : decode prog_4_method_15_code 56 = .ok (.iload_n 2, 1) := by decide +kernel
theorem d_m15_57 : decode prog_4_method_15_code 57 = .ok (.ifCond .ne 12, 3) := by decide +kernel
theorem d_m15_60 : decode prog_4_method_15_code 60 = .ok (.aload_n 0, 1) := by decide +kernel
theorem d_m15_61 : decode prog_4_method_15_code 61 = .ok (.getfield 32, 3) := by decide +kernel
theorem d_m15_64 : decode prog_4_method_15_code 64 = .ok (.iload_n 1, 1) := by decide +kernel
theorem d_m15_65 : decode prog_4_method_15_code 65 = .ok (.iaload, 1) := by decide +kernel
theorem d_m15_66 : decode prog_4_method_15_code 66 = .ok (.goto 77, 3) := by decide +kernel
theorem d_m15_69 : decode prog_4_method_15_code 69 = .ok (.iload_n 2, 1) := by decide +kernel
theorem d_m15_70 : decode prog_4_method_15_code 70 = .ok (.iconst 1, 1) := by decide +kernel
theorem d_m15_71 : decode prog_4_method_15_code 71 = .ok (.if_icmp .ne 12, 3) := by decide +kernel
theorem d_m15_74 : decode prog_4_method_15_code 74 = .ok (.aload_n 0, 1) := by decide +kernel
theorem d_m15_75 : decode prog_4_method_15_code 75 = .ok (.getfield 35, 3) := by decide +kernel
theorem d_m15_78 : decode prog_4_method_15_code 78 = .ok (.iload_n 1, 1) := by decide +kernel
theorem d_m15_79 : decode prog_4_method_15_code 79 = .ok (.iaload, 1) := by decide +kernel
theorem d_m15_80 : decode prog_4_method_15_code 80 = .ok (.goto 63, 3) := by decide +kernel
theorem d_m15_83 : decode prog_4_method_15_code 83 = .ok (.iload_n 2, 1) := by decide +kernel
theorem d_m15_84 : decode prog_4_method_15_code 84 = .ok (.iconst 2, 1) := by decide +kernel
theorem d_m15_85 : decode prog_4_method_15_code 85 = .ok (.if_icmp .ne 12, 3) := by decide +kernel
theorem d_m15_88 : decode prog_4_method_15_code 88 = .ok (.aload_n 0, 1) := by decide +kernel
theorem d_m15_89 : decode prog_4_method_15_code 89 = .ok (.getfield 38, 3) := by decide +kernel
theorem d_m15_92 : decode prog_4_method_15_code 92 = .ok (.iload_n 1, 1) := by decide +kernel
theorem d_m15_93 : decode prog_4_method_15_code 93 = .ok (.iaload, 1) := by decide +kernel
theorem d_m15_94 : decode prog_4_method_15_code 94 = .ok (.goto 49, 3) := by decide +kernel
theorem d_m15_97 : decode prog_4_method_15_code 97 = .ok (.iload_n 2, 1) := by decide +kernel
theorem d_m15_98 : decode prog_4_method_15_code 98 = .ok (.iconst 3, 1) := by decide +kernel
theorem d_m15_99 : decode prog_4_method_15_code 99 = .ok (.if_icmp .ne 12, 3) := by decide +kernel
theorem d_m15_102 : decode prog_4_method_15_code 102 = .ok (.aload_n 0, 1) := by decide +kernel
theorem d_m15_103 : decode prog_4_method_15_code 103 = .ok (.getfield 41, 3) := by decide +kernel
theorem d_m15_106 : decode prog_4_method_15_code 106 = .ok (.iload_n 1, 1) := by decide +kernel
theorem d_m15_107 : decode prog_4_method_15_code 107 = .ok (.iaload, 1) := by decide +kernel
theorem d_m15_108 : decode prog_4_method_15_code 108 = .ok (.goto 35, 3) := by decide +kernel
theorem d_m15_111 : decode prog_4_method_15_code 111 = .ok (.iload_n 2, 1) := by decide +kernel
theorem d_m15_112 : decode prog_4_method_15_code 112 = .ok (.iconst 4, 1) := by decide +kernel
theorem d_m15_113 : decode prog_4_method_15_code 113 = .ok (.if_icmp .ne 12, 3) := by decide +kernel
theorem d_m15_116 : decode prog_4_method_15_code 116 = .ok (.aload_n 0, 1) := by decide +kernel
theorem d_m15_117 : decode prog_4_method_15_code 117 = .ok (.getfield 44, 3) := by decide +kernel
theorem d_m15_120 : decode prog_4_method_15_code 120 = .ok (.iload_n 1, 1) := by decide +kernel
theorem d_m15_121 : decode prog_4_method_15_code 121 = .ok (.iaload, 1) := by decide +kernel
theorem d_m15_122 : decode prog_4_method_15_code 122 = .ok (.goto 21, 3) := by decide +kernel
theorem d_m15_125 : decode prog_4_method_15_code 125 = .ok (.iload_n 2, 1) := by decide +kernel
theorem d_m15_126 : decode prog_4_method_15_code 126 = .ok (.iconst 5, 1) := by decide +kernel
theorem d_m15_127 : decode prog_4_method_15_code 127 = .ok (.if_icmp .ne 11, 3) := by decide +kernel
theorem d_m15_130 : decode prog_4_method_15_code 130 = .ok (.aload_n 0, 1) := by decide +kernel
theorem d_m15_131 : decode prog_4_method_15_code 131 = .ok (.iload_n 1, 1) := by decide +kernel
theorem d_m15_132 : decode prog_4_method_15_code 132 = .ok (.invokevirtual 77, 3) := by decide +kernel
theorem d_m15_135 : decode prog_4_method_15_code 135 = .ok (.goto 8, 3) := by decide +kernel
theorem d_m15_138 : decode prog_4_method_15_code 138 = .ok (.aload_n 0, 1) := by decide +kernel
theorem d_m15_139 : decode prog_4_method_15_code 139 = .ok (.iload_n 1, 1) := by decide +kernel
theorem d_m15_140 : decode prog_4_method_15_code 140 = .ok (.invokevirtual 73, 3) := by decide +kernel
theorem d_m15_143 : decode prog_4_method_15_code 143 = .ok (.ireturn, 1) := by decide +kernel
theorem d_m16_0 : decode prog_4_method_16_code 0 = .ok (.iload_n 2, 1) := by decide +kernel
theorem d_m16_1 : decode prog_4_method_16_code 1 = .ok (.ifCond .ne 12, 3) := by decide +kernel
theorem d_m16_4 : decode prog_4_method_16_code 4 = .ok (.aload_n 0, 1) := by decide +kernel
theorem d_m16_5 : decode prog_4_method_16_code 5 = .ok (.getfield 32, 3) := by decide +kernel
theorem d_m16_8 : decode prog_4_method_16_code 8 = .ok (.iload_n 1, 1) := by decide +kernel
theorem d_m16_9 : decode prog_4_method_16_code 9 = .ok (.iaload, 1) := by decide +kernel
theorem d_m16_10 : decode prog_4_method_16_code 10 = .ok (.goto 67, 3) := by decide +kernel
theorem d_m16_13 : decode prog_4_method_16_code 13 = .ok (.iload_n 2, 1) := by decide +kernel
theorem d_m16_14 : decode prog_4_method_16_code 14 = .ok (.iconst 1, 1) := by decide +kernel
theorem d_m16_15 : decode prog_4_method_16_code 15 = .ok (.if_icmp .ne 12, 3) := by decide +kernel
theorem d_m16_18 : decode prog_4_method_16_code 18 = .ok (.aload_n 0, 1) := by decide +kernel
theorem d_m16_19 : decode prog_4_method_16_code 19 = .ok (.getfield 35, 3) := by decide +kernel
theorem d_m16_22 : decode prog_4_method_16_code 22 = .ok (.iload_n 1, 1) := by decide +kernel
theorem d_m16_23 : decode prog_4_method_16_code 23 = .ok (.iaload, 1) := by decide +kernel
theorem d_m16_24 : decode prog_4_method_16_code 24 = .ok (.goto 53, 3) := by decide +kernel
theorem d_m16_27 : decode prog_4_method_16_code 27 = .ok (.iload_n 2, 1) := by decide +kernel
theorem d_m16_28 : decode prog_4_method_16_code 28 = .ok (.iconst 2, 1) := by decide +kernel
theorem d_m16_29 : decode prog_4_method_16_code 29 = .ok (.if_icmp .ne 12, 3) := by decide +kernel
theorem d_m16_32 : decode prog_4_method_16_code 32 = .ok (.aload_n 0, 1) := by decide +kernel
theorem d_m16_33 : decode prog_4_method_16_code 33 = .ok (.getfield 38, 3) := by decide +kernel
theorem d_m16_36 : decode prog_4_method_16_code 36 = .ok (.iload_n 1, 1) := by decide +kernel
theorem d_m16_37 : decode prog_4_method_16_code 37 = .ok (.iaload, 1) := by decide +kernel
theorem d_m16_38 : decode prog_4_method_16_code 38 = .ok (.goto 39, 3) := by decide +kernel
theorem d_m16_41 : decode prog_4_method_16_code 41 = .ok (.iload_n 2, 1) := by decide +kernel
theorem d_m16_42 : decode prog_4_method_16_code 42 = .ok (.iconst 3, 1) := by decide +kernel
theorem d_m16_43 : decode prog_4_method_16_code 43 = .ok (.if_icmp .ne 12, 3) := by decide +kernel
theorem d_m16_46 : decode prog_4_method_16_code 46 = .ok (.aload_n 0, 1) := by decide +kernel
theorem d_m16_47 : decode prog_4_method_16_code 47 = .ok (.getfield 41, 3) := by decide +kernel
theorem d_m16_50 : decode prog_4_method_16_code 50 = .ok (.iload_n 1, 1) := by decide +kernel
theorem d_m16_51 : decode prog_4_method_16_code 51 = .ok (.iaload, 1) := by decide +kernel
theorem d_m16_52 : decode prog_4_method_16_code 52 = .ok (.goto 25, 3) := by decide +kernel
theorem d_m16_55 : decode prog_4_method_16_code 55 = .ok (.iload_n 2, 1) := by decide +kernel
theorem d_m16_56 : decode prog_4_method_16_code 56 = .ok (.iconst 4, 1) := by decide +kernel
theorem d_m16_57 : decode prog_4_method_16_code 57 = .ok (.if_icmp .ne 12, 3) := by decide +kernel
theorem d_m16_60 : decode prog_4_method_16_code 60 = .ok (.aload_n 0, 1) := by decide +kernel
theorem d_m16_61 : decode prog_4_method_16_code 61 = .ok (.getfield 44, 3) := by decide +kernel
theorem d_m16_64 : decode prog_4_method_16_code 64 = .ok (.iload_n 1, 1) := by decide +kernel
theorem d_m16_65 : decode prog_4_method_16_code 65 = .ok (.iaload, 1) := by decide +kernel
theorem d_m16_66 : decode prog_4_method_16_code 66 = .ok (.goto 11, 3) := by decide +kernel
theorem d_m16_69 : decode prog_4_method_16_code 69 = .ok (.aload_n 0, 1) := by decide +kernel
theorem d_m16_70 : decode prog_4_method_16_code 70 = .ok (.getfield 44, 3) := by decide +kernel
theorem d_m16_73 : decode prog_4_method_16_code 73 = .ok (.iload_n 1, 1) := by decide +kernel
theorem d_m16_74 : decode prog_4_method_16_code 74 = .ok (.iaload, 1) := by decide +kernel
theorem d_m16_75 : decode prog_4_method_16_code 75 = .ok (.iconst 1, 1) := by decide +kernel
theorem d_m16_76 : decode prog_4_method_16_code 76 = .ok (.iadd, 1) := by decide +kernel
theorem d_m16_77 : decode prog_4_method_16_code 77 = .ok (.ireturn, 1) := by decide +kernel
theorem d_m17_0 : decode prog_4_method_17_code 0 = .ok (.aload_n 0, 1) := by decide +kernel
theorem d_m17_1 : decode prog_4_method_17_code 1 = .ok (.iload_n 1, 1) := by decide +kernel
theorem d_m17_2 : decode prog_4_method_17_code 2 = .ok (.ifCond .lt 8, 3) := by decide +kernel
theorem d_m17_5 : decode prog_4_method_17_code 5 = .ok (.iload_n 1, 1) := by decide +kernel
theorem d_m17_6 : decode prog_4_method_17_code 6 = .ok (.iconst 4, 1) := by decide +kernel
theorem d_m17_7 : decode prog_4_method_17_code 7 = .ok (.if_icmp .le 7, 3) := by decide +kernel
theorem d_m17_10 : decode prog_4_method_17_code 10 = .ok (.iconst 1, 1) := by decide +kernel
theorem d_m17_11 : decode prog_4_method_17_code 11 = .ok (.goto 4, 3) := by decide +kernel
theorem d_m17_14 : decode prog_4_method_17_code 14 = .ok (.iconst 0, 1) := by decide +kernel
theorem d_m17_15 : decode prog_4_method_17_code 15 = .ok (.iconst 1, 1) := by decide +kernel
theorem d_m17_16 : decode prog_4_method_17_code 16 = .ok (.invokevirtual 58, 3) := by decide +kernel
theorem d_m17_19 : decode prog_4_method_17_code 19 = .ok (.ifCond .eq 5, 3) := by decide +kernel
theorem d_m17_22 : decode prog_4_method_17_code 22 = .ok (.iconst 0, 1) := by decide +kernel
theorem d_m17_23 : decode prog_4_method_17_code 23 = .ok (.ireturn, 1) := by decide +kernel
theorem d_m17_24 : decode prog_4_method_17_code 24 = .ok (.aload_n 0, 1) := by decide +kernel
theorem d_m17_25 : decode prog_4_method_17_code 25 = .ok (.invokevirtual 86, 3) := by decide +kernel
theorem d_m17_28 : decode prog_4_method_17_code 28 = .ok (.iconst 0, 1) := by decide +kernel
theorem d_m17_29 : decode prog_4_method_17_code 29 = .ok (.istore_n 3, 1) := by decide +kernel
theorem d_m17_30 : decode prog_4_method_17_code 30 = .ok (.iload_n 3, 1) := by decide +kernel
theorem d_m17_31 : decode prog_4_method_17_code 31 = .ok (.aload_n 0, 1) := by decide +kernel
theorem d_m17_32 : decode prog_4_method_17_code 32 = .ok (.getfield 62, 3) := by decide +kernel
theorem d_m17_35 : decode prog_4_method_17_code 35 = .ok (.if_icmp .ge 33, 3) := by decide +kernel
theorem d_m17_38 : decode prog_4_method_17_code 38 = .ok (.iload_n 2, 1) := by decide +kernel
theorem d_m17_39 : decode prog_4_method_17_code 39 = .ok (.aload_n 0, 1) := by decide +kernel
theorem d_m17_40 : decode prog_4_method_17_code 40 = .ok (.iload_n 3, 1) := by decide +kernel
theorem d_m17_41 : decode prog_4_method_17_code 41 = .ok (.iload_n 1, 1) := by decide +kernel
theorem d_m17_42 : decode prog_4_method_17_code 42 = .ok (.invokevirtual 89, 3) := by decide +kernel
theorem d_m17_45 : decode prog_4_method_17_code 45 = .ok (.if_icmp .lt 17, 3) := by decide +kernel
theorem d_m17_48 : decode prog_4_method_17_code 48 = .ok (.iload_n 2, 1) := by decide +kernel
theorem d_m17_49 : decode prog_4_method_17_code 49 = .ok (.aload_n 0, 1) := by decide +kernel
theorem d_m17_50 : decode prog_4_method_17_code 50 = .ok (.iload_n 3, 1) := by decide +kernel
theorem d_m17_51 : decode prog_4_method_17_code 51 = .ok (.iload_n 1, 1) := by decide +kernel
theorem d_m17_52 : decode prog_4_method_17_code 52 = .ok (.iconst 1, 1) := by decide +kernel
theorem d_m17_53 : decode prog_4_method_17_code 53 = .ok (.iadd, 1) := by decide +kernel
theorem d_m17_54 : decode prog_4_method_17_code 54 = .ok (.invokevirtual 89, 3) := by decide +kernel
theorem d_m17_57 : decode prog_4_method_17_code 57 = .ok (.if_icmp .ge 5, 3) := by decide +kernel
theorem d_m17_60 : decode prog_4_method_17_code 60 = .ok (.iload_n 3, 1) := by decide +kernel
theorem d_m17_61 : decode prog_4_method_17_code 61 = .ok (.ireturn, 1) := by decide +kernel
theorem d_m17_62 : decode prog_4_method_17_code 62 = .ok (.iinc 3 1, 3) := by decide +kernel
theorem d_m17_65 : decode prog_4_method_17_code 65 = .ok (.goto (-35), 3) := by decide +kernel
theorem d_m17_68 : decode prog_4_method_17_code 68 = .ok (.iconst (-1), 1) := by decide +kernel
theorem d_m17_69 : decode prog_4_method_17_code 69 = .ok (.ireturn, 1) := by decide +kernel
theorem d_m18_0 : decode prog_4_method_18_code 0 = .ok (.aload_n 0, 1) := by decide +kernel
theorem d_m18_1 : decode prog_4_method_18_code 1 = .ok (.iload_n 1, 1) := by decide +kernel
theorem d_m18_2 : decode prog_4_method_18_code 2 = .ok (.ifCond .lt 11, 3) := by decide +kernel
theorem d_m18_5 : decode prog_4_method_18_code 5 = .ok (.iload_n 1, 1) := by decide +kernel
theorem d_m18_6 : decode prog_4_method_18_code 6 = .ok (.aload_n 0, 1) := by decide +kernel
theorem d_m18_7 : decode prog_4_method_18_code 7 = .ok (.getfield 62, 3) := by decide +kernel
theorem d_m18_10 : decode prog_4_method_18_code 10 = .ok (.if_icmp .lt 7, 3) := by decide +kernel
theorem d_m18_13 : decode prog_4_method_18_code 13 = .ok (.iconst 1, 1) := by decide +kernel
theorem d_m18_14 : decode prog_4_method_18_code 14 = .ok (.goto 4, 3) := by decide +kernel
theorem d_m18_17 : decode prog_4_method_18_code 17 = .ok (.iconst 0, 1) := by decide +kernel
theorem d_m18_18 : decode prog_4_method_18_code 18 = .ok (.iconst 1, 1) := by decide +kernel
theorem d_m18_19 : decode prog_4_method_18_code 19 = .ok (.invokevirtual 58, 3) := by decide +kernel
theorem d_m18_22 : decode prog_4_method_18_code 22 = .ok (.ifCond .eq 5, 3) := by decide +kernel
theorem d_m18_25 : decode prog_4_method_18_code 25 = .ok (.iconst 0, 1) := by decide +kernel
theorem d_m18_26 : decode prog_4_method_18_code 26 = .ok (.ireturn, 1) := by decide +kernel
theorem d_m18_27 : decode prog_4_method_18_code 27 = .ok (.aload_n 0, 1) := by decide +kernel
theorem d_m18_28 : decode prog_4_method_18_code 28 = .ok (.invokevirtual 86, 3) := by decide +kernel
theorem d_m18_31 : decode prog_4_method_18_code 31 = .ok (.aload_n 0, 1) := by decide +kernel
theorem d_m18_32 : decode prog_4_method_18_code 32 = .ok (.getfield 38, 3) := by decide +kernel
theorem d_m18_35 : decode prog_4_method_18_code 35 = .ok (.iload_n 1, 1) := by decide +kernel
theorem d_m18_36 : decode prog_4_method_18_code 36 = .ok (.iaload, 1) := by decide +kernel
theorem d_m18_37 : decode prog_4_method_18_code 37 = .ok (.aload_n 0, 1) := by decide +kernel
theorem d_m18_38 : decode prog_4_method_18_code 38 = .ok (.getfield 35, 3) := by decide +kernel
theorem d_m18_41 : decode prog_4_method_18_code 41 = .ok (.iload_n 1, 1) := by decide +kernel
theorem d_m18_42 : decode prog_4_method_18_code 42 = .ok (.iaload, 1) := by decide +kernel
theorem d_m18_43 : decode prog_4_method_18_code 43 = .ok (.isub, 1) := by decide +kernel
theorem d_m18_44 : decode prog_4_method_18_code 44 = .ok (.iconst 1, 1) := by decide +kernel
theorem d_m18_45 : decode prog_4_method_18_code 45 = .ok (.isub, 1) := by decide +kernel
theorem d_m18_46 : decode prog_4_method_18_code 46 = .ok (.ireturn, 1) := by decide +kernel
theorem d_m19_0 : decode prog_4_method_19_code 0 = .ok (.aload_n 0, 1) := by decide +kernel
theorem d_m19_1 : decode prog_4_method_19_code 1 = .ok (.iload_n 2, 1) := by decide +kernel
theorem d_m19_2 : decode prog_4_method_19_code 2 = .ok (.iconst 1, 1) := by decide +kernel
theorem d_m19_3 : decode prog_4_method_19_code 3 = .ok (.if_icmp .lt 9, 3) := by decide +kernel
theorem d_m19_6 : decode prog_4_method_19_code 6 = .ok (.iload_n 2, 1) := by decide +kernel
theorem d_m19_7 : decode prog_4_method_19_code 7 = .ok (.bipush 15, 2) := by decide +kernel
theorem d_m19_9 : decode prog_4_method_19_code 9 = .ok (.if_icmp .le 7, 3) := by decide +kernel
theorem d_m19_12 : decode prog_4_method_19_code 12 = .ok (.iconst 1, 1) := by decide +kernel
theorem d_m19_13 : decode prog_4_method_19_code 13 = .ok (.goto 4, 3) := by decide +kernel
theorem d_m19_16 : decode prog_4_method_19_code 16 = .ok (.iconst 0, 1) := by decide +kernel
theorem d_m19_17 : decode prog_4_method_19_code 17 = .ok (.iconst 1, 1) := by decide +kernel
theorem d_m19_18 : decode prog_4_method_19_code 18 = .ok (.invokevirtual 58, 3) := by decide +kernel
theorem d_m19_21 : decode prog_4_method_19_code 21 = .ok (.ifCond .eq 5, 3) := by decide +kernel
theorem d_m19_24 : decode prog_4_method_19_code 24 = .ok (.iconst 0, 1) := by decide +kernel
theorem d_m19_25 : decode prog_4_method_19_code 25 = .ok (.ireturn, 1) := by decide +kernel
theorem d_m19_26 : decode prog_4_method_19_code 26 = .ok (.aload_n 0, 1) := by decide +kernel
theorem d_m19_27 : decode prog_4_method_19_code 27 = .ok (.iload_n 1, 1) := by decide +kernel
theorem d_m19_28 : decode prog_4_method_19_code 28 = .ok (.ifCond .lt 11, 3) := by decide +kernel
theorem d_m19_31 : decode prog_4_method_19_code 31 = .ok (.iload_n 1, 1) := by decide +kernel
theorem d_m19_32 : decode prog_4_method_19_code 32 = .ok (.aload_n 0, 1) := by decide +kernel
theorem d_m19_33 : decode prog_4_method_19_code 33 = .ok (.getfield 62, 3) := by decide +kernel
theorem d_m19_36 : decode prog_4_method_19_code 36 = .ok (.if_icmp .lt 7, 3) := by decide +kernel
theorem d_m19_39 : decode prog_4_method_19_code 39 = .ok (.iconst 1, 1) := by decide +kernel
theorem d_m19_40 : decode prog_4_method_19_code 40 = .ok (.goto 4, 3) := by decide +kernel
theorem d_m19_43 : decode prog_4_method_19_code 43 = .ok (.iconst 0, 1) := by decide +kernel
theorem d_m19_44 : decode prog_4_method_19_code 44 = .ok (.iconst 2, 1) := by decide +kernel
theorem d_m19_45 : decode prog_4_method_19_code 45 = .ok (.invokevirtual 58, 3) := by decide +kernel
theorem d_m19_48 : decode prog_4_method_19_code 48 = .ok (.ifCond .eq 5, 3) := by decide +kernel
theorem d_m19_51 : decode prog_4_method_19_code 51 = .ok (.iconst 0, 1) := by decide +kernel
theorem d_m19_52 : decode prog_4_method_19_code 52 = .ok (.ireturn, 1) := by decide +kernel
theorem d_m19_53 : decode prog_4_method_19_code 53 = .ok (.aload_n 0, 1) := by decide +kernel
theorem d_m19_54 : decode prog_4_method_19_code 54 = .ok (.iload_n 1, 1) := by decide +kernel
theorem d_m19_55 : decode prog_4_method_19_code 55 = .ok (.iload_n 2, 1) := by decide +kernel
theorem d_m19_56 : decode prog_4_method_19_code 56 = .ok (.invokevirtual 69, 3) := by decide +kernel
theorem d_m19_59 : decode prog_4_method_19_code 59 = .ok (.ireturn, 1) := by decide +kernel
theorem d_m20_0 : decode prog_4_method_20_code 0 = .ok (.aload_n 0, 1) := by decide +kernel
theorem d_m20_1 : decode prog_4_method_20_code 1 = .ok (.iload_n 1, 1) := by decide +kernel
theorem d_m20_2 : decode prog_4_method_20_code 2 = .ok (.ifCond .lt 8, 3) := by decide +kernel
theorem d_m20_5 : decode prog_4_method_20_code 5 = .ok (.iload_n 1, 1) := by decide +kernel
theorem d_m20_6 : decode prog_4_method_20_code 6 = .ok (.iconst 3, 1) := by decide +kernel
theorem d_m20_7 : decode prog_4_method_20_code 7 = .ok (.if_icmp .le 7, 3) := by decide +kernel
theorem d_m20_10 : decode prog_4_method_20_code 10 = .ok (.iconst 1, 1) := by decide +kernel
theorem d_m20_11 : decode prog_4_method_20_code 11 = .ok (.goto 4, 3) := by decide +kernel
theorem d_m20_14 : decode prog_4_method_20_code 14 = .ok (.iconst 0, 1) := by decide +kernel
theorem d_m20_15 : decode prog_4_method_20_code 15 = .ok (.iconst 1, 1) := by decide +kernel
theorem d_m20_16 : decode prog_4_method_20_code 16 = .ok (.invokevirtual 58, 3) := by decide +kernel
theorem d_m20_19 : decode prog_4_method_20_code 19 = .ok (.ifCond .eq 5, 3) := by decide +kernel
theorem d_m20_22 : decode prog_4_method_20_code 22 = .ok (.iconst 0, 1) := by decide +kernel
theorem d_m20_23 : decode prog_4_method_20_code 23 = .ok (.ireturn, 1) := by decide +kernel
theorem d_m20_24 : decode prog_4_method_20_code 24 = .ok (.aload_n 0, 1) := by decide +kernel
theorem d_m20_25 : decode prog_4_method_20_code 25 = .ok (.invokevirtual 86, 3) := by decide +kernel
theorem d_m20_28 : decode prog_4_method_20_code 28 = .ok (.iconst 0, 1) := by decide +kernel
theorem d_m20_29 : decode prog_4_method_20_code 29 = .ok (.istore_n 2, 1) := by decide +kernel
theorem d_m20_30 : decode prog_4_method_20_code 30 = .ok (.aload_n 0, 1) := by decide +kernel
theorem d_m20_31 : decode prog_4_method_20_code 31 = .ok (.getfield 62, 3) := by decide +kernel
theorem d_m20_34 : decode prog_4_method_20_code 34 = .ok (.ifCond .ne 7, 3) := by decide +kernel
theorem d_m20_37 : decode prog_4_method_20_code 37 = .ok (.iconst 0, 1) := by decide +kernel
theorem d_m20_38 : decode prog_4_method_20_code 38 = .ok (.goto 14, 3) := by decide +kernel
theorem d_m20_41 : decode prog_4_method_20_code 41 = .ok (.aload_n 0, 1) := by decide +kernel
theorem d_m20_42 : decode prog_4_method_20_code 42 = .ok (.getfield 44, 3) := by decide +kernel
theorem d_m20_45 : decode prog_4_method_20_code 45 = .ok (.aload_n 0, 1) := by decide +kernel
theorem d_m20_46 : decode prog_4_method_20_code 46 = .ok (.getfield 62, 3) := by decide +kernel
theorem d_m20_49 : decode prog_4_method_20_code 49 = .ok (.iconst 1, 1) := by decide +kernel
theorem d_m20_50 : decode prog_4_method_20_code 50 = .ok (.isub, 1) := by decide +kernel
theorem d_m20_51 : decode prog_4_method_20_code 51 = .ok (.iaload, 1) := by decide +kernel
theorem d_m20_52 : decode prog_4_method_20_code 52 = .ok (.istore_n 3, 1) := by decide +kernel
theorem d_m20_53 : decode prog_4_method_20_code 53 = .ok (.iload_n 1, 1) := by decide +kernel
theorem d_m20_54 : decode prog_4_method_20_code 54 = .ok (.ifCond .ne 8, 3) := by decide +kernel
theorem d_m20_57 : decode prog_4_method_20_code 57 = .ok (.aload_n 0, 1) := by decide +kernel
theorem d_m20_58 : decode prog_4_method_20_code 58 = .ok (.getfield 62, 3) := by decide +kernel
theorem d_m20_61 : decode prog_4_method_20_code 61 = .ok (.ireturn, 1) := by decide +kernel
theorem d_m20_62 : decode prog_4_method_20_code 62 = .ok (.iload_n 1, 1) := by decide +kernel
theorem d_m20_63 : decode prog_4_method_20_code 63 = .ok (.iconst 1, 1) := by decide +kernel
theorem d_m20_64 : decode prog_4_method_20_code 64 = .ok (.if_icmp .ne 5, 3) := by decide +kernel
theorem d_m20_67 : decode prog_4_method_20_code 67 = .ok (.iload_n 3, 1) := by decide +kernel
theorem d_m20_68 : decode prog_4_method_20_code 68 = .ok (.ireturn, 1) := by decide +kernel
theorem d_m20_69 : decode prog_4_method_20_code 69 = .ok (.iload_n 1, 1) := by decide +kernel
theorem d_m20_70 : decode prog_4_method_20_code 70 = .ok (.iconst 2, 1) := by decide +kernel
theorem d_m20_71 : decode prog_4_method_20_code 71 = .ok (.if_icmp .ne 39, 3) := by decide +kernel
theorem d_m20_74 : decode prog_4_method_20_code 74 = .ok (.iload_n 3, 1) := by decide +kernel
theorem d_m20_75 : decode prog_4_method_20_code 75 = .ok (.istore_n 2, 1) := by decide +kernel
theorem d_m20_76 : decode prog_4_method_20_code 76 = .ok (.iconst 0, 1) := by decide +kernel
theorem d_m20_77 : decode prog_4_method_20_code 77 = .ok (.istore 4, 2) := by decide +kernel
theorem d_m20_79 : decode prog_4_method_20_code 79 = .ok (.iload 4, 2) := by decide +kernel
theorem d_m20_81 : decode prog_4_method_20_code 81 = .ok (.aload_n 0, 1) := by decide +kernel
theorem d_m20_82 : decode prog_4_method_20_code 82 = .ok (.getfield 62, 3) := by decide +kernel
theorem d_m20_85 : decode prog_4_method_20_code 85 = .ok (.if_icmp .ge 23, 3) := by decide +kernel
theorem d_m20_88 : decode prog_4_method_20_code 88 = .ok (.aload_n 0, 1) := by decide +kernel
theorem d_m20_89 : decode prog_4_method_20_code 89 = .ok (.getfield 44, 3) := by decide +kernel
theorem d_m20_92 : decode prog_4_method_20_code 92 = .ok (.iload 4, 2) := by decide +kernel
theorem d_m20_94 : decode prog_4_method_20_code 94 = .ok (.iaload, 1) := by decide +kernel
theorem d_m20_95 : decode prog_4_method_20_code 95 = .ok (.iload_n 3, 1) := by decide +kernel
theorem d_m20_96 : decode prog_4_method_20_code 96 = .ok (.if_icmp .gt 6, 3) := by decide +kernel
theorem d_m20_99 : decode prog_4_method_20_code 99 = .ok (.iinc 2 (-1), 3) := by decide +kernel
theorem d_m20_102 : decode prog_4_method_20_code 102 = .ok (.iinc 4 1, 3) := by decide +kernel
theorem d_m20_105 : decode prog_4_method_20_code 105 = .ok (.goto (-26), 3) := by decide +kernel
theorem d_m20_108 : decode prog_4_method_20_code 108 = .ok (.iload_n 2, 1) := by decide +kernel
theorem d_m20_109 : decode prog_4_method_20_code 109 = .ok (.ireturn, 1) := by decide +kernel
theorem d_m20_110 : decode prog_4_method_20_code 110 = .ok (.iconst 0, 1) := by decide +kernel
theorem d_m20_111 : decode prog_4_method_20_code 111 = .ok (.istore 4, 2) := by decide +kernel
theorem d_m20_113 : decode prog_4_method_20_code 113 = .ok (.iload 4, 2) := by decide +kernel
theorem d_m20_115 : decode prog_4_method_20_code 115 = .ok (.aload_n 0, 1) := by decide +kernel
theorem d_m20_116 : decode prog_4_method_20_code 116 = .ok (.getfield 62, 3) := by decide +kernel
theorem d_m20_119 : decode prog_4_method_20_code 119 = .ok (.if_icmp .ge 22, 3) := by decide +kernel
theorem d_m20_122 : decode prog_4_method_20_code 122 = .ok (.aload_n 0, 1) := by decide +kernel
theorem d_m20_123 : decode prog_4_method_20_code 123 = .ok (.getfield 29, 3) := by decide +kernel
theorem d_m20_126 : decode prog_4_method_20_code 126 = .ok (.iload 4, 2) := by decide +kernel
theorem d_m20_128 : decode prog_4_method_20_code 128 = .ok (.baload, 1) := by decide +kernel
theorem d_m20_129 : decode prog_4_method_20_code 129 = .ok (.ifCond .eq 6, 3) := by decide +kernel
theorem d_m20_132 : decode prog_4_method_20_code 132 = .ok (.iinc 2 1, 3) := by decide +kernel
theorem d_m20_135 : decode prog_4_method_20_code 135 = .ok (.iinc 4 1, 3) := by decide +kernel
theorem d_m20_138 : decode prog_4_method_20_code 138 = .ok (.goto (-25), 3) := by decide +kernel
theorem d_m20_141 : decode prog_4_method_20_code 141 = .ok (.iload_n 2, 1) := by decide +kernel
theorem d_m20_142 : decode prog_4_method_20_code 142 = .ok (.ireturn, 1) := by decide +kernel
end
section
theorem d_l_0 : decode code 0 = .ok (.new 8, 3) := by decide +kernel
theorem d_l_3 : decode code 3 = .ok (.dup, 1) := by decide +kernel
theorem d_l_4 : decode code 4 = .ok (.invokespecial 43, 3) := by decide +kernel
theorem d_l_7 : decode code 7 = .ok (.astore_n 1, 1) := by decide +kernel
theorem d_l_8 : decode code 8 = .ok (.new 44, 3) := by decide +kernel
theorem d_l_11 : decode code 11 = .ok (.dup, 1) := by decide +kernel
theorem d_l_12 : decode code 12 = .ok (.invokespecial 46, 3) := by decide +kernel
theorem d_l_15 : decode code 15 = .ok (.astore_n 2, 1) := by decide +kernel
theorem d_l_16 : decode code 16 = .ok (.iconst 1, 1) := by decide +kernel
theorem d_l_17 : decode code 17 = .ok (.newarray .long, 2) := by decide +kernel
theorem d_l_19 : decode code 19 = .ok (.astore_n 3, 1) := by decide +kernel
theorem d_l_20 : decode code 20 = .ok (.iconst 0, 1) := by decide +kernel
theorem d_l_21 : decode code 21 = .ok (.istore 4, 2) := by decide +kernel
theorem d_l_23 : decode code 23 = .ok (.iload 4, 2) := by decide +kernel
theorem d_l_25 : decode code 25 = .ok (.aload_n 0, 1) := by decide +kernel
theorem d_l_26 : decode code 26 = .ok (.arraylength, 1) := by decide +kernel
theorem d_l_27 : decode code 27 = .ok (.bipush 9, 2) := by decide +kernel
theorem d_l_29 : decode code 29 = .ok (.isub, 1) := by decide +kernel
theorem d_l_30 : decode code 30 = .ok (.if_icmp .gt 758, 3) := by decide +kernel
theorem d_l_33 : decode code 33 = .ok (.aload_n 0, 1) := by decide +kernel
theorem d_l_34 : decode code 34 = .ok (.iload 4, 2) := by decide +kernel
theorem d_l_36 : decode code 36 = .ok (.iaload, 1) := by decide +kernel
theorem d_l_37 : decode code 37 = .ok (.bipush 7, 2) := by decide +kernel
theorem d_l_39 : decode code 39 = .ok (.iand, 1) := by decide +kernel
theorem d_l_40 : decode code 40 = .ok (.tableswitch 742 0 7 #[48, 212, 370, 426, 494, 562, 618, 686], 48) := by decide +kernel
theorem d_l_88 : decode code 88 = .ok (.aload_n 1, 1) := by decide +kernel
theorem d_l_89 : decode code 89 = .ok (.aload_n 0, 1) := by decide +kernel
theorem d_l_90 : decode code 90 = .ok (.iload 4, 2) := by decide +kernel
theorem d_l_92 : decode code 92 = .ok (.iconst 1, 1) := by decide +kernel
theorem d_l_93 : decode code 93 = .ok (.iadd, 1) := by decide +kernel
theorem d_l_94 : decode code 94 = .ok (.iaload, 1) := by decide +kernel
theorem d_l_95 : decode code 95 = .ok (.aload_n 0, 1) := by decide +kernel
theorem d_l_96 : decode code 96 = .ok (.iload 4, 2) := by decide +kernel
theorem d_l_98 : decode code 98 = .ok (.iconst 2, 1) := by decide +kernel
theorem d_l_99 : decode code 99 = .ok (.iadd, 1) := by decide +kernel
theorem d_l_100 : decode code 100 = .ok (.iaload, 1) := by decide +kernel
theorem d_l_101 : decode code 101 = .ok (.aload_n 0, 1) := by decide +kernel
theorem d_l_102 : decode code 102 = .ok (.iload 4, 2) := by decide +kernel
theorem d_l_104 : decode code 104 = .ok (.iconst 3, 1) := by decide +kernel
theorem d_l_105 : decode code 105 = .ok (.iadd, 1) := by decide +kernel
theorem d_l_106 : decode code 106 = .ok (.iaload, 1) := by decide +kernel
theorem d_l_107 : decode code 107 = .ok (.aload_n 0, 1) := by decide +kernel
theorem d_l_108 : decode code 108 = .ok (.iload 4, 2) := by decide +kernel
theorem d_l_110 : decode code 110 = .ok (.iconst 4, 1) := by decide +kernel
theorem d_l_111 : decode code 111 = .ok (.iadd, 1) := by decide +kernel
theorem d_l_112 : decode code 112 = .ok (.iaload, 1) := by decide +kernel
theorem d_l_113 : decode code 113 = .ok (.aload_n 0, 1) := by decide +kernel
theorem d_l_114 : decode code 114 = .ok (.iload 4, 2) := by decide +kernel
theorem d_l_116 : decode code 116 = .ok (.iconst 5, 1) := by decide +kernel
theorem d_l_117 : decode code 117 = .ok (.iadd, 1) := by decide +kernel
theorem d_l_118 : decode code 118 = .ok (.iaload, 1) := by decide +kernel
theorem d_l_119 : decode code 119 = .ok (.ifCond .eq 7, 3) := by decide +kernel
theorem d_l_122 : decode code 122 = .ok (.iconst 1, 1) := by decide +kernel
theorem d_l_123 : decode code 123 = .ok (.goto 4, 3) := by decide +kernel
theorem d_l_126 : decode code 126 = .ok (.iconst 0, 1) := by decide +kernel
theorem d_l_127 : decode code 127 = .ok (.aload_n 0, 1) := by decide +kernel
theorem d_l_128 : decode code 128 = .ok (.iload 4, 2) := by decide +kernel
theorem d_l_130 : decode code 130 = .ok (.bipush 6, 2) := by decide +kernel
theorem d_l_132 : decode code 132 = .ok (.iadd, 1) := by decide +kernel
theorem d_l_133 : decode code 133 = .ok (.iaload, 1) := by decide +kernel
theorem d_l_134 : decode code 134 = .ok (.aload_n 0, 1) := by decide +kernel
theorem d_l_135 : decode code 135 = .ok (.iload 4, 2) := by decide +kernel
theorem d_l_137 : decode code 137 = .ok (.bipush 7, 2) := by decide +kernel
theorem d_l_139 : decode code 139 = .ok (.iadd, 1) := by decide +kernel
theorem d_l_140 : decode code 140 = .ok (.iaload, 1) := by decide +kernel
theorem d_l_141 : decode code 141 = .ok (.ifCond .eq 7, 3) := by decide +kernel
theorem d_l_144 : decode code 144 = .ok (.iconst 1, 1) := by decide +kernel
theorem d_l_145 : decode code 145 = .ok (.goto 4, 3) := by decide +kernel
theorem d_l_148 : decode code 148 = .ok (.iconst 0, 1) := by decide +kernel
theorem d_l_149 : decode code 149 = .ok (.aload_n 3, 1) := by decide +kernel
theorem d_l_150 : decode code 150 = .ok (.invokestatic 47, 3) := by decide +kernel
theorem d_l_153 : decode code 153 = .ok (.istore 5, 2) := by decide +kernel
theorem d_l_155 : decode code 155 = .ok (.aload_n 2, 1) := by decide +kernel
theorem d_l_156 : decode code 156 = .ok (.aload_n 0, 1) := by decide +kernel
theorem d_l_157 : decode code 157 = .ok (.iload 4, 2) := by decide +kernel
theorem d_l_159 : decode code 159 = .ok (.iconst 1, 1) := by decide +kernel
theorem d_l_160 : decode code 160 = .ok (.iadd, 1) := by decide +kernel
theorem d_l_161 : decode code 161 = .ok (.iaload, 1) := by decide +kernel
theorem d_l_162 : decode code 162 = .ok (.aload_n 0, 1) := by decide +kernel
theorem d_l_163 : decode code 163 = .ok (.iload 4, 2) := by decide +kernel
theorem d_l_165 : decode code 165 = .ok (.iconst 2, 1) := by decide +kernel
theorem d_l_166 : decode code 166 = .ok (.iadd, 1) := by decide +kernel
theorem d_l_167 : decode code 167 = .ok (.iaload, 1) := by decide +kernel
theorem d_l_168 : decode code 168 = .ok (.aload_n 0, 1) := by decide +kernel
theorem d_l_169 : decode code 169 = .ok (.iload 4, 2) := by decide +kernel
theorem d_l_171 : decode code 171 = .ok (.iconst 3, 1) := by decide +kernel
theorem d_l_172 : decode code 172 = .ok (.iadd, 1) := by decide +kernel
theorem d_l_173 : decode code 173 = .ok (.iaload, 1) := by decide +kernel
theorem d_l_174 : decode code 174 = .ok (.aload_n 0, 1) := by decide +kernel
theorem d_l_175 : decode code 175 = .ok (.iload 4, 2) := by decide +kernel
theorem d_l_177 : decode code 177 = .ok (.iconst 4, 1) := by decide +kernel
theorem d_l_178 : decode code 178 = .ok (.iadd, 1) := by decide +kernel
theorem d_l_179 : decode code 179 = .ok (.iaload, 1) := by decide +kernel
theorem d_l_180 : decode code 180 = .ok (.aload_n 0, 1) := by decide +kernel
theorem d_l_181 : decode code 181 = .ok (.iload 4, 2) := by decide +kernel
theorem d_l_183 : decode code 183 = .ok (.iconst 5, 1) := by decide +kernel
theorem d_l_184 : decode code 184 = .ok (.iadd, 1) := by decide +kernel
theorem d_l_185 : decode code 185 = .ok (.iaload, 1) := by decide +kernel
theorem d_l_186 : decode code 186 = .ok (.ifCond .eq 7, 3) := by decide +kernel
theorem d_l_189 : decode code 189 = .ok (.iconst 1, 1) := by decide +kernel
theorem d_l_190 : decode code 190 = .ok (.goto 4, 3) := by decide +kernel
theorem d_l_193 : decode code 193 = .ok (.iconst 0, 1) := by decide +kernel
theorem d_l_194 : decode code 194 = .ok (.aload_n 0, 1) := by decide +kernel
theorem d_l_195 : decode code 195 = .ok (.iload 4, 2) := by decide +kernel
theorem d_l_197 : decode code 197 = .ok (.bipush 6, 2) := by decide +kernel
theorem d_l_199 : decode code 199 = .ok (.iadd, 1) := by decide +kernel
theorem d_l_200 : decode code 200 = .ok (.iaload, 1) := by decide +kernel
theorem d_l_201 : decode code 201 = .ok (.aload_n 0, 1) := by decide +kernel
theorem d_l_202 : decode code 202 = .ok (.iload 4, 2) := by decide +kernel
theorem d_l_204 : decode code 204 = .ok (.bipush 7, 2) := by decide +kernel
theorem d_l_206 : decode code 206 = .ok (.iadd, 1) := by decide +kernel
theorem d_l_207 : decode code 207 = .ok (.iaload, 1) := by decide +kernel
theorem d_l_208 : decode code 208 = .ok (.ifCond .eq 7, 3) := by decide +kernel
theorem d_l_211 : decode code 211 = .ok (.iconst 1, 1) := by decide +kernel
theorem d_l_212 : decode code 212 = .ok (.goto 4, 3) := by decide +kernel
theorem d_l_215 : decode code 215 = .ok (.iconst 0, 1) := by decide +kernel
theorem d_l_216 : decode code 216 = .ok (.invokevirtual 52, 3) := by decide +kernel
theorem d_l_219 : decode code 219 = .ok (.istore 6, 2) := by decide +kernel
theorem d_l_221 : decode code 221 = .ok (.aload_n 2, 1) := by decide +kernel
theorem d_l_222 : decode code 222 = .ok (.invokevirtual 53, 3) := by decide +kernel
theorem d_l_225 : decode code 225 = .ok (.iload 5, 2) := by decide +kernel
theorem d_l_227 : decode code 227 = .ok (.if_icmp .eq 5, 3) := by decide +kernel
theorem d_l_230 : decode code 230 = .ok (.iconst 0, 1) := by decide +kernel
theorem d_l_231 : decode code 231 = .ok (.ireturn, 1) := by decide +kernel
theorem d_l_232 : decode code 232 = .ok (.iload 5, 2) := by decide +kernel
theorem d_l_234 : decode code 234 = .ok (.ifCond .ne 15, 3) := by decide +kernel
theorem d_l_237 : decode code 237 = .ok (.aload_n 3, 1) := by decide +kernel
theorem d_l_238 : decode code 238 = .ok (.iconst 0, 1) := by decide +kernel
theorem d_l_239 : decode code 239 = .ok (.laload, 1) := by decide +kernel
theorem d_l_240 : decode code 240 = .ok (.iload 6, 2) := by decide +kernel
theorem d_l_242 : decode code 242 = .ok (.i2l, 1) := by decide +kernel
theorem d_l_243 : decode code 243 = .ok (.lcmp, 1) := by decide +kernel
theorem d_l_244 : decode code 244 = .ok (.ifCond .eq 5, 3) := by decide +kernel
theorem d_l_247 : decode code 247 = .ok (.iconst 0, 1) := by decide +kernel
theorem d_l_248 : decode code 248 = .ok (.ireturn, 1) := by decide +kernel
theorem d_l_249 : decode code 249 = .ok (.goto 533, 3) := by decide +kernel
theorem d_l_252 : decode code 252 = .ok (.aload_n 1, 1) := by decide +kernel
theorem d_l_253 : decode code 253 = .ok (.aload_n 0, 1) := by decide +kernel
theorem d_l_254 : decode code 254 = .ok (.iload 4, 2) := by decide +kernel
theorem d_l_256 : decode code 256 = .ok (.iconst 1, 1) := by decide +kernel
theorem d_l_257 : decode code 257 = .ok (.iadd, 1) := by decide +kernel
theorem d_l_258 : decode code 258 = .ok (.iaload, 1) := by decide +kernel
theorem d_l_259 : decode code 259 = .ok (.aload_n 0, 1) := by decide +kernel
theorem d_l_260 : decode code 260 = .ok (.iload 4, 2) := by decide +kernel
theorem d_l_262 : decode code 262 = .ok (.iconst 2, 1) := by decide +kernel
theorem d_l_263 : decode code 263 = .ok (.iadd, 1) := by decide +kernel
theorem d_l_264 : decode code 264 = .ok (.iaload, 1) := by decide +kernel
theorem d_l_265 : decode code 265 = .ok (.aload_n 0, 1) := by decide +kernel
theorem d_l_266 : decode code 266 = .ok (.iload 4, 2) := by decide +kernel
theorem d_l_268 : decode code 268 = .ok (.iconst 3, 1) := by decide +kernel
theorem d_l_269 : decode code 269 = .ok (.iadd, 1) := by decide +kernel
theorem d_l_270 : decode code 270 = .ok (.iaload, 1) := by decide +kernel
theorem d_l_271 : decode code 271 = .ok (.aload_n 0, 1) := by decide +kernel
theorem d_l_272 : decode code 272 = .ok (.iload 4, 2) := by decide +kernel
theorem d_l_274 : decode code 274 = .ok (.iconst 4, 1) := by decide +kernel
theorem d_l_275 : decode code 275 = .ok (.iadd, 1) := by decide +kernel
theorem d_l_276 : decode code 276 = .ok (.iaload, 1) := by decide +kernel
theorem d_l_277 : decode code 277 = .ok (.aload_n 0, 1) := by decide +kernel
theorem d_l_278 : decode code 278 = .ok (.iload 4, 2) := by decide +kernel
theorem d_l_280 : decode code 280 = .ok (.iconst 5, 1) := by decide +kernel
theorem d_l_281 : decode code 281 = .ok (.iadd, 1) := by decide +kernel
theorem d_l_282 : decode code 282 = .ok (.iaload, 1) := by decide +kernel
theorem d_l_283 : decode code 283 = .ok (.aload_n 0, 1) := by decide +kernel
theorem d_l_284 : decode code 284 = .ok (.iload 4, 2) := by decide +kernel
theorem d_l_286 : decode code 286 = .ok (.bipush 6, 2) := by decide +kernel
theorem d_l_288 : decode code 288 = .ok (.iadd, 1) := by decide +kernel
theorem d_l_289 : decode code 289 = .ok (.iaload, 1) := by decide +kernel
theorem d_l_290 : decode code 290 = .ok (.ifCond .eq 7, 3) := by decide +kernel
theorem d_l_293 : decode code 293 = .ok (.iconst 1, 1) := by decide +kernel
theorem d_l_294 : decode code 294 = .ok (.goto 4, 3) := by decide +kernel
theorem d_l_297 : decode code 297 = .ok (.iconst 0, 1) := by decide +kernel
theorem d_l_298 : decode code 298 = .ok (.aload_n 0, 1) := by decide +kernel
theorem d_l_299 : decode code 299 = .ok (.iload 4, 2) := by decide +kernel
theorem d_l_301 : decode code 301 = .ok (.bipush 7, 2) := by decide +kernel
theorem d_l_303 : decode code 303 = .ok (.iadd, 1) := by decide +kernel
theorem d_l_304 : decode code 304 = .ok (.iaload, 1) := by decide +kernel
theorem d_l_305 : decode code 305 = .ok (.aload_n 0, 1) := by decide +kernel
theorem d_l_306 : decode code 306 = .ok (.iload 4, 2) := by decide +kernel
theorem d_l_308 : decode code 308 = .ok (.bipush 8, 2) := by decide +kernel
theorem d_l_310 : decode code 310 = .ok (.iadd, 1) := by decide +kernel
theorem d_l_311 : decode code 311 = .ok (.iaload, 1) := by decide +kernel
theorem d_l_312 : decode code 312 = .ok (.ifCond .eq 7, 3) := by decide +kernel
theorem d_l_315 : decode code 315 = .ok (.iconst 1, 1) := by decide +kernel
theorem d_l_316 : decode code 316 = .ok (.goto 4, 3) := by decide +kernel
theorem d_l_319 : decode code 319 = .ok (.iconst 0, 1) := by decide +kernel
theorem d_l_320 : decode code 320 = .ok (.invokestatic 57, 3) := by decide +kernel
theorem d_l_323 : decode code 323 = .ok (.istore 5, 2) := by decide +kernel
theorem d_l_325 : decode code 325 = .ok (.aload_n 2, 1) := by decide +kernel
theorem d_l_326 : decode code 326 = .ok (.aload_n 0, 1) := by decide +kernel
theorem d_l_327 : decode code 327 = .ok (.iload 4, 2) := by decide +kernel
theorem d_l_329 : decode code 329 = .ok (.iconst 1, 1) := by decide +kernel
theorem d_l_330 : decode code 330 = .ok (.iadd, 1) := by decide +kernel
theorem d_l_331 : decode code 331 = .ok (.iaload, 1) := by decide +kernel
theorem d_l_332 : decode code 332 = .ok (.aload_n 0, 1) := by decide +kernel
theorem d_l_333 : decode code 333 = .ok (.iload 4, 2) := by decide +kernel
theorem d_l_335 : decode code 335 = .ok (.iconst 2, 1) := by decide +kernel
theorem d_l_336 : decode code 336 = .ok (.iadd, 1) := by decide +kernel
theorem d_l_337 : decode code 337 = .ok (.iaload, 1) := by decide +kernel
theorem d_l_338 : decode code 338 = .ok (.aload_n 0, 1) := by decide +kernel
theorem d_l_339 : decode code 339 = .ok (.iload 4, 2) := by decide +kernel
theorem d_l_341 : decode code 341 = .ok (.iconst 3, 1) := by decide +kernel
theorem d_l_342 : decode code 342 = .ok (.iadd, 1) := by decide +kernel
theorem d_l_343 : decode code 343 = .ok (.iaload, 1) := by decide +kernel
theorem d_l_344 : decode code 344 = .ok (.aload_n 0, 1) := by decide +kernel
theorem d_l_345 : decode code 345 = .ok (.iload 4, 2) := by decide +kernel
theorem d_l_347 : decode code 347 = .ok (.iconst 4, 1) := by decide +kernel
theorem d_l_348 : decode code 348 = .ok (.iadd, 1) := by decide +kernel
theorem d_l_349 : decode code 349 = .ok (.iaload, 1) := by decide +kernel
theorem d_l_350 : decode code 350 = .ok (.aload_n 0, 1) := by decide +kernel
theorem d_l_351 : decode code 351 = .ok (.iload 4, 2) := by decide +kernel
theorem d_l_353 : decode code 353 = .ok (.iconst 5, 1) := by decide +kernel
theorem d_l_354 : decode code 354 = .ok (.iadd, 1) := by decide +kernel
theorem d_l_355 : decode code 355 = .ok (.iaload, 1) := by decide +kernel
theorem d_l_356 : decode code 356 = .ok (.aload_n 0, 1) := by decide +kernel
theorem d_l_357 : decode code 357 = .ok (.iload 4, 2) := by decide +kernel
theorem d_l_359 : decode code 359 = .ok (.bipush 6, 2) := by decide +kernel
theorem d_l_361 : decode code 361 = .ok (.iadd, 1) := by decide +kernel
theorem d_l_362 : decode code 362 = .ok (.iaload, 1) := by decide +kernel
theorem d_l_363 : decode code 363 = .ok (.ifCond .eq 7, 3) := by decide +kernel
theorem d_l_366 : decode code 366 = .ok (.iconst 1, 1) := by decide +kernel
theorem d_l_367 : decode code 367 = .ok (.goto 4, 3) := by decide +kernel
theorem d_l_370 : decode code 370 = .ok (.iconst 0, 1) := by decide +kernel
theorem d_l_371 : decode code 371 = .ok (.aload_n 0, 1) := by decide +kernel
theorem d_l_372 : decode code 372 = .ok (.iload 4, 2) := by decide +kernel
theorem d_l_374 : decode code 374 = .ok (.bipush 7, 2) := by decide +kernel
theorem d_l_376 : decode code 376 = .ok (.iadd, 1) := by decide +kernel
theorem d_l_377 : decode code 377 = .ok (.iaload, 1) := by decide +kernel
theorem d_l_378 : decode code 378 = .ok (.aload_n 0, 1) := by decide +kernel
theorem d_l_379 : decode code 379 = .ok (.iload 4, 2) := by decide +kernel
theorem d_l_381 : decode code 381 = .ok (.bipush 8, 2) := by decide +kernel
theorem d_l_383 : decode code 383 = .ok (.iadd, 1) := by decide +kernel
theorem d_l_384 : decode code 384 = .ok (.iaload, 1) := by decide +kernel
theorem d_l_385 : decode code 385 = .ok (.ifCond .eq 7, 3) := by decide +kernel
theorem d_l_388 : decode code 388 = .ok (.iconst 1, 1) := by decide +kernel
theorem d_l_389 : decode code 389 = .ok (.goto 4, 3) := by decide +kernel
theorem d_l_392 : decode code 392 = .ok (.iconst 0, 1) := by decide +kernel
theorem d_l_393 : decode code 393 = .ok (.invokevirtual 60, 3) := by decide +kernel
theorem d_l_396 : decode code 396 = .ok (.aload_n 2, 1) := by decide +kernel
theorem d_l_397 : decode code 397 = .ok (.invokevirtual 53, 3) := by decide +kernel
theorem d_l_400 : decode code 400 = .ok (.iload 5, 2) := by decide +kernel
theorem d_l_402 : decode code 402 = .ok (.if_icmp .eq 5, 3) := by decide +kernel
theorem d_l_405 : decode code 405 = .ok (.iconst 0, 1) := by decide +kernel
theorem d_l_406 : decode code 406 = .ok (.ireturn, 1) := by decide +kernel
theorem d_l_407 : decode code 407 = .ok (.goto 375, 3) := by decide +kernel
theorem d_l_410 : decode code 410 = .ok (.aload_n 1, 1) := by decide +kernel
theorem d_l_411 : decode code 411 = .ok (.aload_n 0, 1) := by decide +kernel
theorem d_l_412 : decode code 412 = .ok (.iload 4, 2) := by decide +kernel
theorem d_l_414 : decode code 414 = .ok (.iconst 1, 1) := by decide +kernel
theorem d_l_415 : decode code 415 = .ok (.iadd, 1) := by decide +kernel
theorem d_l_416 : decode code 416 = .ok (.iaload, 1) := by decide +kernel
theorem d_l_417 : decode code 417 = .ok (.aload_n 3, 1) := by decide +kernel
theorem d_l_418 : decode code 418 = .ok (.invokestatic 61, 3) := by decide +kernel
theorem d_l_421 : decode code 421 = .ok (.istore 5, 2) := by decide +kernel
theorem d_l_423 : decode code 423 = .ok (.aload_n 2, 1) := by decide +kernel
theorem d_l_424 : decode code 424 = .ok (.aload_n 0, 1) := by decide +kernel
theorem d_l_425 : decode code 425 = .ok (.iload 4, 2) := by decide +kernel
theorem d_l_427 : decode code 427 = .ok (.iconst 1, 1) := by decide +kernel
theorem d_l_428 : decode code 428 = .ok (.iadd, 1) := by decide +kernel
theorem d_l_429 : decode code 429 = .ok (.iaload, 1) := by decide +kernel
theorem d_l_430 : decode code 430 = .ok (.invokevirtual 64, 3) := by decide +kernel
theorem d_l_433 : decode code 433 = .ok (.istore 6, 2) := by decide +kernel
theorem d_l_435 : decode code 435 = .ok (.aload_n 2, 1) := by decide +kernel
theorem d_l_436 : decode code 436 = .ok (.invokevirtual 53, 3) := by decide +kernel
theorem d_l_439 : decode code 439 = .ok (.iload 5, 2) := by decide +kernel
theorem d_l_441 : decode code 441 = .ok (.if_icmp .eq 5, 3) := by decide +kernel
theorem d_l_444 : decode code 444 = .ok (.iconst 0, 1) := by decide +kernel
theorem d_l_445 : decode code 445 = .ok (.ireturn, 1) := by decide +kernel
theorem d_l_446 : decode code 446 = .ok (.iload 5, 2) := by decide +kernel
theorem d_l_448 : decode code 448 = .ok (.ifCond .ne 15, 3) := by decide +kernel
theorem d_l_451 : decode code 451 = .ok (.aload_n 3, 1) := by decide +kernel
theorem d_l_452 : decode code 452 = .ok (.iconst 0, 1) := by decide +kernel
theorem d_l_453 : decode code 453 = .ok (.laload, 1) := by decide +kernel
theorem d_l_454 : decode code 454 = .ok (.iload 6, 2) := by decide +kernel
theorem d_l_456 : decode code 456 = .ok (.i2l, 1) := by decide +kernel
theorem d_l_457 : decode code 457 = .ok (.lcmp, 1) := by decide +kernel
theorem d_l_458 : decode code 458 = .ok (.ifCond .eq 5, 3) := by decide +kernel
theorem d_l_461 : decode code 461 = .ok (.iconst 0, 1) := by decide +kernel
theorem d_l_462 : decode code 462 = .ok (.ireturn, 1) := by decide +kernel
theorem d_l_463 : decode code 463 = .ok (.goto 319, 3) := by decide +kernel
theorem d_l_466 : decode code 466 = .ok (.aload_n 1, 1) := by decide +kernel
theorem d_l_467 : decode code 467 = .ok (.aload_n 0, 1) := by decide +kernel
theorem d_l_468 : decode code 468 = .ok (.iload 4, 2) := by decide +kernel
theorem d_l_470 : decode code 470 = .ok (.iconst 1, 1) := by decide +kernel
theorem d_l_471 : decode code 471 = .ok (.iadd, 1) := by decide +kernel
theorem d_l_472 : decode code 472 = .ok (.iaload, 1) := by decide +kernel
theorem d_l_473 : decode code 473 = .ok (.aload_n 0, 1) := by decide +kernel
theorem d_l_474 : decode code 474 = .ok (.iload 4, 2) := by decide +kernel
theorem d_l_476 : decode code 476 = .ok (.iconst 2, 1) := by decide +kernel
theorem d_l_477 : decode code 477 = .ok (.iadd, 1) := by decide +kernel
theorem d_l_478 : decode code 478 = .ok (.iaload, 1) := by decide +kernel
theorem d_l_479 : decode code 479 = .ok (.aload_n 3, 1) := by decide +kernel
theorem d_l_480 : decode code 480 = .ok (.invokestatic 65, 3) := by decide +kernel
theorem d_l_483 : decode code 483 = .ok (.istore 5, 2) := by decide +kernel
theorem d_l_485 : decode code 485 = .ok (.aload_n 2, 1) := by decide +kernel
theorem d_l_486 : decode code 486 = .ok (.aload_n 0, 1) := by decide +kernel
theorem d_l_487 : decode code 487 = .ok (.iload 4, 2) := by decide +kernel
theorem d_l_489 : decode code 489 = .ok (.iconst 1, 1) := by decide +kernel
theorem d_l_490 : decode code 490 = .ok (.iadd, 1) := by decide +kernel
theorem d_l_491 : decode code 491 = .ok (.iaload, 1) := by decide +kernel
theorem d_l_492 : decode code 492 = .ok (.aload_n 0, 1) := by decide +kernel
theorem d_l_493 : decode code 493 = .ok (.iload 4, 2) := by decide +kernel
theorem d_l_495 : decode code 495 = .ok (.iconst 2, 1) := by decide +kernel
theorem d_l_496 : decode code 496 = .ok (.iadd, 1) := by decide +kernel
theorem d_l_497 : decode code 497 = .ok (.iaload, 1) := by decide +kernel
theorem d_l_498 : decode code 498 = .ok (.invokevirtual 68, 3) := by decide +kernel
theorem d_l_501 : decode code 501 = .ok (.istore 6, 2) := by decide +kernel
theorem d_l_503 : decode code 503 = .ok (.aload_n 2, 1) := by decide +kernel
theorem d_l_504 : decode code 504 = .ok (.invokevirtual 53, 3) := by decide +kernel
theorem d_l_507 : decode code 507 = .ok (.iload 5, 2) := by decide +kernel
theorem d_l_509 : decode code 509 = .ok (.if_icmp .eq 5, 3) := by decide +kernel
theorem d_l_512 : decode code 512 = .ok (.iconst 0, 1) := by decide +kernel
theorem d_l_513 : decode code 513 = .ok (.ireturn, 1) := by decide +kernel
theorem d_l_514 : decode code 514 = .ok (.iload 5, 2) := by decide +kernel
theorem d_l_516 : decode code 516 = .ok (.ifCond .ne 15, 3) := by decide +kernel
theorem d_l_519 : decode code 519 = .ok (.aload_n 3, 1) := by decide +kernel
theorem d_l_520 : decode code 520 = .ok (.iconst 0, 1) := by decide +kernel
theorem d_l_521 : decode code 521 = .ok (.laload, 1) := by decide +kernel
theorem d_l_522 : decode code 522 = .ok (.iload 6, 2) := by decide +kernel
theorem d_l_524 : decode code 524 = .ok (.i2l, 1) := by decide +kernel
theorem d_l_525 : decode code 525 = .ok (.lcmp, 1) := by decide +kernel
theorem d_l_526 : decode code 526 = .ok (.ifCond .eq 5, 3) := by decide +kernel
theorem d_l_529 : decode code 529 = .ok (.iconst 0, 1) := by decide +kernel
theorem d_l_530 : decode code 530 = .ok (.ireturn, 1) := by decide +kernel
theorem d_l_531 : decode code 531 = .ok (.goto 251, 3) := by decide +kernel
theorem d_l_534 : decode code 534 = .ok (.aload_n 1, 1) := by decide +kernel
theorem d_l_535 : decode code 535 = .ok (.aload_n 0, 1) := by decide +kernel
theorem d_l_536 : decode code 536 = .ok (.iload 4, 2) := by decide +kernel
theorem d_l_538 : decode code 538 = .ok (.iconst 1, 1) := by decide +kernel
theorem d_l_539 : decode code 539 = .ok (.iadd, 1) := by decide +kernel
theorem d_l_540 : decode code 540 = .ok (.iaload, 1) := by decide +kernel
theorem d_l_541 : decode code 541 = .ok (.aload_n 0, 1) := by decide +kernel
theorem d_l_542 : decode code 542 = .ok (.iload 4, 2) := by decide +kernel
theorem d_l_544 : decode code 544 = .ok (.iconst 2, 1) := by decide +kernel
theorem d_l_545 : decode code 545 = .ok (.iadd, 1) := by decide +kernel
theorem d_l_546 : decode code 546 = .ok (.iaload, 1) := by decide +kernel
theorem d_l_547 : decode code 547 = .ok (.aload_n 3, 1) := by decide +kernel
theorem d_l_548 : decode code 548 = .ok (.invokestatic 69, 3) := by decide +kernel
theorem d_l_551 : decode code 551 = .ok (.istore 5, 2) := by decide +kernel
theorem d_l_553 : decode code 553 = .ok (.aload_n 2, 1) := by decide +kernel
theorem d_l_554 : decode code 554 = .ok (.aload_n 0, 1) := by decide +kernel
theorem d_l_555 : decode code 555 = .ok (.iload 4, 2) := by decide +kernel
theorem d_l_557 : decode code 557 = .ok (.iconst 1, 1) := by decide +kernel
theorem d_l_558 : decode code 558 = .ok (.iadd, 1) := by decide +kernel
theorem d_l_559 : decode code 559 = .ok (.iaload, 1) := by decide +kernel
theorem d_l_560 : decode code 560 = .ok (.aload_n 0, 1) := by decide +kernel
theorem d_l_561 : decode code 561 = .ok (.iload 4, 2) := by decide +kernel
theorem d_l_563 : decode code 563 = .ok (.iconst 2, 1) := by decide +kernel
theorem d_l_564 : decode code 564 = .ok (.iadd, 1) := by decide +kernel
theorem d_l_565 : decode code 565 = .ok (.iaload, 1) := by decide +kernel
theorem d_l_566 : decode code 566 = .ok (.invokevirtual 71, 3) := by decide +kernel
theorem d_l_569 : decode code 569 = .ok (.istore 6, 2) := by decide +kernel
theorem d_l_571 : decode code 571 = .ok (.aload_n 2, 1) := by decide +kernel
theorem d_l_572 : decode code 572 = .ok (.invokevirtual 53, 3) := by decide +kernel
theorem d_l_575 : decode code 575 = .ok (.iload 5, 2) := by decide +kernel
theorem d_l_577 : decode code 577 = .ok (.if_icmp .eq 5, 3) := by decide +kernel
theorem d_l_580 : decode code 580 = .ok (.iconst 0, 1) := by decide +kernel
theorem d_l_581 : decode code 581 = .ok (.ireturn, 1) := by decide +kernel
theorem d_l_582 : decode code 582 = .ok (.iload 5, 2) := by decide +kernel
theorem d_l_584 : decode code 584 = .ok (.ifCond .ne 15, 3) := by decide +kernel
theorem d_l_587 : decode code 587 = .ok (.aload_n 3, 1) := by decide +kernel
theorem d_l_588 : decode code 588 = .ok (.iconst 0, 1) := by decide +kernel
theorem d_l_589 : decode code 589 = .ok (.laload, 1) := by decide +kernel
theorem d_l_590 : decode code 590 = .ok (.iload 6, 2) := by decide +kernel
theorem d_l_592 : decode code 592 = .ok (.i2l, 1) := by decide +kernel
theorem d_l_593 : decode code 593 = .ok (.lcmp, 1) := by decide +kernel
theorem d_l_594 : decode code 594 = .ok (.ifCond .eq 5, 3) := by decide +kernel
theorem d_l_597 : decode code 597 = .ok (.iconst 0, 1) := by decide +kernel
theorem d_l_598 : decode code 598 = .ok (.ireturn, 1) := by decide +kernel
theorem d_l_599 : decode code 599 = .ok (.goto 183, 3) := by decide +kernel
theorem d_l_602 : decode code 602 = .ok (.aload_n 1, 1) := by decide +kernel
theorem d_l_603 : decode code 603 = .ok (.aload_n 0, 1) := by decide +kernel
theorem d_l_604 : decode code 604 = .ok (.iload 4, 2) := by decide +kernel
theorem d_l_606 : decode code 606 = .ok (.iconst 1, 1) := by decide +kernel
theorem d_l_607 : decode code 607 = .ok (.iadd, 1) := by decide +kernel
theorem d_l_608 : decode code 608 = .ok (.iaload, 1) := by decide +kernel
theorem d_l_609 : decode code 609 = .ok (.aload_n 3, 1) := by decide +kernel
theorem d_l_610 : decode code 610 = .ok (.invokestatic 72, 3) := by decide +kernel
theorem d_l_613 : decode code 613 = .ok (.istore 5, 2) := by decide +kernel
theorem d_l_615 : decode code 615 = .ok (.aload_n 2, 1) := by decide +kernel
theorem d_l_616 : decode code 616 = .ok (.aload_n 0, 1) := by decide +kernel
theorem d_l_617 : decode code 617 = .ok (.iload 4, 2) := by decide +kernel
theorem d_l_619 : decode code 619 = .ok (.iconst 1, 1) := by decide +kernel
theorem d_l_620 : decode code 620 = .ok (.iadd, 1) := by decide +kernel
theorem d_l_621 : decode code 621 = .ok (.iaload, 1) := by decide +kernel
theorem d_l_622 : decode code 622 = .ok (.invokevirtual 74, 3) := by decide +kernel
theorem d_l_625 : decode code 625 = .ok (.istore 6, 2) := by decide +kernel
theorem d_l_627 : decode code 627 = .ok (.aload_n 2, 1) := by decide +kernel
theorem d_l_628 : decode code 628 = .ok (.invokevirtual 53, 3) := by decide +kernel
theorem d_l_631 : decode code 631 = .ok (.iload 5, 2) := by decide +kernel
theorem d_l_633 : decode code 633 = .ok (.if_icmp .eq 5, 3) := by decide +kernel
theorem d_l_636 : decode code 636 = .ok (.iconst 0, 1) := by decide +kernel
theorem d_l_637 : decode code 637 = .ok (.ireturn, 1) := by decide +kernel
theorem d_l_638 : decode code 638 = .ok (.iload 5, 2) := by decide +kernel
theorem d_l_640 : decode code 640 = .ok (.ifCond .ne 15, 3) := by decide +kernel
theorem d_l_643 : decode code 643 = .ok (.aload_n 3, 1) := by decide +kernel
theorem d_l_644 : decode code 644 = .ok (.iconst 0, 1) := by decide +kernel
theorem d_l_645 : decode code 645 = .ok (.laload, 1) := by decide +kernel
theorem d_l_646 : decode code 646 = .ok (.iload 6, 2) := by decide +kernel
theorem d_l_648 : decode code 648 = .ok (.i2l, 1) := by decide +kernel
theorem d_l_649 : decode code 649 = .ok (.lcmp, 1) := by decide +kernel
theorem d_l_650 : decode code 650 = .ok (.ifCond .eq 5, 3) := by decide +kernel
theorem d_l_653 : decode code 653 = .ok (.iconst 0, 1) := by decide +kernel
theorem d_l_654 : decode code 654 = .ok (.ireturn, 1) := by decide +kernel
theorem d_l_655 : decode code 655 = .ok (.goto 127, 3) := by decide +kernel
theorem d_l_658 : decode code 658 = .ok (.aload_n 1, 1) := by decide +kernel
theorem d_l_659 : decode code 659 = .ok (.aload_n 0, 1) := by decide +kernel
theorem d_l_660 : decode code 660 = .ok (.iload 4, 2) := by decide +kernel
theorem d_l_662 : decode code 662 = .ok (.iconst 1, 1) := by decide +kernel
theorem d_l_663 : decode code 663 = .ok (.iadd, 1) := by decide +kernel
theorem d_l_664 : decode code 664 = .ok (.iaload, 1) := by decide +kernel
theorem d_l_665 : decode code 665 = .ok (.aload_n 0, 1) := by decide +kernel
theorem d_l_666 : decode code 666 = .ok (.iload 4, 2) := by decide +kernel
theorem d_l_668 : decode code 668 = .ok (.iconst 2, 1) := by decide +kernel
theorem d_l_669 : decode code 669 = .ok (.iadd, 1) := by decide +kernel
theorem d_l_670 : decode code 670 = .ok (.iaload, 1) := by decide +kernel
theorem d_l_671 : decode code 671 = .ok (.aload_n 3, 1) := by decide +kernel
theorem d_l_672 : decode code 672 = .ok (.invokestatic 75, 3) := by decide +kernel
theorem d_l_675 : decode code 675 = .ok (.istore 5, 2) := by decide +kernel
theorem d_l_677 : decode code 677 = .ok (.aload_n 2, 1) := by decide +kernel
theorem d_l_678 : decode code 678 = .ok (.aload_n 0, 1) := by decide +kernel
theorem d_l_679 : decode code 679 = .ok (.iload 4, 2) := by decide +kernel
theorem d_l_681 : decode code 681 = .ok (.iconst 1, 1) := by decide +kernel
theorem d_l_682 : decode code 682 = .ok (.iadd, 1) := by decide +kernel
theorem d_l_683 : decode code 683 = .ok (.iaload, 1) := by decide +kernel
theorem d_l_684 : decode code 684 = .ok (.aload_n 0, 1) := by decide +kernel
theorem d_l_685 : decode code 685 = .ok (.iload 4, 2) := by decide +kernel
theorem d_l_687 : decode code 687 = .ok (.iconst 2, 1) := by decide +kernel
theorem d_l_688 : decode code 688 = .ok (.iadd, 1) := by decide +kernel
theorem d_l_689 : decode code 689 = .ok (.iaload, 1) := by decide +kernel
theorem d_l_690 : decode code 690 = .ok (.invokevirtual 77, 3) := by decide +kernel
theorem d_l_693 : decode code 693 = .ok (.istore 6, 2) := by decide +kernel
theorem d_l_695 : decode code 695 = .ok (.aload_n 2, 1) := by decide +kernel
theorem d_l_696 : decode code 696 = .ok (.invokevirtual 53, 3) := by decide +kernel
theorem d_l_699 : decode code 699 = .ok (.iload 5, 2) := by decide +kernel
theorem d_l_701 : decode code 701 = .ok (.if_icmp .eq 5, 3) := by decide +kernel
theorem d_l_704 : decode code 704 = .ok (.iconst 0, 1) := by decide +kernel
theorem d_l_705 : decode code 705 = .ok (.ireturn, 1) := by decide +kernel
theorem d_l_706 : decode code 706 = .ok (.iload 5, 2) := by decide +kernel
theorem d_l_708 : decode code 708 = .ok (.ifCond .ne 15, 3) := by decide +kernel
theorem d_l_711 : decode code 711 = .ok (.aload_n 3, 1) := by decide +kernel
theorem d_l_712 : decode code 712 = .ok (.iconst 0, 1) := by decide +kernel
theorem d_l_713 : decode code 713 = .ok (.laload, 1) := by decide +kernel
theorem d_l_714 : decode code 714 = .ok (.iload 6, 2) := by decide +kernel
theorem d_l_716 : decode code 716 = .ok (.i2l, 1) := by decide +kernel
theorem d_l_717 : decode code 717 = .ok (.lcmp, 1) := by decide +kernel
theorem d_l_718 : decode code 718 = .ok (.ifCond .eq 5, 3) := by decide +kernel
theorem d_l_721 : decode code 721 = .ok (.iconst 0, 1) := by decide +kernel
theorem d_l_722 : decode code 722 = .ok (.ireturn, 1) := by decide +kernel
theorem d_l_723 : decode code 723 = .ok (.goto 59, 3) := by decide +kernel
theorem d_l_726 : decode code 726 = .ok (.aload_n 1, 1) := by decide +kernel
theorem d_l_727 : decode code 727 = .ok (.aload_n 0, 1) := by decide +kernel
theorem d_l_728 : decode code 728 = .ok (.iload 4, 2) := by decide +kernel
theorem d_l_730 : decode code 730 = .ok (.iconst 1, 1) := by decide +kernel
theorem d_l_731 : decode code 731 = .ok (.iadd, 1) := by decide +kernel
theorem d_l_732 : decode code 732 = .ok (.iaload, 1) := by decide +kernel
theorem d_l_733 : decode code 733 = .ok (.aload_n 3, 1) := by decide +kernel
theorem d_l_734 : decode code 734 = .ok (.invokestatic 78, 3) := by decide +kernel
theorem d_l_737 : decode code 737 = .ok (.istore 5, 2) := by decide +kernel
theorem d_l_739 : decode code 739 = .ok (.aload_n 2, 1) := by decide +kernel
theorem d_l_740 : decode code 740 = .ok (.aload_n 0, 1) := by decide +kernel
theorem d_l_741 : decode code 741 = .ok (.iload 4, 2) := by decide +kernel
theorem d_l_743 : decode code 743 = .ok (.iconst 1, 1) := by decide +kernel
theorem d_l_744 : decode code 744 = .ok (.iadd, 1) := by decide +kernel
theorem d_l_745 : decode code 745 = .ok (.iaload, 1) := by decide +kernel
theorem d_l_746 : decode code 746 = .ok (.invokevirtual 80, 3) := by decide +kernel
theorem d_l_749 : decode code 749 = .ok (.istore 6, 2) := by decide +kernel
theorem d_l_751 : decode code 751 = .ok (.aload_n 2, 1) := by decide +kernel
theorem d_l_752 : decode code 752 = .ok (.invokevirtual 53, 3) := by decide +kernel
theorem d_l_755 : decode code 755 = .ok (.iload 5, 2) := by decide +kernel
theorem d_l_757 : decode code 757 = .ok (.if_icmp .eq 5, 3) := by decide +kernel
theorem d_l_760 : decode code 760 = .ok (.iconst 0, 1) := by decide +kernel
theorem d_l_761 : decode code 761 = .ok (.ireturn, 1) := by decide +kernel
theorem d_l_762 : decode code 762 = .ok (.iload 5, 2) := by decide +kernel
theorem d_l_764 : decode code 764 = .ok (.ifCond .ne 15, 3) := by decide +kernel
theorem d_l_767 : decode code 767 = .ok (.aload_n 3, 1) := by decide +kernel
theorem d_l_768 : decode code 768 = .ok (.iconst 0, 1) := by decide +kernel
theorem d_l_769 : decode code 769 = .ok (.laload, 1) := by decide +kernel
theorem d_l_770 : decode code 770 = .ok (.iload 6, 2) := by decide +kernel
theorem d_l_772 : decode code 772 = .ok (.i2l, 1) := by decide +kernel
theorem d_l_773 : decode code 773 = .ok (.lcmp, 1) := by decide +kernel
theorem d_l_774 : decode code 774 = .ok (.ifCond .eq 5, 3) := by decide +kernel
theorem d_l_777 : decode code 777 = .ok (.iconst 0, 1) := by decide +kernel
theorem d_l_778 : decode code 778 = .ok (.ireturn, 1) := by decide +kernel
theorem d_l_779 : decode code 779 = .ok (.goto 3, 3) := by decide +kernel
theorem d_l_782 : decode code 782 = .ok (.iinc 4 9, 3) := by decide +kernel
theorem d_l_785 : decode code 785 = .ok (.goto (-762), 3) := by decide +kernel
theorem d_l_788 : decode code 788 = .ok (.iconst 1, 1) := by decide +kernel
theorem d_l_789 : decode code 789 = .ok (.ireturn, 1) := by decide +kernel
end
section
/-- a private method of a class that can be made, by its rows of tables_1 (starting text: the skeleton, PART A) -/
def lw_okq (q : MethodName × Nat) : Prop := (q.1.cls ≠ "java/lang/invoke/MethodHandle" ∧ q.1.cls ≠ "java/lang/invoke/VarHandle") ∧ Cond.instantiable q.1.cls q.2 ∈ tables_1 ∧ Cond.privateMethod q.1 ∈ tables_1 ∧ Cond.instanceMethod q.1 ∈ tables_1
theorem lw_p0 : lw_okq (⟨"java/lang/Throwable", "fillInStackTrace", "(I)Ljava/lang/Throwable;"⟩, 6) := ⟨⟨by decide +kernel, by decide +kernel⟩, List.mem_of_getElem? (i := 127) (by decide +kernel), List.mem_of_getElem? (i := 125) (by decide +kernel), List.mem_of_getElem? (i := 126) (by decide +kernel)⟩
theorem lw_p1 : lw_okq (⟨"StageClock", "set", "(IIIIIZIZ)V"⟩, 3) := ⟨⟨by decide +kernel, by decide +kernel⟩, List.mem_of_getElem? (i := 12) (by decide +kernel), List.mem_of_getElem? (i := 167) (by decide +kernel), List.mem_of_getElem? (i := 168) (by decide +kernel)⟩
theorem lw_p2 : lw_okq (⟨"StageClock", "step", "(I)LStageClock$Step;"⟩, 3) := ⟨⟨by decide +kernel, by decide +kernel⟩, List.mem_of_getElem? (i := 12) (by decide +kernel), List.mem_of_getElem? (i := 211) (by decide +kernel), List.mem_of_getElem? (i := 212) (by decide +kernel)⟩
theorem lw_p3 : lw_okq (⟨"StageClock", "work", "(I)V"⟩, 3) := ⟨⟨by decide +kernel, by decide +kernel⟩, List.mem_of_getElem? (i := 12) (by decide +kernel), List.mem_of_getElem? (i := 215) (by decide +kernel), List.mem_of_getElem? (i := 216) (by decide +kernel)⟩
theorem lw_p4 : lw_okq (⟨"StageClock", "there", "(LStageClock$Step;I)I"⟩, 3) := ⟨⟨by decide +kernel, by decide +kernel⟩, List.mem_of_getElem? (i := 12) (by decide +kernel), List.mem_of_getElem? (i := 226) (by decide +kernel), List.mem_of_getElem? (i := 227) (by decide +kernel)⟩
theorem lw_p5 : lw_okq (⟨"StageClockModel", "fails", "(ZI)Z"⟩, 15) := ⟨⟨by decide +kernel, by decide +kernel⟩, List.mem_of_getElem? (i := 268) (by decide +kernel), List.mem_of_getElem? (i := 332) (by decide +kernel), List.mem_of_getElem? (i := 333) (by decide +kernel)⟩
theorem lw_p6 : lw_okq (⟨"StageClockModel", "give", "(IIIIIZIZ)V"⟩, 15) := ⟨⟨by decide +kernel, by decide +kernel⟩, List.mem_of_getElem? (i := 268) (by decide +kernel), List.mem_of_getElem? (i := 336) (by decide +kernel), List.mem_of_getElem? (i := 337) (by decide +kernel)⟩
theorem lw_p7 : lw_okq (⟨"StageClockModel", "reckon", "()V"⟩, 15) := ⟨⟨by decide +kernel, by decide +kernel⟩, List.mem_of_getElem? (i := 268) (by decide +kernel), List.mem_of_getElem? (i := 352) (by decide +kernel), List.mem_of_getElem? (i := 353) (by decide +kernel)⟩
theorem lw_p8 : lw_okq (⟨"StageClockModel", "xe", "(I)I"⟩, 15) := ⟨⟨by decide +kernel, by decide +kernel⟩, List.mem_of_getElem? (i := 268) (by decide +kernel), List.mem_of_getElem? (i := 356) (by decide +kernel), List.mem_of_getElem? (i := 357) (by decide +kernel)⟩
theorem lw_p9 : lw_okq (⟨"StageClockModel", "behind", "(II)I"⟩, 15) := ⟨⟨by decide +kernel, by decide +kernel⟩, List.mem_of_getElem? (i := 268) (by decide +kernel), List.mem_of_getElem? (i := 363) (by decide +kernel), List.mem_of_getElem? (i := 364) (by decide +kernel)⟩
theorem lw_p10 : lw_okq (⟨"StageClockModel", "before", "(II)I"⟩, 15) := ⟨⟨by decide +kernel, by decide +kernel⟩, List.mem_of_getElem? (i := 268) (by decide +kernel), List.mem_of_getElem? (i := 367) (by decide +kernel), List.mem_of_getElem? (i := 368) (by decide +kernel)⟩
theorem lw_p11 : lw_okq (⟨"StageClockModel", "me", "(I)I"⟩, 15) := ⟨⟨by decide +kernel, by decide +kernel⟩, List.mem_of_getElem? (i := 268) (by decide +kernel), List.mem_of_getElem? (i := 371) (by decide +kernel), List.mem_of_getElem? (i := 372) (by decide +kernel)⟩
theorem lw_p12 : lw_okq (⟨"StageClockModel", "from", "(II)I"⟩, 15) := ⟨⟨by decide +kernel, by decide +kernel⟩, List.mem_of_getElem? (i := 268) (by decide +kernel), List.mem_of_getElem? (i := 379) (by decide +kernel), List.mem_of_getElem? (i := 380) (by decide +kernel)⟩
def lw_privs_1 : List (MethodName × Nat) := [(⟨"java/lang/Throwable", "fillInStackTrace", "(I)Ljava/lang/Throwable;"⟩, 6), (⟨"StageClock", "set", "(IIIIIZIZ)V"⟩, 3), (⟨"StageClock", "step", "(I)LStageClock$Step;"⟩, 3), (⟨"StageClock", "work", "(I)V"⟩, 3), (⟨"StageClock", "there", "(LStageClock$Step;I)I"⟩, 3), (⟨"StageClockModel", "fails", "(ZI)Z"⟩, 15), (⟨"StageClockModel", "give", "(IIIIIZIZ)V"⟩, 15), (⟨"StageClockModel", "reckon", "()V"⟩, 15), (⟨"StageClockModel", "xe", "(I)I"⟩, 15), (⟨"StageClockModel", "behind", "(II)I"⟩, 15), (⟨"StageClockModel", "before", "(II)I"⟩, 15), (⟨"StageClockModel", "me", "(I)I"⟩, 15), (⟨"StageClockModel", "from", "(II)I"⟩, 15)]
theorem lw_r1 : ∀ q ∈ lw_privs_1, lw_okq q := List.forall_mem_cons.mpr ⟨lw_p0, List.forall_mem_cons.mpr ⟨lw_p1, List.forall_mem_cons.mpr ⟨lw_p2, List.forall_mem_cons.mpr ⟨lw_p3, List.forall_mem_cons.mpr ⟨lw_p4, List.forall_mem_cons.mpr ⟨lw_p5, List.forall_mem_cons.mpr ⟨lw_p6, List.forall_mem_cons.mpr ⟨lw_p7, List.forall_mem_cons.mpr ⟨lw_p8, List.forall_mem_cons.mpr ⟨lw_p9, List.forall_mem_cons.mpr ⟨lw_p10, List.forall_mem_cons.mpr ⟨lw_p11, List.forall_mem_cons.mpr ⟨lw_p12, fun _ h => absurd h List.not_mem_nil⟩⟩⟩⟩⟩⟩⟩⟩⟩⟩⟩⟩⟩
def lw_privs : List (MethodName × Nat) := lw_privs_1
def lw_tbl : List Cond := k2_sels lw_privs ++ tables_1
theorem lw_privs_ok : ∀ q ∈ lw_privs, lw_okq q := lw_r1

theorem tw_0 : (Jvm.Cond.initialized "StageClockLaw") ∈ lw_tbl := List.mem_append_right _ (List.mem_append_left _ (List.mem_of_getElem? (i := 0) rfl))
theorem tw_1 : (Jvm.Cond.initialized "StageClock") ∈ lw_tbl := List.mem_append_right _ (List.mem_append_left _ (List.mem_of_getElem? (i := 1) rfl))
theorem tw_2 : (Jvm.Cond.initialized "StageClock$Step") ∈ lw_tbl := List.mem_append_right _ (List.mem_append_left _ (List.mem_of_getElem? (i := 2) rfl))
theorem tw_3 : (Jvm.Cond.initialized "StageClockModel") ∈ lw_tbl := List.mem_append_right _ (List.mem_append_left _ (List.mem_of_getElem? (i := 3) rfl))
theorem tw_4 : (Jvm.Cond.initialized "java/lang/Throwable") ∈ lw_tbl := List.mem_append_right _ (List.mem_append_left _ (List.mem_of_getElem? (i := 4) rfl))
theorem tw_5 : (Jvm.Cond.initialized "java/lang/Exception") ∈ lw_tbl := List.mem_append_right _ (List.mem_append_left _ (List.mem_of_getElem? (i := 5) rfl))
theorem tw_6 : (Jvm.Cond.initialized "java/lang/RuntimeException") ∈ lw_tbl := List.mem_append_right _ (List.mem_append_left _ (List.mem_of_getElem? (i := 6) rfl))
theorem tw_7 : (Jvm.Cond.initialized "java/lang/IllegalArgumentException") ∈ lw_tbl := List.mem_append_right _ (List.mem_append_left _ (List.mem_of_getElem? (i := 7) rfl))
theorem tw_8 : (Jvm.Cond.initialized "java/lang/IllegalStateException") ∈ lw_tbl := List.mem_append_right _ (List.mem_append_left _ (List.mem_of_getElem? (i := 8) rfl))
theorem tw_9 : (Jvm.Cond.initialized "java/lang/Math") ∈ lw_tbl := List.mem_append_right _ (List.mem_append_left _ (List.mem_of_getElem? (i := 9) rfl))
theorem tw_10 : (Jvm.Cond.initialized "java/lang/IndexOutOfBoundsException") ∈ lw_tbl := List.mem_append_right _ (List.mem_append_left _ (List.mem_of_getElem? (i := 10) rfl))
theorem tw_11 : (Jvm.Cond.classLink "StageClockLaw" (8 : Nat) "StageClock") ∈ lw_tbl := List.mem_append_right _ (List.mem_append_left _ (List.mem_of_getElem? (i := 11) rfl))
theorem tw_12 : (Jvm.Cond.instantiable "StageClock" (3 : Nat)) ∈ lw_tbl := List.mem_append_right _ (List.mem_append_left _ (List.mem_of_getElem? (i := 12) rfl))
theorem tw_13 : (Jvm.Cond.methodLink "StageClockLaw" (43 : Nat) ({ cls := "StageClock", name := "<init>", desc := "()V" } : Jvm.MethodName)) ∈ lw_tbl := List.mem_append_right _ (List.mem_append_left _ (List.mem_of_getElem? (i := 13) rfl))
theorem tw_14 : (Jvm.Cond.instanceMethod ({ cls := "StageClock", name := "<init>", desc := "()V" } : Jvm.MethodName)) ∈ lw_tbl := List.mem_append_right _ (List.mem_append_left _ (List.mem_of_getElem? (i := 14) rfl))
theorem tw_15 : (Jvm.Cond.code ({ cls := "StageClock", name := "<init>", desc := "()V" } : Jvm.MethodName) prog_1_method_1_code (2 : Nat) (Option.none : Option Jvm.ClassFile.FieldType)) ∈ lw_tbl := List.mem_append_right _ (List.mem_append_left _ (List.mem_of_getElem? (i := 15) rfl))
theorem tw_16 : (Jvm.Cond.methodLink "StageClock" (1 : Nat) ({ cls := "java/lang/Object", name := "<init>", desc := "()V" } : Jvm.MethodName)) ∈ lw_tbl := List.mem_append_right _ (List.mem_append_left _ (List.mem_of_getElem? (i := 16) rfl))
theorem tw_17 : (Jvm.Cond.instanceMethod ({ cls := "java/lang/Object", name := "<init>", desc := "()V" } : Jvm.MethodName)) ∈ lw_tbl := List.mem_append_right _ (List.mem_append_left _ (List.mem_of_getElem? (i := 17) rfl))
theorem tw_18 : (Jvm.Cond.code ({ cls := "java/lang/Object", name := "<init>", desc := "()V" } : Jvm.MethodName) object_method_1_code (1 : Nat) (Option.none : Option Jvm.ClassFile.FieldType)) ∈ lw_tbl := List.mem_append_right _ (List.mem_append_left _ (List.mem_of_getElem? (i := 18) rfl))
theorem tw_19 : (Jvm.Cond.classLink "StageClock" (9 : Nat) "StageClock$Step") ∈ lw_tbl := List.mem_append_right _ (List.mem_append_left _ (List.mem_of_getElem? (i := 19) rfl))
theorem tw_20 : (Jvm.Cond.arrayOver (Jvm.ClassFile.FieldType.object "StageClock$Step")) ∈ lw_tbl := List.mem_append_right _ (List.mem_append_left _ (List.mem_of_getElem? (i := 20) rfl))
theorem tw_21 : (Jvm.Cond.instantiable "StageClock$Step" (9 : Nat)) ∈ lw_tbl := List.mem_append_right _ (List.mem_append_left _ (List.mem_of_getElem? (i := 21) rfl))
theorem tw_22 : (Jvm.Cond.methodLinkNest "StageClock" (15 : Nat) ({ cls := "StageClock$Step", name := "<init>", desc := "()V" } : Jvm.MethodName) "StageClock") ∈ lw_tbl := List.mem_append_right _ (List.mem_append_left _ (List.mem_of_getElem? (i := 22) rfl))
theorem tw_23 : (Jvm.Cond.instanceMethod ({ cls := "StageClock$Step", name := "<init>", desc := "()V" } : Jvm.MethodName)) ∈ lw_tbl := List.mem_append_right _ (List.mem_append_left _ (List.mem_of_getElem? (i := 23) rfl))
theorem tw_24 : (Jvm.Cond.code ({ cls := "StageClock$Step", name := "<init>", desc := "()V" } : Jvm.MethodName) prog_2_method_1_code (1 : Nat) (Option.none : Option Jvm.ClassFile.FieldType)) ∈ lw_tbl := List.mem_append_right _ (List.mem_append_left _ (List.mem_of_getElem? (i := 24) rfl))
theorem tw_25 : (Jvm.Cond.methodLink "StageClock$Step" (3 : Nat) ({ cls := "java/lang/Object", name := "<init>", desc := "()V" } : Jvm.MethodName)) ∈ lw_tbl := List.mem_append_right _ (List.mem_append_left _ (List.mem_of_getElem? (i := 25) rfl))
theorem tw_26 : (Jvm.Cond.fieldLink "StageClock$Step" (18 : Nat) "StageClock$Step" "t" "I") ∈ lw_tbl := List.mem_append_right _ (List.mem_append_left _ (List.mem_of_getElem? (i := 26) rfl))
theorem tw_27 : (Jvm.Cond.fieldLinkNest "StageClock" (81 : Nat) "StageClock$Step" "t" "I" "StageClock") ∈ lw_tbl := List.mem_append_right _ (List.mem_append_left _ (List.mem_of_getElem? (i := 27) rfl))
theorem tw_28 : (Jvm.Cond.fieldLinkNest "StageClock" (45 : Nat) "StageClock$Step" "gets" "I" "StageClock") ∈ lw_tbl := List.mem_append_right _ (List.mem_append_left _ (List.mem_of_getElem? (i := 28) rfl))
theorem tw_29 : (Jvm.Cond.fieldLinkNest "StageClock" (64 : Nat) "StageClock$Step" "reads" "I" "StageClock") ∈ lw_tbl := List.mem_append_right _ (List.mem_append_left _ (List.mem_of_getElem? (i := 29) rfl))
theorem tw_30 : (Jvm.Cond.fieldLinkNest "StageClock" (71 : Nat) "StageClock$Step" "late" "I" "StageClock") ∈ lw_tbl := List.mem_append_right _ (List.mem_append_left _ (List.mem_of_getElem? (i := 30) rfl))
theorem tw_31 : (Jvm.Cond.fieldLink "StageClock$Step" (22 : Nat) "StageClock$Step" "wait" "I") ∈ lw_tbl := List.mem_append_right _ (List.mem_append_left _ (List.mem_of_getElem? (i := 31) rfl))
theorem tw_32 : (Jvm.Cond.fieldLinkNest "StageClock" (87 : Nat) "StageClock$Step" "wait" "I" "StageClock") ∈ lw_tbl := List.mem_append_right _ (List.mem_append_left _ (List.mem_of_getElem? (i := 32) rfl))
theorem tw_33 : (Jvm.Cond.fieldLink "StageClock$Step" (25 : Nat) "StageClock$Step" "load" "Z") ∈ lw_tbl := List.mem_append_right _ (List.mem_append_left _ (List.mem_of_getElem? (i := 33) rfl))
theorem tw_34 : (Jvm.Cond.fieldLinkNest "StageClock" (84 : Nat) "StageClock$Step" "load" "Z" "StageClock") ∈ lw_tbl := List.mem_append_right _ (List.mem_append_left _ (List.mem_of_getElem? (i := 34) rfl))
theorem tw_35 : (Jvm.Cond.fieldLinkNest "StageClock" (51 : Nat) "StageClock$Step" "wrong" "Z" "StageClock") ∈ lw_tbl := List.mem_append_right _ (List.mem_append_left _ (List.mem_of_getElem? (i := 35) rfl))
theorem tw_36 : (Jvm.Cond.fieldLink "StageClock$Step" (9 : Nat) "StageClock$Step" "begins" "[I") ∈ lw_tbl := List.mem_append_right _ (List.mem_append_left _ (List.mem_of_getElem? (i := 36) rfl))
theorem tw_37 : (Jvm.Cond.fieldLinkNest "StageClock" (48 : Nat) "StageClock$Step" "begins" "[I" "StageClock") ∈ lw_tbl := List.mem_append_right _ (List.mem_append_left _ (List.mem_of_getElem? (i := 37) rfl))
theorem tw_38 : (Jvm.Cond.fieldLink "StageClock$Step" (15 : Nat) "StageClock$Step" "givers" "[I") ∈ lw_tbl := List.mem_append_right _ (List.mem_append_left _ (List.mem_of_getElem? (i := 38) rfl))
theorem tw_39 : (Jvm.Cond.fieldLinkNest "StageClock" (37 : Nat) "StageClock$Step" "givers" "[I" "StageClock") ∈ lw_tbl := List.mem_append_right _ (List.mem_append_left _ (List.mem_of_getElem? (i := 39) rfl))
theorem tw_40 : (Jvm.Cond.lays "StageClock$Step" "StageClock$Step" "t" "I") ∈ lw_tbl := List.mem_append_right _ (List.mem_append_left _ (List.mem_of_getElem? (i := 40) rfl))
theorem tw_41 : (Jvm.Cond.soleField "StageClock$Step" "t") ∈ lw_tbl := List.mem_append_right _ (List.mem_append_left _ (List.mem_of_getElem? (i := 41) rfl))
theorem tw_42 : (Jvm.Cond.lays "StageClock$Step" "StageClock$Step" "gets" "I") ∈ lw_tbl := List.mem_append_right _ (List.mem_append_left _ (List.mem_of_getElem? (i := 42) rfl))
theorem tw_43 : (Jvm.Cond.soleField "StageClock$Step" "gets") ∈ lw_tbl := List.mem_append_right _ (List.mem_append_left _ (List.mem_of_getElem? (i := 43) rfl))
theorem tw_44 : (Jvm.Cond.lays "StageClock$Step" "StageClock$Step" "reads" "I") ∈ lw_tbl := List.mem_append_right _ (List.mem_append_left _ (List.mem_of_getElem? (i := 44) rfl))
theorem tw_45 : (Jvm.Cond.soleField "StageClock$Step" "reads") ∈ lw_tbl := List.mem_append_right _ (List.mem_append_left _ (List.mem_of_getElem? (i := 45) rfl))
theorem tw_46 : (Jvm.Cond.lays "StageClock$Step" "StageClock$Step" "late" "I") ∈ lw_tbl := List.mem_append_right _ (List.mem_append_left _ (List.mem_of_getElem? (i := 46) rfl))
theorem tw_47 : (Jvm.Cond.soleField "StageClock$Step" "late") ∈ lw_tbl := List.mem_append_right _ (List.mem_append_left _ (List.mem_of_getElem? (i := 47) rfl))
theorem tw_48 : (Jvm.Cond.lays "StageClock$Step" "StageClock$Step" "wait" "I") ∈ lw_tbl := List.mem_append_right _ (List.mem_append_left _ (List.mem_of_getElem? (i := 48) rfl))
theorem tw_49 : (Jvm.Cond.soleField "StageClock$Step" "wait") ∈ lw_tbl := List.mem_append_right _ (List.mem_append_left _ (List.mem_of_getElem? (i := 49) rfl))
theorem tw_50 : (Jvm.Cond.lays "StageClock$Step" "StageClock$Step" "load" "Z") ∈ lw_tbl := List.mem_append_right _ (List.mem_append_left _ (List.mem_of_getElem? (i := 50) rfl))
theorem tw_51 : (Jvm.Cond.soleField "StageClock$Step" "load") ∈ lw_tbl := List.mem_append_right _ (List.mem_append_left _ (List.mem_of_getElem? (i := 51) rfl))
theorem tw_52 : (Jvm.Cond.lays "StageClock$Step" "StageClock$Step" "wrong" "Z") ∈ lw_tbl := List.mem_append_right _ (List.mem_append_left _ (List.mem_of_getElem? (i := 52) rfl))
theorem tw_53 : (Jvm.Cond.soleField "StageClock$Step" "wrong") ∈ lw_tbl := List.mem_append_right _ (List.mem_append_left _ (List.mem_of_getElem? (i := 53) rfl))
theorem tw_54 : (Jvm.Cond.laysFinal "StageClock$Step" "StageClock$Step" "begins" "[I") ∈ lw_tbl := List.mem_append_right _ (List.mem_append_left _ (List.mem_of_getElem? (i := 54) rfl))
theorem tw_55 : (Jvm.Cond.soleField "StageClock$Step" "begins") ∈ lw_tbl := List.mem_append_right _ (List.mem_append_left _ (List.mem_of_getElem? (i := 55) rfl))
theorem tw_56 : (Jvm.Cond.laysFinal "StageClock$Step" "StageClock$Step" "givers" "[I") ∈ lw_tbl := List.mem_append_right _ (List.mem_append_left _ (List.mem_of_getElem? (i := 56) rfl))
theorem tw_57 : (Jvm.Cond.soleField "StageClock$Step" "givers") ∈ lw_tbl := List.mem_append_right _ (List.mem_append_left _ (List.mem_of_getElem? (i := 57) rfl))
theorem tw_58 : (Jvm.Cond.superclass "StageClock$Step" "java/lang/Object") ∈ lw_tbl := List.mem_append_right _ (List.mem_append_left _ (List.mem_of_getElem? (i := 58) rfl))
theorem tw_59 : (Jvm.Cond.arrayClass Jvm.ClassFile.FieldType.int) ∈ lw_tbl := List.mem_append_right _ (List.mem_append_left _ (List.mem_of_getElem? (i := 59) rfl))
theorem tw_60 : (Jvm.Cond.fieldLink "StageClock" (11 : Nat) "StageClock" "steps" "[LStageClock$Step;") ∈ lw_tbl := List.mem_append_right _ (List.mem_append_left _ (List.mem_of_getElem? (i := 60) rfl))
theorem tw_61 : (Jvm.Cond.fieldLink "StageClock" (19 : Nat) "StageClock" "many" "I") ∈ lw_tbl := List.mem_append_right _ (List.mem_append_left _ (List.mem_of_getElem? (i := 61) rfl))
theorem tw_62 : (Jvm.Cond.fieldLink "StageClock" (30 : Nat) "StageClock" "known" "I") ∈ lw_tbl := List.mem_append_right _ (List.mem_append_left _ (List.mem_of_getElem? (i := 62) rfl))
theorem tw_63 : (Jvm.Cond.laysFinal "StageClock" "StageClock" "steps" "[LStageClock$Step;") ∈ lw_tbl := List.mem_append_right _ (List.mem_append_left _ (List.mem_of_getElem? (i := 63) rfl))
theorem tw_64 : (Jvm.Cond.soleField "StageClock" "steps") ∈ lw_tbl := List.mem_append_right _ (List.mem_append_left _ (List.mem_of_getElem? (i := 64) rfl))
theorem tw_65 : (Jvm.Cond.lays "StageClock" "StageClock" "many" "I") ∈ lw_tbl := List.mem_append_right _ (List.mem_append_left _ (List.mem_of_getElem? (i := 65) rfl))
theorem tw_66 : (Jvm.Cond.soleField "StageClock" "many") ∈ lw_tbl := List.mem_append_right _ (List.mem_append_left _ (List.mem_of_getElem? (i := 66) rfl))
theorem tw_67 : (Jvm.Cond.lays "StageClock" "StageClock" "known" "I") ∈ lw_tbl := List.mem_append_right _ (List.mem_append_left _ (List.mem_of_getElem? (i := 67) rfl))
theorem tw_68 : (Jvm.Cond.soleField "StageClock" "known") ∈ lw_tbl := List.mem_append_right _ (List.mem_append_left _ (List.mem_of_getElem? (i := 68) rfl))
theorem tw_69 : (Jvm.Cond.superclass "StageClock" "java/lang/Object") ∈ lw_tbl := List.mem_append_right _ (List.mem_append_left _ (List.mem_of_getElem? (i := 69) rfl))
theorem tw_70 : (Jvm.Cond.methodLink "StageClockLaw" (47 : Nat) ({ cls := "StageClockLaw", name := "add", desc := "(LStageClock;IIIIZIZ[J)I" } : Jvm.MethodName)) ∈ lw_tbl := List.mem_append_right _ (List.mem_append_left _ (List.mem_of_getElem? (i := 70) rfl))
theorem tw_71 : (Jvm.Cond.static ({ cls := "StageClockLaw", name := "add", desc := "(LStageClock;IIIIZIZ[J)I" } : Jvm.MethodName)) ∈ lw_tbl := List.mem_append_right _ (List.mem_append_left _ (List.mem_of_getElem? (i := 71) rfl))
theorem tw_72 : (Jvm.Cond.codeWith ({ cls := "StageClockLaw", name := "add", desc := "(LStageClock;IIIIZIZ[J)I" } : Jvm.MethodName) method_3_code (10 : Nat) (Option.some Jvm.ClassFile.FieldType.int) [((0 : Nat), (20 : Nat), (23 : Nat), (13 : Nat)), ((0 : Nat), (20 : Nat), (27 : Nat), (15 : Nat))]) ∈ lw_tbl := List.mem_append_right _ (List.mem_append_left _ (List.mem_of_getElem? (i := 72) rfl))
theorem tw_73 : (Jvm.Cond.classLink "StageClockLaw" (13 : Nat) "java/lang/IllegalArgumentException") ∈ lw_tbl := List.mem_append_right _ (List.mem_append_left _ (List.mem_of_getElem? (i := 73) rfl))
theorem tw_74 : (Jvm.Cond.classLink "StageClockLaw" (15 : Nat) "java/lang/IllegalStateException") ∈ lw_tbl := List.mem_append_right _ (List.mem_append_left _ (List.mem_of_getElem? (i := 74) rfl))
theorem tw_75 : (Jvm.Cond.methodLink "StageClockLaw" (7 : Nat) ({ cls := "StageClock", name := "add", desc := "(IIIIZIZ)I" } : Jvm.MethodName)) ∈ lw_tbl := List.mem_append_right _ (List.mem_append_left _ (List.mem_of_getElem? (i := 75) rfl))
theorem tw_76 : (Jvm.Cond.instanceMethod ({ cls := "StageClock", name := "add", desc := "(IIIIZIZ)I" } : Jvm.MethodName)) ∈ lw_tbl := List.mem_append_right _ (List.mem_append_left _ (List.mem_of_getElem? (i := 76) rfl))
theorem tw_77 : (Jvm.Cond.selects "StageClock" ({ cls := "StageClock", name := "add", desc := "(IIIIZIZ)I" } : Jvm.MethodName) ({ cls := "StageClock", name := "add", desc := "(IIIIZIZ)I" } : Jvm.MethodName)) ∈ lw_tbl := List.mem_append_right _ (List.mem_append_left _ (List.mem_of_getElem? (i := 77) rfl))
theorem tw_78 : (Jvm.Cond.code ({ cls := "StageClock", name := "add", desc := "(IIIIZIZ)I" } : Jvm.MethodName) prog_1_method_9_code (8 : Nat) (Option.some Jvm.ClassFile.FieldType.int)) ∈ lw_tbl := List.mem_append_right _ (List.mem_append_left _ (List.mem_of_getElem? (i := 78) rfl))
theorem tw_79 : (Jvm.Cond.methodLink "StageClock" (93 : Nat) ({ cls := "StageClock", name := "asSaid", desc := "(IIII)V" } : Jvm.MethodName)) ∈ lw_tbl := List.mem_append_right _ (List.mem_append_left _ (List.mem_of_getElem? (i := 79) rfl))
theorem tw_80 : (Jvm.Cond.static ({ cls := "StageClock", name := "asSaid", desc := "(IIII)V" } : Jvm.MethodName)) ∈ lw_tbl := List.mem_append_right _ (List.mem_append_left _ (List.mem_of_getElem? (i := 80) rfl))
theorem tw_81 : (Jvm.Cond.code ({ cls := "StageClock", name := "asSaid", desc := "(IIII)V" } : Jvm.MethodName) prog_1_method_7_code (4 : Nat) (Option.none : Option Jvm.ClassFile.FieldType)) ∈ lw_tbl := List.mem_append_right _ (List.mem_append_left _ (List.mem_of_getElem? (i := 81) rfl))
theorem tw_82 : (Jvm.Cond.methodLink "StageClock" (23 : Nat) ({ cls := "StageClock", name := "in", desc := "(III)Z" } : Jvm.MethodName)) ∈ lw_tbl := List.mem_append_right _ (List.mem_append_left _ (List.mem_of_getElem? (i := 82) rfl))
theorem tw_83 : (Jvm.Cond.static ({ cls := "StageClock", name := "in", desc := "(III)Z" } : Jvm.MethodName)) ∈ lw_tbl := List.mem_append_right _ (List.mem_append_left _ (List.mem_of_getElem? (i := 83) rfl))
theorem tw_84 : (Jvm.Cond.code ({ cls := "StageClock", name := "in", desc := "(III)Z" } : Jvm.MethodName) prog_1_method_2_code (3 : Nat) (Option.some Jvm.ClassFile.FieldType.boolean)) ∈ lw_tbl := List.mem_append_right _ (List.mem_append_left _ (List.mem_of_getElem? (i := 84) rfl))
theorem tw_85 : (Jvm.Cond.methodLink "StageClock" (77 : Nat) ({ cls := "StageClock", name := "legal", desc := "(Z)V" } : Jvm.MethodName)) ∈ lw_tbl := List.mem_append_right _ (List.mem_append_left _ (List.mem_of_getElem? (i := 85) rfl))
theorem tw_86 : (Jvm.Cond.static ({ cls := "StageClock", name := "legal", desc := "(Z)V" } : Jvm.MethodName)) ∈ lw_tbl := List.mem_append_right _ (List.mem_append_left _ (List.mem_of_getElem? (i := 86) rfl))
theorem tw_87 : (Jvm.Cond.code ({ cls := "StageClock", name := "legal", desc := "(Z)V" } : Jvm.MethodName) prog_1_method_3_code (1 : Nat) (Option.none : Option Jvm.ClassFile.FieldType)) ∈ lw_tbl := List.mem_append_right _ (List.mem_append_left _ (List.mem_of_getElem? (i := 87) rfl))
theorem tw_88 : (Jvm.Cond.classLink "StageClock" (16 : Nat) "java/lang/IllegalArgumentException") ∈ lw_tbl := List.mem_append_right _ (List.mem_append_left _ (List.mem_of_getElem? (i := 88) rfl))
theorem tw_89 : (Jvm.Cond.instantiable "java/lang/IllegalArgumentException" (6 : Nat)) ∈ lw_tbl := List.mem_append_right _ (List.mem_append_left _ (List.mem_of_getElem? (i := 89) rfl))
theorem tw_90 : (Jvm.Cond.castable "java/lang/IllegalArgumentException" "java/lang/IllegalArgumentException") ∈ lw_tbl := List.mem_append_right _ (List.mem_append_left _ (List.mem_of_getElem? (i := 90) rfl))
theorem tw_91 : (Jvm.Cond.declares ({ cls := "java/lang/RuntimeException", name := "<init>", desc := "()V" } : Jvm.MethodName)) ∈ lw_tbl := List.mem_append_right _ (List.mem_append_left _ (List.mem_of_getElem? (i := 91) rfl))
theorem tw_92 : (Jvm.Cond.declares ({ cls := "java/lang/RuntimeException", name := "<init>", desc := "(Ljava/lang/String;)V" } : Jvm.MethodName)) ∈ lw_tbl := List.mem_append_right _ (List.mem_append_left _ (List.mem_of_getElem? (i := 92) rfl))
theorem tw_93 : (Jvm.Cond.declares ({ cls := "java/lang/Exception", name := "<init>", desc := "()V" } : Jvm.MethodName)) ∈ lw_tbl := List.mem_append_right _ (List.mem_append_left _ (List.mem_of_getElem? (i := 93) rfl))
theorem tw_94 : (Jvm.Cond.declares ({ cls := "java/lang/Exception", name := "<init>", desc := "(Ljava/lang/String;)V" } : Jvm.MethodName)) ∈ lw_tbl := List.mem_append_right _ (List.mem_append_left _ (List.mem_of_getElem? (i := 94) rfl))
theorem tw_95 : (Jvm.Cond.declares ({ cls := "java/lang/Throwable", name := "<init>", desc := "()V" } : Jvm.MethodName)) ∈ lw_tbl := List.mem_append_right _ (List.mem_append_left _ (List.mem_of_getElem? (i := 95) rfl))
theorem tw_96 : (Jvm.Cond.declares ({ cls := "java/lang/Throwable", name := "<init>", desc := "(Ljava/lang/String;)V" } : Jvm.MethodName)) ∈ lw_tbl := List.mem_append_right _ (List.mem_append_left _ (List.mem_of_getElem? (i := 96) rfl))
theorem tw_97 : (Jvm.Cond.selects "java/lang/IllegalArgumentException" ({ cls := "java/lang/Throwable", name := "fillInStackTrace", desc := "(I)Ljava/lang/Throwable;" } : Jvm.MethodName) ({ cls := "java/lang/Throwable", name := "fillInStackTrace", desc := "(I)Ljava/lang/Throwable;" } : Jvm.MethodName)) ∈ lw_tbl := List.mem_append_right _ (List.mem_append_left _ (List.mem_of_getElem? (i := 97) rfl))
theorem tw_98 : (Jvm.Cond.selects "java/lang/IllegalArgumentException" ({ cls := "java/lang/Throwable", name := "fillInStackTrace", desc := "()Ljava/lang/Throwable;" } : Jvm.MethodName) ({ cls := "java/lang/Throwable", name := "fillInStackTrace", desc := "()Ljava/lang/Throwable;" } : Jvm.MethodName)) ∈ lw_tbl := List.mem_append_right _ (List.mem_append_left _ (List.mem_of_getElem? (i := 98) rfl))
theorem tw_99 : (Jvm.Cond.lays "java/lang/IllegalArgumentException" "java/lang/Throwable" "cause" "Ljava/lang/Throwable;") ∈ lw_tbl := List.mem_append_right _ (List.mem_append_left _ (List.mem_of_getElem? (i := 99) rfl))
theorem tw_100 : (Jvm.Cond.lays "java/lang/Throwable" "java/lang/Throwable" "cause" "Ljava/lang/Throwable;") ∈ lw_tbl := List.mem_append_right _ (List.mem_append_left _ (List.mem_of_getElem? (i := 100) rfl))
theorem tw_101 : (Jvm.Cond.lays "java/lang/IllegalArgumentException" "java/lang/Throwable" "stackTrace" "[Ljava/lang/StackTraceElement;") ∈ lw_tbl := List.mem_append_right _ (List.mem_append_left _ (List.mem_of_getElem? (i := 101) rfl))
theorem tw_102 : (Jvm.Cond.lays "java/lang/Throwable" "java/lang/Throwable" "stackTrace" "[Ljava/lang/StackTraceElement;") ∈ lw_tbl := List.mem_append_right _ (List.mem_append_left _ (List.mem_of_getElem? (i := 102) rfl))
theorem tw_103 : (Jvm.Cond.lays "java/lang/IllegalArgumentException" "java/lang/Throwable" "suppressedExceptions" "Ljava/util/List;") ∈ lw_tbl := List.mem_append_right _ (List.mem_append_left _ (List.mem_of_getElem? (i := 103) rfl))
theorem tw_104 : (Jvm.Cond.lays "java/lang/Throwable" "java/lang/Throwable" "suppressedExceptions" "Ljava/util/List;") ∈ lw_tbl := List.mem_append_right _ (List.mem_append_left _ (List.mem_of_getElem? (i := 104) rfl))
theorem tw_105 : (Jvm.Cond.lays "java/lang/IllegalArgumentException" "java/lang/Throwable" "detailMessage" "Ljava/lang/String;") ∈ lw_tbl := List.mem_append_right _ (List.mem_append_left _ (List.mem_of_getElem? (i := 105) rfl))
theorem tw_106 : (Jvm.Cond.lays "java/lang/Throwable" "java/lang/Throwable" "detailMessage" "Ljava/lang/String;") ∈ lw_tbl := List.mem_append_right _ (List.mem_append_left _ (List.mem_of_getElem? (i := 106) rfl))
theorem tw_107 : (Jvm.Cond.lays "java/lang/IllegalArgumentException" "java/lang/Throwable" "backtrace" "Ljava/lang/Object;") ∈ lw_tbl := List.mem_append_right _ (List.mem_append_left _ (List.mem_of_getElem? (i := 107) rfl))
theorem tw_108 : (Jvm.Cond.lays "java/lang/Throwable" "java/lang/Throwable" "backtrace" "Ljava/lang/Object;") ∈ lw_tbl := List.mem_append_right _ (List.mem_append_left _ (List.mem_of_getElem? (i := 108) rfl))
theorem tw_109 : (Jvm.Cond.fieldLink "java/lang/Throwable" (198 : Nat) "java/lang/Throwable" "backtrace" "Ljava/lang/Object;") ∈ lw_tbl := List.mem_append_right _ (List.mem_append_left _ (List.mem_of_getElem? (i := 109) rfl))
theorem tw_110 : (Jvm.Cond.superclass "java/lang/Throwable" "java/lang/Object") ∈ lw_tbl := List.mem_append_right _ (List.mem_append_left _ (List.mem_of_getElem? (i := 110) rfl))
theorem tw_111 : (Jvm.Cond.instanceMethod ({ cls := "java/lang/Throwable", name := "<init>", desc := "()V" } : Jvm.MethodName)) ∈ lw_tbl := List.mem_append_right _ (List.mem_append_left _ (List.mem_of_getElem? (i := 111) rfl))
theorem tw_112 : (Jvm.Cond.code ({ cls := "java/lang/Throwable", name := "<init>", desc := "()V" } : Jvm.MethodName) prog_11_method_1_code (1 : Nat) (Option.none : Option Jvm.ClassFile.FieldType)) ∈ lw_tbl := List.mem_append_right _ (List.mem_append_left _ (List.mem_of_getElem? (i := 112) rfl))
theorem tw_113 : (Jvm.Cond.methodLink "java/lang/Throwable" (1 : Nat) ({ cls := "java/lang/Object", name := "<init>", desc := "()V" } : Jvm.MethodName)) ∈ lw_tbl := List.mem_append_right _ (List.mem_append_left _ (List.mem_of_getElem? (i := 113) rfl))
theorem tw_114 : (Jvm.Cond.fieldLink "java/lang/Throwable" (13 : Nat) "java/lang/Throwable" "UNASSIGNED_STACK" "[Ljava/lang/StackTraceElement;") ∈ lw_tbl := List.mem_append_right _ (List.mem_append_left _ (List.mem_of_getElem? (i := 114) rfl))
theorem tw_115 : (Jvm.Cond.laysStatic "java/lang/Throwable" "UNASSIGNED_STACK" "[Ljava/lang/StackTraceElement;") ∈ lw_tbl := List.mem_append_right _ (List.mem_append_left _ (List.mem_of_getElem? (i := 115) rfl))
theorem tw_116 : (Jvm.Cond.fieldLink "java/lang/Throwable" (20 : Nat) "java/lang/Throwable" "SUPPRESSED_SENTINEL" "Ljava/util/List;") ∈ lw_tbl := List.mem_append_right _ (List.mem_append_left _ (List.mem_of_getElem? (i := 116) rfl))
theorem tw_117 : (Jvm.Cond.laysStatic "java/lang/Throwable" "SUPPRESSED_SENTINEL" "Ljava/util/List;") ∈ lw_tbl := List.mem_append_right _ (List.mem_append_left _ (List.mem_of_getElem? (i := 117) rfl))
theorem tw_118 : (Jvm.Cond.methodLink "java/lang/Throwable" (27 : Nat) ({ cls := "java/lang/Throwable", name := "fillInStackTrace", desc := "()Ljava/lang/Throwable;" } : Jvm.MethodName)) ∈ lw_tbl := List.mem_append_right _ (List.mem_append_left _ (List.mem_of_getElem? (i := 118) rfl))
theorem tw_119 : (Jvm.Cond.instanceMethod ({ cls := "java/lang/Throwable", name := "fillInStackTrace", desc := "()Ljava/lang/Throwable;" } : Jvm.MethodName)) ∈ lw_tbl := List.mem_append_right _ (List.mem_append_left _ (List.mem_of_getElem? (i := 119) rfl))
theorem tw_120 : (Jvm.Cond.sameMethod "java/lang/Throwable" "java/lang/Throwable" "fillInStackTrace" "()Ljava/lang/Throwable;") ∈ lw_tbl := List.mem_append_right _ (List.mem_append_left _ (List.mem_of_getElem? (i := 120) rfl))
theorem tw_121 : (Jvm.Cond.selects "java/lang/IllegalStateException" ({ cls := "java/lang/Throwable", name := "fillInStackTrace", desc := "()Ljava/lang/Throwable;" } : Jvm.MethodName) ({ cls := "java/lang/Throwable", name := "fillInStackTrace", desc := "()Ljava/lang/Throwable;" } : Jvm.MethodName)) ∈ lw_tbl := List.mem_append_right _ (List.mem_append_left _ (List.mem_of_getElem? (i := 121) rfl))
theorem tw_122 : (Jvm.Cond.selects "java/lang/IndexOutOfBoundsException" ({ cls := "java/lang/Throwable", name := "fillInStackTrace", desc := "()Ljava/lang/Throwable;" } : Jvm.MethodName) ({ cls := "java/lang/Throwable", name := "fillInStackTrace", desc := "()Ljava/lang/Throwable;" } : Jvm.MethodName)) ∈ lw_tbl := List.mem_append_right _ (List.mem_append_left _ (List.mem_of_getElem? (i := 122) rfl))
theorem tw_123 : (Jvm.Cond.codeSync ({ cls := "java/lang/Throwable", name := "fillInStackTrace", desc := "()Ljava/lang/Throwable;" } : Jvm.MethodName) prog_11_method_18_code (1 : Nat) (Option.some (Jvm.ClassFile.FieldType.object "java/lang/Throwable"))) ∈ lw_tbl := List.mem_append_right _ (List.mem_append_left _ (List.mem_of_getElem? (i := 123) rfl))
theorem tw_124 : (Jvm.Cond.methodLink "java/lang/Throwable" (202 : Nat) ({ cls := "java/lang/Throwable", name := "fillInStackTrace", desc := "(I)Ljava/lang/Throwable;" } : Jvm.MethodName)) ∈ lw_tbl := List.mem_append_right _ (List.mem_append_left _ (List.mem_of_getElem? (i := 124) rfl))
theorem tw_125 : (Jvm.Cond.privateMethod ({ cls := "java/lang/Throwable", name := "fillInStackTrace", desc := "(I)Ljava/lang/Throwable;" } : Jvm.MethodName)) ∈ lw_tbl := List.mem_append_right _ (List.mem_append_left _ (List.mem_of_getElem? (i := 125) rfl))
theorem tw_126 : (Jvm.Cond.instanceMethod ({ cls := "java/lang/Throwable", name := "fillInStackTrace", desc := "(I)Ljava/lang/Throwable;" } : Jvm.MethodName)) ∈ lw_tbl := List.mem_append_right _ (List.mem_append_left _ (List.mem_of_getElem? (i := 126) rfl))
theorem tw_127 : (Jvm.Cond.instantiable "java/lang/Throwable" (6 : Nat)) ∈ lw_tbl := List.mem_append_right _ (List.mem_append_left _ (List.mem_of_getElem? (i := 127) rfl))
theorem tw_128 : (Jvm.Cond.native ({ cls := "java/lang/Throwable", name := "fillInStackTrace", desc := "(I)Ljava/lang/Throwable;" } : Jvm.MethodName)) ∈ lw_tbl := List.mem_append_right _ (List.mem_append_left _ (List.mem_of_getElem? (i := 128) rfl))
theorem tw_129 : (Jvm.Cond.methodLink "StageClock" (18 : Nat) ({ cls := "java/lang/IllegalArgumentException", name := "<init>", desc := "()V" } : Jvm.MethodName)) ∈ lw_tbl := List.mem_append_right _ (List.mem_append_left _ (List.mem_of_getElem? (i := 129) rfl))
theorem tw_130 : (Jvm.Cond.instanceMethod ({ cls := "java/lang/IllegalArgumentException", name := "<init>", desc := "()V" } : Jvm.MethodName)) ∈ lw_tbl := List.mem_append_right _ (List.mem_append_left _ (List.mem_of_getElem? (i := 130) rfl))
theorem tw_131 : (Jvm.Cond.code ({ cls := "java/lang/IllegalArgumentException", name := "<init>", desc := "()V" } : Jvm.MethodName) prog_6_method_1_code (1 : Nat) (Option.none : Option Jvm.ClassFile.FieldType)) ∈ lw_tbl := List.mem_append_right _ (List.mem_append_left _ (List.mem_of_getElem? (i := 131) rfl))
theorem tw_132 : (Jvm.Cond.methodLink "java/lang/IllegalArgumentException" (1 : Nat) ({ cls := "java/lang/RuntimeException", name := "<init>", desc := "()V" } : Jvm.MethodName)) ∈ lw_tbl := List.mem_append_right _ (List.mem_append_left _ (List.mem_of_getElem? (i := 132) rfl))
theorem tw_133 : (Jvm.Cond.instanceMethod ({ cls := "java/lang/RuntimeException", name := "<init>", desc := "()V" } : Jvm.MethodName)) ∈ lw_tbl := List.mem_append_right _ (List.mem_append_left _ (List.mem_of_getElem? (i := 133) rfl))
theorem tw_134 : (Jvm.Cond.code ({ cls := "java/lang/RuntimeException", name := "<init>", desc := "()V" } : Jvm.MethodName) prog_10_method_1_code (1 : Nat) (Option.none : Option Jvm.ClassFile.FieldType)) ∈ lw_tbl := List.mem_append_right _ (List.mem_append_left _ (List.mem_of_getElem? (i := 134) rfl))
theorem tw_135 : (Jvm.Cond.methodLink "java/lang/RuntimeException" (1 : Nat) ({ cls := "java/lang/Exception", name := "<init>", desc := "()V" } : Jvm.MethodName)) ∈ lw_tbl := List.mem_append_right _ (List.mem_append_left _ (List.mem_of_getElem? (i := 135) rfl))
theorem tw_136 : (Jvm.Cond.instanceMethod ({ cls := "java/lang/Exception", name := "<init>", desc := "()V" } : Jvm.MethodName)) ∈ lw_tbl := List.mem_append_right _ (List.mem_append_left _ (List.mem_of_getElem? (i := 136) rfl))
theorem tw_137 : (Jvm.Cond.code ({ cls := "java/lang/Exception", name := "<init>", desc := "()V" } : Jvm.MethodName) prog_5_method_1_code (1 : Nat) (Option.none : Option Jvm.ClassFile.FieldType)) ∈ lw_tbl := List.mem_append_right _ (List.mem_append_left _ (List.mem_of_getElem? (i := 137) rfl))
theorem tw_138 : (Jvm.Cond.methodLink "java/lang/Exception" (1 : Nat) ({ cls := "java/lang/Throwable", name := "<init>", desc := "()V" } : Jvm.MethodName)) ∈ lw_tbl := List.mem_append_right _ (List.mem_append_left _ (List.mem_of_getElem? (i := 138) rfl))
theorem tw_139 : (Jvm.Cond.fieldLink "java/lang/Throwable" (198 : Nat) "java/lang/Throwable" "backtrace" "Ljava/lang/Object;") ∈ lw_tbl := List.mem_append_right _ (List.mem_append_left _ (List.mem_of_getElem? (i := 139) rfl))
theorem tw_140 : (Jvm.Cond.fieldLink "java/lang/Throwable" (7 : Nat) "java/lang/Throwable" "cause" "Ljava/lang/Throwable;") ∈ lw_tbl := List.mem_append_right _ (List.mem_append_left _ (List.mem_of_getElem? (i := 140) rfl))
theorem tw_141 : (Jvm.Cond.fieldLink "java/lang/Throwable" (17 : Nat) "java/lang/Throwable" "stackTrace" "[Ljava/lang/StackTraceElement;") ∈ lw_tbl := List.mem_append_right _ (List.mem_append_left _ (List.mem_of_getElem? (i := 141) rfl))
theorem tw_142 : (Jvm.Cond.fieldLink "java/lang/Throwable" (24 : Nat) "java/lang/Throwable" "suppressedExceptions" "Ljava/util/List;") ∈ lw_tbl := List.mem_append_right _ (List.mem_append_left _ (List.mem_of_getElem? (i := 142) rfl))
theorem tw_143 : (Jvm.Cond.soleField "java/lang/Throwable" "backtrace") ∈ lw_tbl := List.mem_append_right _ (List.mem_append_left _ (List.mem_of_getElem? (i := 143) rfl))
theorem tw_144 : (Jvm.Cond.soleField "java/lang/Throwable" "detailMessage") ∈ lw_tbl := List.mem_append_right _ (List.mem_append_left _ (List.mem_of_getElem? (i := 144) rfl))
theorem tw_145 : (Jvm.Cond.soleField "java/lang/Throwable" "cause") ∈ lw_tbl := List.mem_append_right _ (List.mem_append_left _ (List.mem_of_getElem? (i := 145) rfl))
theorem tw_146 : (Jvm.Cond.soleField "java/lang/Throwable" "stackTrace") ∈ lw_tbl := List.mem_append_right _ (List.mem_append_left _ (List.mem_of_getElem? (i := 146) rfl))
theorem tw_147 : (Jvm.Cond.lays "java/lang/IllegalArgumentException" "java/lang/Throwable" "depth" "I") ∈ lw_tbl := List.mem_append_right _ (List.mem_append_left _ (List.mem_of_getElem? (i := 147) rfl))
theorem tw_148 : (Jvm.Cond.soleField "java/lang/Throwable" "depth") ∈ lw_tbl := List.mem_append_right _ (List.mem_append_left _ (List.mem_of_getElem? (i := 148) rfl))
theorem tw_149 : (Jvm.Cond.soleField "java/lang/Throwable" "suppressedExceptions") ∈ lw_tbl := List.mem_append_right _ (List.mem_append_left _ (List.mem_of_getElem? (i := 149) rfl))
theorem tw_150 : (Jvm.Cond.superclass "java/lang/IllegalArgumentException" "java/lang/RuntimeException") ∈ lw_tbl := List.mem_append_right _ (List.mem_append_left _ (List.mem_of_getElem? (i := 150) rfl))
theorem tw_151 : (Jvm.Cond.classLink "StageClock" (97 : Nat) "java/lang/IllegalStateException") ∈ lw_tbl := List.mem_append_right _ (List.mem_append_left _ (List.mem_of_getElem? (i := 151) rfl))
theorem tw_152 : (Jvm.Cond.instantiable "java/lang/IllegalStateException" (6 : Nat)) ∈ lw_tbl := List.mem_append_right _ (List.mem_append_left _ (List.mem_of_getElem? (i := 152) rfl))
theorem tw_153 : (Jvm.Cond.castable "java/lang/IllegalStateException" "java/lang/IllegalStateException") ∈ lw_tbl := List.mem_append_right _ (List.mem_append_left _ (List.mem_of_getElem? (i := 153) rfl))
theorem tw_154 : (Jvm.Cond.selects "java/lang/IllegalStateException" ({ cls := "java/lang/Throwable", name := "fillInStackTrace", desc := "(I)Ljava/lang/Throwable;" } : Jvm.MethodName) ({ cls := "java/lang/Throwable", name := "fillInStackTrace", desc := "(I)Ljava/lang/Throwable;" } : Jvm.MethodName)) ∈ lw_tbl := List.mem_append_right _ (List.mem_append_left _ (List.mem_of_getElem? (i := 154) rfl))
theorem tw_155 : (Jvm.Cond.lays "java/lang/IllegalStateException" "java/lang/Throwable" "cause" "Ljava/lang/Throwable;") ∈ lw_tbl := List.mem_append_right _ (List.mem_append_left _ (List.mem_of_getElem? (i := 155) rfl))
theorem tw_156 : (Jvm.Cond.lays "java/lang/IllegalStateException" "java/lang/Throwable" "stackTrace" "[Ljava/lang/StackTraceElement;") ∈ lw_tbl := List.mem_append_right _ (List.mem_append_left _ (List.mem_of_getElem? (i := 156) rfl))
theorem tw_157 : (Jvm.Cond.lays "java/lang/IllegalStateException" "java/lang/Throwable" "suppressedExceptions" "Ljava/util/List;") ∈ lw_tbl := List.mem_append_right _ (List.mem_append_left _ (List.mem_of_getElem? (i := 157) rfl))
theorem tw_158 : (Jvm.Cond.lays "java/lang/IllegalStateException" "java/lang/Throwable" "detailMessage" "Ljava/lang/String;") ∈ lw_tbl := List.mem_append_right _ (List.mem_append_left _ (List.mem_of_getElem? (i := 158) rfl))
theorem tw_159 : (Jvm.Cond.lays "java/lang/IllegalStateException" "java/lang/Throwable" "backtrace" "Ljava/lang/Object;") ∈ lw_tbl := List.mem_append_right _ (List.mem_append_left _ (List.mem_of_getElem? (i := 159) rfl))
theorem tw_160 : (Jvm.Cond.methodLink "StageClock" (99 : Nat) ({ cls := "java/lang/IllegalStateException", name := "<init>", desc := "()V" } : Jvm.MethodName)) ∈ lw_tbl := List.mem_append_right _ (List.mem_append_left _ (List.mem_of_getElem? (i := 160) rfl))
theorem tw_161 : (Jvm.Cond.instanceMethod ({ cls := "java/lang/IllegalStateException", name := "<init>", desc := "()V" } : Jvm.MethodName)) ∈ lw_tbl := List.mem_append_right _ (List.mem_append_left _ (List.mem_of_getElem? (i := 161) rfl))
theorem tw_162 : (Jvm.Cond.code ({ cls := "java/lang/IllegalStateException", name := "<init>", desc := "()V" } : Jvm.MethodName) prog_7_method_1_code (1 : Nat) (Option.none : Option Jvm.ClassFile.FieldType)) ∈ lw_tbl := List.mem_append_right _ (List.mem_append_left _ (List.mem_of_getElem? (i := 162) rfl))
theorem tw_163 : (Jvm.Cond.methodLink "java/lang/IllegalStateException" (1 : Nat) ({ cls := "java/lang/RuntimeException", name := "<init>", desc := "()V" } : Jvm.MethodName)) ∈ lw_tbl := List.mem_append_right _ (List.mem_append_left _ (List.mem_of_getElem? (i := 163) rfl))
theorem tw_164 : (Jvm.Cond.lays "java/lang/IllegalStateException" "java/lang/Throwable" "depth" "I") ∈ lw_tbl := List.mem_append_right _ (List.mem_append_left _ (List.mem_of_getElem? (i := 164) rfl))
theorem tw_165 : (Jvm.Cond.superclass "java/lang/IllegalStateException" "java/lang/RuntimeException") ∈ lw_tbl := List.mem_append_right _ (List.mem_append_left _ (List.mem_of_getElem? (i := 165) rfl))
theorem tw_166 : (Jvm.Cond.methodLink "StageClock" (100 : Nat) ({ cls := "StageClock", name := "set", desc := "(IIIIIZIZ)V" } : Jvm.MethodName)) ∈ lw_tbl := List.mem_append_right _ (List.mem_append_left _ (List.mem_of_getElem? (i := 166) rfl))
theorem tw_167 : (Jvm.Cond.privateMethod ({ cls := "StageClock", name := "set", desc := "(IIIIIZIZ)V" } : Jvm.MethodName)) ∈ lw_tbl := List.mem_append_right _ (List.mem_append_left _ (List.mem_of_getElem? (i := 167) rfl))
theorem tw_168 : (Jvm.Cond.instanceMethod ({ cls := "StageClock", name := "set", desc := "(IIIIIZIZ)V" } : Jvm.MethodName)) ∈ lw_tbl := List.mem_append_right _ (List.mem_append_left _ (List.mem_of_getElem? (i := 168) rfl))
theorem tw_169 : (Jvm.Cond.code ({ cls := "StageClock", name := "set", desc := "(IIIIIZIZ)V" } : Jvm.MethodName) prog_1_method_8_code (10 : Nat) (Option.none : Option Jvm.ClassFile.FieldType)) ∈ lw_tbl := List.mem_append_right _ (List.mem_append_left _ (List.mem_of_getElem? (i := 169) rfl))
theorem tw_170 : (Jvm.Cond.methodLink "StageClock" (90 : Nat) ({ cls := "java/lang/Math", name := "min", desc := "(II)I" } : Jvm.MethodName)) ∈ lw_tbl := List.mem_append_right _ (List.mem_append_left _ (List.mem_of_getElem? (i := 170) rfl))
theorem tw_171 : (Jvm.Cond.static ({ cls := "java/lang/Math", name := "min", desc := "(II)I" } : Jvm.MethodName)) ∈ lw_tbl := List.mem_append_right _ (List.mem_append_left _ (List.mem_of_getElem? (i := 171) rfl))
theorem tw_172 : (Jvm.Cond.code ({ cls := "java/lang/Math", name := "min", desc := "(II)I" } : Jvm.MethodName) prog_9_method_69_code (2 : Nat) (Option.some Jvm.ClassFile.FieldType.int)) ∈ lw_tbl := List.mem_append_right _ (List.mem_append_left _ (List.mem_of_getElem? (i := 172) rfl))
theorem tw_173 : (Jvm.Cond.methodLink "StageClockLaw" (57 : Nat) ({ cls := "StageClockLaw", name := "change", desc := "(LStageClock;IIIIIZIZ)I" } : Jvm.MethodName)) ∈ lw_tbl := List.mem_append_right _ (List.mem_append_left _ (List.mem_of_getElem? (i := 173) rfl))
theorem tw_174 : (Jvm.Cond.static ({ cls := "StageClockLaw", name := "change", desc := "(LStageClock;IIIIIZIZ)I" } : Jvm.MethodName)) ∈ lw_tbl := List.mem_append_right _ (List.mem_append_left _ (List.mem_of_getElem? (i := 174) rfl))
theorem tw_175 : (Jvm.Cond.codeWith ({ cls := "StageClockLaw", name := "change", desc := "(LStageClock;IIIIIZIZ)I" } : Jvm.MethodName) method_4_code (10 : Nat) (Option.some Jvm.ClassFile.FieldType.int) [((0 : Nat), (17 : Nat), (20 : Nat), (13 : Nat)), ((0 : Nat), (17 : Nat), (24 : Nat), (21 : Nat))]) ∈ lw_tbl := List.mem_append_right _ (List.mem_append_left _ (List.mem_of_getElem? (i := 175) rfl))
theorem tw_176 : (Jvm.Cond.classLink "StageClockLaw" (21 : Nat) "java/lang/IndexOutOfBoundsException") ∈ lw_tbl := List.mem_append_right _ (List.mem_append_left _ (List.mem_of_getElem? (i := 176) rfl))
theorem tw_177 : (Jvm.Cond.methodLink "StageClockLaw" (17 : Nat) ({ cls := "StageClock", name := "change", desc := "(IIIIIZIZ)V" } : Jvm.MethodName)) ∈ lw_tbl := List.mem_append_right _ (List.mem_append_left _ (List.mem_of_getElem? (i := 177) rfl))
theorem tw_178 : (Jvm.Cond.instanceMethod ({ cls := "StageClock", name := "change", desc := "(IIIIIZIZ)V" } : Jvm.MethodName)) ∈ lw_tbl := List.mem_append_right _ (List.mem_append_left _ (List.mem_of_getElem? (i := 178) rfl))
theorem tw_179 : (Jvm.Cond.selects "StageClock" ({ cls := "StageClock", name := "change", desc := "(IIIIIZIZ)V" } : Jvm.MethodName) ({ cls := "StageClock", name := "change", desc := "(IIIIIZIZ)V" } : Jvm.MethodName)) ∈ lw_tbl := List.mem_append_right _ (List.mem_append_left _ (List.mem_of_getElem? (i := 179) rfl))
theorem tw_180 : (Jvm.Cond.code ({ cls := "StageClock", name := "change", desc := "(IIIIIZIZ)V" } : Jvm.MethodName) prog_1_method_10_code (9 : Nat) (Option.none : Option Jvm.ClassFile.FieldType)) ∈ lw_tbl := List.mem_append_right _ (List.mem_append_left _ (List.mem_of_getElem? (i := 180) rfl))
theorem tw_181 : (Jvm.Cond.classLink "StageClock" (27 : Nat) "java/lang/IndexOutOfBoundsException") ∈ lw_tbl := List.mem_append_right _ (List.mem_append_left _ (List.mem_of_getElem? (i := 181) rfl))
theorem tw_182 : (Jvm.Cond.instantiable "java/lang/IndexOutOfBoundsException" (6 : Nat)) ∈ lw_tbl := List.mem_append_right _ (List.mem_append_left _ (List.mem_of_getElem? (i := 182) rfl))
theorem tw_183 : (Jvm.Cond.castable "java/lang/IndexOutOfBoundsException" "java/lang/IndexOutOfBoundsException") ∈ lw_tbl := List.mem_append_right _ (List.mem_append_left _ (List.mem_of_getElem? (i := 183) rfl))
theorem tw_184 : (Jvm.Cond.selects "java/lang/IndexOutOfBoundsException" ({ cls := "java/lang/Throwable", name := "fillInStackTrace", desc := "(I)Ljava/lang/Throwable;" } : Jvm.MethodName) ({ cls := "java/lang/Throwable", name := "fillInStackTrace", desc := "(I)Ljava/lang/Throwable;" } : Jvm.MethodName)) ∈ lw_tbl := List.mem_append_right _ (List.mem_append_left _ (List.mem_of_getElem? (i := 184) rfl))
theorem tw_185 : (Jvm.Cond.lays "java/lang/IndexOutOfBoundsException" "java/lang/Throwable" "cause" "Ljava/lang/Throwable;") ∈ lw_tbl := List.mem_append_right _ (List.mem_append_left _ (List.mem_of_getElem? (i := 185) rfl))
theorem tw_186 : (Jvm.Cond.lays "java/lang/IndexOutOfBoundsException" "java/lang/Throwable" "stackTrace" "[Ljava/lang/StackTraceElement;") ∈ lw_tbl := List.mem_append_right _ (List.mem_append_left _ (List.mem_of_getElem? (i := 186) rfl))
theorem tw_187 : (Jvm.Cond.lays "java/lang/IndexOutOfBoundsException" "java/lang/Throwable" "suppressedExceptions" "Ljava/util/List;") ∈ lw_tbl := List.mem_append_right _ (List.mem_append_left _ (List.mem_of_getElem? (i := 187) rfl))
theorem tw_188 : (Jvm.Cond.lays "java/lang/IndexOutOfBoundsException" "java/lang/Throwable" "detailMessage" "Ljava/lang/String;") ∈ lw_tbl := List.mem_append_right _ (List.mem_append_left _ (List.mem_of_getElem? (i := 188) rfl))
theorem tw_189 : (Jvm.Cond.lays "java/lang/IndexOutOfBoundsException" "java/lang/Throwable" "backtrace" "Ljava/lang/Object;") ∈ lw_tbl := List.mem_append_right _ (List.mem_append_left _ (List.mem_of_getElem? (i := 189) rfl))
theorem tw_190 : (Jvm.Cond.methodLink "StageClock" (29 : Nat) ({ cls := "java/lang/IndexOutOfBoundsException", name := "<init>", desc := "()V" } : Jvm.MethodName)) ∈ lw_tbl := List.mem_append_right _ (List.mem_append_left _ (List.mem_of_getElem? (i := 190) rfl))
theorem tw_191 : (Jvm.Cond.instanceMethod ({ cls := "java/lang/IndexOutOfBoundsException", name := "<init>", desc := "()V" } : Jvm.MethodName)) ∈ lw_tbl := List.mem_append_right _ (List.mem_append_left _ (List.mem_of_getElem? (i := 191) rfl))
theorem tw_192 : (Jvm.Cond.code ({ cls := "java/lang/IndexOutOfBoundsException", name := "<init>", desc := "()V" } : Jvm.MethodName) prog_8_method_1_code (1 : Nat) (Option.none : Option Jvm.ClassFile.FieldType)) ∈ lw_tbl := List.mem_append_right _ (List.mem_append_left _ (List.mem_of_getElem? (i := 192) rfl))
theorem tw_193 : (Jvm.Cond.methodLink "java/lang/IndexOutOfBoundsException" (1 : Nat) ({ cls := "java/lang/RuntimeException", name := "<init>", desc := "()V" } : Jvm.MethodName)) ∈ lw_tbl := List.mem_append_right _ (List.mem_append_left _ (List.mem_of_getElem? (i := 193) rfl))
theorem tw_194 : (Jvm.Cond.lays "java/lang/IndexOutOfBoundsException" "java/lang/Throwable" "depth" "I") ∈ lw_tbl := List.mem_append_right _ (List.mem_append_left _ (List.mem_of_getElem? (i := 194) rfl))
theorem tw_195 : (Jvm.Cond.superclass "java/lang/IndexOutOfBoundsException" "java/lang/RuntimeException") ∈ lw_tbl := List.mem_append_right _ (List.mem_append_left _ (List.mem_of_getElem? (i := 195) rfl))
theorem tw_196 : (Jvm.Cond.methodLink "StageClockLaw" (61 : Nat) ({ cls := "StageClockLaw", name := "cut", desc := "(LStageClock;I[J)I" } : Jvm.MethodName)) ∈ lw_tbl := List.mem_append_right _ (List.mem_append_left _ (List.mem_of_getElem? (i := 196) rfl))
theorem tw_197 : (Jvm.Cond.static ({ cls := "StageClockLaw", name := "cut", desc := "(LStageClock;I[J)I" } : Jvm.MethodName)) ∈ lw_tbl := List.mem_append_right _ (List.mem_append_left _ (List.mem_of_getElem? (i := 197) rfl))
theorem tw_198 : (Jvm.Cond.codeWith ({ cls := "StageClockLaw", name := "cut", desc := "(LStageClock;I[J)I" } : Jvm.MethodName) method_5_code (4 : Nat) (Option.some Jvm.ClassFile.FieldType.int) [((0 : Nat), (9 : Nat), (12 : Nat), (13 : Nat))]) ∈ lw_tbl := List.mem_append_right _ (List.mem_append_left _ (List.mem_of_getElem? (i := 198) rfl))
theorem tw_199 : (Jvm.Cond.methodLink "StageClockLaw" (23 : Nat) ({ cls := "StageClock", name := "cut", desc := "(I)I" } : Jvm.MethodName)) ∈ lw_tbl := List.mem_append_right _ (List.mem_append_left _ (List.mem_of_getElem? (i := 199) rfl))
theorem tw_200 : (Jvm.Cond.instanceMethod ({ cls := "StageClock", name := "cut", desc := "(I)I" } : Jvm.MethodName)) ∈ lw_tbl := List.mem_append_right _ (List.mem_append_left _ (List.mem_of_getElem? (i := 200) rfl))
theorem tw_201 : (Jvm.Cond.selects "StageClock" ({ cls := "StageClock", name := "cut", desc := "(I)I" } : Jvm.MethodName) ({ cls := "StageClock", name := "cut", desc := "(I)I" } : Jvm.MethodName)) ∈ lw_tbl := List.mem_append_right _ (List.mem_append_left _ (List.mem_of_getElem? (i := 201) rfl))
theorem tw_202 : (Jvm.Cond.code ({ cls := "StageClock", name := "cut", desc := "(I)I" } : Jvm.MethodName) prog_1_method_11_code (3 : Nat) (Option.some Jvm.ClassFile.FieldType.int)) ∈ lw_tbl := List.mem_append_right _ (List.mem_append_left _ (List.mem_of_getElem? (i := 202) rfl))
theorem tw_203 : (Jvm.Cond.methodLink "StageClockLaw" (65 : Nat) ({ cls := "StageClockLaw", name := "when", desc := "(LStageClock;II[J)I" } : Jvm.MethodName)) ∈ lw_tbl := List.mem_append_right _ (List.mem_append_left _ (List.mem_of_getElem? (i := 203) rfl))
theorem tw_204 : (Jvm.Cond.static ({ cls := "StageClockLaw", name := "when", desc := "(LStageClock;II[J)I" } : Jvm.MethodName)) ∈ lw_tbl := List.mem_append_right _ (List.mem_append_left _ (List.mem_of_getElem? (i := 204) rfl))
theorem tw_205 : (Jvm.Cond.codeWith ({ cls := "StageClockLaw", name := "when", desc := "(LStageClock;II[J)I" } : Jvm.MethodName) method_6_code (5 : Nat) (Option.some Jvm.ClassFile.FieldType.int) [((0 : Nat), (10 : Nat), (13 : Nat), (13 : Nat)), ((0 : Nat), (10 : Nat), (17 : Nat), (21 : Nat))]) ∈ lw_tbl := List.mem_append_right _ (List.mem_append_left _ (List.mem_of_getElem? (i := 205) rfl))
theorem tw_206 : (Jvm.Cond.methodLink "StageClockLaw" (27 : Nat) ({ cls := "StageClock", name := "when", desc := "(II)I" } : Jvm.MethodName)) ∈ lw_tbl := List.mem_append_right _ (List.mem_append_left _ (List.mem_of_getElem? (i := 206) rfl))
theorem tw_207 : (Jvm.Cond.instanceMethod ({ cls := "StageClock", name := "when", desc := "(II)I" } : Jvm.MethodName)) ∈ lw_tbl := List.mem_append_right _ (List.mem_append_left _ (List.mem_of_getElem? (i := 207) rfl))
theorem tw_208 : (Jvm.Cond.selects "StageClock" ({ cls := "StageClock", name := "when", desc := "(II)I" } : Jvm.MethodName) ({ cls := "StageClock", name := "when", desc := "(II)I" } : Jvm.MethodName)) ∈ lw_tbl := List.mem_append_right _ (List.mem_append_left _ (List.mem_of_getElem? (i := 208) rfl))
theorem tw_209 : (Jvm.Cond.code ({ cls := "StageClock", name := "when", desc := "(II)I" } : Jvm.MethodName) prog_1_method_12_code (4 : Nat) (Option.some Jvm.ClassFile.FieldType.int)) ∈ lw_tbl := List.mem_append_right _ (List.mem_append_left _ (List.mem_of_getElem? (i := 209) rfl))
theorem tw_210 : (Jvm.Cond.methodLink "StageClock" (104 : Nat) ({ cls := "StageClock", name := "step", desc := "(I)LStageClock$Step;" } : Jvm.MethodName)) ∈ lw_tbl := List.mem_append_right _ (List.mem_append_left _ (List.mem_of_getElem? (i := 210) rfl))
theorem tw_211 : (Jvm.Cond.privateMethod ({ cls := "StageClock", name := "step", desc := "(I)LStageClock$Step;" } : Jvm.MethodName)) ∈ lw_tbl := List.mem_append_right _ (List.mem_append_left _ (List.mem_of_getElem? (i := 211) rfl))
theorem tw_212 : (Jvm.Cond.instanceMethod ({ cls := "StageClock", name := "step", desc := "(I)LStageClock$Step;" } : Jvm.MethodName)) ∈ lw_tbl := List.mem_append_right _ (List.mem_append_left _ (List.mem_of_getElem? (i := 212) rfl))
theorem tw_213 : (Jvm.Cond.code ({ cls := "StageClock", name := "step", desc := "(I)LStageClock$Step;" } : Jvm.MethodName) prog_1_method_4_code (2 : Nat) (Option.some (Jvm.ClassFile.FieldType.object "StageClock$Step"))) ∈ lw_tbl := List.mem_append_right _ (List.mem_append_left _ (List.mem_of_getElem? (i := 213) rfl))
theorem tw_214 : (Jvm.Cond.methodLink "StageClock" (33 : Nat) ({ cls := "StageClock", name := "work", desc := "(I)V" } : Jvm.MethodName)) ∈ lw_tbl := List.mem_append_right _ (List.mem_append_left _ (List.mem_of_getElem? (i := 214) rfl))
theorem tw_215 : (Jvm.Cond.privateMethod ({ cls := "StageClock", name := "work", desc := "(I)V" } : Jvm.MethodName)) ∈ lw_tbl := List.mem_append_right _ (List.mem_append_left _ (List.mem_of_getElem? (i := 215) rfl))
theorem tw_216 : (Jvm.Cond.instanceMethod ({ cls := "StageClock", name := "work", desc := "(I)V" } : Jvm.MethodName)) ∈ lw_tbl := List.mem_append_right _ (List.mem_append_left _ (List.mem_of_getElem? (i := 216) rfl))
theorem tw_217 : (Jvm.Cond.code ({ cls := "StageClock", name := "work", desc := "(I)V" } : Jvm.MethodName) prog_1_method_6_code (6 : Nat) (Option.none : Option Jvm.ClassFile.FieldType)) ∈ lw_tbl := List.mem_append_right _ (List.mem_append_left _ (List.mem_of_getElem? (i := 217) rfl))
theorem tw_218 : (Jvm.Cond.methodLink "StageClock" (55 : Nat) ({ cls := "StageClock$Step", name := "done", desc := "()I" } : Jvm.MethodName)) ∈ lw_tbl := List.mem_append_right _ (List.mem_append_left _ (List.mem_of_getElem? (i := 218) rfl))
theorem tw_219 : (Jvm.Cond.instanceMethod ({ cls := "StageClock$Step", name := "done", desc := "()I" } : Jvm.MethodName)) ∈ lw_tbl := List.mem_append_right _ (List.mem_append_left _ (List.mem_of_getElem? (i := 219) rfl))
theorem tw_220 : (Jvm.Cond.selects "StageClock$Step" ({ cls := "StageClock$Step", name := "done", desc := "()I" } : Jvm.MethodName) ({ cls := "StageClock$Step", name := "done", desc := "()I" } : Jvm.MethodName)) ∈ lw_tbl := List.mem_append_right _ (List.mem_append_left _ (List.mem_of_getElem? (i := 220) rfl))
theorem tw_221 : (Jvm.Cond.code ({ cls := "StageClock$Step", name := "done", desc := "()I" } : Jvm.MethodName) prog_2_method_2_code (1 : Nat) (Option.some Jvm.ClassFile.FieldType.int)) ∈ lw_tbl := List.mem_append_right _ (List.mem_append_left _ (List.mem_of_getElem? (i := 221) rfl))
theorem tw_222 : (Jvm.Cond.methodLink "StageClock" (58 : Nat) ({ cls := "java/lang/Math", name := "max", desc := "(II)I" } : Jvm.MethodName)) ∈ lw_tbl := List.mem_append_right _ (List.mem_append_left _ (List.mem_of_getElem? (i := 222) rfl))
theorem tw_223 : (Jvm.Cond.static ({ cls := "java/lang/Math", name := "max", desc := "(II)I" } : Jvm.MethodName)) ∈ lw_tbl := List.mem_append_right _ (List.mem_append_left _ (List.mem_of_getElem? (i := 223) rfl))
theorem tw_224 : (Jvm.Cond.code ({ cls := "java/lang/Math", name := "max", desc := "(II)I" } : Jvm.MethodName) prog_9_method_65_code (2 : Nat) (Option.some Jvm.ClassFile.FieldType.int)) ∈ lw_tbl := List.mem_append_right _ (List.mem_append_left _ (List.mem_of_getElem? (i := 224) rfl))
theorem tw_225 : (Jvm.Cond.methodLink "StageClock" (67 : Nat) ({ cls := "StageClock", name := "there", desc := "(LStageClock$Step;I)I" } : Jvm.MethodName)) ∈ lw_tbl := List.mem_append_right _ (List.mem_append_left _ (List.mem_of_getElem? (i := 225) rfl))
theorem tw_226 : (Jvm.Cond.privateMethod ({ cls := "StageClock", name := "there", desc := "(LStageClock$Step;I)I" } : Jvm.MethodName)) ∈ lw_tbl := List.mem_append_right _ (List.mem_append_left _ (List.mem_of_getElem? (i := 226) rfl))
theorem tw_227 : (Jvm.Cond.instanceMethod ({ cls := "StageClock", name := "there", desc := "(LStageClock$Step;I)I" } : Jvm.MethodName)) ∈ lw_tbl := List.mem_append_right _ (List.mem_append_left _ (List.mem_of_getElem? (i := 227) rfl))
theorem tw_228 : (Jvm.Cond.code ({ cls := "StageClock", name := "there", desc := "(LStageClock$Step;I)I" } : Jvm.MethodName) prog_1_method_5_code (3 : Nat) (Option.some Jvm.ClassFile.FieldType.int)) ∈ lw_tbl := List.mem_append_right _ (List.mem_append_left _ (List.mem_of_getElem? (i := 228) rfl))
theorem tw_229 : (Jvm.Cond.methodLink "StageClock" (41 : Nat) ({ cls := "StageClock$Step", name := "ready", desc := "()I" } : Jvm.MethodName)) ∈ lw_tbl := List.mem_append_right _ (List.mem_append_left _ (List.mem_of_getElem? (i := 229) rfl))
theorem tw_230 : (Jvm.Cond.instanceMethod ({ cls := "StageClock$Step", name := "ready", desc := "()I" } : Jvm.MethodName)) ∈ lw_tbl := List.mem_append_right _ (List.mem_append_left _ (List.mem_of_getElem? (i := 230) rfl))
theorem tw_231 : (Jvm.Cond.selects "StageClock$Step" ({ cls := "StageClock$Step", name := "ready", desc := "()I" } : Jvm.MethodName) ({ cls := "StageClock$Step", name := "ready", desc := "()I" } : Jvm.MethodName)) ∈ lw_tbl := List.mem_append_right _ (List.mem_append_left _ (List.mem_of_getElem? (i := 231) rfl))
theorem tw_232 : (Jvm.Cond.code ({ cls := "StageClock$Step", name := "ready", desc := "()I" } : Jvm.MethodName) prog_2_method_4_code (1 : Nat) (Option.some Jvm.ClassFile.FieldType.int)) ∈ lw_tbl := List.mem_append_right _ (List.mem_append_left _ (List.mem_of_getElem? (i := 232) rfl))
theorem tw_233 : (Jvm.Cond.methodLink "StageClock$Step" (29 : Nat) ({ cls := "StageClock$Step", name := "through", desc := "()I" } : Jvm.MethodName)) ∈ lw_tbl := List.mem_append_right _ (List.mem_append_left _ (List.mem_of_getElem? (i := 233) rfl))
theorem tw_234 : (Jvm.Cond.instanceMethod ({ cls := "StageClock$Step", name := "through", desc := "()I" } : Jvm.MethodName)) ∈ lw_tbl := List.mem_append_right _ (List.mem_append_left _ (List.mem_of_getElem? (i := 234) rfl))
theorem tw_235 : (Jvm.Cond.selects "StageClock$Step" ({ cls := "StageClock$Step", name := "through", desc := "()I" } : Jvm.MethodName) ({ cls := "StageClock$Step", name := "through", desc := "()I" } : Jvm.MethodName)) ∈ lw_tbl := List.mem_append_right _ (List.mem_append_left _ (List.mem_of_getElem? (i := 235) rfl))
theorem tw_236 : (Jvm.Cond.code ({ cls := "StageClock$Step", name := "through", desc := "()I" } : Jvm.MethodName) prog_2_method_3_code (1 : Nat) (Option.some Jvm.ClassFile.FieldType.int)) ∈ lw_tbl := List.mem_append_right _ (List.mem_append_left _ (List.mem_of_getElem? (i := 236) rfl))
theorem tw_237 : (Jvm.Cond.methodLink "StageClock$Step" (33 : Nat) ({ cls := "StageClock$Step", name := "done", desc := "()I" } : Jvm.MethodName)) ∈ lw_tbl := List.mem_append_right _ (List.mem_append_left _ (List.mem_of_getElem? (i := 237) rfl))
theorem tw_238 : (Jvm.Cond.methodLink "StageClock" (74 : Nat) ({ cls := "StageClock$Step", name := "through", desc := "()I" } : Jvm.MethodName)) ∈ lw_tbl := List.mem_append_right _ (List.mem_append_left _ (List.mem_of_getElem? (i := 238) rfl))
theorem tw_239 : (Jvm.Cond.methodLink "StageClockLaw" (69 : Nat) ({ cls := "StageClockLaw", name := "in", desc := "(LStageClock;II[J)I" } : Jvm.MethodName)) ∈ lw_tbl := List.mem_append_right _ (List.mem_append_left _ (List.mem_of_getElem? (i := 239) rfl))
theorem tw_240 : (Jvm.Cond.static ({ cls := "StageClockLaw", name := "in", desc := "(LStageClock;II[J)I" } : Jvm.MethodName)) ∈ lw_tbl := List.mem_append_right _ (List.mem_append_right _ (List.mem_of_getElem? (i := 0) rfl))
theorem tw_241 : (Jvm.Cond.codeWith ({ cls := "StageClockLaw", name := "in", desc := "(LStageClock;II[J)I" } : Jvm.MethodName) method_7_code (5 : Nat) (Option.some Jvm.ClassFile.FieldType.int) [((0 : Nat), (10 : Nat), (13 : Nat), (13 : Nat))]) ∈ lw_tbl := List.mem_append_right _ (List.mem_append_right _ (List.mem_of_getElem? (i := 1) rfl))
theorem tw_242 : (Jvm.Cond.methodLink "StageClockLaw" (31 : Nat) ({ cls := "StageClock", name := "in", desc := "(II)I" } : Jvm.MethodName)) ∈ lw_tbl := List.mem_append_right _ (List.mem_append_right _ (List.mem_of_getElem? (i := 2) rfl))
theorem tw_243 : (Jvm.Cond.instanceMethod ({ cls := "StageClock", name := "in", desc := "(II)I" } : Jvm.MethodName)) ∈ lw_tbl := List.mem_append_right _ (List.mem_append_right _ (List.mem_of_getElem? (i := 3) rfl))
theorem tw_244 : (Jvm.Cond.selects "StageClock" ({ cls := "StageClock", name := "in", desc := "(II)I" } : Jvm.MethodName) ({ cls := "StageClock", name := "in", desc := "(II)I" } : Jvm.MethodName)) ∈ lw_tbl := List.mem_append_right _ (List.mem_append_right _ (List.mem_of_getElem? (i := 4) rfl))
theorem tw_245 : (Jvm.Cond.code ({ cls := "StageClock", name := "in", desc := "(II)I" } : Jvm.MethodName) prog_1_method_13_code (7 : Nat) (Option.some Jvm.ClassFile.FieldType.int)) ∈ lw_tbl := List.mem_append_right _ (List.mem_append_right _ (List.mem_of_getElem? (i := 5) rfl))
theorem tw_246 : (Jvm.Cond.methodLink "StageClockLaw" (72 : Nat) ({ cls := "StageClockLaw", name := "held", desc := "(LStageClock;I[J)I" } : Jvm.MethodName)) ∈ lw_tbl := List.mem_append_right _ (List.mem_append_right _ (List.mem_of_getElem? (i := 6) rfl))
theorem tw_247 : (Jvm.Cond.static ({ cls := "StageClockLaw", name := "held", desc := "(LStageClock;I[J)I" } : Jvm.MethodName)) ∈ lw_tbl := List.mem_append_right _ (List.mem_append_right _ (List.mem_of_getElem? (i := 7) rfl))
theorem tw_248 : (Jvm.Cond.codeWith ({ cls := "StageClockLaw", name := "held", desc := "(LStageClock;I[J)I" } : Jvm.MethodName) method_8_code (4 : Nat) (Option.some Jvm.ClassFile.FieldType.int) [((0 : Nat), (9 : Nat), (12 : Nat), (21 : Nat))]) ∈ lw_tbl := List.mem_append_right _ (List.mem_append_right _ (List.mem_of_getElem? (i := 8) rfl))
theorem tw_249 : (Jvm.Cond.methodLink "StageClockLaw" (34 : Nat) ({ cls := "StageClock", name := "held", desc := "(I)I" } : Jvm.MethodName)) ∈ lw_tbl := List.mem_append_right _ (List.mem_append_right _ (List.mem_of_getElem? (i := 9) rfl))
theorem tw_250 : (Jvm.Cond.instanceMethod ({ cls := "StageClock", name := "held", desc := "(I)I" } : Jvm.MethodName)) ∈ lw_tbl := List.mem_append_right _ (List.mem_append_right _ (List.mem_of_getElem? (i := 10) rfl))
theorem tw_251 : (Jvm.Cond.selects "StageClock" ({ cls := "StageClock", name := "held", desc := "(I)I" } : Jvm.MethodName) ({ cls := "StageClock", name := "held", desc := "(I)I" } : Jvm.MethodName)) ∈ lw_tbl := List.mem_append_right _ (List.mem_append_right _ (List.mem_of_getElem? (i := 11) rfl))
theorem tw_252 : (Jvm.Cond.code ({ cls := "StageClock", name := "held", desc := "(I)I" } : Jvm.MethodName) prog_1_method_14_code (3 : Nat) (Option.some Jvm.ClassFile.FieldType.int)) ∈ lw_tbl := List.mem_append_right _ (List.mem_append_right _ (List.mem_of_getElem? (i := 12) rfl))
theorem tw_253 : (Jvm.Cond.methodLink "StageClockLaw" (75 : Nat) ({ cls := "StageClockLaw", name := "giver", desc := "(LStageClock;II[J)I" } : Jvm.MethodName)) ∈ lw_tbl := List.mem_append_right _ (List.mem_append_right _ (List.mem_of_getElem? (i := 13) rfl))
theorem tw_254 : (Jvm.Cond.static ({ cls := "StageClockLaw", name := "giver", desc := "(LStageClock;II[J)I" } : Jvm.MethodName)) ∈ lw_tbl := List.mem_append_right _ (List.mem_append_right _ (List.mem_of_getElem? (i := 14) rfl))
theorem tw_255 : (Jvm.Cond.codeWith ({ cls := "StageClockLaw", name := "giver", desc := "(LStageClock;II[J)I" } : Jvm.MethodName) method_9_code (5 : Nat) (Option.some Jvm.ClassFile.FieldType.int) [((0 : Nat), (10 : Nat), (13 : Nat), (13 : Nat)), ((0 : Nat), (10 : Nat), (17 : Nat), (21 : Nat))]) ∈ lw_tbl := List.mem_append_right _ (List.mem_append_right _ (List.mem_of_getElem? (i := 15) rfl))
theorem tw_256 : (Jvm.Cond.methodLink "StageClockLaw" (37 : Nat) ({ cls := "StageClock", name := "giver", desc := "(II)I" } : Jvm.MethodName)) ∈ lw_tbl := List.mem_append_right _ (List.mem_append_right _ (List.mem_of_getElem? (i := 16) rfl))
theorem tw_257 : (Jvm.Cond.instanceMethod ({ cls := "StageClock", name := "giver", desc := "(II)I" } : Jvm.MethodName)) ∈ lw_tbl := List.mem_append_right _ (List.mem_append_right _ (List.mem_of_getElem? (i := 17) rfl))
theorem tw_258 : (Jvm.Cond.selects "StageClock" ({ cls := "StageClock", name := "giver", desc := "(II)I" } : Jvm.MethodName) ({ cls := "StageClock", name := "giver", desc := "(II)I" } : Jvm.MethodName)) ∈ lw_tbl := List.mem_append_right _ (List.mem_append_right _ (List.mem_of_getElem? (i := 18) rfl))
theorem tw_259 : (Jvm.Cond.code ({ cls := "StageClock", name := "giver", desc := "(II)I" } : Jvm.MethodName) prog_1_method_15_code (3 : Nat) (Option.some Jvm.ClassFile.FieldType.int)) ∈ lw_tbl := List.mem_append_right _ (List.mem_append_right _ (List.mem_of_getElem? (i := 19) rfl))
theorem tw_260 : (Jvm.Cond.methodLink "StageClockLaw" (78 : Nat) ({ cls := "StageClockLaw", name := "count", desc := "(LStageClock;I[J)I" } : Jvm.MethodName)) ∈ lw_tbl := List.mem_append_right _ (List.mem_append_right _ (List.mem_of_getElem? (i := 20) rfl))
theorem tw_261 : (Jvm.Cond.static ({ cls := "StageClockLaw", name := "count", desc := "(LStageClock;I[J)I" } : Jvm.MethodName)) ∈ lw_tbl := List.mem_append_right _ (List.mem_append_right _ (List.mem_of_getElem? (i := 21) rfl))
theorem tw_262 : (Jvm.Cond.codeWith ({ cls := "StageClockLaw", name := "count", desc := "(LStageClock;I[J)I" } : Jvm.MethodName) method_10_code (4 : Nat) (Option.some Jvm.ClassFile.FieldType.int) [((0 : Nat), (9 : Nat), (12 : Nat), (13 : Nat))]) ∈ lw_tbl := List.mem_append_right _ (List.mem_append_right _ (List.mem_of_getElem? (i := 22) rfl))
theorem tw_263 : (Jvm.Cond.methodLink "StageClockLaw" (40 : Nat) ({ cls := "StageClock", name := "count", desc := "(I)I" } : Jvm.MethodName)) ∈ lw_tbl := List.mem_append_right _ (List.mem_append_right _ (List.mem_of_getElem? (i := 23) rfl))
theorem tw_264 : (Jvm.Cond.instanceMethod ({ cls := "StageClock", name := "count", desc := "(I)I" } : Jvm.MethodName)) ∈ lw_tbl := List.mem_append_right _ (List.mem_append_right _ (List.mem_of_getElem? (i := 24) rfl))
theorem tw_265 : (Jvm.Cond.selects "StageClock" ({ cls := "StageClock", name := "count", desc := "(I)I" } : Jvm.MethodName) ({ cls := "StageClock", name := "count", desc := "(I)I" } : Jvm.MethodName)) ∈ lw_tbl := List.mem_append_right _ (List.mem_append_right _ (List.mem_of_getElem? (i := 25) rfl))
theorem tw_266 : (Jvm.Cond.code ({ cls := "StageClock", name := "count", desc := "(I)I" } : Jvm.MethodName) prog_1_method_16_code (5 : Nat) (Option.some Jvm.ClassFile.FieldType.int)) ∈ lw_tbl := List.mem_append_right _ (List.mem_append_right _ (List.mem_of_getElem? (i := 26) rfl))
theorem tw_267 : (Jvm.Cond.classLink "StageClockLaw" (44 : Nat) "StageClockModel") ∈ lw_tbl := List.mem_append_right _ (List.mem_append_right _ (List.mem_of_getElem? (i := 27) rfl))
theorem tw_268 : (Jvm.Cond.instantiable "StageClockModel" (15 : Nat)) ∈ lw_tbl := List.mem_append_right _ (List.mem_append_right _ (List.mem_of_getElem? (i := 28) rfl))
theorem tw_269 : (Jvm.Cond.methodLink "StageClockLaw" (46 : Nat) ({ cls := "StageClockModel", name := "<init>", desc := "()V" } : Jvm.MethodName)) ∈ lw_tbl := List.mem_append_right _ (List.mem_append_right _ (List.mem_of_getElem? (i := 29) rfl))
theorem tw_270 : (Jvm.Cond.instanceMethod ({ cls := "StageClockModel", name := "<init>", desc := "()V" } : Jvm.MethodName)) ∈ lw_tbl := List.mem_append_right _ (List.mem_append_right _ (List.mem_of_getElem? (i := 30) rfl))
theorem tw_271 : (Jvm.Cond.code ({ cls := "StageClockModel", name := "<init>", desc := "()V" } : Jvm.MethodName) prog_4_method_1_code (1 : Nat) (Option.none : Option Jvm.ClassFile.FieldType)) ∈ lw_tbl := List.mem_append_right _ (List.mem_append_right _ (List.mem_of_getElem? (i := 31) rfl))
theorem tw_272 : (Jvm.Cond.methodLink "StageClockModel" (1 : Nat) ({ cls := "java/lang/Object", name := "<init>", desc := "()V" } : Jvm.MethodName)) ∈ lw_tbl := List.mem_append_right _ (List.mem_append_right _ (List.mem_of_getElem? (i := 32) rfl))
theorem tw_273 : (Jvm.Cond.fieldLink "StageClockModel" (47 : Nat) "StageClockModel" "err" "I") ∈ lw_tbl := List.mem_append_right _ (List.mem_append_right _ (List.mem_of_getElem? (i := 33) rfl))
theorem tw_274 : (Jvm.Cond.fieldLink "StageClockModel" (7 : Nat) "StageClockModel" "long0" "[I") ∈ lw_tbl := List.mem_append_right _ (List.mem_append_right _ (List.mem_of_getElem? (i := 34) rfl))
theorem tw_275 : (Jvm.Cond.fieldLink "StageClockModel" (13 : Nat) "StageClockModel" "gets" "[I") ∈ lw_tbl := List.mem_append_right _ (List.mem_append_right _ (List.mem_of_getElem? (i := 35) rfl))
theorem tw_276 : (Jvm.Cond.fieldLink "StageClockModel" (16 : Nat) "StageClockModel" "reads" "[I") ∈ lw_tbl := List.mem_append_right _ (List.mem_append_right _ (List.mem_of_getElem? (i := 36) rfl))
theorem tw_277 : (Jvm.Cond.fieldLink "StageClockModel" (19 : Nat) "StageClockModel" "late" "[I") ∈ lw_tbl := List.mem_append_right _ (List.mem_append_right _ (List.mem_of_getElem? (i := 37) rfl))
theorem tw_278 : (Jvm.Cond.fieldLink "StageClockModel" (22 : Nat) "StageClockModel" "wait" "[I") ∈ lw_tbl := List.mem_append_right _ (List.mem_append_right _ (List.mem_of_getElem? (i := 38) rfl))
theorem tw_279 : (Jvm.Cond.fieldLink "StageClockModel" (25 : Nat) "StageClockModel" "load" "[Z") ∈ lw_tbl := List.mem_append_right _ (List.mem_append_right _ (List.mem_of_getElem? (i := 39) rfl))
theorem tw_280 : (Jvm.Cond.fieldLink "StageClockModel" (29 : Nat) "StageClockModel" "wrong" "[Z") ∈ lw_tbl := List.mem_append_right _ (List.mem_append_right _ (List.mem_of_getElem? (i := 40) rfl))
theorem tw_281 : (Jvm.Cond.fieldLink "StageClockModel" (32 : Nat) "StageClockModel" "f" "[I") ∈ lw_tbl := List.mem_append_right _ (List.mem_append_right _ (List.mem_of_getElem? (i := 41) rfl))
theorem tw_282 : (Jvm.Cond.fieldLink "StageClockModel" (35 : Nat) "StageClockModel" "d" "[I") ∈ lw_tbl := List.mem_append_right _ (List.mem_append_right _ (List.mem_of_getElem? (i := 42) rfl))
theorem tw_283 : (Jvm.Cond.fieldLink "StageClockModel" (38 : Nat) "StageClockModel" "x" "[I") ∈ lw_tbl := List.mem_append_right _ (List.mem_append_right _ (List.mem_of_getElem? (i := 43) rfl))
theorem tw_284 : (Jvm.Cond.fieldLink "StageClockModel" (41 : Nat) "StageClockModel" "m" "[I") ∈ lw_tbl := List.mem_append_right _ (List.mem_append_right _ (List.mem_of_getElem? (i := 44) rfl))
theorem tw_285 : (Jvm.Cond.fieldLink "StageClockModel" (44 : Nat) "StageClockModel" "w" "[I") ∈ lw_tbl := List.mem_append_right _ (List.mem_append_right _ (List.mem_of_getElem? (i := 45) rfl))
theorem tw_286 : (Jvm.Cond.fieldLink "StageClockModel" (62 : Nat) "StageClockModel" "many" "I") ∈ lw_tbl := List.mem_append_right _ (List.mem_append_right _ (List.mem_of_getElem? (i := 46) rfl))
theorem tw_287 : (Jvm.Cond.fieldLink "StageClockModel" (51 : Nat) "StageClockModel" "known" "I") ∈ lw_tbl := List.mem_append_right _ (List.mem_append_right _ (List.mem_of_getElem? (i := 47) rfl))
theorem tw_288 : (Jvm.Cond.lays "StageClockModel" "StageClockModel" "err" "I") ∈ lw_tbl := List.mem_append_right _ (List.mem_append_right _ (List.mem_of_getElem? (i := 48) rfl))
theorem tw_289 : (Jvm.Cond.soleField "StageClockModel" "err") ∈ lw_tbl := List.mem_append_right _ (List.mem_append_right _ (List.mem_of_getElem? (i := 49) rfl))
theorem tw_290 : (Jvm.Cond.laysFinal "StageClockModel" "StageClockModel" "long0" "[I") ∈ lw_tbl := List.mem_append_right _ (List.mem_append_right _ (List.mem_of_getElem? (i := 50) rfl))
theorem tw_291 : (Jvm.Cond.soleField "StageClockModel" "long0") ∈ lw_tbl := List.mem_append_right _ (List.mem_append_right _ (List.mem_of_getElem? (i := 51) rfl))
theorem tw_292 : (Jvm.Cond.laysFinal "StageClockModel" "StageClockModel" "gets" "[I") ∈ lw_tbl := List.mem_append_right _ (List.mem_append_right _ (List.mem_of_getElem? (i := 52) rfl))
theorem tw_293 : (Jvm.Cond.soleField "StageClockModel" "gets") ∈ lw_tbl := List.mem_append_right _ (List.mem_append_right _ (List.mem_of_getElem? (i := 53) rfl))
theorem tw_294 : (Jvm.Cond.laysFinal "StageClockModel" "StageClockModel" "reads" "[I") ∈ lw_tbl := List.mem_append_right _ (List.mem_append_right _ (List.mem_of_getElem? (i := 54) rfl))
theorem tw_295 : (Jvm.Cond.soleField "StageClockModel" "reads") ∈ lw_tbl := List.mem_append_right _ (List.mem_append_right _ (List.mem_of_getElem? (i := 55) rfl))
theorem tw_296 : (Jvm.Cond.laysFinal "StageClockModel" "StageClockModel" "late" "[I") ∈ lw_tbl := List.mem_append_right _ (List.mem_append_right _ (List.mem_of_getElem? (i := 56) rfl))
theorem tw_297 : (Jvm.Cond.soleField "StageClockModel" "late") ∈ lw_tbl := List.mem_append_right _ (List.mem_append_right _ (List.mem_of_getElem? (i := 57) rfl))
theorem tw_298 : (Jvm.Cond.laysFinal "StageClockModel" "StageClockModel" "wait" "[I") ∈ lw_tbl := List.mem_append_right _ (List.mem_append_right _ (List.mem_of_getElem? (i := 58) rfl))
theorem tw_299 : (Jvm.Cond.soleField "StageClockModel" "wait") ∈ lw_tbl := List.mem_append_right _ (List.mem_append_right _ (List.mem_of_getElem? (i := 59) rfl))
theorem tw_300 : (Jvm.Cond.laysFinal "StageClockModel" "StageClockModel" "load" "[Z") ∈ lw_tbl := List.mem_append_right _ (List.mem_append_right _ (List.mem_of_getElem? (i := 60) rfl))
theorem tw_301 : (Jvm.Cond.soleField "StageClockModel" "load") ∈ lw_tbl := List.mem_append_right _ (List.mem_append_right _ (List.mem_of_getElem? (i := 61) rfl))
theorem tw_302 : (Jvm.Cond.laysFinal "StageClockModel" "StageClockModel" "wrong" "[Z") ∈ lw_tbl := List.mem_append_right _ (List.mem_append_right _ (List.mem_of_getElem? (i := 62) rfl))
theorem tw_303 : (Jvm.Cond.soleField "StageClockModel" "wrong") ∈ lw_tbl := List.mem_append_right _ (List.mem_append_right _ (List.mem_of_getElem? (i := 63) rfl))
theorem tw_304 : (Jvm.Cond.laysFinal "StageClockModel" "StageClockModel" "f" "[I") ∈ lw_tbl := List.mem_append_right _ (List.mem_append_right _ (List.mem_of_getElem? (i := 64) rfl))
theorem tw_305 : (Jvm.Cond.soleField "StageClockModel" "f") ∈ lw_tbl := List.mem_append_right _ (List.mem_append_right _ (List.mem_of_getElem? (i := 65) rfl))
theorem tw_306 : (Jvm.Cond.laysFinal "StageClockModel" "StageClockModel" "d" "[I") ∈ lw_tbl := List.mem_append_right _ (List.mem_append_right _ (List.mem_of_getElem? (i := 66) rfl))
theorem tw_307 : (Jvm.Cond.soleField "StageClockModel" "d") ∈ lw_tbl := List.mem_append_right _ (List.mem_append_right _ (List.mem_of_getElem? (i := 67) rfl))
theorem tw_308 : (Jvm.Cond.laysFinal "StageClockModel" "StageClockModel" "x" "[I") ∈ lw_tbl := List.mem_append_right _ (List.mem_append_right _ (List.mem_of_getElem? (i := 68) rfl))
theorem tw_309 : (Jvm.Cond.soleField "StageClockModel" "x") ∈ lw_tbl := List.mem_append_right _ (List.mem_append_right _ (List.mem_of_getElem? (i := 69) rfl))
theorem tw_310 : (Jvm.Cond.laysFinal "StageClockModel" "StageClockModel" "m" "[I") ∈ lw_tbl := List.mem_append_right _ (List.mem_append_right _ (List.mem_of_getElem? (i := 70) rfl))
theorem tw_311 : (Jvm.Cond.soleField "StageClockModel" "m") ∈ lw_tbl := List.mem_append_right _ (List.mem_append_right _ (List.mem_of_getElem? (i := 71) rfl))
theorem tw_312 : (Jvm.Cond.laysFinal "StageClockModel" "StageClockModel" "w" "[I") ∈ lw_tbl := List.mem_append_right _ (List.mem_append_right _ (List.mem_of_getElem? (i := 72) rfl))
theorem tw_313 : (Jvm.Cond.soleField "StageClockModel" "w") ∈ lw_tbl := List.mem_append_right _ (List.mem_append_right _ (List.mem_of_getElem? (i := 73) rfl))
theorem tw_314 : (Jvm.Cond.lays "StageClockModel" "StageClockModel" "many" "I") ∈ lw_tbl := List.mem_append_right _ (List.mem_append_right _ (List.mem_of_getElem? (i := 74) rfl))
theorem tw_315 : (Jvm.Cond.soleField "StageClockModel" "many") ∈ lw_tbl := List.mem_append_right _ (List.mem_append_right _ (List.mem_of_getElem? (i := 75) rfl))
theorem tw_316 : (Jvm.Cond.lays "StageClockModel" "StageClockModel" "known" "I") ∈ lw_tbl := List.mem_append_right _ (List.mem_append_right _ (List.mem_of_getElem? (i := 76) rfl))
theorem tw_317 : (Jvm.Cond.soleField "StageClockModel" "known") ∈ lw_tbl := List.mem_append_right _ (List.mem_append_right _ (List.mem_of_getElem? (i := 77) rfl))
theorem tw_318 : (Jvm.Cond.superclass "StageClockModel" "java/lang/Object") ∈ lw_tbl := List.mem_append_right _ (List.mem_append_right _ (List.mem_of_getElem? (i := 78) rfl))
theorem tw_319 : (Jvm.Cond.arrayClass Jvm.ClassFile.FieldType.boolean) ∈ lw_tbl := List.mem_append_right _ (List.mem_append_right _ (List.mem_of_getElem? (i := 79) rfl))
theorem tw_320 : (Jvm.Cond.methodLink "StageClockLaw" (53 : Nat) ({ cls := "StageClockModel", name := "thrown", desc := "()I" } : Jvm.MethodName)) ∈ lw_tbl := List.mem_append_right _ (List.mem_append_right _ (List.mem_of_getElem? (i := 80) rfl))
theorem tw_321 : (Jvm.Cond.instanceMethod ({ cls := "StageClockModel", name := "thrown", desc := "()I" } : Jvm.MethodName)) ∈ lw_tbl := List.mem_append_right _ (List.mem_append_right _ (List.mem_of_getElem? (i := 81) rfl))
theorem tw_322 : (Jvm.Cond.selects "StageClockModel" ({ cls := "StageClockModel", name := "thrown", desc := "()I" } : Jvm.MethodName) ({ cls := "StageClockModel", name := "thrown", desc := "()I" } : Jvm.MethodName)) ∈ lw_tbl := List.mem_append_right _ (List.mem_append_right _ (List.mem_of_getElem? (i := 82) rfl))
theorem tw_323 : (Jvm.Cond.code ({ cls := "StageClockModel", name := "thrown", desc := "()I" } : Jvm.MethodName) prog_4_method_2_code (1 : Nat) (Option.some Jvm.ClassFile.FieldType.int)) ∈ lw_tbl := List.mem_append_right _ (List.mem_append_right _ (List.mem_of_getElem? (i := 83) rfl))
theorem tw_324 : (Jvm.Cond.methodLink "StageClockLaw" (52 : Nat) ({ cls := "StageClockModel", name := "add", desc := "(IIIIZIZ)I" } : Jvm.MethodName)) ∈ lw_tbl := List.mem_append_right _ (List.mem_append_right _ (List.mem_of_getElem? (i := 84) rfl))
theorem tw_325 : (Jvm.Cond.instanceMethod ({ cls := "StageClockModel", name := "add", desc := "(IIIIZIZ)I" } : Jvm.MethodName)) ∈ lw_tbl := List.mem_append_right _ (List.mem_append_right _ (List.mem_of_getElem? (i := 85) rfl))
theorem tw_326 : (Jvm.Cond.selects "StageClockModel" ({ cls := "StageClockModel", name := "add", desc := "(IIIIZIZ)I" } : Jvm.MethodName) ({ cls := "StageClockModel", name := "add", desc := "(IIIIZIZ)I" } : Jvm.MethodName)) ∈ lw_tbl := List.mem_append_right _ (List.mem_append_right _ (List.mem_of_getElem? (i := 86) rfl))
theorem tw_327 : (Jvm.Cond.code ({ cls := "StageClockModel", name := "add", desc := "(IIIIZIZ)I" } : Jvm.MethodName) prog_4_method_6_code (8 : Nat) (Option.some Jvm.ClassFile.FieldType.int)) ∈ lw_tbl := List.mem_append_right _ (List.mem_append_right _ (List.mem_of_getElem? (i := 87) rfl))
theorem tw_328 : (Jvm.Cond.methodLink "StageClockModel" (54 : Nat) ({ cls := "StageClockModel", name := "bad", desc := "(IIII)Z" } : Jvm.MethodName)) ∈ lw_tbl := List.mem_append_right _ (List.mem_append_right _ (List.mem_of_getElem? (i := 88) rfl))
theorem tw_329 : (Jvm.Cond.static ({ cls := "StageClockModel", name := "bad", desc := "(IIII)Z" } : Jvm.MethodName)) ∈ lw_tbl := List.mem_append_right _ (List.mem_append_right _ (List.mem_of_getElem? (i := 89) rfl))
theorem tw_330 : (Jvm.Cond.code ({ cls := "StageClockModel", name := "bad", desc := "(IIII)Z" } : Jvm.MethodName) prog_4_method_4_code (4 : Nat) (Option.some Jvm.ClassFile.FieldType.boolean)) ∈ lw_tbl := List.mem_append_right _ (List.mem_append_right _ (List.mem_of_getElem? (i := 90) rfl))
theorem tw_331 : (Jvm.Cond.methodLink "StageClockModel" (58 : Nat) ({ cls := "StageClockModel", name := "fails", desc := "(ZI)Z" } : Jvm.MethodName)) ∈ lw_tbl := List.mem_append_right _ (List.mem_append_right _ (List.mem_of_getElem? (i := 91) rfl))
theorem tw_332 : (Jvm.Cond.privateMethod ({ cls := "StageClockModel", name := "fails", desc := "(ZI)Z" } : Jvm.MethodName)) ∈ lw_tbl := List.mem_append_right _ (List.mem_append_right _ (List.mem_of_getElem? (i := 92) rfl))
theorem tw_333 : (Jvm.Cond.instanceMethod ({ cls := "StageClockModel", name := "fails", desc := "(ZI)Z" } : Jvm.MethodName)) ∈ lw_tbl := List.mem_append_right _ (List.mem_append_right _ (List.mem_of_getElem? (i := 93) rfl))
theorem tw_334 : (Jvm.Cond.code ({ cls := "StageClockModel", name := "fails", desc := "(ZI)Z" } : Jvm.MethodName) prog_4_method_3_code (3 : Nat) (Option.some Jvm.ClassFile.FieldType.boolean)) ∈ lw_tbl := List.mem_append_right _ (List.mem_append_right _ (List.mem_of_getElem? (i := 94) rfl))
theorem tw_335 : (Jvm.Cond.methodLink "StageClockModel" (65 : Nat) ({ cls := "StageClockModel", name := "give", desc := "(IIIIIZIZ)V" } : Jvm.MethodName)) ∈ lw_tbl := List.mem_append_right _ (List.mem_append_right _ (List.mem_of_getElem? (i := 95) rfl))
theorem tw_336 : (Jvm.Cond.privateMethod ({ cls := "StageClockModel", name := "give", desc := "(IIIIIZIZ)V" } : Jvm.MethodName)) ∈ lw_tbl := List.mem_append_right _ (List.mem_append_right _ (List.mem_of_getElem? (i := 96) rfl))
theorem tw_337 : (Jvm.Cond.instanceMethod ({ cls := "StageClockModel", name := "give", desc := "(IIIIIZIZ)V" } : Jvm.MethodName)) ∈ lw_tbl := List.mem_append_right _ (List.mem_append_right _ (List.mem_of_getElem? (i := 97) rfl))
theorem tw_338 : (Jvm.Cond.code ({ cls := "StageClockModel", name := "give", desc := "(IIIIIZIZ)V" } : Jvm.MethodName) prog_4_method_5_code (9 : Nat) (Option.none : Option Jvm.ClassFile.FieldType)) ∈ lw_tbl := List.mem_append_right _ (List.mem_append_right _ (List.mem_of_getElem? (i := 98) rfl))
theorem tw_339 : (Jvm.Cond.methodLink "StageClockLaw" (60 : Nat) ({ cls := "StageClockModel", name := "change", desc := "(IIIIIZIZ)V" } : Jvm.MethodName)) ∈ lw_tbl := List.mem_append_right _ (List.mem_append_right _ (List.mem_of_getElem? (i := 99) rfl))
theorem tw_340 : (Jvm.Cond.instanceMethod ({ cls := "StageClockModel", name := "change", desc := "(IIIIIZIZ)V" } : Jvm.MethodName)) ∈ lw_tbl := List.mem_append_right _ (List.mem_append_right _ (List.mem_of_getElem? (i := 100) rfl))
theorem tw_341 : (Jvm.Cond.selects "StageClockModel" ({ cls := "StageClockModel", name := "change", desc := "(IIIIIZIZ)V" } : Jvm.MethodName) ({ cls := "StageClockModel", name := "change", desc := "(IIIIIZIZ)V" } : Jvm.MethodName)) ∈ lw_tbl := List.mem_append_right _ (List.mem_append_right _ (List.mem_of_getElem? (i := 101) rfl))
theorem tw_342 : (Jvm.Cond.code ({ cls := "StageClockModel", name := "change", desc := "(IIIIIZIZ)V" } : Jvm.MethodName) prog_4_method_7_code (9 : Nat) (Option.none : Option Jvm.ClassFile.FieldType)) ∈ lw_tbl := List.mem_append_right _ (List.mem_append_right _ (List.mem_of_getElem? (i := 102) rfl))
theorem tw_343 : (Jvm.Cond.methodLink "StageClockLaw" (64 : Nat) ({ cls := "StageClockModel", name := "cut", desc := "(I)I" } : Jvm.MethodName)) ∈ lw_tbl := List.mem_append_right _ (List.mem_append_right _ (List.mem_of_getElem? (i := 103) rfl))
theorem tw_344 : (Jvm.Cond.instanceMethod ({ cls := "StageClockModel", name := "cut", desc := "(I)I" } : Jvm.MethodName)) ∈ lw_tbl := List.mem_append_right _ (List.mem_append_right _ (List.mem_of_getElem? (i := 104) rfl))
theorem tw_345 : (Jvm.Cond.selects "StageClockModel" ({ cls := "StageClockModel", name := "cut", desc := "(I)I" } : Jvm.MethodName) ({ cls := "StageClockModel", name := "cut", desc := "(I)I" } : Jvm.MethodName)) ∈ lw_tbl := List.mem_append_right _ (List.mem_append_right _ (List.mem_of_getElem? (i := 105) rfl))
theorem tw_346 : (Jvm.Cond.code ({ cls := "StageClockModel", name := "cut", desc := "(I)I" } : Jvm.MethodName) prog_4_method_8_code (3 : Nat) (Option.some Jvm.ClassFile.FieldType.int)) ∈ lw_tbl := List.mem_append_right _ (List.mem_append_right _ (List.mem_of_getElem? (i := 106) rfl))
theorem tw_347 : (Jvm.Cond.methodLink "StageClockLaw" (68 : Nat) ({ cls := "StageClockModel", name := "when", desc := "(II)I" } : Jvm.MethodName)) ∈ lw_tbl := List.mem_append_right _ (List.mem_append_right _ (List.mem_of_getElem? (i := 107) rfl))
theorem tw_348 : (Jvm.Cond.instanceMethod ({ cls := "StageClockModel", name := "when", desc := "(II)I" } : Jvm.MethodName)) ∈ lw_tbl := List.mem_append_right _ (List.mem_append_right _ (List.mem_of_getElem? (i := 108) rfl))
theorem tw_349 : (Jvm.Cond.selects "StageClockModel" ({ cls := "StageClockModel", name := "when", desc := "(II)I" } : Jvm.MethodName) ({ cls := "StageClockModel", name := "when", desc := "(II)I" } : Jvm.MethodName)) ∈ lw_tbl := List.mem_append_right _ (List.mem_append_right _ (List.mem_of_getElem? (i := 109) rfl))
theorem tw_350 : (Jvm.Cond.code ({ cls := "StageClockModel", name := "when", desc := "(II)I" } : Jvm.MethodName) prog_4_method_15_code (3 : Nat) (Option.some Jvm.ClassFile.FieldType.int)) ∈ lw_tbl := List.mem_append_right _ (List.mem_append_right _ (List.mem_of_getElem? (i := 110) rfl))
theorem tw_351 : (Jvm.Cond.methodLink "StageClockModel" (86 : Nat) ({ cls := "StageClockModel", name := "reckon", desc := "()V" } : Jvm.MethodName)) ∈ lw_tbl := List.mem_append_right _ (List.mem_append_right _ (List.mem_of_getElem? (i := 111) rfl))
theorem tw_352 : (Jvm.Cond.privateMethod ({ cls := "StageClockModel", name := "reckon", desc := "()V" } : Jvm.MethodName)) ∈ lw_tbl := List.mem_append_right _ (List.mem_append_right _ (List.mem_of_getElem? (i := 112) rfl))
theorem tw_353 : (Jvm.Cond.instanceMethod ({ cls := "StageClockModel", name := "reckon", desc := "()V" } : Jvm.MethodName)) ∈ lw_tbl := List.mem_append_right _ (List.mem_append_right _ (List.mem_of_getElem? (i := 113) rfl))
theorem tw_354 : (Jvm.Cond.code ({ cls := "StageClockModel", name := "reckon", desc := "()V" } : Jvm.MethodName) prog_4_method_14_code (4 : Nat) (Option.none : Option Jvm.ClassFile.FieldType)) ∈ lw_tbl := List.mem_append_right _ (List.mem_append_right _ (List.mem_of_getElem? (i := 114) rfl))
theorem tw_355 : (Jvm.Cond.methodLink "StageClockModel" (77 : Nat) ({ cls := "StageClockModel", name := "xe", desc := "(I)I" } : Jvm.MethodName)) ∈ lw_tbl := List.mem_append_right _ (List.mem_append_right _ (List.mem_of_getElem? (i := 115) rfl))
theorem tw_356 : (Jvm.Cond.privateMethod ({ cls := "StageClockModel", name := "xe", desc := "(I)I" } : Jvm.MethodName)) ∈ lw_tbl := List.mem_append_right _ (List.mem_append_right _ (List.mem_of_getElem? (i := 116) rfl))
theorem tw_357 : (Jvm.Cond.instanceMethod ({ cls := "StageClockModel", name := "xe", desc := "(I)I" } : Jvm.MethodName)) ∈ lw_tbl := List.mem_append_right _ (List.mem_append_right _ (List.mem_of_getElem? (i := 117) rfl))
theorem tw_358 : (Jvm.Cond.code ({ cls := "StageClockModel", name := "xe", desc := "(I)I" } : Jvm.MethodName) prog_4_method_10_code (2 : Nat) (Option.some Jvm.ClassFile.FieldType.int)) ∈ lw_tbl := List.mem_append_right _ (List.mem_append_right _ (List.mem_of_getElem? (i := 118) rfl))
theorem tw_359 : (Jvm.Cond.methodLink "StageClockModel" (80 : Nat) ({ cls := "StageClockModel", name := "more", desc := "(II)I" } : Jvm.MethodName)) ∈ lw_tbl := List.mem_append_right _ (List.mem_append_right _ (List.mem_of_getElem? (i := 119) rfl))
theorem tw_360 : (Jvm.Cond.static ({ cls := "StageClockModel", name := "more", desc := "(II)I" } : Jvm.MethodName)) ∈ lw_tbl := List.mem_append_right _ (List.mem_append_right _ (List.mem_of_getElem? (i := 120) rfl))
theorem tw_361 : (Jvm.Cond.code ({ cls := "StageClockModel", name := "more", desc := "(II)I" } : Jvm.MethodName) prog_4_method_13_code (2 : Nat) (Option.some Jvm.ClassFile.FieldType.int)) ∈ lw_tbl := List.mem_append_right _ (List.mem_append_right _ (List.mem_of_getElem? (i := 121) rfl))
theorem tw_362 : (Jvm.Cond.methodLink "StageClockModel" (83 : Nat) ({ cls := "StageClockModel", name := "behind", desc := "(II)I" } : Jvm.MethodName)) ∈ lw_tbl := List.mem_append_right _ (List.mem_append_right _ (List.mem_of_getElem? (i := 122) rfl))
theorem tw_363 : (Jvm.Cond.privateMethod ({ cls := "StageClockModel", name := "behind", desc := "(II)I" } : Jvm.MethodName)) ∈ lw_tbl := List.mem_append_right _ (List.mem_append_right _ (List.mem_of_getElem? (i := 123) rfl))
theorem tw_364 : (Jvm.Cond.instanceMethod ({ cls := "StageClockModel", name := "behind", desc := "(II)I" } : Jvm.MethodName)) ∈ lw_tbl := List.mem_append_right _ (List.mem_append_right _ (List.mem_of_getElem? (i := 124) rfl))
theorem tw_365 : (Jvm.Cond.code ({ cls := "StageClockModel", name := "behind", desc := "(II)I" } : Jvm.MethodName) prog_4_method_12_code (4 : Nat) (Option.some Jvm.ClassFile.FieldType.int)) ∈ lw_tbl := List.mem_append_right _ (List.mem_append_right _ (List.mem_of_getElem? (i := 125) rfl))
theorem tw_366 : (Jvm.Cond.methodLink "StageClockModel" (69 : Nat) ({ cls := "StageClockModel", name := "before", desc := "(II)I" } : Jvm.MethodName)) ∈ lw_tbl := List.mem_append_right _ (List.mem_append_right _ (List.mem_of_getElem? (i := 126) rfl))
theorem tw_367 : (Jvm.Cond.privateMethod ({ cls := "StageClockModel", name := "before", desc := "(II)I" } : Jvm.MethodName)) ∈ lw_tbl := List.mem_append_right _ (List.mem_append_right _ (List.mem_of_getElem? (i := 127) rfl))
theorem tw_368 : (Jvm.Cond.instanceMethod ({ cls := "StageClockModel", name := "before", desc := "(II)I" } : Jvm.MethodName)) ∈ lw_tbl := List.mem_append_right _ (List.mem_append_right _ (List.mem_of_getElem? (i := 128) rfl))
theorem tw_369 : (Jvm.Cond.code ({ cls := "StageClockModel", name := "before", desc := "(II)I" } : Jvm.MethodName) prog_4_method_9_code (4 : Nat) (Option.some Jvm.ClassFile.FieldType.int)) ∈ lw_tbl := List.mem_append_right _ (List.mem_append_right _ (List.mem_of_getElem? (i := 129) rfl))
theorem tw_370 : (Jvm.Cond.methodLink "StageClockModel" (73 : Nat) ({ cls := "StageClockModel", name := "me", desc := "(I)I" } : Jvm.MethodName)) ∈ lw_tbl := List.mem_append_right _ (List.mem_append_right _ (List.mem_of_getElem? (i := 130) rfl))
theorem tw_371 : (Jvm.Cond.privateMethod ({ cls := "StageClockModel", name := "me", desc := "(I)I" } : Jvm.MethodName)) ∈ lw_tbl := List.mem_append_right _ (List.mem_append_right _ (List.mem_of_getElem? (i := 131) rfl))
theorem tw_372 : (Jvm.Cond.instanceMethod ({ cls := "StageClockModel", name := "me", desc := "(I)I" } : Jvm.MethodName)) ∈ lw_tbl := List.mem_append_right _ (List.mem_append_right _ (List.mem_of_getElem? (i := 132) rfl))
theorem tw_373 : (Jvm.Cond.code ({ cls := "StageClockModel", name := "me", desc := "(I)I" } : Jvm.MethodName) prog_4_method_11_code (2 : Nat) (Option.some Jvm.ClassFile.FieldType.int)) ∈ lw_tbl := List.mem_append_right _ (List.mem_append_right _ (List.mem_of_getElem? (i := 133) rfl))
theorem tw_374 : (Jvm.Cond.methodLink "StageClockLaw" (71 : Nat) ({ cls := "StageClockModel", name := "in", desc := "(II)I" } : Jvm.MethodName)) ∈ lw_tbl := List.mem_append_right _ (List.mem_append_right _ (List.mem_of_getElem? (i := 134) rfl))
theorem tw_375 : (Jvm.Cond.instanceMethod ({ cls := "StageClockModel", name := "in", desc := "(II)I" } : Jvm.MethodName)) ∈ lw_tbl := List.mem_append_right _ (List.mem_append_right _ (List.mem_of_getElem? (i := 135) rfl))
theorem tw_376 : (Jvm.Cond.selects "StageClockModel" ({ cls := "StageClockModel", name := "in", desc := "(II)I" } : Jvm.MethodName) ({ cls := "StageClockModel", name := "in", desc := "(II)I" } : Jvm.MethodName)) ∈ lw_tbl := List.mem_append_right _ (List.mem_append_right _ (List.mem_of_getElem? (i := 136) rfl))
theorem tw_377 : (Jvm.Cond.code ({ cls := "StageClockModel", name := "in", desc := "(II)I" } : Jvm.MethodName) prog_4_method_17_code (4 : Nat) (Option.some Jvm.ClassFile.FieldType.int)) ∈ lw_tbl := List.mem_append_right _ (List.mem_append_right _ (List.mem_of_getElem? (i := 137) rfl))
theorem tw_378 : (Jvm.Cond.methodLink "StageClockModel" (89 : Nat) ({ cls := "StageClockModel", name := "from", desc := "(II)I" } : Jvm.MethodName)) ∈ lw_tbl := List.mem_append_right _ (List.mem_append_right _ (List.mem_of_getElem? (i := 138) rfl))
theorem tw_379 : (Jvm.Cond.privateMethod ({ cls := "StageClockModel", name := "from", desc := "(II)I" } : Jvm.MethodName)) ∈ lw_tbl := List.mem_append_right _ (List.mem_append_right _ (List.mem_of_getElem? (i := 139) rfl))
theorem tw_380 : (Jvm.Cond.instanceMethod ({ cls := "StageClockModel", name := "from", desc := "(II)I" } : Jvm.MethodName)) ∈ lw_tbl := List.mem_append_right _ (List.mem_append_right _ (List.mem_of_getElem? (i := 140) rfl))
theorem tw_381 : (Jvm.Cond.code ({ cls := "StageClockModel", name := "from", desc := "(II)I" } : Jvm.MethodName) prog_4_method_16_code (3 : Nat) (Option.some Jvm.ClassFile.FieldType.int)) ∈ lw_tbl := List.mem_append_right _ (List.mem_append_right _ (List.mem_of_getElem? (i := 141) rfl))
theorem tw_382 : (Jvm.Cond.methodLink "StageClockLaw" (74 : Nat) ({ cls := "StageClockModel", name := "held", desc := "(I)I" } : Jvm.MethodName)) ∈ lw_tbl := List.mem_append_right _ (List.mem_append_right _ (List.mem_of_getElem? (i := 142) rfl))
theorem tw_383 : (Jvm.Cond.instanceMethod ({ cls := "StageClockModel", name := "held", desc := "(I)I" } : Jvm.MethodName)) ∈ lw_tbl := List.mem_append_right _ (List.mem_append_right _ (List.mem_of_getElem? (i := 143) rfl))
theorem tw_384 : (Jvm.Cond.selects "StageClockModel" ({ cls := "StageClockModel", name := "held", desc := "(I)I" } : Jvm.MethodName) ({ cls := "StageClockModel", name := "held", desc := "(I)I" } : Jvm.MethodName)) ∈ lw_tbl := List.mem_append_right _ (List.mem_append_right _ (List.mem_of_getElem? (i := 144) rfl))
theorem tw_385 : (Jvm.Cond.code ({ cls := "StageClockModel", name := "held", desc := "(I)I" } : Jvm.MethodName) prog_4_method_18_code (2 : Nat) (Option.some Jvm.ClassFile.FieldType.int)) ∈ lw_tbl := List.mem_append_right _ (List.mem_append_right _ (List.mem_of_getElem? (i := 145) rfl))
theorem tw_386 : (Jvm.Cond.methodLink "StageClockLaw" (77 : Nat) ({ cls := "StageClockModel", name := "giver", desc := "(II)I" } : Jvm.MethodName)) ∈ lw_tbl := List.mem_append_right _ (List.mem_append_right _ (List.mem_of_getElem? (i := 146) rfl))
theorem tw_387 : (Jvm.Cond.instanceMethod ({ cls := "StageClockModel", name := "giver", desc := "(II)I" } : Jvm.MethodName)) ∈ lw_tbl := List.mem_append_right _ (List.mem_append_right _ (List.mem_of_getElem? (i := 147) rfl))
theorem tw_388 : (Jvm.Cond.selects "StageClockModel" ({ cls := "StageClockModel", name := "giver", desc := "(II)I" } : Jvm.MethodName) ({ cls := "StageClockModel", name := "giver", desc := "(II)I" } : Jvm.MethodName)) ∈ lw_tbl := List.mem_append_right _ (List.mem_append_right _ (List.mem_of_getElem? (i := 148) rfl))
theorem tw_389 : (Jvm.Cond.code ({ cls := "StageClockModel", name := "giver", desc := "(II)I" } : Jvm.MethodName) prog_4_method_19_code (3 : Nat) (Option.some Jvm.ClassFile.FieldType.int)) ∈ lw_tbl := List.mem_append_right _ (List.mem_append_right _ (List.mem_of_getElem? (i := 149) rfl))
theorem tw_390 : (Jvm.Cond.methodLink "StageClockLaw" (80 : Nat) ({ cls := "StageClockModel", name := "count", desc := "(I)I" } : Jvm.MethodName)) ∈ lw_tbl := List.mem_append_right _ (List.mem_append_right _ (List.mem_of_getElem? (i := 150) rfl))
theorem tw_391 : (Jvm.Cond.instanceMethod ({ cls := "StageClockModel", name := "count", desc := "(I)I" } : Jvm.MethodName)) ∈ lw_tbl := List.mem_append_right _ (List.mem_append_right _ (List.mem_of_getElem? (i := 151) rfl))
theorem tw_392 : (Jvm.Cond.selects "StageClockModel" ({ cls := "StageClockModel", name := "count", desc := "(I)I" } : Jvm.MethodName) ({ cls := "StageClockModel", name := "count", desc := "(I)I" } : Jvm.MethodName)) ∈ lw_tbl := List.mem_append_right _ (List.mem_append_right _ (List.mem_of_getElem? (i := 152) rfl))
theorem tw_393 : (Jvm.Cond.code ({ cls := "StageClockModel", name := "count", desc := "(I)I" } : Jvm.MethodName) prog_4_method_20_code (5 : Nat) (Option.some Jvm.ClassFile.FieldType.int)) ∈ lw_tbl := List.mem_append_right _ (List.mem_append_right _ (List.mem_of_getElem? (i := 153) rfl))
theorem tw_394 : (Jvm.Cond.arrayClass Jvm.ClassFile.FieldType.long) ∈ lw_tbl := List.mem_append_right _ (List.mem_append_right _ (List.mem_of_getElem? (i := 154) rfl))
theorem tw_395 : (Jvm.Cond.sameMethod "java/lang/Throwable" "java/lang/Throwable" "fillInStackTrace" "(I)Ljava/lang/Throwable;") ∈ lw_tbl := List.mem_append_right _ (List.mem_append_right _ (List.mem_of_getElem? (i := 155) rfl))
theorem tp_0 : Cond.selects "java/lang/Throwable" ⟨"java/lang/Throwable", "fillInStackTrace", "(I)Ljava/lang/Throwable;"⟩ ⟨"java/lang/Throwable", "fillInStackTrace", "(I)Ljava/lang/Throwable;"⟩ ∈ lw_tbl := List.mem_append_left _ (List.mem_of_getElem? (i := 0) rfl)
theorem tp_1 : Cond.selects "StageClock" ⟨"StageClock", "set", "(IIIIIZIZ)V"⟩ ⟨"StageClock", "set", "(IIIIIZIZ)V"⟩ ∈ lw_tbl := List.mem_append_left _ (List.mem_of_getElem? (i := 1) rfl)
theorem tp_2 : Cond.selects "StageClock" ⟨"StageClock", "step", "(I)LStageClock$Step;"⟩ ⟨"StageClock", "step", "(I)LStageClock$Step;"⟩ ∈ lw_tbl := List.mem_append_left _ (List.mem_of_getElem? (i := 2) rfl)
theorem tp_3 : Cond.selects "StageClock" ⟨"StageClock", "work", "(I)V"⟩ ⟨"StageClock", "work", "(I)V"⟩ ∈ lw_tbl := List.mem_append_left _ (List.mem_of_getElem? (i := 3) rfl)
theorem tp_4 : Cond.selects "StageClock" ⟨"StageClock", "there", "(LStageClock$Step;I)I"⟩ ⟨"StageClock", "there", "(LStageClock$Step;I)I"⟩ ∈ lw_tbl := List.mem_append_left _ (List.mem_of_getElem? (i := 4) rfl)
theorem tp_5 : Cond.selects "StageClockModel" ⟨"StageClockModel", "fails", "(ZI)Z"⟩ ⟨"StageClockModel", "fails", "(ZI)Z"⟩ ∈ lw_tbl := List.mem_append_left _ (List.mem_of_getElem? (i := 5) rfl)
theorem tp_6 : Cond.selects "StageClockModel" ⟨"StageClockModel", "give", "(IIIIIZIZ)V"⟩ ⟨"StageClockModel", "give", "(IIIIIZIZ)V"⟩ ∈ lw_tbl := List.mem_append_left _ (List.mem_of_getElem? (i := 6) rfl)
theorem tp_7 : Cond.selects "StageClockModel" ⟨"StageClockModel", "reckon", "()V"⟩ ⟨"StageClockModel", "reckon", "()V"⟩ ∈ lw_tbl := List.mem_append_left _ (List.mem_of_getElem? (i := 7) rfl)
theorem tp_8 : Cond.selects "StageClockModel" ⟨"StageClockModel", "xe", "(I)I"⟩ ⟨"StageClockModel", "xe", "(I)I"⟩ ∈ lw_tbl := List.mem_append_left _ (List.mem_of_getElem? (i := 8) rfl)
theorem tp_9 : Cond.selects "StageClockModel" ⟨"StageClockModel", "behind", "(II)I"⟩ ⟨"StageClockModel", "behind", "(II)I"⟩ ∈ lw_tbl := List.mem_append_left _ (List.mem_of_getElem? (i := 9) rfl)
theorem tp_10 : Cond.selects "StageClockModel" ⟨"StageClockModel", "before", "(II)I"⟩ ⟨"StageClockModel", "before", "(II)I"⟩ ∈ lw_tbl := List.mem_append_left _ (List.mem_of_getElem? (i := 10) rfl)
theorem tp_11 : Cond.selects "StageClockModel" ⟨"StageClockModel", "me", "(I)I"⟩ ⟨"StageClockModel", "me", "(I)I"⟩ ∈ lw_tbl := List.mem_append_left _ (List.mem_of_getElem? (i := 11) rfl)
theorem tp_12 : Cond.selects "StageClockModel" ⟨"StageClockModel", "from", "(II)I"⟩ ⟨"StageClockModel", "from", "(II)I"⟩ ∈ lw_tbl := List.mem_append_left _ (List.mem_of_getElem? (i := 12) rfl)
end
section
/-! BASE: the words carried from state to state (TB, TK), Throwable's two statics (ZS), the classes, the world as one family of 616 cells (fam, cont) -/
def tb_ok (w : Cond) : Bool := (w.onTables && w.keeps) || (match w with
  | .arrayClass _ => true
  | .fieldLinkNest .. => true
  | .methodLinkNest .. => true
  | .declares _ => true
  | .castable .. => true
  | .arrayOver (.object _) => true
  | _ => false)
def TB : List Cond := lw_tbl.filter tb_ok
def TK (U : State) : Prop := ∀ w ∈ TB, w.before #[] U = true
theorem tb_move {s U : State} (hW : s.WarmedH U.vm) (A A' : Array Value) {w : Cond} (hk : tb_ok w = true) (hb : w.before A s = true) : w.before A' U = true := by
  by_cases h1 : (w.onTables && w.keeps) = true
  · exact word_at hW (Or.inl h1) hb
  · simp only [tb_ok, h1, Bool.false_or] at hk
    split at hk
    · exact word_at hW (Or.inr ⟨_, rfl⟩) hb
    · exact va_Nw.use rfl (va_Nw.warmF hW (va_Nw.of rfl hb))
    · exact va_Nw.use rfl (va_Nw.warmM hW (va_Nw.of rfl hb))
    · exact va_Nw.use rfl (va_Nw.warmD hW (va_Nw.of rfl hb))
    · exact va_Nw.use rfl (va_Nw.warmC hW (va_Nw.of rfl hb))
    · exact va_AO.use (va_AO.moved hW.alike (va_AO.of hb))
    · cases hk
theorem TK.moved {s U : State} (hW : s.WarmedH U.vm) (h : TK s) : TK U := fun w hw => tb_move hW #[] #[] (List.mem_filter.mp hw).2 (h w hw)
theorem warm_of {s U : State} (h : s.vm = U.vm) : s.WarmedH U.vm := h ▸ State.WarmedH.refl s
theorem TK.any {s : State} (h : TK s) (A : Array Value) : ∀ w ∈ TB, w.before A s = true := fun w hw => tb_move (warm_of rfl) #[] A (List.mem_filter.mp hw).2 (h w hw)
theorem TK.of {s : State} {A : Array Value} (h : ∀ w ∈ lw_tbl, w.before A s = true) : TK s := fun w hw => tb_move (warm_of rfl) A #[] (List.mem_filter.mp hw).2 (h w (List.mem_filter.mp hw).1)
/-- one of Throwable's statics: laid, below Z, holding a reference or null -/
def ZS1 (Z : Nat) (n d : String) (U : State) (H : Heap) : Prop := ∃ (c : ClassId) (k : Class) (i : Nat) (f : Field) (a : Nat) (cell : Cell) (v : Value), U.vm.findClass "java/lang/Throwable" = some c ∧ U.fieldFound? "java/lang/Throwable" n d = some (c, k, i, f) ∧ f.isStatic = true ∧ k.statics = some a ∧ H[a]? = some cell ∧ cell.vm.isStatics = true ∧ cell.cls = c ∧ f.slot < cell.slots.size ∧ k.staticTypes[f.slot]? = some f.type ∧ cell.slots[f.slot]? = some v ∧ (v = .null ∨ ∃ t, v = .ref t) ∧ a < Z
theorem ZS1.moved {Z : Nat} {n d : String} {u U : State} {H : Heap} (hvm : u.vm.Alike U.vm) (h : ZS1 Z n d u H) : ZS1 Z n d U H := by
  obtain ⟨c, k, i, f, a, cell, v, h1, h2, h3, h4, h5, h6, h7, h8, h9, h10, h11, h12⟩ := h
  obtain ⟨k', hi', he⟩ := State.fieldFound?_setVm hvm h2
  exact ⟨c, k', i, f, a, cell, v, by rw [hvm.findClass]; exact h1, hi', h3, by rw [he]; exact h4, h5, h6, h7, h8, by rw [he]; exact h9, h10, h11, h12⟩
theorem ZS1.kept {Z : Nat} {n d : String} {U : State} {H H1 : Heap} (h : ZS1 Z n d U H) (hq : ∀ a : Nat, a < H.size → ¬ Z ≤ a → H1[a]? = H[a]?) : ZS1 Z n d U H1 := by
  obtain ⟨c, k, i, f, a, cell, v, h1, h2, h3, h4, h5, h6, h7, h8, h9, h10, h11, h12⟩ := h
  exact ⟨c, k, i, f, a, cell, v, h1, h2, h3, h4, by rw [hq a (Array.getElem?_eq_some_iff.mp h5).1 (by omega)]; exact h5, h6, h7, h8, h9, h10, h11, h12⟩
theorem ZS1.lays {Z : Nat} {n d : String} {U : State} (h : ZS1 Z n d U U.heap) (A : Array Value) : (Cond.laysStatic "java/lang/Throwable" n d).before A U = true := by
  obtain ⟨c, k, i, f, a, cell, v, h1, h2, h3, h4, h5, h6, h7, h8, h9, h10, h11, h12⟩ := h
  simp [Cond.before, Cond.holds, Cond.value, h1, h2, h4, h5, h3, h6, h7, h8, h9]
theorem ZS1.isRef {Z : Nat} {n d : String} {U : State} (h : ZS1 Z n d U U.heap) (A : Array Value) : (Cond.isRef (.static "java/lang/Throwable" n d)).before A U = true := by
  obtain ⟨c, k, i, f, a, cell, v, h1, h2, h3, h4, h5, h6, h7, h8, h9, h10, h11, h12⟩ := h
  have he : (Term.static "java/lang/Throwable" n d).eval A U none [] U = some v := by
    simp [Term.eval, State.fieldNamed?, h2, h3, h4, h5, h6, h10]
  simp only [Cond.before, Cond.holds, Cond.value, he]
  rcases h11 with rfl | ⟨t, rfl⟩ <;> rfl
theorem ZS1.of {Z : Nat} {n d : String} {U : State} {A : Array Value} (hl : (Cond.laysStatic "java/lang/Throwable" n d).before A U = true) (hr : (Cond.isRef (.static "java/lang/Throwable" n d)).before A U = true) (hZ : U.heap.size ≤ Z) : ZS1 Z n d U U.heap := by
  obtain ⟨c, k, i, f, a, cell, hc, hi, hst, ha, hcell, hs, hcls, hlt, hty⟩ := Cond.laysStatic_spec hl
  cases hv : (Term.static "java/lang/Throwable" n d).eval A U none [] U with
  | none => simp [Cond.before, Cond.holds, Cond.value, hv] at hr
  | some w =>
    obtain ⟨-, a', cell', ha', hcell', -, hslot⟩ := Term.static_spec hi hv
    cases ha.symm.trans ha'
    cases hcell.symm.trans hcell'
    refine ⟨c, k, i, f, a, cell, w, hc, hi, hst, ha, hcell, hs, hcls, hlt, hty, hslot, ?_, Nat.lt_of_lt_of_le (Array.getElem?_eq_some_iff.mp hcell).1 hZ⟩
    simp only [Cond.before, Cond.holds, Cond.value, hv] at hr
    cases w with
    | null => exact Or.inl rfl
    | ref t => exact Or.inr ⟨t, rfl⟩
    | _ => simp at hr
def ZS (Z : Nat) (U : State) (H : Heap) : Prop := ZS1 Z "UNASSIGNED_STACK" "[Ljava/lang/StackTraceElement;" U H ∧ ZS1 Z "SUPPRESSED_SENTINEL" "Ljava/util/List;" U H ∧ va_Nc "java/lang/IllegalStateException" "java/lang/IllegalArgumentException" U ∧ va_Nc "java/lang/IndexOutOfBoundsException" "java/lang/IllegalArgumentException" U
theorem ZS.moved {Z : Nat} {u U : State} {H : Heap} (hvm : u.vm.Alike U.vm) (h : ZS Z u H) : ZS Z U H := ⟨h.1.moved hvm, h.2.1.moved hvm, h.2.2.1.moved hvm, h.2.2.2.moved hvm⟩
theorem ZS.kept {Z : Nat} {U : State} {H H1 : Heap} (h : ZS Z U H) (hq : ∀ a : Nat, a < H.size → ¬ Z ≤ a → H1[a]? = H[a]?) : ZS Z U H1 := ⟨h.1.kept hq, h.2.1.kept hq, h.2.2⟩
/-! classes and fields -/
def F_S : u_T := fun k => match k with
  | 0 => ("StageClock", "steps", "[LStageClock$Step;", true)
  | 1 => ("StageClock", "many", "I", false)
  | _ => ("StageClock", "known", "I", false)
def t_S : Nat → FieldType := fun k => match k with
  | 0 => .array (.object "StageClock$Step")
  | _ => .int
def F_T : u_T := fun k => match k with
  | 0 => ("StageClock$Step", "t", "I", false)
  | 1 => ("StageClock$Step", "gets", "I", false)
  | 2 => ("StageClock$Step", "reads", "I", false)
  | 3 => ("StageClock$Step", "late", "I", false)
  | 4 => ("StageClock$Step", "wait", "I", false)
  | 5 => ("StageClock$Step", "load", "Z", false)
  | 6 => ("StageClock$Step", "wrong", "Z", false)
  | 7 => ("StageClock$Step", "begins", "[I", true)
  | _ => ("StageClock$Step", "givers", "[I", true)
def t_Tt : Nat → FieldType := fun k => match k with
  | 5 => .boolean
  | 6 => .boolean
  | 7 => .array .int
  | 8 => .array .int
  | _ => .int
def F_M : u_T := fun k => match k with
  | 0 => ("StageClockModel", "err", "I", false)
  | 1 => ("StageClockModel", "long0", "[I", true)
  | 2 => ("StageClockModel", "gets", "[I", true)
  | 3 => ("StageClockModel", "reads", "[I", true)
  | 4 => ("StageClockModel", "late", "[I", true)
  | 5 => ("StageClockModel", "wait", "[I", true)
  | 6 => ("StageClockModel", "load", "[Z", true)
  | 7 => ("StageClockModel", "wrong", "[Z", true)
  | 8 => ("StageClockModel", "f", "[I", true)
  | 9 => ("StageClockModel", "d", "[I", true)
  | 10 => ("StageClockModel", "x", "[I", true)
  | 11 => ("StageClockModel", "m", "[I", true)
  | 12 => ("StageClockModel", "w", "[I", true)
  | 13 => ("StageClockModel", "many", "I", false)
  | _ => ("StageClockModel", "known", "I", false)
def t_M : Nat → FieldType := fun k => match k with
  | 0 => .int
  | 6 => .array .boolean
  | 7 => .array .boolean
  | 13 => .int
  | 14 => .int
  | _ => .array .int
theorem n_S : ∀ a, a < 3 → ∀ b, b < 3 → a ≠ b → (F_S a).2.1 ≠ (F_S b).2.1 := by decide +kernel
theorem t_S_ok : ∀ k, k < 3 → parseFieldDescriptor (F_S k).2.2.1 = some (t_S k) := by decide +kernel
theorem n_T : ∀ a, a < 9 → ∀ b, b < 9 → a ≠ b → (F_T a).2.1 ≠ (F_T b).2.1 := by decide +kernel
theorem t_T_ok : ∀ k, k < 9 → parseFieldDescriptor (F_T k).2.2.1 = some (t_Tt k) := by decide +kernel
theorem n_M : ∀ a, a < 15 → ∀ b, b < 15 → a ≠ b → (F_M a).2.1 ≠ (F_M b).2.1 := by decide +kernel
theorem t_M_ok : ∀ k, k < 15 → parseFieldDescriptor (F_M k).2.2.1 = some (t_M k) := by decide +kernel
abbrev cls3 : List vw_C := [("StageClock", F_S, 3), ("StageClock$Step", F_T, 9), ("StageClockModel", F_M, 15)]
/-- field numbers and class numbers: of objects; of int, boolean, long arrays, of the array of Steps -/
abbrev KG : Type := va_G × ClassId × ClassId × ClassId × ClassId
abbrev tysG (g : KG) : List (ClassId × FieldType) := [(g.2.1, .int), (g.2.2.1, .boolean), (g.2.2.2.1, .long), (g.2.2.2.2, .object "StageClock$Step")]
/-! the state: D field of a Step (t gets reads late wait load wrong) at a place; B begins of a place; G givers of a place; many; known -/
abbrev Fn2 : Type := Nat → Nat → Int32
abbrev CS : Type := Fn2 × Fn2 × Fn2 × Int32 × Int32
/-- the model: M array (long0 gets reads late wait load wrong f d x m w) at a place; err; many; known -/
abbrev MS : Type := Fn2 × Int32 × Int32 × Int32
abbrev TS : Type := CS × MS × Int64
def up2 (D : Fn2) (f k : Nat) (x : Int32) : Fn2 := va_up D f (upd (D f) k x)
theorem up2_self (D : Fn2) (f k : Nat) (x : Int32) : up2 D f k x f k = x := by simp [up2, va_up, upd]
theorem up2_ne {D : Fn2} {f k : Nat} {x : Int32} {i j : Nat} (h : i ≠ f ∨ j ≠ k) : up2 D f k x i j = D i j := by
  unfold up2 va_up upd
  by_cases h1 : i = f
  · subst h1
    have h2 : j ≠ k := h.resolve_left (fun q => q rfl)
    simp [h2]
  · simp [h1]
def eT (Z : Nat) (D : Fn2) (k : Nat) : va_E := .inr (1, [.int (D 0 k), .int (D 1 k), .int (D 2 k), .int (D 3 k), .int (D 4 k), .int (D 5 k), .int (D 6 k), .ref (Z + (3 + 3 * k)), .ref (Z + (4 + 3 * k))])
def cont (g : KG) (Z : Nat) (τ : TS) (i : Nat) : va_E :=
  if i = 0 then .inr (0, [.ref (Z + 1), .int τ.1.2.2.2.1, .int τ.1.2.2.2.2])
  else if i = 1 then .inl (g.2.2.2.2, 200, .inr (.inr (.inr (.inr (fun j => if j < 200 then some (Z + (2 + 3 * j)) else none)))))
  else if i < 602 then
    (if (i - 2) % 3 = 0 then eT Z τ.1.1 ((i - 2) / 3)
     else if (i - 2) % 3 = 1 then .inl (g.2.1, 5, .inl (τ.1.2.1 ((i - 2) / 3)))
     else .inl (g.2.1, 16, .inl (τ.1.2.2.1 ((i - 2) / 3))))
  else if i = 602 then .inr (2, [.int τ.2.1.2.1, .ref (Z + 603), .ref (Z + 604), .ref (Z + 605), .ref (Z + 606), .ref (Z + 607), .ref (Z + 608), .ref (Z + 609), .ref (Z + 610), .ref (Z + 611), .ref (Z + 612), .ref (Z + 613), .ref (Z + 614), .int τ.2.1.2.2.1, .int τ.2.1.2.2.2])
  else if i < 615 then .inl (if i = 608 ∨ i = 609 then g.2.2.1 else g.2.1, 200, .inl (τ.2.1.1 (i - 603)))
  else if i = 615 then .inl (g.2.2.2.1, 1, .inr (.inl (fun j => if j = 0 then τ.2.2 else 0)))
  else .inl (g.2.1, 0, .inl (fun _ => 0))
theorem cont_T (g : KG) (Z : Nat) (τ : TS) {k : Nat} (h : k < 200) : cont g Z τ (2 + 3 * k) = eT Z τ.1.1 k := by
  unfold cont
  rw [if_neg (by omega), if_neg (by omega), if_pos (by omega), if_pos (by omega), show (2 + 3 * k - 2) / 3 = k by omega]
theorem cont_B (g : KG) (Z : Nat) (τ : TS) {k : Nat} (h : k < 200) : cont g Z τ (3 + 3 * k) = .inl (g.2.1, 5, .inl (τ.1.2.1 k)) := by
  unfold cont
  rw [if_neg (by omega), if_neg (by omega), if_pos (by omega), if_neg (by omega), if_pos (by omega), show (3 + 3 * k - 2) / 3 = k by omega]
theorem cont_G (g : KG) (Z : Nat) (τ : TS) {k : Nat} (h : k < 200) : cont g Z τ (4 + 3 * k) = .inl (g.2.1, 16, .inl (τ.1.2.2.1 k)) := by
  unfold cont
  rw [if_neg (by omega), if_neg (by omega), if_pos (by omega), if_neg (by omega), if_neg (by omega), show (4 + 3 * k - 2) / 3 = k by omega]
theorem cont_M (g : KG) (Z : Nat) (τ : TS) {i : Nat} (h : i < 12) : cont g Z τ (603 + i) = .inl (if i = 5 ∨ i = 6 then g.2.2.1 else g.2.1, 200, .inl (τ.2.1.1 i)) := by
  unfold cont
  rw [if_neg (by omega), if_neg (by omega), if_neg (by omega), if_neg (by omega), if_pos (by omega), show 603 + i - 603 = i by omega]
  by_cases h5 : i = 5 ∨ i = 6
  · rw [if_pos h5, if_pos (by omega)]
  · rw [if_neg h5, if_neg (by omega)]
def fam (Z N : Nat) (ct : Nat → va_E) : va_W := (List.range N).map (fun i => (Z + i, ct i))
theorem fam_get (Z : Nat) {N : Nat} (ct : Nat → va_E) {i : Nat} (h : i < N) : (fam Z N ct)[i]? = some (Z + i, ct i) := by
  simp [fam, h]
theorem fam_inv {Z N : Nat} {ct : Nat → va_E} {i : Nat} {q : Nat × va_E} (h : (fam Z N ct)[i]? = some q) : i < N ∧ q = (Z + i, ct i) := by
  have hl : i < N := by
    have := (List.getElem?_eq_some_iff.mp h).1
    simpa [fam] using this
  rw [fam_get Z ct hl] at h
  exact ⟨hl, (Option.some.inj h).symm⟩
theorem fam_set (Z : Nat) {N : Nat} (ct : Nat → va_E) {i : Nat} (h : i < N) (e : va_E) : (fam Z N ct).set i (Z + i, e) = fam Z N (va_up ct i e) := by
  apply List.ext_getElem?
  intro j
  rw [List.getElem?_set]
  by_cases hj : i = j
  · subst hj
    rw [if_pos rfl, fam_get Z _ h]
    simp [fam, h, va_up]
  · rw [if_neg hj]
    simp only [fam, List.getElem?_map]
    cases hr : (List.range N)[j]? with
    | none => rfl
    | some x =>
      have hx : x = j := by
        obtain ⟨h1, h2⟩ := List.getElem?_eq_some_iff.mp hr
        simp at h2; omega
      subst hx
      simp [va_up, Ne.symm hj]
theorem fam_D (Z N : Nat) (ct : Nat → va_E) : va_D (fun q => Z ≤ q) (fam Z N ct) := by
  refine ⟨fun i j p q hi hj e => ?_, fun k q hk => ?_⟩
  · obtain ⟨-, rfl⟩ := fam_inv hi
    obtain ⟨-, rfl⟩ := fam_inv hj
    simp only at e
    omega
  · obtain ⟨-, rfl⟩ := fam_inv hk
    exact Nat.le_add_right _ _
/-- what of a state is asked at every entry: tables, words, statics -/
def KK (g : KG) (Z : Nat) (U : State) : Prop := va_K g.1 cls3 (tysG g) U ∧ TK U ∧ ZS Z U U.heap
def Wd (g : KG) (Z : Nat) (τ : TS) (U : State) : Prop := KK g Z U ∧ va_P g.1 cls3 (fam Z 616 (cont g Z τ)) U.heap
def WH (g : KG) (Z : Nat) (τ : TS) (s : State) (H : Heap) (locs : List Loc) : Prop := va_P g.1 cls3 (fam Z 616 (cont g Z τ)) H ∧ va_S (fun q => Z ≤ q) s.heap H locs
def Cx (p : Program) (s : State) (m : MethodId) (c : Code) (cc : ByteArray) (nL : Nat) (own : String) (args : Array Value) (g : KG) (Z : Nat) : Prop := CallFix p m c cc nL s args TB own ∧ KK g Z s
theorem KK.moved {g : KG} {Z : Nat} {s U : State} (h : KK g Z s) (hW : s.WarmedH U.vm) (hq : ∀ a : Nat, a < s.heap.size → ¬ Z ≤ a → U.heap[a]? = s.heap[a]?) : KK g Z U := ⟨va_K.moved hW.alike h.1, TK.moved hW h.2.1, (h.2.2.kept hq).moved hW.alike⟩
theorem Wd.blind {g : KG} {Z : Nat} {τ : TS} (U : State) (gf : JFrame) (mk : MethodId) (a : Array Value) (h : Wd g Z τ U) : Wd g Z τ (U.calling gf mk a) := ⟨h.1.moved (U := U.calling gf mk a) (warm_of rfl) (fun _ _ _ => rfl), h.2⟩
theorem WH.wd {g : KG} {Z : Nat} {τ : TS} {s : State} {H : Heap} {locs : List Loc} (h : WH g Z τ s H locs) (k : KK g Z s) {U : State} (hU : U.heap = H) (hW : s.WarmedH U.vm) : Wd g Z τ U := ⟨k.moved hW (fun a h1 h2 => by rw [hU]; exact h.2.2.1 a h1 h2), by rw [hU]; exact h.1⟩
theorem WH.start {g : KG} {Z : Nat} {τ : TS} {s : State} (h : Wd g Z τ s) : WH g Z τ s s.heap [] := ⟨h.2, va_S.rf⟩
end
section
theorem k_0 : (Jvm.Cond.initialized "StageClockLaw") ∈ TB := List.mem_filter.mpr ⟨tw_0, rfl⟩
theorem k_1 : (Jvm.Cond.initialized "StageClock") ∈ TB := List.mem_filter.mpr ⟨tw_1, rfl⟩
theorem k_2 : (Jvm.Cond.initialized "StageClock$Step") ∈ TB := List.mem_filter.mpr ⟨tw_2, rfl⟩
theorem k_3 : (Jvm.Cond.initialized "StageClockModel") ∈ TB := List.mem_filter.mpr ⟨tw_3, rfl⟩
theorem k_4 : (Jvm.Cond.initialized "java/lang/Throwable") ∈ TB := List.mem_filter.mpr ⟨tw_4, rfl⟩
theorem k_5 : (Jvm.Cond.initialized "java/lang/Exception") ∈ TB := List.mem_filter.mpr ⟨tw_5, rfl⟩
theorem k_6 : (Jvm.Cond.initialized "java/lang/RuntimeException") ∈ TB := List.mem_filter.mpr ⟨tw_6, rfl⟩
theorem k_7 : (Jvm.Cond.initialized "java/lang/IllegalArgumentException") ∈ TB := List.mem_filter.mpr ⟨tw_7, rfl⟩
theorem k_8 : (Jvm.Cond.initialized "java/lang/IllegalStateException") ∈ TB := List.mem_filter.mpr ⟨tw_8, rfl⟩
theorem k_9 : (Jvm.Cond.initialized "java/lang/Math") ∈ TB := List.mem_filter.mpr ⟨tw_9, rfl⟩
theorem k_10 : (Jvm.Cond.initialized "java/lang/IndexOutOfBoundsException") ∈ TB := List.mem_filter.mpr ⟨tw_10, rfl⟩
theorem k_11 : (Jvm.Cond.classLink "StageClockLaw" (8 : Nat) "StageClock") ∈ TB := List.mem_filter.mpr ⟨tw_11, rfl⟩
theorem k_12 : (Jvm.Cond.instantiable "StageClock" (3 : Nat)) ∈ TB := List.mem_filter.mpr ⟨tw_12, rfl⟩
theorem k_13 : (Jvm.Cond.methodLink "StageClockLaw" (43 : Nat) ({ cls := "StageClock", name := "<init>", desc := "()V" } : Jvm.MethodName)) ∈ TB := List.mem_filter.mpr ⟨tw_13, rfl⟩
theorem k_14 : (Jvm.Cond.instanceMethod ({ cls := "StageClock", name := "<init>", desc := "()V" } : Jvm.MethodName)) ∈ TB := List.mem_filter.mpr ⟨tw_14, rfl⟩
theorem k_15 : (Jvm.Cond.code ({ cls := "StageClock", name := "<init>", desc := "()V" } : Jvm.MethodName) prog_1_method_1_code (2 : Nat) (Option.none : Option Jvm.ClassFile.FieldType)) ∈ TB := List.mem_filter.mpr ⟨tw_15, rfl⟩
theorem k_16 : (Jvm.Cond.methodLink "StageClock" (1 : Nat) ({ cls := "java/lang/Object", name := "<init>", desc := "()V" } : Jvm.MethodName)) ∈ TB := List.mem_filter.mpr ⟨tw_16, rfl⟩
theorem k_17 : (Jvm.Cond.instanceMethod ({ cls := "java/lang/Object", name := "<init>", desc := "()V" } : Jvm.MethodName)) ∈ TB := List.mem_filter.mpr ⟨tw_17, rfl⟩
theorem k_18 : (Jvm.Cond.code ({ cls := "java/lang/Object", name := "<init>", desc := "()V" } : Jvm.MethodName) object_method_1_code (1 : Nat) (Option.none : Option Jvm.ClassFile.FieldType)) ∈ TB := List.mem_filter.mpr ⟨tw_18, rfl⟩
theorem k_19 : (Jvm.Cond.classLink "StageClock" (9 : Nat) "StageClock$Step") ∈ TB := List.mem_filter.mpr ⟨tw_19, rfl⟩
theorem k_20 : (Jvm.Cond.arrayOver (Jvm.ClassFile.FieldType.object "StageClock$Step")) ∈ TB := List.mem_filter.mpr ⟨tw_20, rfl⟩
theorem k_21 : (Jvm.Cond.instantiable "StageClock$Step" (9 : Nat)) ∈ TB := List.mem_filter.mpr ⟨tw_21, rfl⟩
theorem k_22 : (Jvm.Cond.methodLinkNest "StageClock" (15 : Nat) ({ cls := "StageClock$Step", name := "<init>", desc := "()V" } : Jvm.MethodName) "StageClock") ∈ TB := List.mem_filter.mpr ⟨tw_22, rfl⟩
theorem k_23 : (Jvm.Cond.instanceMethod ({ cls := "StageClock$Step", name := "<init>", desc := "()V" } : Jvm.MethodName)) ∈ TB := List.mem_filter.mpr ⟨tw_23, rfl⟩
theorem k_24 : (Jvm.Cond.code ({ cls := "StageClock$Step", name := "<init>", desc := "()V" } : Jvm.MethodName) prog_2_method_1_code (1 : Nat) (Option.none : Option Jvm.ClassFile.FieldType)) ∈ TB := List.mem_filter.mpr ⟨tw_24, rfl⟩
theorem k_25 : (Jvm.Cond.methodLink "StageClock$Step" (3 : Nat) ({ cls := "java/lang/Object", name := "<init>", desc := "()V" } : Jvm.MethodName)) ∈ TB := List.mem_filter.mpr ⟨tw_25, rfl⟩
theorem k_26 : (Jvm.Cond.fieldLink "StageClock$Step" (18 : Nat) "StageClock$Step" "t" "I") ∈ TB := List.mem_filter.mpr ⟨tw_26, rfl⟩
theorem k_27 : (Jvm.Cond.fieldLinkNest "StageClock" (81 : Nat) "StageClock$Step" "t" "I" "StageClock") ∈ TB := List.mem_filter.mpr ⟨tw_27, rfl⟩
theorem k_28 : (Jvm.Cond.fieldLinkNest "StageClock" (45 : Nat) "StageClock$Step" "gets" "I" "StageClock") ∈ TB := List.mem_filter.mpr ⟨tw_28, rfl⟩
theorem k_29 : (Jvm.Cond.fieldLinkNest "StageClock" (64 : Nat) "StageClock$Step" "reads" "I" "StageClock") ∈ TB := List.mem_filter.mpr ⟨tw_29, rfl⟩
theorem k_30 : (Jvm.Cond.fieldLinkNest "StageClock" (71 : Nat) "StageClock$Step" "late" "I" "StageClock") ∈ TB := List.mem_filter.mpr ⟨tw_30, rfl⟩
theorem k_31 : (Jvm.Cond.fieldLink "StageClock$Step" (22 : Nat) "StageClock$Step" "wait" "I") ∈ TB := List.mem_filter.mpr ⟨tw_31, rfl⟩
theorem k_32 : (Jvm.Cond.fieldLinkNest "StageClock" (87 : Nat) "StageClock$Step" "wait" "I" "StageClock") ∈ TB := List.mem_filter.mpr ⟨tw_32, rfl⟩
theorem k_33 : (Jvm.Cond.fieldLink "StageClock$Step" (25 : Nat) "StageClock$Step" "load" "Z") ∈ TB := List.mem_filter.mpr ⟨tw_33, rfl⟩
theorem k_34 : (Jvm.Cond.fieldLinkNest "StageClock" (84 : Nat) "StageClock$Step" "load" "Z" "StageClock") ∈ TB := List.mem_filter.mpr ⟨tw_34, rfl⟩
theorem k_35 : (Jvm.Cond.fieldLinkNest "StageClock" (51 : Nat) "StageClock$Step" "wrong" "Z" "StageClock") ∈ TB := List.mem_filter.mpr ⟨tw_35, rfl⟩
theorem k_36 : (Jvm.Cond.fieldLink "StageClock$Step" (9 : Nat) "StageClock$Step" "begins" "[I") ∈ TB := List.mem_filter.mpr ⟨tw_36, rfl⟩
theorem k_37 : (Jvm.Cond.fieldLinkNest "StageClock" (48 : Nat) "StageClock$Step" "begins" "[I" "StageClock") ∈ TB := List.mem_filter.mpr ⟨tw_37, rfl⟩
theorem k_38 : (Jvm.Cond.fieldLink "StageClock$Step" (15 : Nat) "StageClock$Step" "givers" "[I") ∈ TB := List.mem_filter.mpr ⟨tw_38, rfl⟩
theorem k_39 : (Jvm.Cond.fieldLinkNest "StageClock" (37 : Nat) "StageClock$Step" "givers" "[I" "StageClock") ∈ TB := List.mem_filter.mpr ⟨tw_39, rfl⟩
theorem k_40 : (Jvm.Cond.lays "StageClock$Step" "StageClock$Step" "t" "I") ∈ TB := List.mem_filter.mpr ⟨tw_40, rfl⟩
theorem k_41 : (Jvm.Cond.soleField "StageClock$Step" "t") ∈ TB := List.mem_filter.mpr ⟨tw_41, rfl⟩
theorem k_42 : (Jvm.Cond.lays "StageClock$Step" "StageClock$Step" "gets" "I") ∈ TB := List.mem_filter.mpr ⟨tw_42, rfl⟩
theorem k_43 : (Jvm.Cond.soleField "StageClock$Step" "gets") ∈ TB := List.mem_filter.mpr ⟨tw_43, rfl⟩
theorem k_44 : (Jvm.Cond.lays "StageClock$Step" "StageClock$Step" "reads" "I") ∈ TB := List.mem_filter.mpr ⟨tw_44, rfl⟩
theorem k_45 : (Jvm.Cond.soleField "StageClock$Step" "reads") ∈ TB := List.mem_filter.mpr ⟨tw_45, rfl⟩
theorem k_46 : (Jvm.Cond.lays "StageClock$Step" "StageClock$Step" "late" "I") ∈ TB := List.mem_filter.mpr ⟨tw_46, rfl⟩
theorem k_47 : (Jvm.Cond.soleField "StageClock$Step" "late") ∈ TB := List.mem_filter.mpr ⟨tw_47, rfl⟩
theorem k_48 : (Jvm.Cond.lays "StageClock$Step" "StageClock$Step" "wait" "I") ∈ TB := List.mem_filter.mpr ⟨tw_48, rfl⟩
theorem k_49 : (Jvm.Cond.soleField "StageClock$Step" "wait") ∈ TB := List.mem_filter.mpr ⟨tw_49, rfl⟩
theorem k_50 : (Jvm.Cond.lays "StageClock$Step" "StageClock$Step" "load" "Z") ∈ TB := List.mem_filter.mpr ⟨tw_50, rfl⟩
theorem k_51 : (Jvm.Cond.soleField "StageClock$Step" "load") ∈ TB := List.mem_filter.mpr ⟨tw_51, rfl⟩
theorem k_52 : (Jvm.Cond.lays "StageClock$Step" "StageClock$Step" "wrong" "Z") ∈ TB := List.mem_filter.mpr ⟨tw_52, rfl⟩
theorem k_53 : (Jvm.Cond.soleField "StageClock$Step" "wrong") ∈ TB := List.mem_filter.mpr ⟨tw_53, rfl⟩
theorem k_54 : (Jvm.Cond.laysFinal "StageClock$Step" "StageClock$Step" "begins" "[I") ∈ TB := List.mem_filter.mpr ⟨tw_54, rfl⟩
theorem k_55 : (Jvm.Cond.soleField "StageClock$Step" "begins") ∈ TB := List.mem_filter.mpr ⟨tw_55, rfl⟩
theorem k_56 : (Jvm.Cond.laysFinal "StageClock$Step" "StageClock$Step" "givers" "[I") ∈ TB := List.mem_filter.mpr ⟨tw_56, rfl⟩
theorem k_57 : (Jvm.Cond.soleField "StageClock$Step" "givers") ∈ TB := List.mem_filter.mpr ⟨tw_57, rfl⟩
theorem k_58 : (Jvm.Cond.superclass "StageClock$Step" "java/lang/Object") ∈ TB := List.mem_filter.mpr ⟨tw_58, rfl⟩
theorem k_59 : (Jvm.Cond.arrayClass Jvm.ClassFile.FieldType.int) ∈ TB := List.mem_filter.mpr ⟨tw_59, rfl⟩
theorem k_60 : (Jvm.Cond.fieldLink "StageClock" (11 : Nat) "StageClock" "steps" "[LStageClock$Step;") ∈ TB := List.mem_filter.mpr ⟨tw_60, rfl⟩
theorem k_61 : (Jvm.Cond.fieldLink "StageClock" (19 : Nat) "StageClock" "many" "I") ∈ TB := List.mem_filter.mpr ⟨tw_61, rfl⟩
theorem k_62 : (Jvm.Cond.fieldLink "StageClock" (30 : Nat) "StageClock" "known" "I") ∈ TB := List.mem_filter.mpr ⟨tw_62, rfl⟩
theorem k_63 : (Jvm.Cond.laysFinal "StageClock" "StageClock" "steps" "[LStageClock$Step;") ∈ TB := List.mem_filter.mpr ⟨tw_63, rfl⟩
theorem k_64 : (Jvm.Cond.soleField "StageClock" "steps") ∈ TB := List.mem_filter.mpr ⟨tw_64, rfl⟩
theorem k_65 : (Jvm.Cond.lays "StageClock" "StageClock" "many" "I") ∈ TB := List.mem_filter.mpr ⟨tw_65, rfl⟩
theorem k_66 : (Jvm.Cond.soleField "StageClock" "many") ∈ TB := List.mem_filter.mpr ⟨tw_66, rfl⟩
theorem k_67 : (Jvm.Cond.lays "StageClock" "StageClock" "known" "I") ∈ TB := List.mem_filter.mpr ⟨tw_67, rfl⟩
theorem k_68 : (Jvm.Cond.soleField "StageClock" "known") ∈ TB := List.mem_filter.mpr ⟨tw_68, rfl⟩
theorem k_69 : (Jvm.Cond.superclass "StageClock" "java/lang/Object") ∈ TB := List.mem_filter.mpr ⟨tw_69, rfl⟩
theorem k_70 : (Jvm.Cond.methodLink "StageClockLaw" (47 : Nat) ({ cls := "StageClockLaw", name := "add", desc := "(LStageClock;IIIIZIZ[J)I" } : Jvm.MethodName)) ∈ TB := List.mem_filter.mpr ⟨tw_70, rfl⟩
theorem k_71 : (Jvm.Cond.static ({ cls := "StageClockLaw", name := "add", desc := "(LStageClock;IIIIZIZ[J)I" } : Jvm.MethodName)) ∈ TB := List.mem_filter.mpr ⟨tw_71, rfl⟩
theorem k_72 : (Jvm.Cond.codeWith ({ cls := "StageClockLaw", name := "add", desc := "(LStageClock;IIIIZIZ[J)I" } : Jvm.MethodName) method_3_code (10 : Nat) (Option.some Jvm.ClassFile.FieldType.int) [((0 : Nat), (20 : Nat), (23 : Nat), (13 : Nat)), ((0 : Nat), (20 : Nat), (27 : Nat), (15 : Nat))]) ∈ TB := List.mem_filter.mpr ⟨tw_72, rfl⟩
theorem k_73 : (Jvm.Cond.classLink "StageClockLaw" (13 : Nat) "java/lang/IllegalArgumentException") ∈ TB := List.mem_filter.mpr ⟨tw_73, rfl⟩
theorem k_74 : (Jvm.Cond.classLink "StageClockLaw" (15 : Nat) "java/lang/IllegalStateException") ∈ TB := List.mem_filter.mpr ⟨tw_74, rfl⟩
theorem k_75 : (Jvm.Cond.methodLink "StageClockLaw" (7 : Nat) ({ cls := "StageClock", name := "add", desc := "(IIIIZIZ)I" } : Jvm.MethodName)) ∈ TB := List.mem_filter.mpr ⟨tw_75, rfl⟩
theorem k_76 : (Jvm.Cond.instanceMethod ({ cls := "StageClock", name := "add", desc := "(IIIIZIZ)I" } : Jvm.MethodName)) ∈ TB := List.mem_filter.mpr ⟨tw_76, rfl⟩
theorem k_77 : (Jvm.Cond.selects "StageClock" ({ cls := "StageClock", name := "add", desc := "(IIIIZIZ)I" } : Jvm.MethodName) ({ cls := "StageClock", name := "add", desc := "(IIIIZIZ)I" } : Jvm.MethodName)) ∈ TB := List.mem_filter.mpr ⟨tw_77, rfl⟩
theorem k_78 : (Jvm.Cond.code ({ cls := "StageClock", name := "add", desc := "(IIIIZIZ)I" } : Jvm.MethodName) prog_1_method_9_code (8 : Nat) (Option.some Jvm.ClassFile.FieldType.int)) ∈ TB := List.mem_filter.mpr ⟨tw_78, rfl⟩
theorem k_79 : (Jvm.Cond.methodLink "StageClock" (93 : Nat) ({ cls := "StageClock", name := "asSaid", desc := "(IIII)V" } : Jvm.MethodName)) ∈ TB := List.mem_filter.mpr ⟨tw_79, rfl⟩
theorem k_80 : (Jvm.Cond.static ({ cls := "StageClock", name := "asSaid", desc := "(IIII)V" } : Jvm.MethodName)) ∈ TB := List.mem_filter.mpr ⟨tw_80, rfl⟩
theorem k_81 : (Jvm.Cond.code ({ cls := "StageClock", name := "asSaid", desc := "(IIII)V" } : Jvm.MethodName) prog_1_method_7_code (4 : Nat) (Option.none : Option Jvm.ClassFile.FieldType)) ∈ TB := List.mem_filter.mpr ⟨tw_81, rfl⟩
theorem k_82 : (Jvm.Cond.methodLink "StageClock" (23 : Nat) ({ cls := "StageClock", name := "in", desc := "(III)Z" } : Jvm.MethodName)) ∈ TB := List.mem_filter.mpr ⟨tw_82, rfl⟩
theorem k_83 : (Jvm.Cond.static ({ cls := "StageClock", name := "in", desc := "(III)Z" } : Jvm.MethodName)) ∈ TB := List.mem_filter.mpr ⟨tw_83, rfl⟩
theorem k_84 : (Jvm.Cond.code ({ cls := "StageClock", name := "in", desc := "(III)Z" } : Jvm.MethodName) prog_1_method_2_code (3 : Nat) (Option.some Jvm.ClassFile.FieldType.boolean)) ∈ TB := List.mem_filter.mpr ⟨tw_84, rfl⟩
theorem k_85 : (Jvm.Cond.methodLink "StageClock" (77 : Nat) ({ cls := "StageClock", name := "legal", desc := "(Z)V" } : Jvm.MethodName)) ∈ TB := List.mem_filter.mpr ⟨tw_85, rfl⟩
theorem k_86 : (Jvm.Cond.static ({ cls := "StageClock", name := "legal", desc := "(Z)V" } : Jvm.MethodName)) ∈ TB := List.mem_filter.mpr ⟨tw_86, rfl⟩
theorem k_87 : (Jvm.Cond.code ({ cls := "StageClock", name := "legal", desc := "(Z)V" } : Jvm.MethodName) prog_1_method_3_code (1 : Nat) (Option.none : Option Jvm.ClassFile.FieldType)) ∈ TB := List.mem_filter.mpr ⟨tw_87, rfl⟩
theorem k_88 : (Jvm.Cond.classLink "StageClock" (16 : Nat) "java/lang/IllegalArgumentException") ∈ TB := List.mem_filter.mpr ⟨tw_88, rfl⟩
theorem k_89 : (Jvm.Cond.instantiable "java/lang/IllegalArgumentException" (6 : Nat)) ∈ TB := List.mem_filter.mpr ⟨tw_89, rfl⟩
theorem k_90 : (Jvm.Cond.castable "java/lang/IllegalArgumentException" "java/lang/IllegalArgumentException") ∈ TB := List.mem_filter.mpr ⟨tw_90, rfl⟩
theorem k_91 : (Jvm.Cond.declares ({ cls := "java/lang/RuntimeException", name := "<init>", desc := "()V" } : Jvm.MethodName)) ∈ TB := List.mem_filter.mpr ⟨tw_91, rfl⟩
theorem k_92 : (Jvm.Cond.declares ({ cls := "java/lang/RuntimeException", name := "<init>", desc := "(Ljava/lang/String;)V" } : Jvm.MethodName)) ∈ TB := List.mem_filter.mpr ⟨tw_92, rfl⟩
theorem k_93 : (Jvm.Cond.declares ({ cls := "java/lang/Exception", name := "<init>", desc := "()V" } : Jvm.MethodName)) ∈ TB := List.mem_filter.mpr ⟨tw_93, rfl⟩
theorem k_94 : (Jvm.Cond.declares ({ cls := "java/lang/Exception", name := "<init>", desc := "(Ljava/lang/String;)V" } : Jvm.MethodName)) ∈ TB := List.mem_filter.mpr ⟨tw_94, rfl⟩
theorem k_95 : (Jvm.Cond.declares ({ cls := "java/lang/Throwable", name := "<init>", desc := "()V" } : Jvm.MethodName)) ∈ TB := List.mem_filter.mpr ⟨tw_95, rfl⟩
theorem k_96 : (Jvm.Cond.declares ({ cls := "java/lang/Throwable", name := "<init>", desc := "(Ljava/lang/String;)V" } : Jvm.MethodName)) ∈ TB := List.mem_filter.mpr ⟨tw_96, rfl⟩
theorem k_97 : (Jvm.Cond.selects "java/lang/IllegalArgumentException" ({ cls := "java/lang/Throwable", name := "fillInStackTrace", desc := "(I)Ljava/lang/Throwable;" } : Jvm.MethodName) ({ cls := "java/lang/Throwable", name := "fillInStackTrace", desc := "(I)Ljava/lang/Throwable;" } : Jvm.MethodName)) ∈ TB := List.mem_filter.mpr ⟨tw_97, rfl⟩
theorem k_98 : (Jvm.Cond.selects "java/lang/IllegalArgumentException" ({ cls := "java/lang/Throwable", name := "fillInStackTrace", desc := "()Ljava/lang/Throwable;" } : Jvm.MethodName) ({ cls := "java/lang/Throwable", name := "fillInStackTrace", desc := "()Ljava/lang/Throwable;" } : Jvm.MethodName)) ∈ TB := List.mem_filter.mpr ⟨tw_98, rfl⟩
theorem k_99 : (Jvm.Cond.lays "java/lang/IllegalArgumentException" "java/lang/Throwable" "cause" "Ljava/lang/Throwable;") ∈ TB := List.mem_filter.mpr ⟨tw_99, rfl⟩
theorem k_100 : (Jvm.Cond.lays "java/lang/Throwable" "java/lang/Throwable" "cause" "Ljava/lang/Throwable;") ∈ TB := List.mem_filter.mpr ⟨tw_100, rfl⟩
theorem k_101 : (Jvm.Cond.lays "java/lang/IllegalArgumentException" "java/lang/Throwable" "stackTrace" "[Ljava/lang/StackTraceElement;") ∈ TB := List.mem_filter.mpr ⟨tw_101, rfl⟩
theorem k_102 : (Jvm.Cond.lays "java/lang/Throwable" "java/lang/Throwable" "stackTrace" "[Ljava/lang/StackTraceElement;") ∈ TB := List.mem_filter.mpr ⟨tw_102, rfl⟩
theorem k_103 : (Jvm.Cond.lays "java/lang/IllegalArgumentException" "java/lang/Throwable" "suppressedExceptions" "Ljava/util/List;") ∈ TB := List.mem_filter.mpr ⟨tw_103, rfl⟩
theorem k_104 : (Jvm.Cond.lays "java/lang/Throwable" "java/lang/Throwable" "suppressedExceptions" "Ljava/util/List;") ∈ TB := List.mem_filter.mpr ⟨tw_104, rfl⟩
theorem k_105 : (Jvm.Cond.lays "java/lang/IllegalArgumentException" "java/lang/Throwable" "detailMessage" "Ljava/lang/String;") ∈ TB := List.mem_filter.mpr ⟨tw_105, rfl⟩
theorem k_106 : (Jvm.Cond.lays "java/lang/Throwable" "java/lang/Throwable" "detailMessage" "Ljava/lang/String;") ∈ TB := List.mem_filter.mpr ⟨tw_106, rfl⟩
theorem k_107 : (Jvm.Cond.lays "java/lang/IllegalArgumentException" "java/lang/Throwable" "backtrace" "Ljava/lang/Object;") ∈ TB := List.mem_filter.mpr ⟨tw_107, rfl⟩
theorem k_108 : (Jvm.Cond.lays "java/lang/Throwable" "java/lang/Throwable" "backtrace" "Ljava/lang/Object;") ∈ TB := List.mem_filter.mpr ⟨tw_108, rfl⟩
theorem k_109 : (Jvm.Cond.fieldLink "java/lang/Throwable" (198 : Nat) "java/lang/Throwable" "backtrace" "Ljava/lang/Object;") ∈ TB := List.mem_filter.mpr ⟨tw_109, rfl⟩
theorem k_110 : (Jvm.Cond.superclass "java/lang/Throwable" "java/lang/Object") ∈ TB := List.mem_filter.mpr ⟨tw_110, rfl⟩
theorem k_111 : (Jvm.Cond.instanceMethod ({ cls := "java/lang/Throwable", name := "<init>", desc := "()V" } : Jvm.MethodName)) ∈ TB := List.mem_filter.mpr ⟨tw_111, rfl⟩
theorem k_112 : (Jvm.Cond.code ({ cls := "java/lang/Throwable", name := "<init>", desc := "()V" } : Jvm.MethodName) prog_11_method_1_code (1 : Nat) (Option.none : Option Jvm.ClassFile.FieldType)) ∈ TB := List.mem_filter.mpr ⟨tw_112, rfl⟩
theorem k_113 : (Jvm.Cond.methodLink "java/lang/Throwable" (1 : Nat) ({ cls := "java/lang/Object", name := "<init>", desc := "()V" } : Jvm.MethodName)) ∈ TB := List.mem_filter.mpr ⟨tw_113, rfl⟩
theorem k_114 : (Jvm.Cond.fieldLink "java/lang/Throwable" (13 : Nat) "java/lang/Throwable" "UNASSIGNED_STACK" "[Ljava/lang/StackTraceElement;") ∈ TB := List.mem_filter.mpr ⟨tw_114, rfl⟩
theorem k_116 : (Jvm.Cond.fieldLink "java/lang/Throwable" (20 : Nat) "java/lang/Throwable" "SUPPRESSED_SENTINEL" "Ljava/util/List;") ∈ TB := List.mem_filter.mpr ⟨tw_116, rfl⟩
theorem k_118 : (Jvm.Cond.methodLink "java/lang/Throwable" (27 : Nat) ({ cls := "java/lang/Throwable", name := "fillInStackTrace", desc := "()Ljava/lang/Throwable;" } : Jvm.MethodName)) ∈ TB := List.mem_filter.mpr ⟨tw_118, rfl⟩
theorem k_119 : (Jvm.Cond.instanceMethod ({ cls := "java/lang/Throwable", name := "fillInStackTrace", desc := "()Ljava/lang/Throwable;" } : Jvm.MethodName)) ∈ TB := List.mem_filter.mpr ⟨tw_119, rfl⟩
theorem k_120 : (Jvm.Cond.sameMethod "java/lang/Throwable" "java/lang/Throwable" "fillInStackTrace" "()Ljava/lang/Throwable;") ∈ TB := List.mem_filter.mpr ⟨tw_120, rfl⟩
theorem k_121 : (Jvm.Cond.selects "java/lang/IllegalStateException" ({ cls := "java/lang/Throwable", name := "fillInStackTrace", desc := "()Ljava/lang/Throwable;" } : Jvm.MethodName) ({ cls := "java/lang/Throwable", name := "fillInStackTrace", desc := "()Ljava/lang/Throwable;" } : Jvm.MethodName)) ∈ TB := List.mem_filter.mpr ⟨tw_121, rfl⟩
theorem k_122 : (Jvm.Cond.selects "java/lang/IndexOutOfBoundsException" ({ cls := "java/lang/Throwable", name := "fillInStackTrace", desc := "()Ljava/lang/Throwable;" } : Jvm.MethodName) ({ cls := "java/lang/Throwable", name := "fillInStackTrace", desc := "()Ljava/lang/Throwable;" } : Jvm.MethodName)) ∈ TB := List.mem_filter.mpr ⟨tw_122, rfl⟩
theorem k_123 : (Jvm.Cond.codeSync ({ cls := "java/lang/Throwable", name := "fillInStackTrace", desc := "()Ljava/lang/Throwable;" } : Jvm.MethodName) prog_11_method_18_code (1 : Nat) (Option.some (Jvm.ClassFile.FieldType.object "java/lang/Throwable"))) ∈ TB := List.mem_filter.mpr ⟨tw_123, rfl⟩
theorem k_124 : (Jvm.Cond.methodLink "java/lang/Throwable" (202 : Nat) ({ cls := "java/lang/Throwable", name := "fillInStackTrace", desc := "(I)Ljava/lang/Throwable;" } : Jvm.MethodName)) ∈ TB := List.mem_filter.mpr ⟨tw_124, rfl⟩
theorem k_126 : (Jvm.Cond.instanceMethod ({ cls := "java/lang/Throwable", name := "fillInStackTrace", desc := "(I)Ljava/lang/Throwable;" } : Jvm.MethodName)) ∈ TB := List.mem_filter.mpr ⟨tw_126, rfl⟩
theorem k_127 : (Jvm.Cond.instantiable "java/lang/Throwable" (6 : Nat)) ∈ TB := List.mem_filter.mpr ⟨tw_127, rfl⟩
theorem k_128 : (Jvm.Cond.native ({ cls := "java/lang/Throwable", name := "fillInStackTrace", desc := "(I)Ljava/lang/Throwable;" } : Jvm.MethodName)) ∈ TB := List.mem_filter.mpr ⟨tw_128, rfl⟩
theorem k_129 : (Jvm.Cond.methodLink "StageClock" (18 : Nat) ({ cls := "java/lang/IllegalArgumentException", name := "<init>", desc := "()V" } : Jvm.MethodName)) ∈ TB := List.mem_filter.mpr ⟨tw_129, rfl⟩
theorem k_130 : (Jvm.Cond.instanceMethod ({ cls := "java/lang/IllegalArgumentException", name := "<init>", desc := "()V" } : Jvm.MethodName)) ∈ TB := List.mem_filter.mpr ⟨tw_130, rfl⟩
theorem k_131 : (Jvm.Cond.code ({ cls := "java/lang/IllegalArgumentException", name := "<init>", desc := "()V" } : Jvm.MethodName) prog_6_method_1_code (1 : Nat) (Option.none : Option Jvm.ClassFile.FieldType)) ∈ TB := List.mem_filter.mpr ⟨tw_131, rfl⟩
theorem k_132 : (Jvm.Cond.methodLink "java/lang/IllegalArgumentException" (1 : Nat) ({ cls := "java/lang/RuntimeException", name := "<init>", desc := "()V" } : Jvm.MethodName)) ∈ TB := List.mem_filter.mpr ⟨tw_132, rfl⟩
theorem k_133 : (Jvm.Cond.instanceMethod ({ cls := "java/lang/RuntimeException", name := "<init>", desc := "()V" } : Jvm.MethodName)) ∈ TB := List.mem_filter.mpr ⟨tw_133, rfl⟩
theorem k_134 : (Jvm.Cond.code ({ cls := "java/lang/RuntimeException", name := "<init>", desc := "()V" } : Jvm.MethodName) prog_10_method_1_code (1 : Nat) (Option.none : Option Jvm.ClassFile.FieldType)) ∈ TB := List.mem_filter.mpr ⟨tw_134, rfl⟩
theorem k_135 : (Jvm.Cond.methodLink "java/lang/RuntimeException" (1 : Nat) ({ cls := "java/lang/Exception", name := "<init>", desc := "()V" } : Jvm.MethodName)) ∈ TB := List.mem_filter.mpr ⟨tw_135, rfl⟩
theorem k_136 : (Jvm.Cond.instanceMethod ({ cls := "java/lang/Exception", name := "<init>", desc := "()V" } : Jvm.MethodName)) ∈ TB := List.mem_filter.mpr ⟨tw_136, rfl⟩
theorem k_137 : (Jvm.Cond.code ({ cls := "java/lang/Exception", name := "<init>", desc := "()V" } : Jvm.MethodName) prog_5_method_1_code (1 : Nat) (Option.none : Option Jvm.ClassFile.FieldType)) ∈ TB := List.mem_filter.mpr ⟨tw_137, rfl⟩
theorem k_138 : (Jvm.Cond.methodLink "java/lang/Exception" (1 : Nat) ({ cls := "java/lang/Throwable", name := "<init>", desc := "()V" } : Jvm.MethodName)) ∈ TB := List.mem_filter.mpr ⟨tw_138, rfl⟩
theorem k_139 : (Jvm.Cond.fieldLink "java/lang/Throwable" (198 : Nat) "java/lang/Throwable" "backtrace" "Ljava/lang/Object;") ∈ TB := List.mem_filter.mpr ⟨tw_139, rfl⟩
theorem k_140 : (Jvm.Cond.fieldLink "java/lang/Throwable" (7 : Nat) "java/lang/Throwable" "cause" "Ljava/lang/Throwable;") ∈ TB := List.mem_filter.mpr ⟨tw_140, rfl⟩
theorem k_141 : (Jvm.Cond.fieldLink "java/lang/Throwable" (17 : Nat) "java/lang/Throwable" "stackTrace" "[Ljava/lang/StackTraceElement;") ∈ TB := List.mem_filter.mpr ⟨tw_141, rfl⟩
theorem k_142 : (Jvm.Cond.fieldLink "java/lang/Throwable" (24 : Nat) "java/lang/Throwable" "suppressedExceptions" "Ljava/util/List;") ∈ TB := List.mem_filter.mpr ⟨tw_142, rfl⟩
theorem k_143 : (Jvm.Cond.soleField "java/lang/Throwable" "backtrace") ∈ TB := List.mem_filter.mpr ⟨tw_143, rfl⟩
theorem k_144 : (Jvm.Cond.soleField "java/lang/Throwable" "detailMessage") ∈ TB := List.mem_filter.mpr ⟨tw_144, rfl⟩
theorem k_145 : (Jvm.Cond.soleField "java/lang/Throwable" "cause") ∈ TB := List.mem_filter.mpr ⟨tw_145, rfl⟩
theorem k_146 : (Jvm.Cond.soleField "java/lang/Throwable" "stackTrace") ∈ TB := List.mem_filter.mpr ⟨tw_146, rfl⟩
theorem k_147 : (Jvm.Cond.lays "java/lang/IllegalArgumentException" "java/lang/Throwable" "depth" "I") ∈ TB := List.mem_filter.mpr ⟨tw_147, rfl⟩
theorem k_148 : (Jvm.Cond.soleField "java/lang/Throwable" "depth") ∈ TB := List.mem_filter.mpr ⟨tw_148, rfl⟩
theorem k_149 : (Jvm.Cond.soleField "java/lang/Throwable" "suppressedExceptions") ∈ TB := List.mem_filter.mpr ⟨tw_149, rfl⟩
theorem k_150 : (Jvm.Cond.superclass "java/lang/IllegalArgumentException" "java/lang/RuntimeException") ∈ TB := List.mem_filter.mpr ⟨tw_150, rfl⟩
theorem k_151 : (Jvm.Cond.classLink "StageClock" (97 : Nat) "java/lang/IllegalStateException") ∈ TB := List.mem_filter.mpr ⟨tw_151, rfl⟩
theorem k_152 : (Jvm.Cond.instantiable "java/lang/IllegalStateException" (6 : Nat)) ∈ TB := List.mem_filter.mpr ⟨tw_152, rfl⟩
theorem k_153 : (Jvm.Cond.castable "java/lang/IllegalStateException" "java/lang/IllegalStateException") ∈ TB := List.mem_filter.mpr ⟨tw_153, rfl⟩
theorem k_154 : (Jvm.Cond.selects "java/lang/IllegalStateException" ({ cls := "java/lang/Throwable", name := "fillInStackTrace", desc := "(I)Ljava/lang/Throwable;" } : Jvm.MethodName) ({ cls := "java/lang/Throwable", name := "fillInStackTrace", desc := "(I)Ljava/lang/Throwable;" } : Jvm.MethodName)) ∈ TB := List.mem_filter.mpr ⟨tw_154, rfl⟩
theorem k_155 : (Jvm.Cond.lays "java/lang/IllegalStateException" "java/lang/Throwable" "cause" "Ljava/lang/Throwable;") ∈ TB := List.mem_filter.mpr ⟨tw_155, rfl⟩
theorem k_156 : (Jvm.Cond.lays "java/lang/IllegalStateException" "java/lang/Throwable" "stackTrace" "[Ljava/lang/StackTraceElement;") ∈ TB := List.mem_filter.mpr ⟨tw_156, rfl⟩
theorem k_157 : (Jvm.Cond.lays "java/lang/IllegalStateException" "java/lang/Throwable" "suppressedExceptions" "Ljava/util/List;") ∈ TB := List.mem_filter.mpr ⟨tw_157, rfl⟩
theorem k_158 : (Jvm.Cond.lays "java/lang/IllegalStateException" "java/lang/Throwable" "detailMessage" "Ljava/lang/String;") ∈ TB := List.mem_filter.mpr ⟨tw_158, rfl⟩
theorem k_159 : (Jvm.Cond.lays "java/lang/IllegalStateException" "java/lang/Throwable" "backtrace" "Ljava/lang/Object;") ∈ TB := List.mem_filter.mpr ⟨tw_159, rfl⟩
theorem k_160 : (Jvm.Cond.methodLink "StageClock" (99 : Nat) ({ cls := "java/lang/IllegalStateException", name := "<init>", desc := "()V" } : Jvm.MethodName)) ∈ TB := List.mem_filter.mpr ⟨tw_160, rfl⟩
theorem k_161 : (Jvm.Cond.instanceMethod ({ cls := "java/lang/IllegalStateException", name := "<init>", desc := "()V" } : Jvm.MethodName)) ∈ TB := List.mem_filter.mpr ⟨tw_161, rfl⟩
theorem k_162 : (Jvm.Cond.code ({ cls := "java/lang/IllegalStateException", name := "<init>", desc := "()V" } : Jvm.MethodName) prog_7_method_1_code (1 : Nat) (Option.none : Option Jvm.ClassFile.FieldType)) ∈ TB := List.mem_filter.mpr ⟨tw_162, rfl⟩
theorem k_163 : (Jvm.Cond.methodLink "java/lang/IllegalStateException" (1 : Nat) ({ cls := "java/lang/RuntimeException", name := "<init>", desc := "()V" } : Jvm.MethodName)) ∈ TB := List.mem_filter.mpr ⟨tw_163, rfl⟩
theorem k_164 : (Jvm.Cond.lays "java/lang/IllegalStateException" "java/lang/Throwable" "depth" "I") ∈ TB := List.mem_filter.mpr ⟨tw_164, rfl⟩
theorem k_165 : (Jvm.Cond.superclass "java/lang/IllegalStateException" "java/lang/RuntimeException") ∈ TB := List.mem_filter.mpr ⟨tw_165, rfl⟩
theorem k_166 : (Jvm.Cond.methodLink "StageClock" (100 : Nat) ({ cls := "StageClock", name := "set", desc := "(IIIIIZIZ)V" } : Jvm.MethodName)) ∈ TB := List.mem_filter.mpr ⟨tw_166, rfl⟩
theorem k_168 : (Jvm.Cond.instanceMethod ({ cls := "StageClock", name := "set", desc := "(IIIIIZIZ)V" } : Jvm.MethodName)) ∈ TB := List.mem_filter.mpr ⟨tw_168, rfl⟩
theorem k_169 : (Jvm.Cond.code ({ cls := "StageClock", name := "set", desc := "(IIIIIZIZ)V" } : Jvm.MethodName) prog_1_method_8_code (10 : Nat) (Option.none : Option Jvm.ClassFile.FieldType)) ∈ TB := List.mem_filter.mpr ⟨tw_169, rfl⟩
theorem k_170 : (Jvm.Cond.methodLink "StageClock" (90 : Nat) ({ cls := "java/lang/Math", name := "min", desc := "(II)I" } : Jvm.MethodName)) ∈ TB := List.mem_filter.mpr ⟨tw_170, rfl⟩
theorem k_171 : (Jvm.Cond.static ({ cls := "java/lang/Math", name := "min", desc := "(II)I" } : Jvm.MethodName)) ∈ TB := List.mem_filter.mpr ⟨tw_171, rfl⟩
theorem k_172 : (Jvm.Cond.code ({ cls := "java/lang/Math", name := "min", desc := "(II)I" } : Jvm.MethodName) prog_9_method_69_code (2 : Nat) (Option.some Jvm.ClassFile.FieldType.int)) ∈ TB := List.mem_filter.mpr ⟨tw_172, rfl⟩
theorem k_173 : (Jvm.Cond.methodLink "StageClockLaw" (57 : Nat) ({ cls := "StageClockLaw", name := "change", desc := "(LStageClock;IIIIIZIZ)I" } : Jvm.MethodName)) ∈ TB := List.mem_filter.mpr ⟨tw_173, rfl⟩
theorem k_174 : (Jvm.Cond.static ({ cls := "StageClockLaw", name := "change", desc := "(LStageClock;IIIIIZIZ)I" } : Jvm.MethodName)) ∈ TB := List.mem_filter.mpr ⟨tw_174, rfl⟩
theorem k_175 : (Jvm.Cond.codeWith ({ cls := "StageClockLaw", name := "change", desc := "(LStageClock;IIIIIZIZ)I" } : Jvm.MethodName) method_4_code (10 : Nat) (Option.some Jvm.ClassFile.FieldType.int) [((0 : Nat), (17 : Nat), (20 : Nat), (13 : Nat)), ((0 : Nat), (17 : Nat), (24 : Nat), (21 : Nat))]) ∈ TB := List.mem_filter.mpr ⟨tw_175, rfl⟩
theorem k_176 : (Jvm.Cond.classLink "StageClockLaw" (21 : Nat) "java/lang/IndexOutOfBoundsException") ∈ TB := List.mem_filter.mpr ⟨tw_176, rfl⟩
theorem k_177 : (Jvm.Cond.methodLink "StageClockLaw" (17 : Nat) ({ cls := "StageClock", name := "change", desc := "(IIIIIZIZ)V" } : Jvm.MethodName)) ∈ TB := List.mem_filter.mpr ⟨tw_177, rfl⟩
theorem k_178 : (Jvm.Cond.instanceMethod ({ cls := "StageClock", name := "change", desc := "(IIIIIZIZ)V" } : Jvm.MethodName)) ∈ TB := List.mem_filter.mpr ⟨tw_178, rfl⟩
theorem k_179 : (Jvm.Cond.selects "StageClock" ({ cls := "StageClock", name := "change", desc := "(IIIIIZIZ)V" } : Jvm.MethodName) ({ cls := "StageClock", name := "change", desc := "(IIIIIZIZ)V" } : Jvm.MethodName)) ∈ TB := List.mem_filter.mpr ⟨tw_179, rfl⟩
theorem k_180 : (Jvm.Cond.code ({ cls := "StageClock", name := "change", desc := "(IIIIIZIZ)V" } : Jvm.MethodName) prog_1_method_10_code (9 : Nat) (Option.none : Option Jvm.ClassFile.FieldType)) ∈ TB := List.mem_filter.mpr ⟨tw_180, rfl⟩
theorem k_181 : (Jvm.Cond.classLink "StageClock" (27 : Nat) "java/lang/IndexOutOfBoundsException") ∈ TB := List.mem_filter.mpr ⟨tw_181, rfl⟩
theorem k_182 : (Jvm.Cond.instantiable "java/lang/IndexOutOfBoundsException" (6 : Nat)) ∈ TB := List.mem_filter.mpr ⟨tw_182, rfl⟩
theorem k_183 : (Jvm.Cond.castable "java/lang/IndexOutOfBoundsException" "java/lang/IndexOutOfBoundsException") ∈ TB := List.mem_filter.mpr ⟨tw_183, rfl⟩
theorem k_184 : (Jvm.Cond.selects "java/lang/IndexOutOfBoundsException" ({ cls := "java/lang/Throwable", name := "fillInStackTrace", desc := "(I)Ljava/lang/Throwable;" } : Jvm.MethodName) ({ cls := "java/lang/Throwable", name := "fillInStackTrace", desc := "(I)Ljava/lang/Throwable;" } : Jvm.MethodName)) ∈ TB := List.mem_filter.mpr ⟨tw_184, rfl⟩
theorem k_185 : (Jvm.Cond.lays "java/lang/IndexOutOfBoundsException" "java/lang/Throwable" "cause" "Ljava/lang/Throwable;") ∈ TB := List.mem_filter.mpr ⟨tw_185, rfl⟩
theorem k_186 : (Jvm.Cond.lays "java/lang/IndexOutOfBoundsException" "java/lang/Throwable" "stackTrace" "[Ljava/lang/StackTraceElement;") ∈ TB := List.mem_filter.mpr ⟨tw_186, rfl⟩
theorem k_187 : (Jvm.Cond.lays "java/lang/IndexOutOfBoundsException" "java/lang/Throwable" "suppressedExceptions" "Ljava/util/List;") ∈ TB := List.mem_filter.mpr ⟨tw_187, rfl⟩
theorem k_188 : (Jvm.Cond.lays "java/lang/IndexOutOfBoundsException" "java/lang/Throwable" "detailMessage" "Ljava/lang/String;") ∈ TB := List.mem_filter.mpr ⟨tw_188, rfl⟩
theorem k_189 : (Jvm.Cond.lays "java/lang/IndexOutOfBoundsException" "java/lang/Throwable" "backtrace" "Ljava/lang/Object;") ∈ TB := List.mem_filter.mpr ⟨tw_189, rfl⟩
theorem k_190 : (Jvm.Cond.methodLink "StageClock" (29 : Nat) ({ cls := "java/lang/IndexOutOfBoundsException", name := "<init>", desc := "()V" } : Jvm.MethodName)) ∈ TB := List.mem_filter.mpr ⟨tw_190, rfl⟩
theorem k_191 : (Jvm.Cond.instanceMethod ({ cls := "java/lang/IndexOutOfBoundsException", name := "<init>", desc := "()V" } : Jvm.MethodName)) ∈ TB := List.mem_filter.mpr ⟨tw_191, rfl⟩
theorem k_192 : (Jvm.Cond.code ({ cls := "java/lang/IndexOutOfBoundsException", name := "<init>", desc := "()V" } : Jvm.MethodName) prog_8_method_1_code (1 : Nat) (Option.none : Option Jvm.ClassFile.FieldType)) ∈ TB := List.mem_filter.mpr ⟨tw_192, rfl⟩
theorem k_193 : (Jvm.Cond.methodLink "java/lang/IndexOutOfBoundsException" (1 : Nat) ({ cls := "java/lang/RuntimeException", name := "<init>", desc := "()V" } : Jvm.MethodName)) ∈ TB := List.mem_filter.mpr ⟨tw_193, rfl⟩
theorem k_194 : (Jvm.Cond.lays "java/lang/IndexOutOfBoundsException" "java/lang/Throwable" "depth" "I") ∈ TB := List.mem_filter.mpr ⟨tw_194, rfl⟩
theorem k_195 : (Jvm.Cond.superclass "java/lang/IndexOutOfBoundsException" "java/lang/RuntimeException") ∈ TB := List.mem_filter.mpr ⟨tw_195, rfl⟩
theorem k_196 : (Jvm.Cond.methodLink "StageClockLaw" (61 : Nat) ({ cls := "StageClockLaw", name := "cut", desc := "(LStageClock;I[J)I" } : Jvm.MethodName)) ∈ TB := List.mem_filter.mpr ⟨tw_196, rfl⟩
theorem k_197 : (Jvm.Cond.static ({ cls := "StageClockLaw", name := "cut", desc := "(LStageClock;I[J)I" } : Jvm.MethodName)) ∈ TB := List.mem_filter.mpr ⟨tw_197, rfl⟩
theorem k_198 : (Jvm.Cond.codeWith ({ cls := "StageClockLaw", name := "cut", desc := "(LStageClock;I[J)I" } : Jvm.MethodName) method_5_code (4 : Nat) (Option.some Jvm.ClassFile.FieldType.int) [((0 : Nat), (9 : Nat), (12 : Nat), (13 : Nat))]) ∈ TB := List.mem_filter.mpr ⟨tw_198, rfl⟩
theorem k_199 : (Jvm.Cond.methodLink "StageClockLaw" (23 : Nat) ({ cls := "StageClock", name := "cut", desc := "(I)I" } : Jvm.MethodName)) ∈ TB := List.mem_filter.mpr ⟨tw_199, rfl⟩
theorem k_200 : (Jvm.Cond.instanceMethod ({ cls := "StageClock", name := "cut", desc := "(I)I" } : Jvm.MethodName)) ∈ TB := List.mem_filter.mpr ⟨tw_200, rfl⟩
theorem k_201 : (Jvm.Cond.selects "StageClock" ({ cls := "StageClock", name := "cut", desc := "(I)I" } : Jvm.MethodName) ({ cls := "StageClock", name := "cut", desc := "(I)I" } : Jvm.MethodName)) ∈ TB := List.mem_filter.mpr ⟨tw_201, rfl⟩
theorem k_202 : (Jvm.Cond.code ({ cls := "StageClock", name := "cut", desc := "(I)I" } : Jvm.MethodName) prog_1_method_11_code (3 : Nat) (Option.some Jvm.ClassFile.FieldType.int)) ∈ TB := List.mem_filter.mpr ⟨tw_202, rfl⟩
theorem k_203 : (Jvm.Cond.methodLink "StageClockLaw" (65 : Nat) ({ cls := "StageClockLaw", name := "when", desc := "(LStageClock;II[J)I" } : Jvm.MethodName)) ∈ TB := List.mem_filter.mpr ⟨tw_203, rfl⟩
theorem k_204 : (Jvm.Cond.static ({ cls := "StageClockLaw", name := "when", desc := "(LStageClock;II[J)I" } : Jvm.MethodName)) ∈ TB := List.mem_filter.mpr ⟨tw_204, rfl⟩
theorem k_205 : (Jvm.Cond.codeWith ({ cls := "StageClockLaw", name := "when", desc := "(LStageClock;II[J)I" } : Jvm.MethodName) method_6_code (5 : Nat) (Option.some Jvm.ClassFile.FieldType.int) [((0 : Nat), (10 : Nat), (13 : Nat), (13 : Nat)), ((0 : Nat), (10 : Nat), (17 : Nat), (21 : Nat))]) ∈ TB := List.mem_filter.mpr ⟨tw_205, rfl⟩
theorem k_206 : (Jvm.Cond.methodLink "StageClockLaw" (27 : Nat) ({ cls := "StageClock", name := "when", desc := "(II)I" } : Jvm.MethodName)) ∈ TB := List.mem_filter.mpr ⟨tw_206, rfl⟩
theorem k_207 : (Jvm.Cond.instanceMethod ({ cls := "StageClock", name := "when", desc := "(II)I" } : Jvm.MethodName)) ∈ TB := List.mem_filter.mpr ⟨tw_207, rfl⟩
theorem k_208 : (Jvm.Cond.selects "StageClock" ({ cls := "StageClock", name := "when", desc := "(II)I" } : Jvm.MethodName) ({ cls := "StageClock", name := "when", desc := "(II)I" } : Jvm.MethodName)) ∈ TB := List.mem_filter.mpr ⟨tw_208, rfl⟩
theorem k_209 : (Jvm.Cond.code ({ cls := "StageClock", name := "when", desc := "(II)I" } : Jvm.MethodName) prog_1_method_12_code (4 : Nat) (Option.some Jvm.ClassFile.FieldType.int)) ∈ TB := List.mem_filter.mpr ⟨tw_209, rfl⟩
theorem k_210 : (Jvm.Cond.methodLink "StageClock" (104 : Nat) ({ cls := "StageClock", name := "step", desc := "(I)LStageClock$Step;" } : Jvm.MethodName)) ∈ TB := List.mem_filter.mpr ⟨tw_210, rfl⟩
theorem k_212 : (Jvm.Cond.instanceMethod ({ cls := "StageClock", name := "step", desc := "(I)LStageClock$Step;" } : Jvm.MethodName)) ∈ TB := List.mem_filter.mpr ⟨tw_212, rfl⟩
theorem k_213 : (Jvm.Cond.code ({ cls := "StageClock", name := "step", desc := "(I)LStageClock$Step;" } : Jvm.MethodName) prog_1_method_4_code (2 : Nat) (Option.some (Jvm.ClassFile.FieldType.object "StageClock$Step"))) ∈ TB := List.mem_filter.mpr ⟨tw_213, rfl⟩
theorem k_214 : (Jvm.Cond.methodLink "StageClock" (33 : Nat) ({ cls := "StageClock", name := "work", desc := "(I)V" } : Jvm.MethodName)) ∈ TB := List.mem_filter.mpr ⟨tw_214, rfl⟩
theorem k_216 : (Jvm.Cond.instanceMethod ({ cls := "StageClock", name := "work", desc := "(I)V" } : Jvm.MethodName)) ∈ TB := List.mem_filter.mpr ⟨tw_216, rfl⟩
theorem k_217 : (Jvm.Cond.code ({ cls := "StageClock", name := "work", desc := "(I)V" } : Jvm.MethodName) prog_1_method_6_code (6 : Nat) (Option.none : Option Jvm.ClassFile.FieldType)) ∈ TB := List.mem_filter.mpr ⟨tw_217, rfl⟩
theorem k_218 : (Jvm.Cond.methodLink "StageClock" (55 : Nat) ({ cls := "StageClock$Step", name := "done", desc := "()I" } : Jvm.MethodName)) ∈ TB := List.mem_filter.mpr ⟨tw_218, rfl⟩
theorem k_219 : (Jvm.Cond.instanceMethod ({ cls := "StageClock$Step", name := "done", desc := "()I" } : Jvm.MethodName)) ∈ TB := List.mem_filter.mpr ⟨tw_219, rfl⟩
theorem k_220 : (Jvm.Cond.selects "StageClock$Step" ({ cls := "StageClock$Step", name := "done", desc := "()I" } : Jvm.MethodName) ({ cls := "StageClock$Step", name := "done", desc := "()I" } : Jvm.MethodName)) ∈ TB := List.mem_filter.mpr ⟨tw_220, rfl⟩
theorem k_221 : (Jvm.Cond.code ({ cls := "StageClock$Step", name := "done", desc := "()I" } : Jvm.MethodName) prog_2_method_2_code (1 : Nat) (Option.some Jvm.ClassFile.FieldType.int)) ∈ TB := List.mem_filter.mpr ⟨tw_221, rfl⟩
theorem k_222 : (Jvm.Cond.methodLink "StageClock" (58 : Nat) ({ cls := "java/lang/Math", name := "max", desc := "(II)I" } : Jvm.MethodName)) ∈ TB := List.mem_filter.mpr ⟨tw_222, rfl⟩
theorem k_223 : (Jvm.Cond.static ({ cls := "java/lang/Math", name := "max", desc := "(II)I" } : Jvm.MethodName)) ∈ TB := List.mem_filter.mpr ⟨tw_223, rfl⟩
theorem k_224 : (Jvm.Cond.code ({ cls := "java/lang/Math", name := "max", desc := "(II)I" } : Jvm.MethodName) prog_9_method_65_code (2 : Nat) (Option.some Jvm.ClassFile.FieldType.int)) ∈ TB := List.mem_filter.mpr ⟨tw_224, rfl⟩
theorem k_225 : (Jvm.Cond.methodLink "StageClock" (67 : Nat) ({ cls := "StageClock", name := "there", desc := "(LStageClock$Step;I)I" } : Jvm.MethodName)) ∈ TB := List.mem_filter.mpr ⟨tw_225, rfl⟩
theorem k_227 : (Jvm.Cond.instanceMethod ({ cls := "StageClock", name := "there", desc := "(LStageClock$Step;I)I" } : Jvm.MethodName)) ∈ TB := List.mem_filter.mpr ⟨tw_227, rfl⟩
theorem k_228 : (Jvm.Cond.code ({ cls := "StageClock", name := "there", desc := "(LStageClock$Step;I)I" } : Jvm.MethodName) prog_1_method_5_code (3 : Nat) (Option.some Jvm.ClassFile.FieldType.int)) ∈ TB := List.mem_filter.mpr ⟨tw_228, rfl⟩
theorem k_229 : (Jvm.Cond.methodLink "StageClock" (41 : Nat) ({ cls := "StageClock$Step", name := "ready", desc := "()I" } : Jvm.MethodName)) ∈ TB := List.mem_filter.mpr ⟨tw_229, rfl⟩
theorem k_230 : (Jvm.Cond.instanceMethod ({ cls := "StageClock$Step", name := "ready", desc := "()I" } : Jvm.MethodName)) ∈ TB := List.mem_filter.mpr ⟨tw_230, rfl⟩
theorem k_231 : (Jvm.Cond.selects "StageClock$Step" ({ cls := "StageClock$Step", name := "ready", desc := "()I" } : Jvm.MethodName) ({ cls := "StageClock$Step", name := "ready", desc := "()I" } : Jvm.MethodName)) ∈ TB := List.mem_filter.mpr ⟨tw_231, rfl⟩
theorem k_232 : (Jvm.Cond.code ({ cls := "StageClock$Step", name := "ready", desc := "()I" } : Jvm.MethodName) prog_2_method_4_code (1 : Nat) (Option.some Jvm.ClassFile.FieldType.int)) ∈ TB := List.mem_filter.mpr ⟨tw_232, rfl⟩
theorem k_233 : (Jvm.Cond.methodLink "StageClock$Step" (29 : Nat) ({ cls := "StageClock$Step", name := "through", desc := "()I" } : Jvm.MethodName)) ∈ TB := List.mem_filter.mpr ⟨tw_233, rfl⟩
theorem k_234 : (Jvm.Cond.instanceMethod ({ cls := "StageClock$Step", name := "through", desc := "()I" } : Jvm.MethodName)) ∈ TB := List.mem_filter.mpr ⟨tw_234, rfl⟩
theorem k_235 : (Jvm.Cond.selects "StageClock$Step" ({ cls := "StageClock$Step", name := "through", desc := "()I" } : Jvm.MethodName) ({ cls := "StageClock$Step", name := "through", desc := "()I" } : Jvm.MethodName)) ∈ TB := List.mem_filter.mpr ⟨tw_235, rfl⟩
theorem k_236 : (Jvm.Cond.code ({ cls := "StageClock$Step", name := "through", desc := "()I" } : Jvm.MethodName) prog_2_method_3_code (1 : Nat) (Option.some Jvm.ClassFile.FieldType.int)) ∈ TB := List.mem_filter.mpr ⟨tw_236, rfl⟩
theorem k_237 : (Jvm.Cond.methodLink "StageClock$Step" (33 : Nat) ({ cls := "StageClock$Step", name := "done", desc := "()I" } : Jvm.MethodName)) ∈ TB := List.mem_filter.mpr ⟨tw_237, rfl⟩
theorem k_238 : (Jvm.Cond.methodLink "StageClock" (74 : Nat) ({ cls := "StageClock$Step", name := "through", desc := "()I" } : Jvm.MethodName)) ∈ TB := List.mem_filter.mpr ⟨tw_238, rfl⟩
theorem k_239 : (Jvm.Cond.methodLink "StageClockLaw" (69 : Nat) ({ cls := "StageClockLaw", name := "in", desc := "(LStageClock;II[J)I" } : Jvm.MethodName)) ∈ TB := List.mem_filter.mpr ⟨tw_239, rfl⟩
theorem k_240 : (Jvm.Cond.static ({ cls := "StageClockLaw", name := "in", desc := "(LStageClock;II[J)I" } : Jvm.MethodName)) ∈ TB := List.mem_filter.mpr ⟨tw_240, rfl⟩
theorem k_241 : (Jvm.Cond.codeWith ({ cls := "StageClockLaw", name := "in", desc := "(LStageClock;II[J)I" } : Jvm.MethodName) method_7_code (5 : Nat) (Option.some Jvm.ClassFile.FieldType.int) [((0 : Nat), (10 : Nat), (13 : Nat), (13 : Nat))]) ∈ TB := List.mem_filter.mpr ⟨tw_241, rfl⟩
theorem k_242 : (Jvm.Cond.methodLink "StageClockLaw" (31 : Nat) ({ cls := "StageClock", name := "in", desc := "(II)I" } : Jvm.MethodName)) ∈ TB := List.mem_filter.mpr ⟨tw_242, rfl⟩
theorem k_243 : (Jvm.Cond.instanceMethod ({ cls := "StageClock", name := "in", desc := "(II)I" } : Jvm.MethodName)) ∈ TB := List.mem_filter.mpr ⟨tw_243, rfl⟩
theorem k_244 : (Jvm.Cond.selects "StageClock" ({ cls := "StageClock", name := "in", desc := "(II)I" } : Jvm.MethodName) ({ cls := "StageClock", name := "in", desc := "(II)I" } : Jvm.MethodName)) ∈ TB := List.mem_filter.mpr ⟨tw_244, rfl⟩
theorem k_245 : (Jvm.Cond.code ({ cls := "StageClock", name := "in", desc := "(II)I" } : Jvm.MethodName) prog_1_method_13_code (7 : Nat) (Option.some Jvm.ClassFile.FieldType.int)) ∈ TB := List.mem_filter.mpr ⟨tw_245, rfl⟩
theorem k_246 : (Jvm.Cond.methodLink "StageClockLaw" (72 : Nat) ({ cls := "StageClockLaw", name := "held", desc := "(LStageClock;I[J)I" } : Jvm.MethodName)) ∈ TB := List.mem_filter.mpr ⟨tw_246, rfl⟩
theorem k_247 : (Jvm.Cond.static ({ cls := "StageClockLaw", name := "held", desc := "(LStageClock;I[J)I" } : Jvm.MethodName)) ∈ TB := List.mem_filter.mpr ⟨tw_247, rfl⟩
theorem k_248 : (Jvm.Cond.codeWith ({ cls := "StageClockLaw", name := "held", desc := "(LStageClock;I[J)I" } : Jvm.MethodName) method_8_code (4 : Nat) (Option.some Jvm.ClassFile.FieldType.int) [((0 : Nat), (9 : Nat), (12 : Nat), (21 : Nat))]) ∈ TB := List.mem_filter.mpr ⟨tw_248, rfl⟩
theorem k_249 : (Jvm.Cond.methodLink "StageClockLaw" (34 : Nat) ({ cls := "StageClock", name := "held", desc := "(I)I" } : Jvm.MethodName)) ∈ TB := List.mem_filter.mpr ⟨tw_249, rfl⟩
theorem k_250 : (Jvm.Cond.instanceMethod ({ cls := "StageClock", name := "held", desc := "(I)I" } : Jvm.MethodName)) ∈ TB := List.mem_filter.mpr ⟨tw_250, rfl⟩
theorem k_251 : (Jvm.Cond.selects "StageClock" ({ cls := "StageClock", name := "held", desc := "(I)I" } : Jvm.MethodName) ({ cls := "StageClock", name := "held", desc := "(I)I" } : Jvm.MethodName)) ∈ TB := List.mem_filter.mpr ⟨tw_251, rfl⟩
theorem k_252 : (Jvm.Cond.code ({ cls := "StageClock", name := "held", desc := "(I)I" } : Jvm.MethodName) prog_1_method_14_code (3 : Nat) (Option.some Jvm.ClassFile.FieldType.int)) ∈ TB := List.mem_filter.mpr ⟨tw_252, rfl⟩
theorem k_253 : (Jvm.Cond.methodLink "StageClockLaw" (75 : Nat) ({ cls := "StageClockLaw", name := "giver", desc := "(LStageClock;II[J)I" } : Jvm.MethodName)) ∈ TB := List.mem_filter.mpr ⟨tw_253, rfl⟩
theorem k_254 : (Jvm.Cond.static ({ cls := "StageClockLaw", name := "giver", desc := "(LStageClock;II[J)I" } : Jvm.MethodName)) ∈ TB := List.mem_filter.mpr ⟨tw_254, rfl⟩
theorem k_255 : (Jvm.Cond.codeWith ({ cls := "StageClockLaw", name := "giver", desc := "(LStageClock;II[J)I" } : Jvm.MethodName) method_9_code (5 : Nat) (Option.some Jvm.ClassFile.FieldType.int) [((0 : Nat), (10 : Nat), (13 : Nat), (13 : Nat)), ((0 : Nat), (10 : Nat), (17 : Nat), (21 : Nat))]) ∈ TB := List.mem_filter.mpr ⟨tw_255, rfl⟩
theorem k_256 : (Jvm.Cond.methodLink "StageClockLaw" (37 : Nat) ({ cls := "StageClock", name := "giver", desc := "(II)I" } : Jvm.MethodName)) ∈ TB := List.mem_filter.mpr ⟨tw_256, rfl⟩
theorem k_257 : (Jvm.Cond.instanceMethod ({ cls := "StageClock", name := "giver", desc := "(II)I" } : Jvm.MethodName)) ∈ TB := List.mem_filter.mpr ⟨tw_257, rfl⟩
theorem k_258 : (Jvm.Cond.selects "StageClock" ({ cls := "StageClock", name := "giver", desc := "(II)I" } : Jvm.MethodName) ({ cls := "StageClock", name := "giver", desc := "(II)I" } : Jvm.MethodName)) ∈ TB := List.mem_filter.mpr ⟨tw_258, rfl⟩
theorem k_259 : (Jvm.Cond.code ({ cls := "StageClock", name := "giver", desc := "(II)I" } : Jvm.MethodName) prog_1_method_15_code (3 : Nat) (Option.some Jvm.ClassFile.FieldType.int)) ∈ TB := List.mem_filter.mpr ⟨tw_259, rfl⟩
theorem k_260 : (Jvm.Cond.methodLink "StageClockLaw" (78 : Nat) ({ cls := "StageClockLaw", name := "count", desc := "(LStageClock;I[J)I" } : Jvm.MethodName)) ∈ TB := List.mem_filter.mpr ⟨tw_260, rfl⟩
theorem k_261 : (Jvm.Cond.static ({ cls := "StageClockLaw", name := "count", desc := "(LStageClock;I[J)I" } : Jvm.MethodName)) ∈ TB := List.mem_filter.mpr ⟨tw_261, rfl⟩
theorem k_262 : (Jvm.Cond.codeWith ({ cls := "StageClockLaw", name := "count", desc := "(LStageClock;I[J)I" } : Jvm.MethodName) method_10_code (4 : Nat) (Option.some Jvm.ClassFile.FieldType.int) [((0 : Nat), (9 : Nat), (12 : Nat), (13 : Nat))]) ∈ TB := List.mem_filter.mpr ⟨tw_262, rfl⟩
theorem k_263 : (Jvm.Cond.methodLink "StageClockLaw" (40 : Nat) ({ cls := "StageClock", name := "count", desc := "(I)I" } : Jvm.MethodName)) ∈ TB := List.mem_filter.mpr ⟨tw_263, rfl⟩
theorem k_264 : (Jvm.Cond.instanceMethod ({ cls := "StageClock", name := "count", desc := "(I)I" } : Jvm.MethodName)) ∈ TB := List.mem_filter.mpr ⟨tw_264, rfl⟩
theorem k_265 : (Jvm.Cond.selects "StageClock" ({ cls := "StageClock", name := "count", desc := "(I)I" } : Jvm.MethodName) ({ cls := "StageClock", name := "count", desc := "(I)I" } : Jvm.MethodName)) ∈ TB := List.mem_filter.mpr ⟨tw_265, rfl⟩
theorem k_266 : (Jvm.Cond.code ({ cls := "StageClock", name := "count", desc := "(I)I" } : Jvm.MethodName) prog_1_method_16_code (5 : Nat) (Option.some Jvm.ClassFile.FieldType.int)) ∈ TB := List.mem_filter.mpr ⟨tw_266, rfl⟩
theorem k_267 : (Jvm.Cond.classLink "StageClockLaw" (44 : Nat) "StageClockModel") ∈ TB := List.mem_filter.mpr ⟨tw_267, rfl⟩
theorem k_268 : (Jvm.Cond.instantiable "StageClockModel" (15 : Nat)) ∈ TB := List.mem_filter.mpr ⟨tw_268, rfl⟩
theorem k_269 : (Jvm.Cond.methodLink "StageClockLaw" (46 : Nat) ({ cls := "StageClockModel", name := "<init>", desc := "()V" } : Jvm.MethodName)) ∈ TB := List.mem_filter.mpr ⟨tw_269, rfl⟩
theorem k_270 : (Jvm.Cond.instanceMethod ({ cls := "StageClockModel", name := "<init>", desc := "()V" } : Jvm.MethodName)) ∈ TB := List.mem_filter.mpr ⟨tw_270, rfl⟩
theorem k_271 : (Jvm.Cond.code ({ cls := "StageClockModel", name := "<init>", desc := "()V" } : Jvm.MethodName) prog_4_method_1_code (1 : Nat) (Option.none : Option Jvm.ClassFile.FieldType)) ∈ TB := List.mem_filter.mpr ⟨tw_271, rfl⟩
theorem k_272 : (Jvm.Cond.methodLink "StageClockModel" (1 : Nat) ({ cls := "java/lang/Object", name := "<init>", desc := "()V" } : Jvm.MethodName)) ∈ TB := List.mem_filter.mpr ⟨tw_272, rfl⟩
theorem k_273 : (Jvm.Cond.fieldLink "StageClockModel" (47 : Nat) "StageClockModel" "err" "I") ∈ TB := List.mem_filter.mpr ⟨tw_273, rfl⟩
theorem k_274 : (Jvm.Cond.fieldLink "StageClockModel" (7 : Nat) "StageClockModel" "long0" "[I") ∈ TB := List.mem_filter.mpr ⟨tw_274, rfl⟩
theorem k_275 : (Jvm.Cond.fieldLink "StageClockModel" (13 : Nat) "StageClockModel" "gets" "[I") ∈ TB := List.mem_filter.mpr ⟨tw_275, rfl⟩
theorem k_276 : (Jvm.Cond.fieldLink "StageClockModel" (16 : Nat) "StageClockModel" "reads" "[I") ∈ TB := List.mem_filter.mpr ⟨tw_276, rfl⟩
theorem k_277 : (Jvm.Cond.fieldLink "StageClockModel" (19 : Nat) "StageClockModel" "late" "[I") ∈ TB := List.mem_filter.mpr ⟨tw_277, rfl⟩
theorem k_278 : (Jvm.Cond.fieldLink "StageClockModel" (22 : Nat) "StageClockModel" "wait" "[I") ∈ TB := List.mem_filter.mpr ⟨tw_278, rfl⟩
theorem k_279 : (Jvm.Cond.fieldLink "StageClockModel" (25 : Nat) "StageClockModel" "load" "[Z") ∈ TB := List.mem_filter.mpr ⟨tw_279, rfl⟩
theorem k_280 : (Jvm.Cond.fieldLink "StageClockModel" (29 : Nat) "StageClockModel" "wrong" "[Z") ∈ TB := List.mem_filter.mpr ⟨tw_280, rfl⟩
theorem k_281 : (Jvm.Cond.fieldLink "StageClockModel" (32 : Nat) "StageClockModel" "f" "[I") ∈ TB := List.mem_filter.mpr ⟨tw_281, rfl⟩
theorem k_282 : (Jvm.Cond.fieldLink "StageClockModel" (35 : Nat) "StageClockModel" "d" "[I") ∈ TB := List.mem_filter.mpr ⟨tw_282, rfl⟩
theorem k_283 : (Jvm.Cond.fieldLink "StageClockModel" (38 : Nat) "StageClockModel" "x" "[I") ∈ TB := List.mem_filter.mpr ⟨tw_283, rfl⟩
theorem k_284 : (Jvm.Cond.fieldLink "StageClockModel" (41 : Nat) "StageClockModel" "m" "[I") ∈ TB := List.mem_filter.mpr ⟨tw_284, rfl⟩
theorem k_285 : (Jvm.Cond.fieldLink "StageClockModel" (44 : Nat) "StageClockModel" "w" "[I") ∈ TB := List.mem_filter.mpr ⟨tw_285, rfl⟩
theorem k_286 : (Jvm.Cond.fieldLink "StageClockModel" (62 : Nat) "StageClockModel" "many" "I") ∈ TB := List.mem_filter.mpr ⟨tw_286, rfl⟩
theorem k_287 : (Jvm.Cond.fieldLink "StageClockModel" (51 : Nat) "StageClockModel" "known" "I") ∈ TB := List.mem_filter.mpr ⟨tw_287, rfl⟩
theorem k_288 : (Jvm.Cond.lays "StageClockModel" "StageClockModel" "err" "I") ∈ TB := List.mem_filter.mpr ⟨tw_288, rfl⟩
theorem k_289 : (Jvm.Cond.soleField "StageClockModel" "err") ∈ TB := List.mem_filter.mpr ⟨tw_289, rfl⟩
theorem k_290 : (Jvm.Cond.laysFinal "StageClockModel" "StageClockModel" "long0" "[I") ∈ TB := List.mem_filter.mpr ⟨tw_290, rfl⟩
theorem k_291 : (Jvm.Cond.soleField "StageClockModel" "long0") ∈ TB := List.mem_filter.mpr ⟨tw_291, rfl⟩
theorem k_292 : (Jvm.Cond.laysFinal "StageClockModel" "StageClockModel" "gets" "[I") ∈ TB := List.mem_filter.mpr ⟨tw_292, rfl⟩
theorem k_293 : (Jvm.Cond.soleField "StageClockModel" "gets") ∈ TB := List.mem_filter.mpr ⟨tw_293, rfl⟩
theorem k_294 : (Jvm.Cond.laysFinal "StageClockModel" "StageClockModel" "reads" "[I") ∈ TB := List.mem_filter.mpr ⟨tw_294, rfl⟩
theorem k_295 : (Jvm.Cond.soleField "StageClockModel" "reads") ∈ TB := List.mem_filter.mpr ⟨tw_295, rfl⟩
theorem k_296 : (Jvm.Cond.laysFinal "StageClockModel" "StageClockModel" "late" "[I") ∈ TB := List.mem_filter.mpr ⟨tw_296, rfl⟩
theorem k_297 : (Jvm.Cond.soleField "StageClockModel" "late") ∈ TB := List.mem_filter.mpr ⟨tw_297, rfl⟩
theorem k_298 : (Jvm.Cond.laysFinal "StageClockModel" "StageClockModel" "wait" "[I") ∈ TB := List.mem_filter.mpr ⟨tw_298, rfl⟩
theorem k_299 : (Jvm.Cond.soleField "StageClockModel" "wait") ∈ TB := List.mem_filter.mpr ⟨tw_299, rfl⟩
theorem k_300 : (Jvm.Cond.laysFinal "StageClockModel" "StageClockModel" "load" "[Z") ∈ TB := List.mem_filter.mpr ⟨tw_300, rfl⟩
theorem k_301 : (Jvm.Cond.soleField "StageClockModel" "load") ∈ TB := List.mem_filter.mpr ⟨tw_301, rfl⟩
theorem k_302 : (Jvm.Cond.laysFinal "StageClockModel" "StageClockModel" "wrong" "[Z") ∈ TB := List.mem_filter.mpr ⟨tw_302, rfl⟩
theorem k_303 : (Jvm.Cond.soleField "StageClockModel" "wrong") ∈ TB := List.mem_filter.mpr ⟨tw_303, rfl⟩
theorem k_304 : (Jvm.Cond.laysFinal "StageClockModel" "StageClockModel" "f" "[I") ∈ TB := List.mem_filter.mpr ⟨tw_304, rfl⟩
theorem k_305 : (Jvm.Cond.soleField "StageClockModel" "f") ∈ TB := List.mem_filter.mpr ⟨tw_305, rfl⟩
theorem k_306 : (Jvm.Cond.laysFinal "StageClockModel" "StageClockModel" "d" "[I") ∈ TB := List.mem_filter.mpr ⟨tw_306, rfl⟩
theorem k_307 : (Jvm.Cond.soleField "StageClockModel" "d") ∈ TB := List.mem_filter.mpr ⟨tw_307, rfl⟩
theorem k_308 : (Jvm.Cond.laysFinal "StageClockModel" "StageClockModel" "x" "[I") ∈ TB := List.mem_filter.mpr ⟨tw_308, rfl⟩
theorem k_309 : (Jvm.Cond.soleField "StageClockModel" "x") ∈ TB := List.mem_filter.mpr ⟨tw_309, rfl⟩
theorem k_310 : (Jvm.Cond.laysFinal "StageClockModel" "StageClockModel" "m" "[I") ∈ TB := List.mem_filter.mpr ⟨tw_310, rfl⟩
theorem k_311 : (Jvm.Cond.soleField "StageClockModel" "m") ∈ TB := List.mem_filter.mpr ⟨tw_311, rfl⟩
theorem k_312 : (Jvm.Cond.laysFinal "StageClockModel" "StageClockModel" "w" "[I") ∈ TB := List.mem_filter.mpr ⟨tw_312, rfl⟩
theorem k_313 : (Jvm.Cond.soleField "StageClockModel" "w") ∈ TB := List.mem_filter.mpr ⟨tw_313, rfl⟩
theorem k_314 : (Jvm.Cond.lays "StageClockModel" "StageClockModel" "many" "I") ∈ TB := List.mem_filter.mpr ⟨tw_314, rfl⟩
theorem k_315 : (Jvm.Cond.soleField "StageClockModel" "many") ∈ TB := List.mem_filter.mpr ⟨tw_315, rfl⟩
theorem k_316 : (Jvm.Cond.lays "StageClockModel" "StageClockModel" "known" "I") ∈ TB := List.mem_filter.mpr ⟨tw_316, rfl⟩
theorem k_317 : (Jvm.Cond.soleField "StageClockModel" "known") ∈ TB := List.mem_filter.mpr ⟨tw_317, rfl⟩
theorem k_318 : (Jvm.Cond.superclass "StageClockModel" "java/lang/Object") ∈ TB := List.mem_filter.mpr ⟨tw_318, rfl⟩
theorem k_319 : (Jvm.Cond.arrayClass Jvm.ClassFile.FieldType.boolean) ∈ TB := List.mem_filter.mpr ⟨tw_319, rfl⟩
theorem k_320 : (Jvm.Cond.methodLink "StageClockLaw" (53 : Nat) ({ cls := "StageClockModel", name := "thrown", desc := "()I" } : Jvm.MethodName)) ∈ TB := List.mem_filter.mpr ⟨tw_320, rfl⟩
theorem k_321 : (Jvm.Cond.instanceMethod ({ cls := "StageClockModel", name := "thrown", desc := "()I" } : Jvm.MethodName)) ∈ TB := List.mem_filter.mpr ⟨tw_321, rfl⟩
theorem k_322 : (Jvm.Cond.selects "StageClockModel" ({ cls := "StageClockModel", name := "thrown", desc := "()I" } : Jvm.MethodName) ({ cls := "StageClockModel", name := "thrown", desc := "()I" } : Jvm.MethodName)) ∈ TB := List.mem_filter.mpr ⟨tw_322, rfl⟩
theorem k_323 : (Jvm.Cond.code ({ cls := "StageClockModel", name := "thrown", desc := "()I" } : Jvm.MethodName) prog_4_method_2_code (1 : Nat) (Option.some Jvm.ClassFile.FieldType.int)) ∈ TB := List.mem_filter.mpr ⟨tw_323, rfl⟩
theorem k_324 : (Jvm.Cond.methodLink "StageClockLaw" (52 : Nat) ({ cls := "StageClockModel", name := "add", desc := "(IIIIZIZ)I" } : Jvm.MethodName)) ∈ TB := List.mem_filter.mpr ⟨tw_324, rfl⟩
theorem k_325 : (Jvm.Cond.instanceMethod ({ cls := "StageClockModel", name := "add", desc := "(IIIIZIZ)I" } : Jvm.MethodName)) ∈ TB := List.mem_filter.mpr ⟨tw_325, rfl⟩
theorem k_326 : (Jvm.Cond.selects "StageClockModel" ({ cls := "StageClockModel", name := "add", desc := "(IIIIZIZ)I" } : Jvm.MethodName) ({ cls := "StageClockModel", name := "add", desc := "(IIIIZIZ)I" } : Jvm.MethodName)) ∈ TB := List.mem_filter.mpr ⟨tw_326, rfl⟩
theorem k_327 : (Jvm.Cond.code ({ cls := "StageClockModel", name := "add", desc := "(IIIIZIZ)I" } : Jvm.MethodName) prog_4_method_6_code (8 : Nat) (Option.some Jvm.ClassFile.FieldType.int)) ∈ TB := List.mem_filter.mpr ⟨tw_327, rfl⟩
theorem k_328 : (Jvm.Cond.methodLink "StageClockModel" (54 : Nat) ({ cls := "StageClockModel", name := "bad", desc := "(IIII)Z" } : Jvm.MethodName)) ∈ TB := List.mem_filter.mpr ⟨tw_328, rfl⟩
theorem k_329 : (Jvm.Cond.static ({ cls := "StageClockModel", name := "bad", desc := "(IIII)Z" } : Jvm.MethodName)) ∈ TB := List.mem_filter.mpr ⟨tw_329, rfl⟩
theorem k_330 : (Jvm.Cond.code ({ cls := "StageClockModel", name := "bad", desc := "(IIII)Z" } : Jvm.MethodName) prog_4_method_4_code (4 : Nat) (Option.some Jvm.ClassFile.FieldType.boolean)) ∈ TB := List.mem_filter.mpr ⟨tw_330, rfl⟩
theorem k_331 : (Jvm.Cond.methodLink "StageClockModel" (58 : Nat) ({ cls := "StageClockModel", name := "fails", desc := "(ZI)Z" } : Jvm.MethodName)) ∈ TB := List.mem_filter.mpr ⟨tw_331, rfl⟩
theorem k_333 : (Jvm.Cond.instanceMethod ({ cls := "StageClockModel", name := "fails", desc := "(ZI)Z" } : Jvm.MethodName)) ∈ TB := List.mem_filter.mpr ⟨tw_333, rfl⟩
theorem k_334 : (Jvm.Cond.code ({ cls := "StageClockModel", name := "fails", desc := "(ZI)Z" } : Jvm.MethodName) prog_4_method_3_code (3 : Nat) (Option.some Jvm.ClassFile.FieldType.boolean)) ∈ TB := List.mem_filter.mpr ⟨tw_334, rfl⟩
theorem k_335 : (Jvm.Cond.methodLink "StageClockModel" (65 : Nat) ({ cls := "StageClockModel", name := "give", desc := "(IIIIIZIZ)V" } : Jvm.MethodName)) ∈ TB := List.mem_filter.mpr ⟨tw_335, rfl⟩
theorem k_337 : (Jvm.Cond.instanceMethod ({ cls := "StageClockModel", name := "give", desc := "(IIIIIZIZ)V" } : Jvm.MethodName)) ∈ TB := List.mem_filter.mpr ⟨tw_337, rfl⟩
theorem k_338 : (Jvm.Cond.code ({ cls := "StageClockModel", name := "give", desc := "(IIIIIZIZ)V" } : Jvm.MethodName) prog_4_method_5_code (9 : Nat) (Option.none : Option Jvm.ClassFile.FieldType)) ∈ TB := List.mem_filter.mpr ⟨tw_338, rfl⟩
theorem k_339 : (Jvm.Cond.methodLink "StageClockLaw" (60 : Nat) ({ cls := "StageClockModel", name := "change", desc := "(IIIIIZIZ)V" } : Jvm.MethodName)) ∈ TB := List.mem_filter.mpr ⟨tw_339, rfl⟩
theorem k_340 : (Jvm.Cond.instanceMethod ({ cls := "StageClockModel", name := "change", desc := "(IIIIIZIZ)V" } : Jvm.MethodName)) ∈ TB := List.mem_filter.mpr ⟨tw_340, rfl⟩
theorem k_341 : (Jvm.Cond.selects "StageClockModel" ({ cls := "StageClockModel", name := "change", desc := "(IIIIIZIZ)V" } : Jvm.MethodName) ({ cls := "StageClockModel", name := "change", desc := "(IIIIIZIZ)V" } : Jvm.MethodName)) ∈ TB := List.mem_filter.mpr ⟨tw_341, rfl⟩
theorem k_342 : (Jvm.Cond.code ({ cls := "StageClockModel", name := "change", desc := "(IIIIIZIZ)V" } : Jvm.MethodName) prog_4_method_7_code (9 : Nat) (Option.none : Option Jvm.ClassFile.FieldType)) ∈ TB := List.mem_filter.mpr ⟨tw_342, rfl⟩
theorem k_343 : (Jvm.Cond.methodLink "StageClockLaw" (64 : Nat) ({ cls := "StageClockModel", name := "cut", desc := "(I)I" } : Jvm.MethodName)) ∈ TB := List.mem_filter.mpr ⟨tw_343, rfl⟩
theorem k_344 : (Jvm.Cond.instanceMethod ({ cls := "StageClockModel", name := "cut", desc := "(I)I" } : Jvm.MethodName)) ∈ TB := List.mem_filter.mpr ⟨tw_344, rfl⟩
theorem k_345 : (Jvm.Cond.selects "StageClockModel" ({ cls := "StageClockModel", name := "cut", desc := "(I)I" } : Jvm.MethodName) ({ cls := "StageClockModel", name := "cut", desc := "(I)I" } : Jvm.MethodName)) ∈ TB := List.mem_filter.mpr ⟨tw_345, rfl⟩
theorem k_346 : (Jvm.Cond.code ({ cls := "StageClockModel", name := "cut", desc := "(I)I" } : Jvm.MethodName) prog_4_method_8_code (3 : Nat) (Option.some Jvm.ClassFile.FieldType.int)) ∈ TB := List.mem_filter.mpr ⟨tw_346, rfl⟩
theorem k_347 : (Jvm.Cond.methodLink "StageClockLaw" (68 : Nat) ({ cls := "StageClockModel", name := "when", desc := "(II)I" } : Jvm.MethodName)) ∈ TB := List.mem_filter.mpr ⟨tw_347, rfl⟩
theorem k_348 : (Jvm.Cond.instanceMethod ({ cls := "StageClockModel", name := "when", desc := "(II)I" } : Jvm.MethodName)) ∈ TB := List.mem_filter.mpr ⟨tw_348, rfl⟩
theorem k_349 : (Jvm.Cond.selects "StageClockModel" ({ cls := "StageClockModel", name := "when", desc := "(II)I" } : Jvm.MethodName) ({ cls := "StageClockModel", name := "when", desc := "(II)I" } : Jvm.MethodName)) ∈ TB := List.mem_filter.mpr ⟨tw_349, rfl⟩
theorem k_350 : (Jvm.Cond.code ({ cls := "StageClockModel", name := "when", desc := "(II)I" } : Jvm.MethodName) prog_4_method_15_code (3 : Nat) (Option.some Jvm.ClassFile.FieldType.int)) ∈ TB := List.mem_filter.mpr ⟨tw_350, rfl⟩
theorem k_351 : (Jvm.Cond.methodLink "StageClockModel" (86 : Nat) ({ cls := "StageClockModel", name := "reckon", desc := "()V" } : Jvm.MethodName)) ∈ TB := List.mem_filter.mpr ⟨tw_351, rfl⟩
theorem k_353 : (Jvm.Cond.instanceMethod ({ cls := "StageClockModel", name := "reckon", desc := "()V" } : Jvm.MethodName)) ∈ TB := List.mem_filter.mpr ⟨tw_353, rfl⟩
theorem k_354 : (Jvm.Cond.code ({ cls := "StageClockModel", name := "reckon", desc := "()V" } : Jvm.MethodName) prog_4_method_14_code (4 : Nat) (Option.none : Option Jvm.ClassFile.FieldType)) ∈ TB := List.mem_filter.mpr ⟨tw_354, rfl⟩
theorem k_355 : (Jvm.Cond.methodLink "StageClockModel" (77 : Nat) ({ cls := "StageClockModel", name := "xe", desc := "(I)I" } : Jvm.MethodName)) ∈ TB := List.mem_filter.mpr ⟨tw_355, rfl⟩
theorem k_357 : (Jvm.Cond.instanceMethod ({ cls := "StageClockModel", name := "xe", desc := "(I)I" } : Jvm.MethodName)) ∈ TB := List.mem_filter.mpr ⟨tw_357, rfl⟩
theorem k_358 : (Jvm.Cond.code ({ cls := "StageClockModel", name := "xe", desc := "(I)I" } : Jvm.MethodName) prog_4_method_10_code (2 : Nat) (Option.some Jvm.ClassFile.FieldType.int)) ∈ TB := List.mem_filter.mpr ⟨tw_358, rfl⟩
theorem k_359 : (Jvm.Cond.methodLink "StageClockModel" (80 : Nat) ({ cls := "StageClockModel", name := "more", desc := "(II)I" } : Jvm.MethodName)) ∈ TB := List.mem_filter.mpr ⟨tw_359, rfl⟩
theorem k_360 : (Jvm.Cond.static ({ cls := "StageClockModel", name := "more", desc := "(II)I" } : Jvm.MethodName)) ∈ TB := List.mem_filter.mpr ⟨tw_360, rfl⟩
theorem k_361 : (Jvm.Cond.code ({ cls := "StageClockModel", name := "more", desc := "(II)I" } : Jvm.MethodName) prog_4_method_13_code (2 : Nat) (Option.some Jvm.ClassFile.FieldType.int)) ∈ TB := List.mem_filter.mpr ⟨tw_361, rfl⟩
theorem k_362 : (Jvm.Cond.methodLink "StageClockModel" (83 : Nat) ({ cls := "StageClockModel", name := "behind", desc := "(II)I" } : Jvm.MethodName)) ∈ TB := List.mem_filter.mpr ⟨tw_362, rfl⟩
theorem k_364 : (Jvm.Cond.instanceMethod ({ cls := "StageClockModel", name := "behind", desc := "(II)I" } : Jvm.MethodName)) ∈ TB := List.mem_filter.mpr ⟨tw_364, rfl⟩
theorem k_365 : (Jvm.Cond.code ({ cls := "StageClockModel", name := "behind", desc := "(II)I" } : Jvm.MethodName) prog_4_method_12_code (4 : Nat) (Option.some Jvm.ClassFile.FieldType.int)) ∈ TB := List.mem_filter.mpr ⟨tw_365, rfl⟩
theorem k_366 : (Jvm.Cond.methodLink "StageClockModel" (69 : Nat) ({ cls := "StageClockModel", name := "before", desc := "(II)I" } : Jvm.MethodName)) ∈ TB := List.mem_filter.mpr ⟨tw_366, rfl⟩
theorem k_368 : (Jvm.Cond.instanceMethod ({ cls := "StageClockModel", name := "before", desc := "(II)I" } : Jvm.MethodName)) ∈ TB := List.mem_filter.mpr ⟨tw_368, rfl⟩
theorem k_369 : (Jvm.Cond.code ({ cls := "StageClockModel", name := "before", desc := "(II)I" } : Jvm.MethodName) prog_4_method_9_code (4 : Nat) (Option.some Jvm.ClassFile.FieldType.int)) ∈ TB := List.mem_filter.mpr ⟨tw_369, rfl⟩
theorem k_370 : (Jvm.Cond.methodLink "StageClockModel" (73 : Nat) ({ cls := "StageClockModel", name := "me", desc := "(I)I" } : Jvm.MethodName)) ∈ TB := List.mem_filter.mpr ⟨tw_370, rfl⟩
theorem k_372 : (Jvm.Cond.instanceMethod ({ cls := "StageClockModel", name := "me", desc := "(I)I" } : Jvm.MethodName)) ∈ TB := List.mem_filter.mpr ⟨tw_372, rfl⟩
theorem k_373 : (Jvm.Cond.code ({ cls := "StageClockModel", name := "me", desc := "(I)I" } : Jvm.MethodName) prog_4_method_11_code (2 : Nat) (Option.some Jvm.ClassFile.FieldType.int)) ∈ TB := List.mem_filter.mpr ⟨tw_373, rfl⟩
theorem k_374 : (Jvm.Cond.methodLink "StageClockLaw" (71 : Nat) ({ cls := "StageClockModel", name := "in", desc := "(II)I" } : Jvm.MethodName)) ∈ TB := List.mem_filter.mpr ⟨tw_374, rfl⟩
theorem k_375 : (Jvm.Cond.instanceMethod ({ cls := "StageClockModel", name := "in", desc := "(II)I" } : Jvm.MethodName)) ∈ TB := List.mem_filter.mpr ⟨tw_375, rfl⟩
theorem k_376 : (Jvm.Cond.selects "StageClockModel" ({ cls := "StageClockModel", name := "in", desc := "(II)I" } : Jvm.MethodName) ({ cls := "StageClockModel", name := "in", desc := "(II)I" } : Jvm.MethodName)) ∈ TB := List.mem_filter.mpr ⟨tw_376, rfl⟩
theorem k_377 : (Jvm.Cond.code ({ cls := "StageClockModel", name := "in", desc := "(II)I" } : Jvm.MethodName) prog_4_method_17_code (4 : Nat) (Option.some Jvm.ClassFile.FieldType.int)) ∈ TB := List.mem_filter.mpr ⟨tw_377, rfl⟩
theorem k_378 : (Jvm.Cond.methodLink "StageClockModel" (89 : Nat) ({ cls := "StageClockModel", name := "from", desc := "(II)I" } : Jvm.MethodName)) ∈ TB := List.mem_filter.mpr ⟨tw_378, rfl⟩
theorem k_380 : (Jvm.Cond.instanceMethod ({ cls := "StageClockModel", name := "from", desc := "(II)I" } : Jvm.MethodName)) ∈ TB := List.mem_filter.mpr ⟨tw_380, rfl⟩
theorem k_381 : (Jvm.Cond.code ({ cls := "StageClockModel", name := "from", desc := "(II)I" } : Jvm.MethodName) prog_4_method_16_code (3 : Nat) (Option.some Jvm.ClassFile.FieldType.int)) ∈ TB := List.mem_filter.mpr ⟨tw_381, rfl⟩
theorem k_382 : (Jvm.Cond.methodLink "StageClockLaw" (74 : Nat) ({ cls := "StageClockModel", name := "held", desc := "(I)I" } : Jvm.MethodName)) ∈ TB := List.mem_filter.mpr ⟨tw_382, rfl⟩
theorem k_383 : (Jvm.Cond.instanceMethod ({ cls := "StageClockModel", name := "held", desc := "(I)I" } : Jvm.MethodName)) ∈ TB := List.mem_filter.mpr ⟨tw_383, rfl⟩
theorem k_384 : (Jvm.Cond.selects "StageClockModel" ({ cls := "StageClockModel", name := "held", desc := "(I)I" } : Jvm.MethodName) ({ cls := "StageClockModel", name := "held", desc := "(I)I" } : Jvm.MethodName)) ∈ TB := List.mem_filter.mpr ⟨tw_384, rfl⟩
theorem k_385 : (Jvm.Cond.code ({ cls := "StageClockModel", name := "held", desc := "(I)I" } : Jvm.MethodName) prog_4_method_18_code (2 : Nat) (Option.some Jvm.ClassFile.FieldType.int)) ∈ TB := List.mem_filter.mpr ⟨tw_385, rfl⟩
theorem k_386 : (Jvm.Cond.methodLink "StageClockLaw" (77 : Nat) ({ cls := "StageClockModel", name := "giver", desc := "(II)I" } : Jvm.MethodName)) ∈ TB := List.mem_filter.mpr ⟨tw_386, rfl⟩
theorem k_387 : (Jvm.Cond.instanceMethod ({ cls := "StageClockModel", name := "giver", desc := "(II)I" } : Jvm.MethodName)) ∈ TB := List.mem_filter.mpr ⟨tw_387, rfl⟩
theorem k_388 : (Jvm.Cond.selects "StageClockModel" ({ cls := "StageClockModel", name := "giver", desc := "(II)I" } : Jvm.MethodName) ({ cls := "StageClockModel", name := "giver", desc := "(II)I" } : Jvm.MethodName)) ∈ TB := List.mem_filter.mpr ⟨tw_388, rfl⟩
theorem k_389 : (Jvm.Cond.code ({ cls := "StageClockModel", name := "giver", desc := "(II)I" } : Jvm.MethodName) prog_4_method_19_code (3 : Nat) (Option.some Jvm.ClassFile.FieldType.int)) ∈ TB := List.mem_filter.mpr ⟨tw_389, rfl⟩
theorem k_390 : (Jvm.Cond.methodLink "StageClockLaw" (80 : Nat) ({ cls := "StageClockModel", name := "count", desc := "(I)I" } : Jvm.MethodName)) ∈ TB := List.mem_filter.mpr ⟨tw_390, rfl⟩
theorem k_391 : (Jvm.Cond.instanceMethod ({ cls := "StageClockModel", name := "count", desc := "(I)I" } : Jvm.MethodName)) ∈ TB := List.mem_filter.mpr ⟨tw_391, rfl⟩
theorem k_392 : (Jvm.Cond.selects "StageClockModel" ({ cls := "StageClockModel", name := "count", desc := "(I)I" } : Jvm.MethodName) ({ cls := "StageClockModel", name := "count", desc := "(I)I" } : Jvm.MethodName)) ∈ TB := List.mem_filter.mpr ⟨tw_392, rfl⟩
theorem k_393 : (Jvm.Cond.code ({ cls := "StageClockModel", name := "count", desc := "(I)I" } : Jvm.MethodName) prog_4_method_20_code (5 : Nat) (Option.some Jvm.ClassFile.FieldType.int)) ∈ TB := List.mem_filter.mpr ⟨tw_393, rfl⟩
theorem k_394 : (Jvm.Cond.arrayClass Jvm.ClassFile.FieldType.long) ∈ TB := List.mem_filter.mpr ⟨tw_394, rfl⟩
theorem k_395 : (Jvm.Cond.sameMethod "java/lang/Throwable" "java/lang/Throwable" "fillInStackTrace" "(I)Ljava/lang/Throwable;") ∈ TB := List.mem_filter.mpr ⟨tw_395, rfl⟩
theorem kp_0 : Cond.selects "java/lang/Throwable" ⟨"java/lang/Throwable", "fillInStackTrace", "(I)Ljava/lang/Throwable;"⟩ ⟨"java/lang/Throwable", "fillInStackTrace", "(I)Ljava/lang/Throwable;"⟩ ∈ TB := List.mem_filter.mpr ⟨tp_0, rfl⟩
theorem kp_1 : Cond.selects "StageClock" ⟨"StageClock", "set", "(IIIIIZIZ)V"⟩ ⟨"StageClock", "set", "(IIIIIZIZ)V"⟩ ∈ TB := List.mem_filter.mpr ⟨tp_1, rfl⟩
theorem kp_2 : Cond.selects "StageClock" ⟨"StageClock", "step", "(I)LStageClock$Step;"⟩ ⟨"StageClock", "step", "(I)LStageClock$Step;"⟩ ∈ TB := List.mem_filter.mpr ⟨tp_2, rfl⟩
theorem kp_3 : Cond.selects "StageClock" ⟨"StageClock", "work", "(I)V"⟩ ⟨"StageClock", "work", "(I)V"⟩ ∈ TB := List.mem_filter.mpr ⟨tp_3, rfl⟩
theorem kp_4 : Cond.selects "StageClock" ⟨"StageClock", "there", "(LStageClock$Step;I)I"⟩ ⟨"StageClock", "there", "(LStageClock$Step;I)I"⟩ ∈ TB := List.mem_filter.mpr ⟨tp_4, rfl⟩
theorem kp_5 : Cond.selects "StageClockModel" ⟨"StageClockModel", "fails", "(ZI)Z"⟩ ⟨"StageClockModel", "fails", "(ZI)Z"⟩ ∈ TB := List.mem_filter.mpr ⟨tp_5, rfl⟩
theorem kp_6 : Cond.selects "StageClockModel" ⟨"StageClockModel", "give", "(IIIIIZIZ)V"⟩ ⟨"StageClockModel", "give", "(IIIIIZIZ)V"⟩ ∈ TB := List.mem_filter.mpr ⟨tp_6, rfl⟩
theorem kp_7 : Cond.selects "StageClockModel" ⟨"StageClockModel", "reckon", "()V"⟩ ⟨"StageClockModel", "reckon", "()V"⟩ ∈ TB := List.mem_filter.mpr ⟨tp_7, rfl⟩
theorem kp_8 : Cond.selects "StageClockModel" ⟨"StageClockModel", "xe", "(I)I"⟩ ⟨"StageClockModel", "xe", "(I)I"⟩ ∈ TB := List.mem_filter.mpr ⟨tp_8, rfl⟩
theorem kp_9 : Cond.selects "StageClockModel" ⟨"StageClockModel", "behind", "(II)I"⟩ ⟨"StageClockModel", "behind", "(II)I"⟩ ∈ TB := List.mem_filter.mpr ⟨tp_9, rfl⟩
theorem kp_10 : Cond.selects "StageClockModel" ⟨"StageClockModel", "before", "(II)I"⟩ ⟨"StageClockModel", "before", "(II)I"⟩ ∈ TB := List.mem_filter.mpr ⟨tp_10, rfl⟩
theorem kp_11 : Cond.selects "StageClockModel" ⟨"StageClockModel", "me", "(I)I"⟩ ⟨"StageClockModel", "me", "(I)I"⟩ ∈ TB := List.mem_filter.mpr ⟨tp_11, rfl⟩
theorem kp_12 : Cond.selects "StageClockModel" ⟨"StageClockModel", "from", "(II)I"⟩ ⟨"StageClockModel", "from", "(II)I"⟩ ∈ TB := List.mem_filter.mpr ⟨tp_12, rfl⟩
theorem hin_S : ∀ w ∈ u_ws "StageClock" F_S 3, w ∈ TB := by
  intro w hw
  obtain ⟨k, hk, rfl⟩ := List.mem_map.mp hw
  have hk := List.mem_range.mp hk
  match k, hk with
  | 0, _ => exact k_63
  | 1, _ => exact k_65
  | 2, _ => exact k_67
theorem hin_T : ∀ w ∈ u_ws "StageClock$Step" F_T 9, w ∈ TB := by
  intro w hw
  obtain ⟨k, hk, rfl⟩ := List.mem_map.mp hw
  have hk := List.mem_range.mp hk
  match k, hk with
  | 0, _ => exact k_40
  | 1, _ => exact k_42
  | 2, _ => exact k_44
  | 3, _ => exact k_46
  | 4, _ => exact k_48
  | 5, _ => exact k_50
  | 6, _ => exact k_52
  | 7, _ => exact k_54
  | 8, _ => exact k_56
theorem hin_M : ∀ w ∈ u_ws "StageClockModel" F_M 15, w ∈ TB := by
  intro w hw
  obtain ⟨k, hk, rfl⟩ := List.mem_map.mp hw
  have hk := List.mem_range.mp hk
  match k, hk with
  | 0, _ => exact k_288
  | 1, _ => exact k_290
  | 2, _ => exact k_292
  | 3, _ => exact k_294
  | 4, _ => exact k_296
  | 5, _ => exact k_298
  | 6, _ => exact k_300
  | 7, _ => exact k_302
  | 8, _ => exact k_304
  | 9, _ => exact k_306
  | 10, _ => exact k_308
  | 11, _ => exact k_310
  | 12, _ => exact k_312
  | 13, _ => exact k_314
  | 14, _ => exact k_316
end
section
/-! ROWS of this system: a getfield, a putfield, an array's place, over the world WH -/
section Rows
variable {p : Program} {l : Launch} {e : Env} {R : Room} {s : State} {m : MethodId} {args : Array Value} {below : List Frame} {meth : Method} {c : Code} {H : Heap} {locs : List Loc} {cells slots : Nat} {Q : State → Prop}
variable {cc : ByteArray} {nL pc : Nat} {ls : Array Slot} {rest : List Value} {own : String} {g : KG} {Z : Nat} {τ : TS}
theorem Cx.x (C : Cx p s m c cc nL own args g Z) : p.tables.exec = Jvm.exec := C.1.1
theorem Cx.b (C : Cx p s m c cc nL own args g Z) : c.code = cc := C.1.2.1
theorem g_get (C : Cx p s m c cc nL own args g Z) (hw : WH g Z τ s H locs) (i ci kf idx : Nat) {Cn : String} {T : u_T} {N : Nat} {fs : List Value} {v : Value} (hi : i < 616) (he : cont g Z τ i = .inr (ci, fs)) (hc : cls3[ci]? = some (Cn, T, N)) (hk : kf < N) (hin : ∀ w ∈ u_ws Cn T N, w ∈ TB) (hdecl : (T kf).1 = Cn) (hlink : Cond.fieldLink own idx Cn (T kf).2.1 (T kf).2.2.1 ∈ TB) (hv : fs[kf]? = some v) (hd : decode cc pc = .ok (.getfield idx, 3))
    (kk : W p l e R s m args below meth c H locs cells slots Q (F0 m (pc + 3) ls (v :: rest))) : W p l e R s m args below meth c H locs cells slots Q (F0 m pc ls (.ref (Z + i) :: rest)) :=
  va_get (D := g.1) (cl := cls3) C.x C.b C.1.2.2.2.2 hin C.1.2.2.2.1 C.2.1 hw.1 i (by rw [fam_get Z _ hi, he]) hc kf hk (C.1.2.2.2.2 _ hlink) (fun x h => by rw [hdecl] at h; exact h) hv hd kk
theorem g_getN (C : Cx p s m c cc nL own args g Z) (hw : WH g Z τ s H locs) (i ci kf idx : Nat) {Cn host : String} {T : u_T} {N : Nat} {fs : List Value} {v : Value} (hi : i < 616) (he : cont g Z τ i = .inr (ci, fs)) (hc : cls3[ci]? = some (Cn, T, N)) (hk : kf < N) (hin : ∀ w ∈ u_ws Cn T N, w ∈ TB) (hdecl : (T kf).1 = Cn) (hlink : Cond.fieldLinkNest own idx Cn (T kf).2.1 (T kf).2.2.1 host ∈ TB) (hv : fs[kf]? = some v) (hd : decode cc pc = .ok (.getfield idx, 3))
    (kk : W p l e R s m args below meth c H locs cells slots Q (F0 m (pc + 3) ls (v :: rest))) : W p l e R s m args below meth c H locs cells slots Q (F0 m pc ls (.ref (Z + i) :: rest)) :=
  va_getN (D := g.1) (cl := cls3) C.x C.b C.1.2.2.2.2 hin C.1.2.2.2.1 C.2.1 hw.1 i (by rw [fam_get Z _ hi, he]) hc kf hk (C.1.2.2.2.2 _ hlink) (fun x h => by rw [hdecl] at h; exact h) hv hd kk
theorem g_put (C : Cx p s m c cc nL own args g Z) (hw : WH g Z τ s H locs) (i ci kf idx : Nat) {Cn : String} {T : u_T} {N : Nat} {ty0 : Nat → FieldType} {fs : List Value} {v : Value} {ty : FieldType} {τ' : TS} (hi : i < 616) (he : cont g Z τ i = .inr (ci, fs)) (hc : cls3[ci]? = some (Cn, T, N)) (hk : kf < N) (hin : ∀ w ∈ u_ws Cn T N, w ∈ TB) (hty : ∀ k, k < N → parseFieldDescriptor (T k).2.2.1 = some (ty0 k)) (hnm : ∀ a, a < N → ∀ b, b < N → a ≠ b → (T a).2.1 ≠ (T b).2.1) (hdecl : (T kf).1 = Cn) (hlink : Cond.fieldLink own idx Cn (T kf).2.1 (T kf).2.2.1 ∈ TB) (hfin : (T kf).2.2.2 = false) (hdt : parseFieldDescriptor (T kf).2.2.1 = some ty) (hn : narrow ty v = v) (hfit : fits ty v = true) (hl : kf < fs.length) (hu : va_up (cont g Z τ) i (.inr (ci, fs.set kf v)) = cont g Z τ') (hd : decode cc pc = .ok (.putfield idx, 3))
    (kk : ∀ (H1 : Heap) (locs1 : List Loc), WH g Z τ' s H1 locs1 → W p l e R s m args below meth c H1 locs1 cells slots Q (F0 m (pc + 3) ls rest)) : W p l e R s m args below meth c H locs cells slots Q (F0 m pc ls (v :: .ref (Z + i) :: rest)) :=
  va_put (D := g.1) (cl := cls3) (A := fun q => Z ≤ q) C.x C.b C.1.2.2.2.2 hin ty0 hty hnm C.1.2.2.2.1 C.2.1 hw.1 (fam_D Z 616 _) hw.2 i (by rw [fam_get Z _ hi, he]) hc kf hk (C.1.2.2.2.2 _ hlink) (fun x h => by rw [hdecl] at h; exact h) hfin hdt hn hfit hl hd
    (fun H1 locs1 hP _ hS => kk H1 locs1 ⟨by rw [fam_set Z _ hi, hu] at hP; exact hP, hS⟩)
theorem g_putN (C : Cx p s m c cc nL own args g Z) (hw : WH g Z τ s H locs) (i ci kf idx : Nat) {Cn host : String} {T : u_T} {N : Nat} {ty0 : Nat → FieldType} {fs : List Value} {v : Value} {ty : FieldType} {τ' : TS} (hi : i < 616) (he : cont g Z τ i = .inr (ci, fs)) (hc : cls3[ci]? = some (Cn, T, N)) (hk : kf < N) (hin : ∀ w ∈ u_ws Cn T N, w ∈ TB) (hty : ∀ k, k < N → parseFieldDescriptor (T k).2.2.1 = some (ty0 k)) (hnm : ∀ a, a < N → ∀ b, b < N → a ≠ b → (T a).2.1 ≠ (T b).2.1) (hdecl : (T kf).1 = Cn) (hlink : Cond.fieldLinkNest own idx Cn (T kf).2.1 (T kf).2.2.1 host ∈ TB) (hfin : (T kf).2.2.2 = false) (hdt : parseFieldDescriptor (T kf).2.2.1 = some ty) (hn : narrow ty v = v) (hfit : fits ty v = true) (hl : kf < fs.length) (hu : va_up (cont g Z τ) i (.inr (ci, fs.set kf v)) = cont g Z τ') (hd : decode cc pc = .ok (.putfield idx, 3))
    (kk : ∀ (H1 : Heap) (locs1 : List Loc), WH g Z τ' s H1 locs1 → W p l e R s m args below meth c H1 locs1 cells slots Q (F0 m (pc + 3) ls rest)) : W p l e R s m args below meth c H locs cells slots Q (F0 m pc ls (v :: .ref (Z + i) :: rest)) :=
  va_putN (D := g.1) (cl := cls3) (A := fun q => Z ≤ q) C.x C.b C.1.2.2.2.2 hin ty0 hty hnm C.1.2.2.2.1 C.2.1 hw.1 (fam_D Z 616 _) hw.2 i (by rw [fam_get Z _ hi, he]) hc kf hk (C.1.2.2.2.2 _ hlink) (fun x h => by rw [hdecl] at h; exact h) hfin hdt hn hfit hl hd
    (fun H1 locs1 hP _ hS => kk H1 locs1 ⟨by rw [fam_set Z _ hi, hu] at hP; exact hP, hS⟩)
/-- a place j of an int array of the world -/
theorem g_ild (C : Cx p s m c cc nL own args g Z) (hw : WH g Z τ s H locs) (i : Nat) {n : Nat} {f : Nat → Int32} {x : Int32} (j : Nat) (hi : i < 616) (he : cont g Z τ i = .inl (g.2.1, n, .inl f)) (hn : n < 2 ^ 31) (hj : j < n) (hx : x = nI j) (hd : decode cc pc = .ok (.iaload, 1))
    (kk : W p l e R s m args below meth c H locs cells slots Q (F0 m (pc + 1) ls (.int (f j) :: rest))) : W p l e R s m args below meth c H locs cells slots Q (F0 m pc ls (.int x :: .ref (Z + i) :: rest)) := by
  subst hx
  refine va_iald (D := g.1) (cl := cls3) C.x C.b C.2.1 hw.1 i 0 (by rw [fam_get Z _ hi, he]) rfl (vp_in_nI hj hn) hd ?_
  rw [nI_clamp (by omega)]
  exact kk
theorem g_zld (C : Cx p s m c cc nL own args g Z) (hw : WH g Z τ s H locs) (i : Nat) {n : Nat} {f : Nat → Int32} {x : Int32} (j : Nat) (hi : i < 616) (he : cont g Z τ i = .inl (g.2.2.1, n, .inl f)) (hn : n < 2 ^ 31) (hj : j < n) (hx : x = nI j) (hd : decode cc pc = .ok (.baload, 1))
    (kk : W p l e R s m args below meth c H locs cells slots Q (F0 m (pc + 1) ls (.int (f j) :: rest))) : W p l e R s m args below meth c H locs cells slots Q (F0 m pc ls (.int x :: .ref (Z + i) :: rest)) := by
  subst hx
  refine va_zald (D := g.1) (cl := cls3) C.x C.b C.2.1 hw.1 i 1 (by rw [fam_get Z _ hi, he]) rfl (vp_in_nI hj hn) hd ?_
  rw [nI_clamp (by omega)]
  exact kk
theorem g_ist (C : Cx p s m c cc nL own args g Z) (hw : WH g Z τ s H locs) (i : Nat) {n : Nat} {f : Nat → Int32} {x y : Int32} {τ' : TS} (j : Nat) (hi : i < 616) (he : cont g Z τ i = .inl (g.2.1, n, .inl f)) (hn : n < 2 ^ 31) (hj : j < n) (hx : x = nI j) (hu : va_up (cont g Z τ) i (.inl (g.2.1, n, .inl (upd f j y))) = cont g Z τ') (hd : decode cc pc = .ok (.iastore, 1))
    (kk : ∀ (H1 : Heap) (locs1 : List Loc), WH g Z τ' s H1 locs1 → W p l e R s m args below meth c H1 locs1 cells slots Q (F0 m (pc + 1) ls rest)) : W p l e R s m args below meth c H locs cells slots Q (F0 m pc ls (.int y :: .int x :: .ref (Z + i) :: rest)) := by
  subst hx
  refine va_iast (D := g.1) (cl := cls3) (A := fun q => Z ≤ q) C.x C.b C.2.1 hw.1 (fam_D Z 616 _) hw.2 i 0 (by rw [fam_get Z _ hi, he]) rfl (vp_in_nI hj hn) hd (fun H1 locs1 hP _ hS => kk H1 locs1 ⟨?_, hS⟩)
  rw [nI_clamp (by omega), fam_set Z _ hi, hu] at hP
  exact hP
theorem g_zst (C : Cx p s m c cc nL own args g Z) (hw : WH g Z τ s H locs) (i : Nat) {n : Nat} {f : Nat → Int32} {x y : Int32} {τ' : TS} (j : Nat) (hi : i < 616) (he : cont g Z τ i = .inl (g.2.2.1, n, .inl f)) (hn : n < 2 ^ 31) (hj : j < n) (hx : x = nI j) (hy : vp_nar .boolean y = y) (hu : va_up (cont g Z τ) i (.inl (g.2.2.1, n, .inl (upd f j y))) = cont g Z τ') (hd : decode cc pc = .ok (.bastore, 1))
    (kk : ∀ (H1 : Heap) (locs1 : List Loc), WH g Z τ' s H1 locs1 → W p l e R s m args below meth c H1 locs1 cells slots Q (F0 m (pc + 1) ls rest)) : W p l e R s m args below meth c H locs cells slots Q (F0 m pc ls (.int y :: .int x :: .ref (Z + i) :: rest)) := by
  subst hx
  refine va_zast (D := g.1) (cl := cls3) (A := fun q => Z ≤ q) C.x C.b C.2.1 hw.1 (fam_D Z 616 _) hw.2 i 1 (by rw [fam_get Z _ hi, he]) rfl (vp_in_nI hj hn) hd (fun H1 locs1 hP _ hS => kk H1 locs1 ⟨?_, hS⟩)
  rw [nI_clamp (by omega), fam_set Z _ hi, hy, hu] at hP
  exact hP
end Rows
end
section
/-! how the world changes at a store -/
section Cu
variable {g : KG} {Z : Nat} {D B G M : Fn2} {n kn er mn mk : Int32} {μ : MS} {σ : CS} {o : Int64}
theorem cu_S0 (n' kn' : Int32) : va_up (cont g Z ((D, B, G, n, kn), μ, o)) 0 (.inr (0, [.ref (Z + 1), .int n', .int kn'])) = cont g Z ((D, B, G, n', kn'), μ, o) := by
  funext i
  by_cases hi : i = 0
  · subst hi; rfl
  · rw [va_up_ne _ _ hi]
    unfold cont
    rw [if_neg hi, if_neg hi]
theorem cu_T {f k : Nat} {x : Int32} (hf : f < 7) (hk : k < 200) : va_up (cont g Z ((D, B, G, n, kn), μ, o)) (2 + 3 * k) (.inr (1, ([.int (D 0 k), .int (D 1 k), .int (D 2 k), .int (D 3 k), .int (D 4 k), .int (D 5 k), .int (D 6 k), .ref (Z + (3 + 3 * k)), .ref (Z + (4 + 3 * k))] : List Value).set f (.int x))) = cont g Z ((up2 D f k x, B, G, n, kn), μ, o) := by
  have key : ∀ k', k' ≠ k → eT Z (up2 D f k x) k' = eT Z D k' := fun k' h => by simp [eT, up2_ne (Or.inr h)]
  funext i
  by_cases hi : i = 2 + 3 * k
  · subst hi
    rw [va_up_self, cont_T g Z _ hk]
    unfold eT
    match f, hf with
    | 0, _ => simp [up2, va_up, upd]
    | 1, _ => simp [up2, va_up, upd]
    | 2, _ => simp [up2, va_up, upd]
    | 3, _ => simp [up2, va_up, upd]
    | 4, _ => simp [up2, va_up, upd]
    | 5, _ => simp [up2, va_up, upd]
    | 6, _ => simp [up2, va_up, upd]
  · rw [va_up_ne _ _ hi]
    unfold cont
    dsimp only
    by_cases h0 : i = 0
    · rw [if_pos h0, if_pos h0]
    rw [if_neg h0, if_neg h0]
    by_cases h1 : i = 1
    · rw [if_pos h1, if_pos h1]
    rw [if_neg h1, if_neg h1]
    by_cases h2 : i < 602
    · rw [if_pos h2, if_pos h2]
      by_cases h3 : (i - 2) % 3 = 0
      · rw [if_pos h3, if_pos h3, key _ (by omega)]
      · rw [if_neg h3, if_neg h3]
    · rw [if_neg h2, if_neg h2]
theorem cu_B {k : Nat} {b : Nat → Int32} (hk : k < 200) : va_up (cont g Z ((D, B, G, n, kn), μ, o)) (3 + 3 * k) (.inl (g.2.1, 5, .inl b)) = cont g Z ((D, va_up B k b, G, n, kn), μ, o) := by
  funext i
  by_cases hi : i = 3 + 3 * k
  · subst hi
    rw [va_up_self, cont_B g Z _ hk]
    simp [va_up]
  · rw [va_up_ne _ _ hi]
    unfold cont
    dsimp only
    by_cases h0 : i = 0
    · rw [if_pos h0, if_pos h0]
    rw [if_neg h0, if_neg h0]
    by_cases h1 : i = 1
    · rw [if_pos h1, if_pos h1]
    rw [if_neg h1, if_neg h1]
    by_cases h2 : i < 602
    · rw [if_pos h2, if_pos h2]
      by_cases h3 : (i - 2) % 3 = 0
      · rw [if_pos h3, if_pos h3]
      rw [if_neg h3, if_neg h3]
      by_cases h4 : (i - 2) % 3 = 1
      · rw [if_pos h4, if_pos h4, va_up_ne _ _ (show (i - 2) / 3 ≠ k by omega)]
      · rw [if_neg h4, if_neg h4]
    · rw [if_neg h2, if_neg h2]
theorem cu_G {k : Nat} {b : Nat → Int32} (hk : k < 200) : va_up (cont g Z ((D, B, G, n, kn), μ, o)) (4 + 3 * k) (.inl (g.2.1, 16, .inl b)) = cont g Z ((D, B, va_up G k b, n, kn), μ, o) := by
  funext i
  by_cases hi : i = 4 + 3 * k
  · subst hi
    rw [va_up_self, cont_G g Z _ hk]
    simp [va_up]
  · rw [va_up_ne _ _ hi]
    unfold cont
    dsimp only
    by_cases h0 : i = 0
    · rw [if_pos h0, if_pos h0]
    rw [if_neg h0, if_neg h0]
    by_cases h1 : i = 1
    · rw [if_pos h1, if_pos h1]
    rw [if_neg h1, if_neg h1]
    by_cases h2 : i < 602
    · rw [if_pos h2, if_pos h2]
      by_cases h3 : (i - 2) % 3 = 0
      · rw [if_pos h3, if_pos h3]
      rw [if_neg h3, if_neg h3]
      by_cases h4 : (i - 2) % 3 = 1
      · rw [if_pos h4, if_pos h4]
      · rw [if_neg h4, if_neg h4, va_up_ne _ _ (show (i - 2) / 3 ≠ k by omega)]
    · rw [if_neg h2, if_neg h2]
theorem cu_M {a : Nat} {f : Nat → Int32} (ha : a < 12) : va_up (cont g Z (σ, (M, er, mn, mk), o)) (603 + a) (.inl (if a = 5 ∨ a = 6 then g.2.2.1 else g.2.1, 200, .inl f)) = cont g Z (σ, (va_up M a f, er, mn, mk), o) := by
  funext i
  by_cases hi : i = 603 + a
  · subst hi
    rw [va_up_self, cont_M g Z _ ha]
    simp [va_up]
  · rw [va_up_ne _ _ hi]
    unfold cont
    dsimp only
    by_cases h0 : i = 0
    · rw [if_pos h0, if_pos h0]
    rw [if_neg h0, if_neg h0]
    by_cases h1 : i = 1
    · rw [if_pos h1, if_pos h1]
    rw [if_neg h1, if_neg h1]
    by_cases h2 : i < 602
    · rw [if_pos h2, if_pos h2]
    rw [if_neg h2, if_neg h2]
    by_cases h3 : i = 602
    · rw [if_pos h3, if_pos h3]
    rw [if_neg h3, if_neg h3]
    by_cases h4 : i < 615
    · rw [if_pos h4, if_pos h4, va_up_ne _ _ (show i - 603 ≠ a by omega)]
    · rw [if_neg h4, if_neg h4]
theorem cu_M0 (er' mn' mk' : Int32) : va_up (cont g Z (σ, (M, er, mn, mk), o)) 602 (.inr (2, [.int er', .ref (Z + 603), .ref (Z + 604), .ref (Z + 605), .ref (Z + 606), .ref (Z + 607), .ref (Z + 608), .ref (Z + 609), .ref (Z + 610), .ref (Z + 611), .ref (Z + 612), .ref (Z + 613), .ref (Z + 614), .int mn', .int mk'])) = cont g Z (σ, (M, er', mn', mk'), o) := by
  funext i
  by_cases hi : i = 602
  · subst hi; rfl
  · rw [va_up_ne _ _ hi]
    unfold cont
    dsimp only
    by_cases h0 : i = 0
    · rw [if_pos h0, if_pos h0]
    rw [if_neg h0, if_neg h0]
    by_cases h1 : i = 1
    · rw [if_pos h1, if_pos h1]
    rw [if_neg h1, if_neg h1]
    by_cases h2 : i < 602
    · rw [if_pos h2, if_pos h2]
    rw [if_neg h2, if_neg h2, if_neg hi, if_neg hi]
theorem cu_o (x : Int64) : va_up (cont g Z (σ, μ, o)) 615 (.inl (g.2.2.2.1, 1, .inr (.inl (vp_updL (fun j => if j = 0 then o else 0) 0 x)))) = cont g Z (σ, μ, x) := by
  have hf : vp_updL (fun j => if j = 0 then o else 0) 0 x = fun j => if j = 0 then x else 0 := by
    funext j
    by_cases hj : j = 0
    · simp [vp_updL, hj]
    · simp [vp_updL, hj]
  rw [hf]
  funext i
  by_cases hi : i = 615
  · subst hi; rfl
  · rw [va_up_ne _ _ hi]
    unfold cont
    dsimp only
    by_cases h0 : i = 0
    · rw [if_pos h0, if_pos h0]
    rw [if_neg h0, if_neg h0]
    by_cases h1 : i = 1
    · rw [if_pos h1, if_pos h1]
    rw [if_neg h1, if_neg h1]
    by_cases h2 : i < 602
    · rw [if_pos h2, if_pos h2]
    rw [if_neg h2, if_neg h2]
    by_cases h3 : i = 602
    · rw [if_pos h3, if_pos h3]
    rw [if_neg h3, if_neg h3]
    by_cases h4 : i < 615
    · rw [if_pos h4, if_pos h4]
    rw [if_neg h4, if_neg h4]
    rw [if_neg hi, if_neg hi]
end Cu
end
section
/-! ROWS, one for each field and array of the system -/
section Rows3
variable {p : Program} {l : Launch} {e : Env} {R : Room} {s : State} {m : MethodId} {args : Array Value} {below : List Frame} {meth : Method} {c : Code} {H : Heap} {locs : List Loc} {cells slots : Nat} {Q : State → Prop}
variable {cc : ByteArray} {nL pc : Nat} {ls : Array Slot} {rest : List Value} {own : String} {g : KG} {Z : Nat} {τ : TS} {D B G M : Fn2} {n kn er mn mk x : Int32} {μ : MS} {σ : CS} {o : Int64} {k : Nat}
theorem q_steps (C : Cx p s m c cc nL "StageClock" args g Z) (hw : WH g Z ((D, B, G, n, kn), μ, o) s H locs) (hd : decode cc pc = .ok (.getfield 11, 3)) (kk : W p l e R s m args below meth c H locs cells slots Q (F0 m (pc + 3) ls (.ref (Z + 1) :: rest))) : W p l e R s m args below meth c H locs cells slots Q (F0 m pc ls (.ref Z :: rest)) :=
  g_get C hw 0 0 0 11 (by decide) rfl rfl (by decide) hin_S rfl k_60 rfl hd kk
theorem q_many (C : Cx p s m c cc nL "StageClock" args g Z) (hw : WH g Z ((D, B, G, n, kn), μ, o) s H locs) (hd : decode cc pc = .ok (.getfield 19, 3)) (kk : W p l e R s m args below meth c H locs cells slots Q (F0 m (pc + 3) ls (.int n :: rest))) : W p l e R s m args below meth c H locs cells slots Q (F0 m pc ls (.ref Z :: rest)) :=
  g_get C hw 0 0 1 19 (by decide) rfl rfl (by decide) hin_S rfl k_61 rfl hd kk
theorem q_known (C : Cx p s m c cc nL "StageClock" args g Z) (hw : WH g Z ((D, B, G, n, kn), μ, o) s H locs) (hd : decode cc pc = .ok (.getfield 30, 3)) (kk : W p l e R s m args below meth c H locs cells slots Q (F0 m (pc + 3) ls (.int kn :: rest))) : W p l e R s m args below meth c H locs cells slots Q (F0 m pc ls (.ref Z :: rest)) :=
  g_get C hw 0 0 2 30 (by decide) rfl rfl (by decide) hin_S rfl k_62 rfl hd kk
theorem p_many (C : Cx p s m c cc nL "StageClock" args g Z) (hw : WH g Z ((D, B, G, n, kn), μ, o) s H locs) (hd : decode cc pc = .ok (.putfield 19, 3)) (kk : ∀ (H1 : Heap) (locs1 : List Loc), WH g Z ((D, B, G, x, kn), μ, o) s H1 locs1 → W p l e R s m args below meth c H1 locs1 cells slots Q (F0 m (pc + 3) ls rest)) : W p l e R s m args below meth c H locs cells slots Q (F0 m pc ls (.int x :: .ref Z :: rest)) :=
  g_put C hw 0 0 1 19 (by decide) rfl rfl (by decide) hin_S t_S_ok n_S rfl k_61 rfl (t_S_ok 1 (by decide)) rfl rfl (by decide : 1 < 3) (cu_S0 x kn) hd kk
theorem p_known (C : Cx p s m c cc nL "StageClock" args g Z) (hw : WH g Z ((D, B, G, n, kn), μ, o) s H locs) (hd : decode cc pc = .ok (.putfield 30, 3)) (kk : ∀ (H1 : Heap) (locs1 : List Loc), WH g Z ((D, B, G, n, x), μ, o) s H1 locs1 → W p l e R s m args below meth c H1 locs1 cells slots Q (F0 m (pc + 3) ls rest)) : W p l e R s m args below meth c H locs cells slots Q (F0 m pc ls (.int x :: .ref Z :: rest)) :=
  g_put C hw 0 0 2 30 (by decide) rfl rfl (by decide) hin_S t_S_ok n_S rfl k_62 rfl (t_S_ok 2 (by decide)) rfl rfl (by decide : 2 < 3) (cu_S0 n x) hd kk
theorem q_t (C : Cx p s m c cc nL "StageClock" args g Z) (hw : WH g Z ((D, B, G, n, kn), μ, o) s H locs) (hk : k < 200) (hd : decode cc pc = .ok (.getfield 81, 3)) (kk : W p l e R s m args below meth c H locs cells slots Q (F0 m (pc + 3) ls (.int (D 0 k) :: rest))) : W p l e R s m args below meth c H locs cells slots Q (F0 m pc ls (.ref (Z + (2 + 3 * k)) :: rest)) :=
  g_getN C hw (2 + 3 * k) 1 0 81 (by omega) (cont_T g Z _ hk) rfl (by decide) hin_T rfl k_27 rfl hd kk
theorem p_t (C : Cx p s m c cc nL "StageClock" args g Z) (hw : WH g Z ((D, B, G, n, kn), μ, o) s H locs) (hk : k < 200) (hd : decode cc pc = .ok (.putfield 81, 3)) (kk : ∀ (H1 : Heap) (locs1 : List Loc), WH g Z ((up2 D 0 k x, B, G, n, kn), μ, o) s H1 locs1 → W p l e R s m args below meth c H1 locs1 cells slots Q (F0 m (pc + 3) ls rest)) : W p l e R s m args below meth c H locs cells slots Q (F0 m pc ls (.int x :: .ref (Z + (2 + 3 * k)) :: rest)) :=
  g_putN C hw (2 + 3 * k) 1 0 81 (by omega) (cont_T g Z _ hk) rfl (by decide) hin_T t_T_ok n_T rfl k_27 rfl (t_T_ok 0 (by decide)) rfl rfl (by decide : 0 < 9) (cu_T (by decide) hk) hd kk
theorem q_gets (C : Cx p s m c cc nL "StageClock" args g Z) (hw : WH g Z ((D, B, G, n, kn), μ, o) s H locs) (hk : k < 200) (hd : decode cc pc = .ok (.getfield 45, 3)) (kk : W p l e R s m args below meth c H locs cells slots Q (F0 m (pc + 3) ls (.int (D 1 k) :: rest))) : W p l e R s m args below meth c H locs cells slots Q (F0 m pc ls (.ref (Z + (2 + 3 * k)) :: rest)) :=
  g_getN C hw (2 + 3 * k) 1 1 45 (by omega) (cont_T g Z _ hk) rfl (by decide) hin_T rfl k_28 rfl hd kk
theorem p_gets (C : Cx p s m c cc nL "StageClock" args g Z) (hw : WH g Z ((D, B, G, n, kn), μ, o) s H locs) (hk : k < 200) (hd : decode cc pc = .ok (.putfield 45, 3)) (kk : ∀ (H1 : Heap) (locs1 : List Loc), WH g Z ((up2 D 1 k x, B, G, n, kn), μ, o) s H1 locs1 → W p l e R s m args below meth c H1 locs1 cells slots Q (F0 m (pc + 3) ls rest)) : W p l e R s m args below meth c H locs cells slots Q (F0 m pc ls (.int x :: .ref (Z + (2 + 3 * k)) :: rest)) :=
  g_putN C hw (2 + 3 * k) 1 1 45 (by omega) (cont_T g Z _ hk) rfl (by decide) hin_T t_T_ok n_T rfl k_28 rfl (t_T_ok 1 (by decide)) rfl rfl (by decide : 1 < 9) (cu_T (by decide) hk) hd kk
theorem q_reads (C : Cx p s m c cc nL "StageClock" args g Z) (hw : WH g Z ((D, B, G, n, kn), μ, o) s H locs) (hk : k < 200) (hd : decode cc pc = .ok (.getfield 64, 3)) (kk : W p l e R s m args below meth c H locs cells slots Q (F0 m (pc + 3) ls (.int (D 2 k) :: rest))) : W p l e R s m args below meth c H locs cells slots Q (F0 m pc ls (.ref (Z + (2 + 3 * k)) :: rest)) :=
  g_getN C hw (2 + 3 * k) 1 2 64 (by omega) (cont_T g Z _ hk) rfl (by decide) hin_T rfl k_29 rfl hd kk
theorem p_reads (C : Cx p s m c cc nL "StageClock" args g Z) (hw : WH g Z ((D, B, G, n, kn), μ, o) s H locs) (hk : k < 200) (hd : decode cc pc = .ok (.putfield 64, 3)) (kk : ∀ (H1 : Heap) (locs1 : List Loc), WH g Z ((up2 D 2 k x, B, G, n, kn), μ, o) s H1 locs1 → W p l e R s m args below meth c H1 locs1 cells slots Q (F0 m (pc + 3) ls rest)) : W p l e R s m args below meth c H locs cells slots Q (F0 m pc ls (.int x :: .ref (Z + (2 + 3 * k)) :: rest)) :=
  g_putN C hw (2 + 3 * k) 1 2 64 (by omega) (cont_T g Z _ hk) rfl (by decide) hin_T t_T_ok n_T rfl k_29 rfl (t_T_ok 2 (by decide)) rfl rfl (by decide : 2 < 9) (cu_T (by decide) hk) hd kk
theorem q_late (C : Cx p s m c cc nL "StageClock" args g Z) (hw : WH g Z ((D, B, G, n, kn), μ, o) s H locs) (hk : k < 200) (hd : decode cc pc = .ok (.getfield 71, 3)) (kk : W p l e R s m args below meth c H locs cells slots Q (F0 m (pc + 3) ls (.int (D 3 k) :: rest))) : W p l e R s m args below meth c H locs cells slots Q (F0 m pc ls (.ref (Z + (2 + 3 * k)) :: rest)) :=
  g_getN C hw (2 + 3 * k) 1 3 71 (by omega) (cont_T g Z _ hk) rfl (by decide) hin_T rfl k_30 rfl hd kk
theorem p_late (C : Cx p s m c cc nL "StageClock" args g Z) (hw : WH g Z ((D, B, G, n, kn), μ, o) s H locs) (hk : k < 200) (hd : decode cc pc = .ok (.putfield 71, 3)) (kk : ∀ (H1 : Heap) (locs1 : List Loc), WH g Z ((up2 D 3 k x, B, G, n, kn), μ, o) s H1 locs1 → W p l e R s m args below meth c H1 locs1 cells slots Q (F0 m (pc + 3) ls rest)) : W p l e R s m args below meth c H locs cells slots Q (F0 m pc ls (.int x :: .ref (Z + (2 + 3 * k)) :: rest)) :=
  g_putN C hw (2 + 3 * k) 1 3 71 (by omega) (cont_T g Z _ hk) rfl (by decide) hin_T t_T_ok n_T rfl k_30 rfl (t_T_ok 3 (by decide)) rfl rfl (by decide : 3 < 9) (cu_T (by decide) hk) hd kk
theorem q_wait (C : Cx p s m c cc nL "StageClock" args g Z) (hw : WH g Z ((D, B, G, n, kn), μ, o) s H locs) (hk : k < 200) (hd : decode cc pc = .ok (.getfield 87, 3)) (kk : W p l e R s m args below meth c H locs cells slots Q (F0 m (pc + 3) ls (.int (D 4 k) :: rest))) : W p l e R s m args below meth c H locs cells slots Q (F0 m pc ls (.ref (Z + (2 + 3 * k)) :: rest)) :=
  g_getN C hw (2 + 3 * k) 1 4 87 (by omega) (cont_T g Z _ hk) rfl (by decide) hin_T rfl k_32 rfl hd kk
theorem p_wait (C : Cx p s m c cc nL "StageClock" args g Z) (hw : WH g Z ((D, B, G, n, kn), μ, o) s H locs) (hk : k < 200) (hd : decode cc pc = .ok (.putfield 87, 3)) (kk : ∀ (H1 : Heap) (locs1 : List Loc), WH g Z ((up2 D 4 k x, B, G, n, kn), μ, o) s H1 locs1 → W p l e R s m args below meth c H1 locs1 cells slots Q (F0 m (pc + 3) ls rest)) : W p l e R s m args below meth c H locs cells slots Q (F0 m pc ls (.int x :: .ref (Z + (2 + 3 * k)) :: rest)) :=
  g_putN C hw (2 + 3 * k) 1 4 87 (by omega) (cont_T g Z _ hk) rfl (by decide) hin_T t_T_ok n_T rfl k_32 rfl (t_T_ok 4 (by decide)) rfl rfl (by decide : 4 < 9) (cu_T (by decide) hk) hd kk
theorem q_load (C : Cx p s m c cc nL "StageClock" args g Z) (hw : WH g Z ((D, B, G, n, kn), μ, o) s H locs) (hk : k < 200) (hd : decode cc pc = .ok (.getfield 84, 3)) (kk : W p l e R s m args below meth c H locs cells slots Q (F0 m (pc + 3) ls (.int (D 5 k) :: rest))) : W p l e R s m args below meth c H locs cells slots Q (F0 m pc ls (.ref (Z + (2 + 3 * k)) :: rest)) :=
  g_getN C hw (2 + 3 * k) 1 5 84 (by omega) (cont_T g Z _ hk) rfl (by decide) hin_T rfl k_34 rfl hd kk
theorem p_load (C : Cx p s m c cc nL "StageClock" args g Z) (hw : WH g Z ((D, B, G, n, kn), μ, o) s H locs) (hk : k < 200) (hx : x = 0 ∨ x = 1) (hd : decode cc pc = .ok (.putfield 84, 3)) (kk : ∀ (H1 : Heap) (locs1 : List Loc), WH g Z ((up2 D 5 k x, B, G, n, kn), μ, o) s H1 locs1 → W p l e R s m args below meth c H1 locs1 cells slots Q (F0 m (pc + 3) ls rest)) : W p l e R s m args below meth c H locs cells slots Q (F0 m pc ls (.int x :: .ref (Z + (2 + 3 * k)) :: rest)) :=
  g_putN C hw (2 + 3 * k) 1 5 84 (by omega) (cont_T g Z _ hk) rfl (by decide) hin_T t_T_ok n_T rfl k_34 rfl (t_T_ok 5 (by decide)) (by rcases hx with rfl | rfl <;> rfl) (by rcases hx with rfl | rfl <;> rfl) (by decide : 5 < 9) (cu_T (by decide) hk) hd kk
theorem q_wrong (C : Cx p s m c cc nL "StageClock" args g Z) (hw : WH g Z ((D, B, G, n, kn), μ, o) s H locs) (hk : k < 200) (hd : decode cc pc = .ok (.getfield 51, 3)) (kk : W p l e R s m args below meth c H locs cells slots Q (F0 m (pc + 3) ls (.int (D 6 k) :: rest))) : W p l e R s m args below meth c H locs cells slots Q (F0 m pc ls (.ref (Z + (2 + 3 * k)) :: rest)) :=
  g_getN C hw (2 + 3 * k) 1 6 51 (by omega) (cont_T g Z _ hk) rfl (by decide) hin_T rfl k_35 rfl hd kk
theorem p_wrong (C : Cx p s m c cc nL "StageClock" args g Z) (hw : WH g Z ((D, B, G, n, kn), μ, o) s H locs) (hk : k < 200) (hx : x = 0 ∨ x = 1) (hd : decode cc pc = .ok (.putfield 51, 3)) (kk : ∀ (H1 : Heap) (locs1 : List Loc), WH g Z ((up2 D 6 k x, B, G, n, kn), μ, o) s H1 locs1 → W p l e R s m args below meth c H1 locs1 cells slots Q (F0 m (pc + 3) ls rest)) : W p l e R s m args below meth c H locs cells slots Q (F0 m pc ls (.int x :: .ref (Z + (2 + 3 * k)) :: rest)) :=
  g_putN C hw (2 + 3 * k) 1 6 51 (by omega) (cont_T g Z _ hk) rfl (by decide) hin_T t_T_ok n_T rfl k_35 rfl (t_T_ok 6 (by decide)) (by rcases hx with rfl | rfl <;> rfl) (by rcases hx with rfl | rfl <;> rfl) (by decide : 6 < 9) (cu_T (by decide) hk) hd kk
theorem q_begins (C : Cx p s m c cc nL "StageClock" args g Z) (hw : WH g Z ((D, B, G, n, kn), μ, o) s H locs) (hk : k < 200) (hd : decode cc pc = .ok (.getfield 48, 3)) (kk : W p l e R s m args below meth c H locs cells slots Q (F0 m (pc + 3) ls (.ref (Z + (3 + 3 * k)) :: rest))) : W p l e R s m args below meth c H locs cells slots Q (F0 m pc ls (.ref (Z + (2 + 3 * k)) :: rest)) :=
  g_getN C hw (2 + 3 * k) 1 7 48 (by omega) (cont_T g Z _ hk) rfl (by decide) hin_T rfl k_37 rfl hd kk
theorem q_givers (C : Cx p s m c cc nL "StageClock" args g Z) (hw : WH g Z ((D, B, G, n, kn), μ, o) s H locs) (hk : k < 200) (hd : decode cc pc = .ok (.getfield 37, 3)) (kk : W p l e R s m args below meth c H locs cells slots Q (F0 m (pc + 3) ls (.ref (Z + (4 + 3 * k)) :: rest))) : W p l e R s m args below meth c H locs cells slots Q (F0 m pc ls (.ref (Z + (2 + 3 * k)) :: rest)) :=
  g_getN C hw (2 + 3 * k) 1 8 37 (by omega) (cont_T g Z _ hk) rfl (by decide) hin_T rfl k_39 rfl hd kk
theorem u_t (C : Cx p s m c cc nL "StageClock$Step" args g Z) (hw : WH g Z ((D, B, G, n, kn), μ, o) s H locs) (hk : k < 200) (hd : decode cc pc = .ok (.getfield 18, 3)) (kk : W p l e R s m args below meth c H locs cells slots Q (F0 m (pc + 3) ls (.int (D 0 k) :: rest))) : W p l e R s m args below meth c H locs cells slots Q (F0 m pc ls (.ref (Z + (2 + 3 * k)) :: rest)) :=
  g_get C hw (2 + 3 * k) 1 0 18 (by omega) (cont_T g Z _ hk) rfl (by decide) hin_T rfl k_26 rfl hd kk
theorem u_wait (C : Cx p s m c cc nL "StageClock$Step" args g Z) (hw : WH g Z ((D, B, G, n, kn), μ, o) s H locs) (hk : k < 200) (hd : decode cc pc = .ok (.getfield 22, 3)) (kk : W p l e R s m args below meth c H locs cells slots Q (F0 m (pc + 3) ls (.int (D 4 k) :: rest))) : W p l e R s m args below meth c H locs cells slots Q (F0 m pc ls (.ref (Z + (2 + 3 * k)) :: rest)) :=
  g_get C hw (2 + 3 * k) 1 4 22 (by omega) (cont_T g Z _ hk) rfl (by decide) hin_T rfl k_31 rfl hd kk
theorem u_load (C : Cx p s m c cc nL "StageClock$Step" args g Z) (hw : WH g Z ((D, B, G, n, kn), μ, o) s H locs) (hk : k < 200) (hd : decode cc pc = .ok (.getfield 25, 3)) (kk : W p l e R s m args below meth c H locs cells slots Q (F0 m (pc + 3) ls (.int (D 5 k) :: rest))) : W p l e R s m args below meth c H locs cells slots Q (F0 m pc ls (.ref (Z + (2 + 3 * k)) :: rest)) :=
  g_get C hw (2 + 3 * k) 1 5 25 (by omega) (cont_T g Z _ hk) rfl (by decide) hin_T rfl k_33 rfl hd kk
theorem u_begins (C : Cx p s m c cc nL "StageClock$Step" args g Z) (hw : WH g Z ((D, B, G, n, kn), μ, o) s H locs) (hk : k < 200) (hd : decode cc pc = .ok (.getfield 9, 3)) (kk : W p l e R s m args below meth c H locs cells slots Q (F0 m (pc + 3) ls (.ref (Z + (3 + 3 * k)) :: rest))) : W p l e R s m args below meth c H locs cells slots Q (F0 m pc ls (.ref (Z + (2 + 3 * k)) :: rest)) :=
  g_get C hw (2 + 3 * k) 1 7 9 (by omega) (cont_T g Z _ hk) rfl (by decide) hin_T rfl k_36 rfl hd kk
theorem q_aat (C : Cx p s m c cc nL own args g Z) (hw : WH g Z τ s H locs) (k : Nat) (hk : k < 200) (hx : x = nI k) (hd : decode cc pc = .ok (.aaload, 1)) (kk : W p l e R s m args below meth c H locs cells slots Q (F0 m (pc + 1) ls (.ref (Z + (2 + 3 * k)) :: rest))) : W p l e R s m args below meth c H locs cells slots Q (F0 m pc ls (.int x :: .ref (Z + 1) :: rest)) := by
  subst hx
  refine va_aldq (D := g.1) (cl := cls3) (C := "StageClock$Step") (cA := g.2.2.2.2) (n := 200) (f := fun j => if j < 200 then some (Z + (2 + 3 * j)) else none) C.x C.b C.2.1 hw.1 1 3 (fam_get Z _ (by decide)) rfl (vp_in_nI hk (by decide)) hd ?_
  rw [nI_clamp (by omega)]
  show W p l e R s m args below meth c H locs cells slots Q (F0 m (pc + 1) ls (va_rf (if k < 200 then some (Z + (2 + 3 * k)) else none) :: rest))
  rw [if_pos hk]
  exact kk
theorem l_B (C : Cx p s m c cc nL own args g Z) (hw : WH g Z ((D, B, G, n, kn), μ, o) s H locs) (j : Nat) (hk : k < 200) (hj : j < 5) (hx : x = nI j) (hd : decode cc pc = .ok (.iaload, 1)) (kk : W p l e R s m args below meth c H locs cells slots Q (F0 m (pc + 1) ls (.int (B k j) :: rest))) : W p l e R s m args below meth c H locs cells slots Q (F0 m pc ls (.int x :: .ref (Z + (3 + 3 * k)) :: rest)) :=
  g_ild C hw (3 + 3 * k) j (by omega) (cont_B g Z _ hk) (by decide) hj hx hd kk
theorem s_B {y : Int32} (C : Cx p s m c cc nL own args g Z) (hw : WH g Z ((D, B, G, n, kn), μ, o) s H locs) (j : Nat) (hk : k < 200) (hj : j < 5) (hx : x = nI j) (hd : decode cc pc = .ok (.iastore, 1)) (kk : ∀ (H1 : Heap) (locs1 : List Loc), WH g Z ((D, va_up B k (upd (B k) j y), G, n, kn), μ, o) s H1 locs1 → W p l e R s m args below meth c H1 locs1 cells slots Q (F0 m (pc + 1) ls rest)) : W p l e R s m args below meth c H locs cells slots Q (F0 m pc ls (.int y :: .int x :: .ref (Z + (3 + 3 * k)) :: rest)) :=
  g_ist C hw (3 + 3 * k) j (by omega) (cont_B g Z _ hk) (by decide) hj hx (cu_B hk) hd kk
theorem l_G (C : Cx p s m c cc nL own args g Z) (hw : WH g Z ((D, B, G, n, kn), μ, o) s H locs) (j : Nat) (hk : k < 200) (hj : j < 16) (hx : x = nI j) (hd : decode cc pc = .ok (.iaload, 1)) (kk : W p l e R s m args below meth c H locs cells slots Q (F0 m (pc + 1) ls (.int (G k j) :: rest))) : W p l e R s m args below meth c H locs cells slots Q (F0 m pc ls (.int x :: .ref (Z + (4 + 3 * k)) :: rest)) :=
  g_ild C hw (4 + 3 * k) j (by omega) (cont_G g Z _ hk) (by decide) hj hx hd kk
theorem s_G {y : Int32} (C : Cx p s m c cc nL own args g Z) (hw : WH g Z ((D, B, G, n, kn), μ, o) s H locs) (j : Nat) (hk : k < 200) (hj : j < 16) (hx : x = nI j) (hd : decode cc pc = .ok (.iastore, 1)) (kk : ∀ (H1 : Heap) (locs1 : List Loc), WH g Z ((D, B, va_up G k (upd (G k) j y), n, kn), μ, o) s H1 locs1 → W p l e R s m args below meth c H1 locs1 cells slots Q (F0 m (pc + 1) ls rest)) : W p l e R s m args below meth c H locs cells slots Q (F0 m pc ls (.int y :: .int x :: .ref (Z + (4 + 3 * k)) :: rest)) :=
  g_ist C hw (4 + 3 * k) j (by omega) (cont_G g Z _ hk) (by decide) hj hx (cu_G hk) hd kk
theorem q_m0 (C : Cx p s m c cc nL "StageClockModel" args g Z) (hw : WH g Z (σ, (M, er, mn, mk), o) s H locs) (hd : decode cc pc = .ok (.getfield 7, 3)) (kk : W p l e R s m args below meth c H locs cells slots Q (F0 m (pc + 3) ls (.ref (Z + 603) :: rest))) : W p l e R s m args below meth c H locs cells slots Q (F0 m pc ls (.ref (Z + 602) :: rest)) :=
  g_get C hw 602 2 1 7 (by decide) rfl rfl (by decide) hin_M rfl k_274 rfl hd kk
theorem q_m1 (C : Cx p s m c cc nL "StageClockModel" args g Z) (hw : WH g Z (σ, (M, er, mn, mk), o) s H locs) (hd : decode cc pc = .ok (.getfield 13, 3)) (kk : W p l e R s m args below meth c H locs cells slots Q (F0 m (pc + 3) ls (.ref (Z + 604) :: rest))) : W p l e R s m args below meth c H locs cells slots Q (F0 m pc ls (.ref (Z + 602) :: rest)) :=
  g_get C hw 602 2 2 13 (by decide) rfl rfl (by decide) hin_M rfl k_275 rfl hd kk
theorem q_m2 (C : Cx p s m c cc nL "StageClockModel" args g Z) (hw : WH g Z (σ, (M, er, mn, mk), o) s H locs) (hd : decode cc pc = .ok (.getfield 16, 3)) (kk : W p l e R s m args below meth c H locs cells slots Q (F0 m (pc + 3) ls (.ref (Z + 605) :: rest))) : W p l e R s m args below meth c H locs cells slots Q (F0 m pc ls (.ref (Z + 602) :: rest)) :=
  g_get C hw 602 2 3 16 (by decide) rfl rfl (by decide) hin_M rfl k_276 rfl hd kk
theorem q_m3 (C : Cx p s m c cc nL "StageClockModel" args g Z) (hw : WH g Z (σ, (M, er, mn, mk), o) s H locs) (hd : decode cc pc = .ok (.getfield 19, 3)) (kk : W p l e R s m args below meth c H locs cells slots Q (F0 m (pc + 3) ls (.ref (Z + 606) :: rest))) : W p l e R s m args below meth c H locs cells slots Q (F0 m pc ls (.ref (Z + 602) :: rest)) :=
  g_get C hw 602 2 4 19 (by decide) rfl rfl (by decide) hin_M rfl k_277 rfl hd kk
theorem q_m4 (C : Cx p s m c cc nL "StageClockModel" args g Z) (hw : WH g Z (σ, (M, er, mn, mk), o) s H locs) (hd : decode cc pc = .ok (.getfield 22, 3)) (kk : W p l e R s m args below meth c H locs cells slots Q (F0 m (pc + 3) ls (.ref (Z + 607) :: rest))) : W p l e R s m args below meth c H locs cells slots Q (F0 m pc ls (.ref (Z + 602) :: rest)) :=
  g_get C hw 602 2 5 22 (by decide) rfl rfl (by decide) hin_M rfl k_278 rfl hd kk
theorem q_m5 (C : Cx p s m c cc nL "StageClockModel" args g Z) (hw : WH g Z (σ, (M, er, mn, mk), o) s H locs) (hd : decode cc pc = .ok (.getfield 25, 3)) (kk : W p l e R s m args below meth c H locs cells slots Q (F0 m (pc + 3) ls (.ref (Z + 608) :: rest))) : W p l e R s m args below meth c H locs cells slots Q (F0 m pc ls (.ref (Z + 602) :: rest)) :=
  g_get C hw 602 2 6 25 (by decide) rfl rfl (by decide) hin_M rfl k_279 rfl hd kk
theorem q_m6 (C : Cx p s m c cc nL "StageClockModel" args g Z) (hw : WH g Z (σ, (M, er, mn, mk), o) s H locs) (hd : decode cc pc = .ok (.getfield 29, 3)) (kk : W p l e R s m args below meth c H locs cells slots Q (F0 m (pc + 3) ls (.ref (Z + 609) :: rest))) : W p l e R s m args below meth c H locs cells slots Q (F0 m pc ls (.ref (Z + 602) :: rest)) :=
  g_get C hw 602 2 7 29 (by decide) rfl rfl (by decide) hin_M rfl k_280 rfl hd kk
theorem q_m7 (C : Cx p s m c cc nL "StageClockModel" args g Z) (hw : WH g Z (σ, (M, er, mn, mk), o) s H locs) (hd : decode cc pc = .ok (.getfield 32, 3)) (kk : W p l e R s m args below meth c H locs cells slots Q (F0 m (pc + 3) ls (.ref (Z + 610) :: rest))) : W p l e R s m args below meth c H locs cells slots Q (F0 m pc ls (.ref (Z + 602) :: rest)) :=
  g_get C hw 602 2 8 32 (by decide) rfl rfl (by decide) hin_M rfl k_281 rfl hd kk
theorem q_m8 (C : Cx p s m c cc nL "StageClockModel" args g Z) (hw : WH g Z (σ, (M, er, mn, mk), o) s H locs) (hd : decode cc pc = .ok (.getfield 35, 3)) (kk : W p l e R s m args below meth c H locs cells slots Q (F0 m (pc + 3) ls (.ref (Z + 611) :: rest))) : W p l e R s m args below meth c H locs cells slots Q (F0 m pc ls (.ref (Z + 602) :: rest)) :=
  g_get C hw 602 2 9 35 (by decide) rfl rfl (by decide) hin_M rfl k_282 rfl hd kk
theorem q_m9 (C : Cx p s m c cc nL "StageClockModel" args g Z) (hw : WH g Z (σ, (M, er, mn, mk), o) s H locs) (hd : decode cc pc = .ok (.getfield 38, 3)) (kk : W p l e R s m args below meth c H locs cells slots Q (F0 m (pc + 3) ls (.ref (Z + 612) :: rest))) : W p l e R s m args below meth c H locs cells slots Q (F0 m pc ls (.ref (Z + 602) :: rest)) :=
  g_get C hw 602 2 10 38 (by decide) rfl rfl (by decide) hin_M rfl k_283 rfl hd kk
theorem q_m10 (C : Cx p s m c cc nL "StageClockModel" args g Z) (hw : WH g Z (σ, (M, er, mn, mk), o) s H locs) (hd : decode cc pc = .ok (.getfield 41, 3)) (kk : W p l e R s m args below meth c H locs cells slots Q (F0 m (pc + 3) ls (.ref (Z + 613) :: rest))) : W p l e R s m args below meth c H locs cells slots Q (F0 m pc ls (.ref (Z + 602) :: rest)) :=
  g_get C hw 602 2 11 41 (by decide) rfl rfl (by decide) hin_M rfl k_284 rfl hd kk
theorem q_m11 (C : Cx p s m c cc nL "StageClockModel" args g Z) (hw : WH g Z (σ, (M, er, mn, mk), o) s H locs) (hd : decode cc pc = .ok (.getfield 44, 3)) (kk : W p l e R s m args below meth c H locs cells slots Q (F0 m (pc + 3) ls (.ref (Z + 614) :: rest))) : W p l e R s m args below meth c H locs cells slots Q (F0 m pc ls (.ref (Z + 602) :: rest)) :=
  g_get C hw 602 2 12 44 (by decide) rfl rfl (by decide) hin_M rfl k_285 rfl hd kk
theorem q_err (C : Cx p s m c cc nL "StageClockModel" args g Z) (hw : WH g Z (σ, (M, er, mn, mk), o) s H locs) (hd : decode cc pc = .ok (.getfield 47, 3)) (kk : W p l e R s m args below meth c H locs cells slots Q (F0 m (pc + 3) ls (.int er :: rest))) : W p l e R s m args below meth c H locs cells slots Q (F0 m pc ls (.ref (Z + 602) :: rest)) :=
  g_get C hw 602 2 0 47 (by decide) rfl rfl (by decide) hin_M rfl k_273 rfl hd kk
theorem q_mmany (C : Cx p s m c cc nL "StageClockModel" args g Z) (hw : WH g Z (σ, (M, er, mn, mk), o) s H locs) (hd : decode cc pc = .ok (.getfield 62, 3)) (kk : W p l e R s m args below meth c H locs cells slots Q (F0 m (pc + 3) ls (.int mn :: rest))) : W p l e R s m args below meth c H locs cells slots Q (F0 m pc ls (.ref (Z + 602) :: rest)) :=
  g_get C hw 602 2 13 62 (by decide) rfl rfl (by decide) hin_M rfl k_286 rfl hd kk
theorem q_mknown (C : Cx p s m c cc nL "StageClockModel" args g Z) (hw : WH g Z (σ, (M, er, mn, mk), o) s H locs) (hd : decode cc pc = .ok (.getfield 51, 3)) (kk : W p l e R s m args below meth c H locs cells slots Q (F0 m (pc + 3) ls (.int mk :: rest))) : W p l e R s m args below meth c H locs cells slots Q (F0 m pc ls (.ref (Z + 602) :: rest)) :=
  g_get C hw 602 2 14 51 (by decide) rfl rfl (by decide) hin_M rfl k_287 rfl hd kk
theorem p_err (C : Cx p s m c cc nL "StageClockModel" args g Z) (hw : WH g Z (σ, (M, er, mn, mk), o) s H locs) (hd : decode cc pc = .ok (.putfield 47, 3)) (kk : ∀ (H1 : Heap) (locs1 : List Loc), WH g Z (σ, (M, x, mn, mk), o) s H1 locs1 → W p l e R s m args below meth c H1 locs1 cells slots Q (F0 m (pc + 3) ls rest)) : W p l e R s m args below meth c H locs cells slots Q (F0 m pc ls (.int x :: .ref (Z + 602) :: rest)) :=
  g_put C hw 602 2 0 47 (by decide) rfl rfl (by decide) hin_M t_M_ok n_M rfl k_273 rfl (t_M_ok 0 (by decide)) rfl rfl (by decide : 0 < 15) (cu_M0 x mn mk) hd kk
theorem p_mmany (C : Cx p s m c cc nL "StageClockModel" args g Z) (hw : WH g Z (σ, (M, er, mn, mk), o) s H locs) (hd : decode cc pc = .ok (.putfield 62, 3)) (kk : ∀ (H1 : Heap) (locs1 : List Loc), WH g Z (σ, (M, er, x, mk), o) s H1 locs1 → W p l e R s m args below meth c H1 locs1 cells slots Q (F0 m (pc + 3) ls rest)) : W p l e R s m args below meth c H locs cells slots Q (F0 m pc ls (.int x :: .ref (Z + 602) :: rest)) :=
  g_put C hw 602 2 13 62 (by decide) rfl rfl (by decide) hin_M t_M_ok n_M rfl k_286 rfl (t_M_ok 13 (by decide)) rfl rfl (by decide : 13 < 15) (cu_M0 er x mk) hd kk
theorem p_mknown (C : Cx p s m c cc nL "StageClockModel" args g Z) (hw : WH g Z (σ, (M, er, mn, mk), o) s H locs) (hd : decode cc pc = .ok (.putfield 51, 3)) (kk : ∀ (H1 : Heap) (locs1 : List Loc), WH g Z (σ, (M, er, mn, x), o) s H1 locs1 → W p l e R s m args below meth c H1 locs1 cells slots Q (F0 m (pc + 3) ls rest)) : W p l e R s m args below meth c H locs cells slots Q (F0 m pc ls (.int x :: .ref (Z + 602) :: rest)) :=
  g_put C hw 602 2 14 51 (by decide) rfl rfl (by decide) hin_M t_M_ok n_M rfl k_287 rfl (t_M_ok 14 (by decide)) rfl rfl (by decide : 14 < 15) (cu_M0 er mn x) hd kk
theorem l_m0 (C : Cx p s m c cc nL own args g Z) (hw : WH g Z (σ, (M, er, mn, mk), o) s H locs) (j : Nat) (hj : j < 200) (hx : x = nI j) (hd : decode cc pc = .ok (.iaload, 1)) (kk : W p l e R s m args below meth c H locs cells slots Q (F0 m (pc + 1) ls (.int (M 0 j) :: rest))) : W p l e R s m args below meth c H locs cells slots Q (F0 m pc ls (.int x :: .ref (Z + 603) :: rest)) :=
  g_ild C hw 603 j (by decide) (cont_M g Z _ (i := 0) (by decide)) (by decide) hj hx hd kk
theorem s_m0 {y : Int32} (C : Cx p s m c cc nL own args g Z) (hw : WH g Z (σ, (M, er, mn, mk), o) s H locs) (j : Nat) (hj : j < 200) (hx : x = nI j) (hd : decode cc pc = .ok (.iastore, 1)) (kk : ∀ (H1 : Heap) (locs1 : List Loc), WH g Z (σ, (up2 M 0 j y, er, mn, mk), o) s H1 locs1 → W p l e R s m args below meth c H1 locs1 cells slots Q (F0 m (pc + 1) ls rest)) : W p l e R s m args below meth c H locs cells slots Q (F0 m pc ls (.int y :: .int x :: .ref (Z + 603) :: rest)) :=
  g_ist C hw 603 j (by decide) (cont_M g Z _ (i := 0) (by decide)) (by decide) hj hx (cu_M (a := 0) (by decide)) hd kk
theorem l_m1 (C : Cx p s m c cc nL own args g Z) (hw : WH g Z (σ, (M, er, mn, mk), o) s H locs) (j : Nat) (hj : j < 200) (hx : x = nI j) (hd : decode cc pc = .ok (.iaload, 1)) (kk : W p l e R s m args below meth c H locs cells slots Q (F0 m (pc + 1) ls (.int (M 1 j) :: rest))) : W p l e R s m args below meth c H locs cells slots Q (F0 m pc ls (.int x :: .ref (Z + 604) :: rest)) :=
  g_ild C hw 604 j (by decide) (cont_M g Z _ (i := 1) (by decide)) (by decide) hj hx hd kk
theorem s_m1 {y : Int32} (C : Cx p s m c cc nL own args g Z) (hw : WH g Z (σ, (M, er, mn, mk), o) s H locs) (j : Nat) (hj : j < 200) (hx : x = nI j) (hd : decode cc pc = .ok (.iastore, 1)) (kk : ∀ (H1 : Heap) (locs1 : List Loc), WH g Z (σ, (up2 M 1 j y, er, mn, mk), o) s H1 locs1 → W p l e R s m args below meth c H1 locs1 cells slots Q (F0 m (pc + 1) ls rest)) : W p l e R s m args below meth c H locs cells slots Q (F0 m pc ls (.int y :: .int x :: .ref (Z + 604) :: rest)) :=
  g_ist C hw 604 j (by decide) (cont_M g Z _ (i := 1) (by decide)) (by decide) hj hx (cu_M (a := 1) (by decide)) hd kk
theorem l_m2 (C : Cx p s m c cc nL own args g Z) (hw : WH g Z (σ, (M, er, mn, mk), o) s H locs) (j : Nat) (hj : j < 200) (hx : x = nI j) (hd : decode cc pc = .ok (.iaload, 1)) (kk : W p l e R s m args below meth c H locs cells slots Q (F0 m (pc + 1) ls (.int (M 2 j) :: rest))) : W p l e R s m args below meth c H locs cells slots Q (F0 m pc ls (.int x :: .ref (Z + 605) :: rest)) :=
  g_ild C hw 605 j (by decide) (cont_M g Z _ (i := 2) (by decide)) (by decide) hj hx hd kk
theorem s_m2 {y : Int32} (C : Cx p s m c cc nL own args g Z) (hw : WH g Z (σ, (M, er, mn, mk), o) s H locs) (j : Nat) (hj : j < 200) (hx : x = nI j) (hd : decode cc pc = .ok (.iastore, 1)) (kk : ∀ (H1 : Heap) (locs1 : List Loc), WH g Z (σ, (up2 M 2 j y, er, mn, mk), o) s H1 locs1 → W p l e R s m args below meth c H1 locs1 cells slots Q (F0 m (pc + 1) ls rest)) : W p l e R s m args below meth c H locs cells slots Q (F0 m pc ls (.int y :: .int x :: .ref (Z + 605) :: rest)) :=
  g_ist C hw 605 j (by decide) (cont_M g Z _ (i := 2) (by decide)) (by decide) hj hx (cu_M (a := 2) (by decide)) hd kk
theorem l_m3 (C : Cx p s m c cc nL own args g Z) (hw : WH g Z (σ, (M, er, mn, mk), o) s H locs) (j : Nat) (hj : j < 200) (hx : x = nI j) (hd : decode cc pc = .ok (.iaload, 1)) (kk : W p l e R s m args below meth c H locs cells slots Q (F0 m (pc + 1) ls (.int (M 3 j) :: rest))) : W p l e R s m args below meth c H locs cells slots Q (F0 m pc ls (.int x :: .ref (Z + 606) :: rest)) :=
  g_ild C hw 606 j (by decide) (cont_M g Z _ (i := 3) (by decide)) (by decide) hj hx hd kk
theorem s_m3 {y : Int32} (C : Cx p s m c cc nL own args g Z) (hw : WH g Z (σ, (M, er, mn, mk), o) s H locs) (j : Nat) (hj : j < 200) (hx : x = nI j) (hd : decode cc pc = .ok (.iastore, 1)) (kk : ∀ (H1 : Heap) (locs1 : List Loc), WH g Z (σ, (up2 M 3 j y, er, mn, mk), o) s H1 locs1 → W p l e R s m args below meth c H1 locs1 cells slots Q (F0 m (pc + 1) ls rest)) : W p l e R s m args below meth c H locs cells slots Q (F0 m pc ls (.int y :: .int x :: .ref (Z + 606) :: rest)) :=
  g_ist C hw 606 j (by decide) (cont_M g Z _ (i := 3) (by decide)) (by decide) hj hx (cu_M (a := 3) (by decide)) hd kk
theorem l_m4 (C : Cx p s m c cc nL own args g Z) (hw : WH g Z (σ, (M, er, mn, mk), o) s H locs) (j : Nat) (hj : j < 200) (hx : x = nI j) (hd : decode cc pc = .ok (.iaload, 1)) (kk : W p l e R s m args below meth c H locs cells slots Q (F0 m (pc + 1) ls (.int (M 4 j) :: rest))) : W p l e R s m args below meth c H locs cells slots Q (F0 m pc ls (.int x :: .ref (Z + 607) :: rest)) :=
  g_ild C hw 607 j (by decide) (cont_M g Z _ (i := 4) (by decide)) (by decide) hj hx hd kk
theorem s_m4 {y : Int32} (C : Cx p s m c cc nL own args g Z) (hw : WH g Z (σ, (M, er, mn, mk), o) s H locs) (j : Nat) (hj : j < 200) (hx : x = nI j) (hd : decode cc pc = .ok (.iastore, 1)) (kk : ∀ (H1 : Heap) (locs1 : List Loc), WH g Z (σ, (up2 M 4 j y, er, mn, mk), o) s H1 locs1 → W p l e R s m args below meth c H1 locs1 cells slots Q (F0 m (pc + 1) ls rest)) : W p l e R s m args below meth c H locs cells slots Q (F0 m pc ls (.int y :: .int x :: .ref (Z + 607) :: rest)) :=
  g_ist C hw 607 j (by decide) (cont_M g Z _ (i := 4) (by decide)) (by decide) hj hx (cu_M (a := 4) (by decide)) hd kk
theorem l_m5 (C : Cx p s m c cc nL own args g Z) (hw : WH g Z (σ, (M, er, mn, mk), o) s H locs) (j : Nat) (hj : j < 200) (hx : x = nI j) (hd : decode cc pc = .ok (.baload, 1)) (kk : W p l e R s m args below meth c H locs cells slots Q (F0 m (pc + 1) ls (.int (M 5 j) :: rest))) : W p l e R s m args below meth c H locs cells slots Q (F0 m pc ls (.int x :: .ref (Z + 608) :: rest)) :=
  g_zld C hw 608 j (by decide) (cont_M g Z _ (i := 5) (by decide)) (by decide) hj hx hd kk
theorem s_m5 {y : Int32} (C : Cx p s m c cc nL own args g Z) (hw : WH g Z (σ, (M, er, mn, mk), o) s H locs) (j : Nat) (hj : j < 200) (hx : x = nI j) (hy : y = 0 ∨ y = 1) (hd : decode cc pc = .ok (.bastore, 1)) (kk : ∀ (H1 : Heap) (locs1 : List Loc), WH g Z (σ, (up2 M 5 j y, er, mn, mk), o) s H1 locs1 → W p l e R s m args below meth c H1 locs1 cells slots Q (F0 m (pc + 1) ls rest)) : W p l e R s m args below meth c H locs cells slots Q (F0 m pc ls (.int y :: .int x :: .ref (Z + 608) :: rest)) :=
  g_zst C hw 608 j (by decide) (cont_M g Z _ (i := 5) (by decide)) (by decide) hj hx (by rcases hy with rfl | rfl <;> rfl) (cu_M (a := 5) (by decide)) hd kk
theorem l_m6 (C : Cx p s m c cc nL own args g Z) (hw : WH g Z (σ, (M, er, mn, mk), o) s H locs) (j : Nat) (hj : j < 200) (hx : x = nI j) (hd : decode cc pc = .ok (.baload, 1)) (kk : W p l e R s m args below meth c H locs cells slots Q (F0 m (pc + 1) ls (.int (M 6 j) :: rest))) : W p l e R s m args below meth c H locs cells slots Q (F0 m pc ls (.int x :: .ref (Z + 609) :: rest)) :=
  g_zld C hw 609 j (by decide) (cont_M g Z _ (i := 6) (by decide)) (by decide) hj hx hd kk
theorem s_m6 {y : Int32} (C : Cx p s m c cc nL own args g Z) (hw : WH g Z (σ, (M, er, mn, mk), o) s H locs) (j : Nat) (hj : j < 200) (hx : x = nI j) (hy : y = 0 ∨ y = 1) (hd : decode cc pc = .ok (.bastore, 1)) (kk : ∀ (H1 : Heap) (locs1 : List Loc), WH g Z (σ, (up2 M 6 j y, er, mn, mk), o) s H1 locs1 → W p l e R s m args below meth c H1 locs1 cells slots Q (F0 m (pc + 1) ls rest)) : W p l e R s m args below meth c H locs cells slots Q (F0 m pc ls (.int y :: .int x :: .ref (Z + 609) :: rest)) :=
  g_zst C hw 609 j (by decide) (cont_M g Z _ (i := 6) (by decide)) (by decide) hj hx (by rcases hy with rfl | rfl <;> rfl) (cu_M (a := 6) (by decide)) hd kk
theorem l_m7 (C : Cx p s m c cc nL own args g Z) (hw : WH g Z (σ, (M, er, mn, mk), o) s H locs) (j : Nat) (hj : j < 200) (hx : x = nI j) (hd : decode cc pc = .ok (.iaload, 1)) (kk : W p l e R s m args below meth c H locs cells slots Q (F0 m (pc + 1) ls (.int (M 7 j) :: rest))) : W p l e R s m args below meth c H locs cells slots Q (F0 m pc ls (.int x :: .ref (Z + 610) :: rest)) :=
  g_ild C hw 610 j (by decide) (cont_M g Z _ (i := 7) (by decide)) (by decide) hj hx hd kk
theorem s_m7 {y : Int32} (C : Cx p s m c cc nL own args g Z) (hw : WH g Z (σ, (M, er, mn, mk), o) s H locs) (j : Nat) (hj : j < 200) (hx : x = nI j) (hd : decode cc pc = .ok (.iastore, 1)) (kk : ∀ (H1 : Heap) (locs1 : List Loc), WH g Z (σ, (up2 M 7 j y, er, mn, mk), o) s H1 locs1 → W p l e R s m args below meth c H1 locs1 cells slots Q (F0 m (pc + 1) ls rest)) : W p l e R s m args below meth c H locs cells slots Q (F0 m pc ls (.int y :: .int x :: .ref (Z + 610) :: rest)) :=
  g_ist C hw 610 j (by decide) (cont_M g Z _ (i := 7) (by decide)) (by decide) hj hx (cu_M (a := 7) (by decide)) hd kk
theorem l_m8 (C : Cx p s m c cc nL own args g Z) (hw : WH g Z (σ, (M, er, mn, mk), o) s H locs) (j : Nat) (hj : j < 200) (hx : x = nI j) (hd : decode cc pc = .ok (.iaload, 1)) (kk : W p l e R s m args below meth c H locs cells slots Q (F0 m (pc + 1) ls (.int (M 8 j) :: rest))) : W p l e R s m args below meth c H locs cells slots Q (F0 m pc ls (.int x :: .ref (Z + 611) :: rest)) :=
  g_ild C hw 611 j (by decide) (cont_M g Z _ (i := 8) (by decide)) (by decide) hj hx hd kk
theorem s_m8 {y : Int32} (C : Cx p s m c cc nL own args g Z) (hw : WH g Z (σ, (M, er, mn, mk), o) s H locs) (j : Nat) (hj : j < 200) (hx : x = nI j) (hd : decode cc pc = .ok (.iastore, 1)) (kk : ∀ (H1 : Heap) (locs1 : List Loc), WH g Z (σ, (up2 M 8 j y, er, mn, mk), o) s H1 locs1 → W p l e R s m args below meth c H1 locs1 cells slots Q (F0 m (pc + 1) ls rest)) : W p l e R s m args below meth c H locs cells slots Q (F0 m pc ls (.int y :: .int x :: .ref (Z + 611) :: rest)) :=
  g_ist C hw 611 j (by decide) (cont_M g Z _ (i := 8) (by decide)) (by decide) hj hx (cu_M (a := 8) (by decide)) hd kk
theorem l_m9 (C : Cx p s m c cc nL own args g Z) (hw : WH g Z (σ, (M, er, mn, mk), o) s H locs) (j : Nat) (hj : j < 200) (hx : x = nI j) (hd : decode cc pc = .ok (.iaload, 1)) (kk : W p l e R s m args below meth c H locs cells slots Q (F0 m (pc + 1) ls (.int (M 9 j) :: rest))) : W p l e R s m args below meth c H locs cells slots Q (F0 m pc ls (.int x :: .ref (Z + 612) :: rest)) :=
  g_ild C hw 612 j (by decide) (cont_M g Z _ (i := 9) (by decide)) (by decide) hj hx hd kk
theorem s_m9 {y : Int32} (C : Cx p s m c cc nL own args g Z) (hw : WH g Z (σ, (M, er, mn, mk), o) s H locs) (j : Nat) (hj : j < 200) (hx : x = nI j) (hd : decode cc pc = .ok (.iastore, 1)) (kk : ∀ (H1 : Heap) (locs1 : List Loc), WH g Z (σ, (up2 M 9 j y, er, mn, mk), o) s H1 locs1 → W p l e R s m args below meth c H1 locs1 cells slots Q (F0 m (pc + 1) ls rest)) : W p l e R s m args below meth c H locs cells slots Q (F0 m pc ls (.int y :: .int x :: .ref (Z + 612) :: rest)) :=
  g_ist C hw 612 j (by decide) (cont_M g Z _ (i := 9) (by decide)) (by decide) hj hx (cu_M (a := 9) (by decide)) hd kk
theorem l_m10 (C : Cx p s m c cc nL own args g Z) (hw : WH g Z (σ, (M, er, mn, mk), o) s H locs) (j : Nat) (hj : j < 200) (hx : x = nI j) (hd : decode cc pc = .ok (.iaload, 1)) (kk : W p l e R s m args below meth c H locs cells slots Q (F0 m (pc + 1) ls (.int (M 10 j) :: rest))) : W p l e R s m args below meth c H locs cells slots Q (F0 m pc ls (.int x :: .ref (Z + 613) :: rest)) :=
  g_ild C hw 613 j (by decide) (cont_M g Z _ (i := 10) (by decide)) (by decide) hj hx hd kk
theorem s_m10 {y : Int32} (C : Cx p s m c cc nL own args g Z) (hw : WH g Z (σ, (M, er, mn, mk), o) s H locs) (j : Nat) (hj : j < 200) (hx : x = nI j) (hd : decode cc pc = .ok (.iastore, 1)) (kk : ∀ (H1 : Heap) (locs1 : List Loc), WH g Z (σ, (up2 M 10 j y, er, mn, mk), o) s H1 locs1 → W p l e R s m args below meth c H1 locs1 cells slots Q (F0 m (pc + 1) ls rest)) : W p l e R s m args below meth c H locs cells slots Q (F0 m pc ls (.int y :: .int x :: .ref (Z + 613) :: rest)) :=
  g_ist C hw 613 j (by decide) (cont_M g Z _ (i := 10) (by decide)) (by decide) hj hx (cu_M (a := 10) (by decide)) hd kk
theorem l_m11 (C : Cx p s m c cc nL own args g Z) (hw : WH g Z (σ, (M, er, mn, mk), o) s H locs) (j : Nat) (hj : j < 200) (hx : x = nI j) (hd : decode cc pc = .ok (.iaload, 1)) (kk : W p l e R s m args below meth c H locs cells slots Q (F0 m (pc + 1) ls (.int (M 11 j) :: rest))) : W p l e R s m args below meth c H locs cells slots Q (F0 m pc ls (.int x :: .ref (Z + 614) :: rest)) :=
  g_ild C hw 614 j (by decide) (cont_M g Z _ (i := 11) (by decide)) (by decide) hj hx hd kk
theorem s_m11 {y : Int32} (C : Cx p s m c cc nL own args g Z) (hw : WH g Z (σ, (M, er, mn, mk), o) s H locs) (j : Nat) (hj : j < 200) (hx : x = nI j) (hd : decode cc pc = .ok (.iastore, 1)) (kk : ∀ (H1 : Heap) (locs1 : List Loc), WH g Z (σ, (up2 M 11 j y, er, mn, mk), o) s H1 locs1 → W p l e R s m args below meth c H1 locs1 cells slots Q (F0 m (pc + 1) ls rest)) : W p l e R s m args below meth c H locs cells slots Q (F0 m pc ls (.int y :: .int x :: .ref (Z + 614) :: rest)) :=
  g_ist C hw 614 j (by decide) (cont_M g Z _ (i := 11) (by decide)) (by decide) hj hx (cu_M (a := 11) (by decide)) hd kk
theorem l_o (C : Cx p s m c cc nL own args g Z) (hw : WH g Z (σ, μ, o) s H locs) (hd : decode cc pc = .ok (.laload, 1)) (kk : W p l e R s m args below meth c H locs cells slots Q (F0 m (pc + 1) ls (.long o :: rest))) : W p l e R s m args below meth c H locs cells slots Q (F0 m pc ls (.int 0 :: .ref (Z + 615) :: rest)) :=
  va_lald (D := g.1) (cl := cls3) (cA := g.2.2.2.1) (n := 1) (f := fun j => if j = 0 then o else 0) C.x C.b C.2.1 hw.1 615 2 (fam_get Z _ (by decide)) rfl (vp_in_nI (n := 0) (N := 1) (by decide) (by decide)) hd kk
theorem s_o {y : Int64} (C : Cx p s m c cc nL own args g Z) (hw : WH g Z (σ, μ, o) s H locs) (hd : decode cc pc = .ok (.lastore, 1)) (kk : ∀ (H1 : Heap) (locs1 : List Loc), WH g Z (σ, μ, y) s H1 locs1 → W p l e R s m args below meth c H1 locs1 cells slots Q (F0 m (pc + 1) ls rest)) : W p l e R s m args below meth c H locs cells slots Q (F0 m pc ls (.long y :: .int 0 :: .ref (Z + 615) :: rest)) := by
  refine va_last (D := g.1) (cl := cls3) (cA := g.2.2.2.1) (n := 1) (f := fun j => if j = 0 then o else 0) (A := fun q => Z ≤ q) C.x C.b C.2.1 hw.1 (fam_D Z 616 _) hw.2 615 2 (fam_get Z _ (by decide)) rfl (vp_in_nI (n := 0) (N := 1) (by decide) (by decide)) hd (fun H1 locs1 hP _ hS => kk H1 locs1 ⟨?_, hS⟩)
  rw [fam_set Z _ (by decide)] at hP
  have hu := cu_o (g := g) (Z := Z) (σ := σ) (μ := μ) (o := o) y
  rw [show (0 : Int32).toNatClampNeg = 0 by decide, hu] at hP
  exact hP
end Rows3
end
section
/-! A CONTRACT's HEAD AND END, CALLS. Rooms by level: RM k *)-/
def RM (k : Nat) : Room := { frames := k, cells := 0, slots := 0, locals := 40 * k }
def RX (k : Nat) : Room := { frames := k, cells := 1, slots := 6, locals := 40 * k }
abbrev zfree (Z : Nat) : Nat → Prop := fun q => Z ≤ q
section Head
variable {l : Launch} {g : KG} {Z : Nat} {τ : TS}
theorem mk_met {y : MethodName} {cc : ByteArray} {nL : Nat} {ret : Option FieldType} {rm : Room} {av : List Value} {own : String} {Qc : Array Value → State → Outcome → State → Prop} {mc ms : Nat} {free : Addr → Prop}
    (hy : plainName y.cls = true) (ho : y.cls = own) (hlen : (lg_sl av).length ≤ nL)
    (body : ∀ (p : Program) (e : Env) (s : State) (m : MethodId) (below : List Frame) (meth : Method) (c : Code) (ls : Array Slot), Cx p s m c cc nL own av.toArray g Z → meth.sig.returnType = ret → meth.locks = false → lv_has ls nL (lv_args 0 av) → WH g Z τ s s.heap [] →
      W p l e rm s m av.toArray below meth c s.heap [] 0 0 (MQ below Qc av.toArray s mc ms free) (F0 m 0 ls [])) : Met l y [.code y cc nL ret] rm (va_Pc av (Wd g Z τ)) Qc mc ms free := by
  subst ho
  refine Met.ofW (cc := cc) (maxL := nL) (ret := ret) hy rfl ?_
  intro p e s m args below meth c s₁ B hml hv
  obtain ⟨rfl, hWd⟩ := hv
  have hl := lv_entry av (n := nL) hlen
  rw [lg_entry_eq]
  generalize (lg_sl av ++ List.replicate (nL - (lg_sl av).length) Slot.unset).toArray = ls at hl ⊢
  exact body p e s m below meth c ls ⟨⟨B.exec, B.bytes, hml, findClass_of_methodNamed B.named, hWd.1.2.1.any _⟩, hWd.1⟩ B.returns B.notSynchronized hl (WH.start hWd)
end Head
section Ends
variable {p : Program} {l : Launch} {e : Env} {R : Room} {s : State} {m : MethodId} {args : Array Value} {below : List Frame} {meth : Method} {c : Code} {H : Heap} {locs : List Loc} {cells slots : Nat} {Q : State → Prop}
variable {cc : ByteArray} {nL pc : Nat} {ls : Array Slot} {rest : List Value} {own : String} {g : KG} {Z : Nat} {τ : TS}
theorem e_i {post : Int32 → TS → Prop} {v : Int32} (C : Cx p s m c cc nL own args g Z) (hr : meth.sig.returnType = some .int) (hlk : meth.locks = false) (hw : WH g Z τ s H locs) (hd : decode cc pc = .ok (.ireturn, 1)) (hp : post v τ) :
    W p l e R s m args below meth c H locs cells slots (MQ below (va_Qi post (Wd g Z) (zfree Z)) args s cells slots (zfree Z)) (F0 m pc ls [.int v]) :=
  W.iret C.x C.b hr (fun t ht hW => ⟨⟨v, τ, rfl, hp, hw.wd C.2 ht hW⟩, hw.2.F ht⟩) hw.2.2.2 hd hlk
theorem e_z {post : Int32 → TS → Prop} {v : Int32} (C : Cx p s m c cc nL own args g Z) (hr : meth.sig.returnType = some .boolean) (hlk : meth.locks = false) (hw : WH g Z τ s H locs) (hd : decode cc pc = .ok (.ireturn, 1)) (hv : v = 0 ∨ v = 1) (hp : post v τ) :
    W p l e R s m args below meth c H locs cells slots (MQ below (va_Qi post (Wd g Z) (zfree Z)) args s cells slots (zfree Z)) (F0 m pc ls [.int v]) :=
  W.zret C.x C.b hr (by rcases hv with rfl | rfl <;> rfl) (fun t ht hW => ⟨⟨v, τ, rfl, hp, hw.wd C.2 ht hW⟩, hw.2.F ht⟩) hw.2.2.2 hd hlk
theorem e_v {post : TS → Prop} (C : Cx p s m c cc nL own args g Z) (hr : meth.sig.returnType = none) (hlk : meth.locks = false) (hw : WH g Z τ s H locs) (hd : decode cc pc = .ok (.return_, 1)) (hp : post τ) :
    W p l e R s m args below meth c H locs cells slots (MQ below (va_Qv post (Wd g Z) (zfree Z)) args s cells slots (zfree Z)) (F0 m pc ls []) :=
  W.vret C.x C.b hr (fun t ht hW => ⟨⟨τ, rfl, hp, hw.wd C.2 ht hW⟩, hw.2.F ht⟩) hw.2.2.2 hd hlk
theorem e_r {post : TS → Prop} {a : Nat} {n : String} (C : Cx p s m c cc nL own args g Z) (hr : meth.sig.returnType = some (.object n)) (hlk : meth.locks = false) (hw : WH g Z τ s H locs) (hd : decode cc pc = .ok (.areturn, 1)) (hp : post τ) :
    W p l e R s m args below meth c H locs cells slots (MQ below (va_Qr post (fun u q t => q = a ∧ Wd g Z u t) (zfree Z)) args s cells slots (zfree Z)) (F0 m pc ls [.ref a]) :=
  W.aret C.x C.b hr (Or.inl ⟨_, rfl⟩) (Or.inr ⟨_, rfl⟩) (fun t ht hW => ⟨⟨τ, a, rfl, hp, rfl, hw.wd C.2 ht hW⟩, hw.2.F ht⟩) hw.2.2.2 hd hlk
/-- what is asked of a callee, once a method -/
def YOK (y : MethodName) (b : ByteArray) (mL : Nat) (ret : Option FieldType) (n : Nat) : Prop := Cond.code y b mL ret ∈ TB ∧ Cond.initialized y.cls ∈ TB ∧ (y.cls ≠ "java/lang/invoke/MethodHandle" ∧ y.cls ≠ "java/lang/invoke/VarHandle") ∧ (parseMethodDescriptor y.desc).map (fun d => d.parameters.length) = some n
theorem callB9 {y : MethodName} {b : ByteArray} {mL n mc ms : Nat} {ret : Option FieldType} {rm : Room} {idx : Nat} (C : Cx p s m c cc nL own args g Z) (hY : YOK y b mL ret n) (hlink : Cond.methodLink own idx y ∈ TB) (hrm : rm.cells = mc ∧ rm.slots = ms) (hR : rm.frames + 1 ≤ R.frames ∧ 8 + (mL + 11) + rm.locals ≤ R.locals) : CallB R s args own idx y b mL ret [.code y b mL ret] rm mc ms n := by
  refine ⟨hrm.1, hrm.2, hR.1, hR.2, ?_, List.mem_singleton.mpr rfl, C.1.2.2.2.2 _ hY.1, C.1.2.2.2.2 _ hY.2.1, hY.2.2.1, fun sig h => ?_, C.1.2.2.2.2 _ hlink⟩
  · intro w hw a' U hW
    rw [List.mem_singleton] at hw
    subst hw
    exact TK.any (TK.moved hW C.2.2.1) a' _ hY.1
  · have h2 := hY.2.2.2
    rw [h] at h2
    exact (Option.some.inj h2).symm
theorem pre9 {As : List Value} (C : Cx p s m c cc nL own args g Z) (hw : WH g Z τ s H locs) : PreS s H (va_Pc As (Wd g Z τ)) As :=
  ⟨fun a U gf mk q => ⟨q.1, Wd.blind U gf mk a q.2⟩, fun U hU hW => ⟨rfl, hw.wd C.2 hU hW⟩⟩
theorem run_S {y : MethodName} {b : ByteArray} {mL n : Nat} {ret : Option FieldType} {rm : Room} {idx : Nat} {As st : List Value} {Qc : Array Value → State → Outcome → State → Prop} (C : Cx p s m c cc nL own args g Z) (hw : WH g Z τ s H locs) (hM : Met l y [.code y b mL ret] rm (va_Pc As (Wd g Z τ)) Qc 0 0 (zfree Z)) (hY : YOK y b mL ret n) (hlink : Cond.methodLink own idx y ∈ TB) (hstat : Cond.static y ∈ TB) (hrm : rm.cells = 0 ∧ rm.slots = 0) (hR : rm.frames + 1 ≤ R.frames ∧ 8 + (mL + 11) + rm.locals ≤ R.locals) (hcs : cells ≤ R.cells ∧ slots ≤ R.slots) (hn : As.length = n) (hls : ls.size = nL) (hst : st = As.reverse ++ rest) (hrest : (rest.map fun v => v.category).sum ≤ 8) (hd : decode cc pc = .ok (.invokestatic idx, 3)) :
    va_Run p l e R s m args below meth c H locs cells slots 0 0 (F0 m pc ls st) rest (Qc As.toArray) (zfree Z) :=
  va_runS C.1 hM ⟨callB9 C hY hlink hrm hR, C.1.2.2.2.2 _ hstat⟩ (pre9 C hw) rfl hn hls hst (lv_room hrest) hd hcs
theorem run_V {y : MethodName} {b : ByteArray} {mL n : Nat} {ret : Option FieldType} {rm : Room} {idx i ci : Nat} {fs : List Value} {T : u_T} {N : Nat} {As st : List Value} {Qc : Array Value → State → Outcome → State → Prop} (C : Cx p s m c cc nL own args g Z) (hw : WH g Z τ s H locs) (hM : Met l y [.code y b mL ret] rm (va_Pc (.ref (Z + i) :: As) (Wd g Z τ)) Qc 0 0 (zfree Z)) (hi : i < 616) (he : cont g Z τ i = .inr (ci, fs)) (hc : cls3[ci]? = some (y.cls, T, N)) (hY : YOK y b mL ret n) (hlink : Cond.methodLink own idx y ∈ TB) (hinst : Cond.instanceMethod y ∈ TB) (hsel : Cond.selects y.cls y y ∈ TB) (hrm : rm.cells = 0 ∧ rm.slots = 0) (hR : rm.frames + 1 ≤ R.frames ∧ 8 + (mL + 11) + rm.locals ≤ R.locals) (hcs : cells ≤ R.cells ∧ slots ≤ R.slots) (hn : As.length = n) (hls : ls.size = nL) (hst : st = As.reverse ++ .ref (Z + i) :: rest) (hrest : (rest.map fun v => v.category).sum ≤ 8) (hd : decode cc pc = .ok (.invokevirtual idx, 3)) :
    va_Run p l e R s m args below meth c H locs cells slots 0 0 (F0 m pc ls st) rest (Qc (Value.ref (Z + i) :: As).toArray) (zfree Z) :=
  va_runV C.1 hM ⟨callB9 C hY hlink hrm hR, C.1.2.2.2.2 _ hinst, C.1.2.2.2.2 _ hsel⟩ ⟨(pre9 C hw).1, va_recv C.2.1 hw.1 hc (by rw [fam_get Z _ hi, he]), (pre9 C hw).2⟩ rfl hn hls hst (lv_room hrest) hd hcs
theorem ret_i {post : Int32 → TS → Prop} {a : Array Value} {st : List Value} (hw : WH g Z τ s H locs) (hr : va_Run p l e R s m args below meth c H locs cells slots 0 0 (F0 m pc ls st) rest (va_Qi post (Wd g Z) (zfree Z) a) (zfree Z))
    (kk : ∀ (r : Int32) (τ' : TS) (H1 : Heap) (locs1 : List Loc), post r τ' → WH g Z τ' s H1 locs1 → W p l e R s m args below meth c H1 locs1 cells slots Q (F0 m (pc + 3) ls (.int r :: rest))) : W p l e R s m args below meth c H locs cells slots Q (F0 m pc ls st) :=
  va_calli hr hw.2 (fun q _ h => h) (fun q h => h) (fun r u t H1 locs1 ht _ hp hB _ _ hS => kk r u H1 locs1 hp ⟨by rw [← ht]; exact hB.2, hS⟩)
theorem ret_v {post : TS → Prop} {a : Array Value} {st : List Value} (hw : WH g Z τ s H locs) (hr : va_Run p l e R s m args below meth c H locs cells slots 0 0 (F0 m pc ls st) rest (va_Qv post (Wd g Z) (zfree Z) a) (zfree Z))
    (kk : ∀ (τ' : TS) (H1 : Heap) (locs1 : List Loc), post τ' → WH g Z τ' s H1 locs1 → W p l e R s m args below meth c H1 locs1 cells slots Q (F0 m (pc + 3) ls rest)) : W p l e R s m args below meth c H locs cells slots Q (F0 m pc ls st) :=
  va_callv hr hw.2 (fun q _ h => h) (fun q h => h) (fun u t H1 locs1 ht _ hp hB _ _ hS => kk u H1 locs1 hp ⟨by rw [← ht]; exact hB.2, hS⟩)
theorem ret_r {post : TS → Prop} {a : Array Value} {b : Nat} {st : List Value} (hw : WH g Z τ s H locs) (hr : va_Run p l e R s m args below meth c H locs cells slots 0 0 (F0 m pc ls st) rest (va_Qr post (fun u q t => q = b ∧ Wd g Z u t) (zfree Z) a) (zfree Z))
    (kk : ∀ (τ' : TS) (H1 : Heap) (locs1 : List Loc), post τ' → WH g Z τ' s H1 locs1 → W p l e R s m args below meth c H1 locs1 cells slots Q (F0 m (pc + 3) ls (.ref b :: rest))) : W p l e R s m args below meth c H locs cells slots Q (F0 m pc ls st) :=
  va_callr hr hw.2 (fun q _ h => h) (fun q h => h) (fun u q t H1 locs1 ht _ hp hB _ _ hS => by
    obtain ⟨rfl, hB⟩ := hB
    exact kk u H1 locs1 hp ⟨by rw [← ht]; exact hB.2, hS⟩)
end Ends
end
section
/-! names of the methods; what a call asks of each; the contracts' forms; the pure functions -/
def y_s1 : MethodName := ⟨"StageClock", "<init>", "()V"⟩
theorem Y_s1 : YOK y_s1 prog_1_method_1_code 2 none 0 := ⟨k_15, k_1, by decide, by decide +kernel⟩
def y_t1 : MethodName := ⟨"StageClock$Step", "<init>", "()V"⟩
theorem Y_t1 : YOK y_t1 prog_2_method_1_code 1 none 0 := ⟨k_24, k_2, by decide, by decide +kernel⟩
def y_w3 : MethodName := ⟨"StageClockLaw", "add", "(LStageClock;IIIIZIZ[J)I"⟩
def y_s9 : MethodName := ⟨"StageClock", "add", "(IIIIZIZ)I"⟩
theorem Y_s9 : YOK y_s9 prog_1_method_9_code 8 (some .int) 7 := ⟨k_78, k_1, by decide, by decide +kernel⟩
def y_s7 : MethodName := ⟨"StageClock", "asSaid", "(IIII)V"⟩
theorem Y_s7 : YOK y_s7 prog_1_method_7_code 4 none 4 := ⟨k_81, k_1, by decide, by decide +kernel⟩
def y_s2 : MethodName := ⟨"StageClock", "in", "(III)Z"⟩
theorem Y_s2 : YOK y_s2 prog_1_method_2_code 3 (some .boolean) 3 := ⟨k_84, k_1, by decide, by decide +kernel⟩
def y_s3 : MethodName := ⟨"StageClock", "legal", "(Z)V"⟩
theorem Y_s3 : YOK y_s3 prog_1_method_3_code 1 none 1 := ⟨k_87, k_1, by decide, by decide +kernel⟩
def y_s8 : MethodName := ⟨"StageClock", "set", "(IIIIIZIZ)V"⟩
theorem Y_s8 : YOK y_s8 prog_1_method_8_code 10 none 8 := ⟨k_169, k_1, by decide, by decide +kernel⟩
def y_w4 : MethodName := ⟨"StageClockLaw", "change", "(LStageClock;IIIIIZIZ)I"⟩
def y_s10 : MethodName := ⟨"StageClock", "change", "(IIIIIZIZ)V"⟩
theorem Y_s10 : YOK y_s10 prog_1_method_10_code 9 none 8 := ⟨k_180, k_1, by decide, by decide +kernel⟩
def y_w5 : MethodName := ⟨"StageClockLaw", "cut", "(LStageClock;I[J)I"⟩
def y_s11 : MethodName := ⟨"StageClock", "cut", "(I)I"⟩
theorem Y_s11 : YOK y_s11 prog_1_method_11_code 3 (some .int) 1 := ⟨k_202, k_1, by decide, by decide +kernel⟩
def y_w6 : MethodName := ⟨"StageClockLaw", "when", "(LStageClock;II[J)I"⟩
def y_s12 : MethodName := ⟨"StageClock", "when", "(II)I"⟩
theorem Y_s12 : YOK y_s12 prog_1_method_12_code 4 (some .int) 2 := ⟨k_209, k_1, by decide, by decide +kernel⟩
def y_s4 : MethodName := ⟨"StageClock", "step", "(I)LStageClock$Step;"⟩
theorem Y_s4 : YOK y_s4 prog_1_method_4_code 2 (some (.object "StageClock$Step")) 1 := ⟨k_213, k_1, by decide, by decide +kernel⟩
def y_s6 : MethodName := ⟨"StageClock", "work", "(I)V"⟩
theorem Y_s6 : YOK y_s6 prog_1_method_6_code 6 none 1 := ⟨k_217, k_1, by decide, by decide +kernel⟩
def y_t2 : MethodName := ⟨"StageClock$Step", "done", "()I"⟩
theorem Y_t2 : YOK y_t2 prog_2_method_2_code 1 (some .int) 0 := ⟨k_221, k_2, by decide, by decide +kernel⟩
def y_s5 : MethodName := ⟨"StageClock", "there", "(LStageClock$Step;I)I"⟩
theorem Y_s5 : YOK y_s5 prog_1_method_5_code 3 (some .int) 2 := ⟨k_228, k_1, by decide, by decide +kernel⟩
def y_t4 : MethodName := ⟨"StageClock$Step", "ready", "()I"⟩
theorem Y_t4 : YOK y_t4 prog_2_method_4_code 1 (some .int) 0 := ⟨k_232, k_2, by decide, by decide +kernel⟩
def y_t3 : MethodName := ⟨"StageClock$Step", "through", "()I"⟩
theorem Y_t3 : YOK y_t3 prog_2_method_3_code 1 (some .int) 0 := ⟨k_236, k_2, by decide, by decide +kernel⟩
def y_w7 : MethodName := ⟨"StageClockLaw", "in", "(LStageClock;II[J)I"⟩
def y_s13 : MethodName := ⟨"StageClock", "in", "(II)I"⟩
theorem Y_s13 : YOK y_s13 prog_1_method_13_code 7 (some .int) 2 := ⟨k_245, k_1, by decide, by decide +kernel⟩
def y_w8 : MethodName := ⟨"StageClockLaw", "held", "(LStageClock;I[J)I"⟩
def y_s14 : MethodName := ⟨"StageClock", "held", "(I)I"⟩
theorem Y_s14 : YOK y_s14 prog_1_method_14_code 3 (some .int) 1 := ⟨k_252, k_1, by decide, by decide +kernel⟩
def y_w9 : MethodName := ⟨"StageClockLaw", "giver", "(LStageClock;II[J)I"⟩
def y_s15 : MethodName := ⟨"StageClock", "giver", "(II)I"⟩
theorem Y_s15 : YOK y_s15 prog_1_method_15_code 3 (some .int) 2 := ⟨k_259, k_1, by decide, by decide +kernel⟩
def y_w10 : MethodName := ⟨"StageClockLaw", "count", "(LStageClock;I[J)I"⟩
def y_s16 : MethodName := ⟨"StageClock", "count", "(I)I"⟩
theorem Y_s16 : YOK y_s16 prog_1_method_16_code 5 (some .int) 1 := ⟨k_266, k_1, by decide, by decide +kernel⟩
def y_m1 : MethodName := ⟨"StageClockModel", "<init>", "()V"⟩
theorem Y_m1 : YOK y_m1 prog_4_method_1_code 1 none 0 := ⟨k_271, k_3, by decide, by decide +kernel⟩
def y_m2 : MethodName := ⟨"StageClockModel", "thrown", "()I"⟩
theorem Y_m2 : YOK y_m2 prog_4_method_2_code 1 (some .int) 0 := ⟨k_323, k_3, by decide, by decide +kernel⟩
def y_m6 : MethodName := ⟨"StageClockModel", "add", "(IIIIZIZ)I"⟩
theorem Y_m6 : YOK y_m6 prog_4_method_6_code 8 (some .int) 7 := ⟨k_327, k_3, by decide, by decide +kernel⟩
def y_m4 : MethodName := ⟨"StageClockModel", "bad", "(IIII)Z"⟩
theorem Y_m4 : YOK y_m4 prog_4_method_4_code 4 (some .boolean) 4 := ⟨k_330, k_3, by decide, by decide +kernel⟩
def y_m3 : MethodName := ⟨"StageClockModel", "fails", "(ZI)Z"⟩
theorem Y_m3 : YOK y_m3 prog_4_method_3_code 3 (some .boolean) 2 := ⟨k_334, k_3, by decide, by decide +kernel⟩
def y_m5 : MethodName := ⟨"StageClockModel", "give", "(IIIIIZIZ)V"⟩
theorem Y_m5 : YOK y_m5 prog_4_method_5_code 9 none 8 := ⟨k_338, k_3, by decide, by decide +kernel⟩
def y_m7 : MethodName := ⟨"StageClockModel", "change", "(IIIIIZIZ)V"⟩
theorem Y_m7 : YOK y_m7 prog_4_method_7_code 9 none 8 := ⟨k_342, k_3, by decide, by decide +kernel⟩
def y_m8 : MethodName := ⟨"StageClockModel", "cut", "(I)I"⟩
theorem Y_m8 : YOK y_m8 prog_4_method_8_code 3 (some .int) 1 := ⟨k_346, k_3, by decide, by decide +kernel⟩
def y_m15 : MethodName := ⟨"StageClockModel", "when", "(II)I"⟩
theorem Y_m15 : YOK y_m15 prog_4_method_15_code 3 (some .int) 2 := ⟨k_350, k_3, by decide, by decide +kernel⟩
def y_m14 : MethodName := ⟨"StageClockModel", "reckon", "()V"⟩
theorem Y_m14 : YOK y_m14 prog_4_method_14_code 4 none 0 := ⟨k_354, k_3, by decide, by decide +kernel⟩
def y_m10 : MethodName := ⟨"StageClockModel", "xe", "(I)I"⟩
theorem Y_m10 : YOK y_m10 prog_4_method_10_code 2 (some .int) 1 := ⟨k_358, k_3, by decide, by decide +kernel⟩
def y_m13 : MethodName := ⟨"StageClockModel", "more", "(II)I"⟩
theorem Y_m13 : YOK y_m13 prog_4_method_13_code 2 (some .int) 2 := ⟨k_361, k_3, by decide, by decide +kernel⟩
def y_m12 : MethodName := ⟨"StageClockModel", "behind", "(II)I"⟩
theorem Y_m12 : YOK y_m12 prog_4_method_12_code 4 (some .int) 2 := ⟨k_365, k_3, by decide, by decide +kernel⟩
def y_m9 : MethodName := ⟨"StageClockModel", "before", "(II)I"⟩
theorem Y_m9 : YOK y_m9 prog_4_method_9_code 4 (some .int) 2 := ⟨k_369, k_3, by decide, by decide +kernel⟩
def y_m11 : MethodName := ⟨"StageClockModel", "me", "(I)I"⟩
theorem Y_m11 : YOK y_m11 prog_4_method_11_code 2 (some .int) 1 := ⟨k_373, k_3, by decide, by decide +kernel⟩
def y_m17 : MethodName := ⟨"StageClockModel", "in", "(II)I"⟩
theorem Y_m17 : YOK y_m17 prog_4_method_17_code 4 (some .int) 2 := ⟨k_377, k_3, by decide, by decide +kernel⟩
def y_m16 : MethodName := ⟨"StageClockModel", "from", "(II)I"⟩
theorem Y_m16 : YOK y_m16 prog_4_method_16_code 3 (some .int) 2 := ⟨k_381, k_3, by decide, by decide +kernel⟩
def y_m18 : MethodName := ⟨"StageClockModel", "held", "(I)I"⟩
theorem Y_m18 : YOK y_m18 prog_4_method_18_code 2 (some .int) 1 := ⟨k_385, k_3, by decide, by decide +kernel⟩
def y_m19 : MethodName := ⟨"StageClockModel", "giver", "(II)I"⟩
theorem Y_m19 : YOK y_m19 prog_4_method_19_code 3 (some .int) 2 := ⟨k_389, k_3, by decide, by decide +kernel⟩
def y_m20 : MethodName := ⟨"StageClockModel", "count", "(I)I"⟩
theorem Y_m20 : YOK y_m20 prog_4_method_20_code 5 (some .int) 1 := ⟨k_393, k_3, by decide, by decide +kernel⟩
abbrev Ci (l : Launch) (y : MethodName) (b : ByteArray) (mL lev : Nat) (av : List Value) (g : KG) (Z : Nat) (τ : TS) (post : Int32 → TS → Prop) : Prop := Met l y [.code y b mL (some .int)] (RM lev) (va_Pc av (Wd g Z τ)) (va_Qi post (Wd g Z) (zfree Z)) 0 0 (zfree Z)
abbrev Cz (l : Launch) (y : MethodName) (b : ByteArray) (mL lev : Nat) (av : List Value) (g : KG) (Z : Nat) (τ : TS) (post : Int32 → TS → Prop) : Prop := Met l y [.code y b mL (some .boolean)] (RM lev) (va_Pc av (Wd g Z τ)) (va_Qi post (Wd g Z) (zfree Z)) 0 0 (zfree Z)
abbrev Cv (l : Launch) (y : MethodName) (b : ByteArray) (mL lev : Nat) (av : List Value) (g : KG) (Z : Nat) (τ : TS) (post : TS → Prop) : Prop := Met l y [.code y b mL none] (RM lev) (va_Pc av (Wd g Z τ)) (va_Qv post (Wd g Z) (zfree Z)) 0 0 (zfree Z)
abbrev Cr (l : Launch) (y : MethodName) (b : ByteArray) (mL lev : Nat) (av : List Value) (g : KG) (Z : Nat) (τ : TS) (a : Nat) (post : TS → Prop) : Prop := Met l y [.code y b mL (some (.object "StageClock$Step"))] (RM lev) (va_Pc av (Wd g Z τ)) (va_Qr post (fun u q t => q = a ∧ Wd g Z u t) (zfree Z)) 0 0 (zfree Z)
def mx (a b : Int32) : Int32 := if a < b then b else a
def mi (a b : Int32) : Int32 := if b < a then b else a
def xeD (D B : Fn2) (k : Nat) : Int32 := B k 2 + D 0 k - 1
def meD (D B : Fn2) (k : Nat) : Int32 := B k 3 + D 4 k
def rdy (D B : Fn2) (k : Nat) : Int32 := if D 5 k = 0 then xeD D B k else meD D B k
def bh (D B : Fn2) (o : Int32) : Int32 := if 0 ≤ o then rdy D B o.toNatClampNeg + 1 else 0
def bfr (D : Fn2) : Nat → Int32 → Int32
  | 0, _ => -1
  | k + 1, reg => if D 1 k = reg then nI k else bfr D k reg
def Gv (D : Fn2) (k r : Nat) : Int32 := if r = 0 then -1 else bfr D k (nI r)
def lpx (f : Nat → Int32) (rd a : Int32) : Nat → Int32
  | 0 => a
  | n + 1 => if (rd >>> (nI (n + 1) &&& 31)) &&& 1 = 1 then mx (lpx f rd a n) (f (n + 1)) else lpx f rd a n
def st0 (D B : Fn2) (i : Nat) : Int32 := if i = 0 then 1 else if D 6 (i - 1) = 0 then B (i - 1) 1 else xeD D B (i - 1) + 1
def st1 (D B : Fn2) (i : Nat) : Int32 := mx (st0 D B i + 1) (if i = 0 then 0 else B (i - 1) 2)
def st2a (D B : Fn2) (i : Nat) : Int32 := mx (st1 D B i + 1) (if i = 0 then 0 else B (i - 1) 3)
def st2 (D B : Fn2) (i : Nat) : Int32 := lpx (fun r => bh D B (bfr D i (nI r))) (D 2 i) (st2a D B i) 15
def st3a (D B : Fn2) (i : Nat) : Int32 := mx (st2 D B i + D 0 i - 1 + 1) (if i = 0 then 0 else B (i - 1) 4)
def st3 (D B : Fn2) (i : Nat) : Int32 := if 0 < D 3 i then mx (st3a D B i) (bh D B (bfr D i (D 3 i))) else st3a D B i
def st4 (D B : Fn2) (i : Nat) : Int32 := st3 D B i + D 4 i + 1
def stp (D B : Fn2) (i j : Nat) : Int32 := match j with
  | 0 => st0 D B i
  | 1 => st1 D B i
  | 2 => st2 D B i
  | 3 => st3 D B i
  | _ => st4 D B i
end
section
/-! LEAVES of the component: Step.done, through, ready; in(III), legal(true), there -/
theorem c_done (l : Launch) {g : KG} {Z : Nat} {D B G : Fn2} {n kn : Int32} {μ : MS} {o : Int64} {k : Nat} (hk : k < 200) : Ci l y_t2 prog_2_method_2_code 1 0 [.ref (Z + (2 + 3 * k))] g Z ((D, B, G, n, kn), μ, o) (fun r u => r = xeD D B k ∧ u = ((D, B, G, n, kn), μ, o)) := by
  refine mk_met (own := "StageClock$Step") (by decide) rfl (Nat.le_of_ble_eq_true rfl) fun p e s m below meth c ls C hr hlk hl hw => ?_
  have hl : lv_has ls 1 [(0, .ref (Z + (2 + 3 * k)))] := hl
  refine lv_aload_n C.x C.b d_t2_0 rfl (lv_at hl 0 rfl) ?_
  refine u_begins C hw hk d_t2_1 ?_
  refine lv_iconst (v := 2) C.x C.b d_t2_4 (by decide) ?_
  refine l_B C hw 2 hk (by decide) rfl d_t2_5 ?_
  refine lv_aload_n C.x C.b d_t2_6 rfl (lv_at hl 0 rfl) ?_
  refine u_t C hw hk d_t2_7 ?_
  refine lv_iadd C.x C.b d_t2_10 ?_
  refine lv_iconst (v := 1) C.x C.b d_t2_11 (by decide) ?_
  refine lv_isub C.x C.b d_t2_12 ?_
  exact e_i C hr hlk hw d_t2_13 ⟨rfl, rfl⟩
theorem c_through (l : Launch) {g : KG} {Z : Nat} {D B G : Fn2} {n kn : Int32} {μ : MS} {o : Int64} {k : Nat} (hk : k < 200) : Ci l y_t3 prog_2_method_3_code 1 0 [.ref (Z + (2 + 3 * k))] g Z ((D, B, G, n, kn), μ, o) (fun r u => r = meD D B k ∧ u = ((D, B, G, n, kn), μ, o)) := by
  refine mk_met (own := "StageClock$Step") (by decide) rfl (Nat.le_of_ble_eq_true rfl) fun p e s m below meth c ls C hr hlk hl hw => ?_
  have hl : lv_has ls 1 [(0, .ref (Z + (2 + 3 * k)))] := hl
  refine lv_aload_n C.x C.b d_t3_0 rfl (lv_at hl 0 rfl) ?_
  refine u_begins C hw hk d_t3_1 ?_
  refine lv_iconst (v := 3) C.x C.b d_t3_4 (by decide) ?_
  refine l_B C hw 3 hk (by decide) rfl d_t3_5 ?_
  refine lv_aload_n C.x C.b d_t3_6 rfl (lv_at hl 0 rfl) ?_
  refine u_wait C hw hk d_t3_7 ?_
  refine lv_iadd C.x C.b d_t3_10 ?_
  exact e_i C hr hlk hw d_t3_11 ⟨rfl, rfl⟩
theorem c_ready (l : Launch) {g : KG} {Z : Nat} {D B G : Fn2} {n kn : Int32} {μ : MS} {o : Int64} {k : Nat} (hk : k < 200) : Ci l y_t4 prog_2_method_4_code 1 1 [.ref (Z + (2 + 3 * k))] g Z ((D, B, G, n, kn), μ, o) (fun r u => r = rdy D B k ∧ u = ((D, B, G, n, kn), μ, o)) := by
  refine mk_met (own := "StageClock$Step") (by decide) rfl (Nat.le_of_ble_eq_true rfl) fun p e s m below meth c ls C hr hlk hl hw => ?_
  have hl : lv_has ls 1 [(0, .ref (Z + (2 + 3 * k)))] := hl
  refine lv_aload_n C.x C.b d_t4_0 rfl (lv_at hl 0 rfl) ?_
  refine u_load C hw hk d_t4_1 ?_
  refine lv_if_eq (tgt := 14) C.x C.b d_t4_4 (by decide) (fun h1 => ?_) (fun h1 => ?_)
  · skip
    refine lv_aload_n C.x C.b d_t4_14 rfl (lv_at hl 0 rfl) ?_
    refine ret_i hw (run_V C hw (c_done l hk) (i := 2 + 3 * k) (by omega) (cont_T g Z _ hk) rfl Y_t2 k_237 k_219 k_220 ⟨rfl, rfl⟩ (by decide) ⟨Nat.zero_le _, Nat.zero_le _⟩ rfl hl.1 rfl (Nat.le_of_ble_eq_true rfl) d_t4_15) (fun r9 u9 H locs hp hw => ?_)
    obtain ⟨rfl, rfl⟩ := hp
    exact e_i C hr hlk hw d_t4_18 ⟨(if_pos h1).symm, rfl⟩
  · skip
    refine lv_aload_n C.x C.b d_t4_7 rfl (lv_at hl 0 rfl) ?_
    refine ret_i hw (run_V C hw (c_through l hk) (i := 2 + 3 * k) (by omega) (cont_T g Z _ hk) rfl Y_t3 k_233 k_234 k_235 ⟨rfl, rfl⟩ (by decide) ⟨Nat.zero_le _, Nat.zero_le _⟩ rfl hl.1 rfl (Nat.le_of_ble_eq_true rfl) d_t4_8) (fun r9 u9 H locs hp hw => ?_)
    obtain ⟨rfl, rfl⟩ := hp
    refine lv_goto (tgt := 18) C.x C.b d_t4_11 (by decide) ?_
    exact e_i C hr hlk hw d_t4_18 ⟨(if_neg h1).symm, rfl⟩
theorem c_in3 (l : Launch) {g : KG} {Z : Nat} {τ : TS} {v a b : Int32} : Cz l y_s2 prog_1_method_2_code 3 0 [.int v, .int a, .int b] g Z τ (fun r u => r = (if a ≤ v ∧ v ≤ b then 1 else 0) ∧ u = τ) := by
  refine mk_met (own := "StageClock") (by decide) rfl (Nat.le_of_ble_eq_true rfl) fun p e s m below meth c ls C hr hlk hl hw => ?_
  have hl : lv_has ls 3 [(0, .int v), (1, .int a), (2, .int b)] := hl
  refine lv_iload_n C.x C.b d_s2_0 rfl (lv_at hl 0 rfl) ?_
  refine lv_iload_n C.x C.b d_s2_1 rfl (lv_at hl 1 rfl) ?_
  refine lv_icmp_lt (tgt := 14) C.x C.b d_s2_2 (by decide) (fun h1 => ?_) (fun h1 => ?_)
  · skip
    refine lv_iconst (v := 0) C.x C.b d_s2_14 (by decide) ?_
    exact e_z C hr hlk hw d_s2_15 (Or.inl rfl) ⟨(if_neg (fun q => Int32.not_le.mpr h1 q.1)).symm, rfl⟩
  · skip
    refine lv_iload_n C.x C.b d_s2_5 rfl (lv_at hl 0 rfl) ?_
    refine lv_iload_n C.x C.b d_s2_6 rfl (lv_at hl 2 rfl) ?_
    refine lv_icmp_gt (tgt := 14) C.x C.b d_s2_7 (by decide) (fun h2 => ?_) (fun h2 => ?_)
    · skip
      refine lv_iconst (v := 0) C.x C.b d_s2_14 (by decide) ?_
      exact e_z C hr hlk hw d_s2_15 (Or.inl rfl) ⟨(if_neg (fun q => Int32.not_le.mpr h2 q.2)).symm, rfl⟩
    · skip
      refine lv_iconst (v := 1) C.x C.b d_s2_10 (by decide) ?_
      refine lv_goto (tgt := 15) C.x C.b d_s2_11 (by decide) ?_
      exact e_z C hr hlk hw d_s2_15 (Or.inr rfl) ⟨(if_pos ⟨Int32.not_lt.mp h1, Int32.not_lt.mp h2⟩).symm, rfl⟩
theorem c_legal (l : Launch) {g : KG} {Z : Nat} {τ : TS} : Cv l y_s3 prog_1_method_3_code 1 0 [.int 1] g Z τ (fun u => u = τ) := by
  refine mk_met (own := "StageClock") (by decide) rfl (Nat.le_of_ble_eq_true rfl) fun p e s m below meth c ls C hr hlk hl hw => ?_
  have hl : lv_has ls 1 [(0, .int 1)] := hl
  refine lv_iload_n C.x C.b d_s3_0 rfl (lv_at hl 0 rfl) ?_
  refine lv_if_ne (tgt := 12) C.x C.b d_s3_1 (by decide) (fun h1 => ?_) (fun h1 => absurd h1 (by decide))
  exact e_v C hr hlk hw d_s3_12 rfl
theorem c_there (l : Launch) {g : KG} {Z : Nat} {D B G : Fn2} {n kn : Int32} {μ : MS} {o : Int64} {k r : Nat} (hk : k < 200) (hr0 : r < 16) (hG : 0 ≤ G k r → ∃ j : Nat, j < 200 ∧ G k r = nI j) : Ci l y_s5 prog_1_method_5_code 3 2 [.ref Z, .ref (Z + (2 + 3 * k)), .int (nI r)] g Z ((D, B, G, n, kn), μ, o) (fun v u => v = bh D B (G k r) ∧ u = ((D, B, G, n, kn), μ, o)) := by
  refine mk_met (own := "StageClock") (by decide) rfl (Nat.le_of_ble_eq_true rfl) fun p e s m below meth c ls C hr hlk hl hw => ?_
  have hl : lv_has ls 3 [(0, .ref Z), (1, .ref (Z + (2 + 3 * k))), (2, .int (nI r))] := hl
  refine lv_aload_n C.x C.b d_s5_0 rfl (lv_at hl 1 rfl) ?_
  refine q_givers C hw hk d_s5_1 ?_
  refine lv_iload_n C.x C.b d_s5_4 rfl (lv_at hl 2 rfl) ?_
  refine l_G C hw r hk hr0 rfl d_s5_5 ?_
  refine lv_if_ge (tgt := 13) C.x C.b d_s5_6 (by decide) (fun h1 => ?_) (fun h1 => ?_)
  · skip
    obtain ⟨j, hj, ej⟩ := hG h1
    refine lv_aload_n C.x C.b d_s5_13 rfl (lv_at hl 0 rfl) ?_
    refine q_steps C hw d_s5_14 ?_
    refine lv_aload_n C.x C.b d_s5_17 rfl (lv_at hl 1 rfl) ?_
    refine q_givers C hw hk d_s5_18 ?_
    refine lv_iload_n C.x C.b d_s5_21 rfl (lv_at hl 2 rfl) ?_
    refine l_G C hw r hk hr0 rfl d_s5_22 ?_
    refine q_aat C hw j hj ej d_s5_23 ?_
    refine ret_i hw (run_V C hw (c_ready l hj) (i := 2 + 3 * j) (by omega) (cont_T g Z _ hj) rfl Y_t4 k_229 k_230 k_231 ⟨rfl, rfl⟩ (by decide) ⟨Nat.zero_le _, Nat.zero_le _⟩ rfl hl.1 rfl (Nat.le_of_ble_eq_true rfl) d_s5_24) (fun r9 u9 H locs hp hw => ?_)
    obtain ⟨rfl, rfl⟩ := hp
    refine lv_iconst (v := 1) C.x C.b d_s5_27 (by decide) ?_
    refine lv_iadd C.x C.b d_s5_28 ?_
    refine e_i C hr hlk hw d_s5_29 ⟨?_, rfl⟩
    unfold bh
    rw [if_pos h1, ej, nI_clamp (by omega)]
  · skip
    refine lv_iconst (v := 0) C.x C.b d_s5_9 (by decide) ?_
    refine lv_goto (tgt := 29) C.x C.b d_s5_10 (by decide) ?_
    exact e_i C hr hlk hw d_s5_29 ⟨(if_neg h1).symm, rfl⟩
end
section
/-! LEAVES of the model -/
def Bm (M : Fn2) : Fn2 := fun k j => M (7 + j) k
abbrev okd (t g l q : Int32) : Prop := (1 ≤ t ∧ t ≤ 12) ∧ (0 ≤ g ∧ g ≤ 15) ∧ (0 ≤ l ∧ l ≤ 15) ∧ (0 ≤ q ∧ q ≤ 8)
def gv7 (M : Fn2) (k : Nat) (t g r l ld q wr : Int32) : Fn2 := up2 (up2 (up2 (up2 (up2 (up2 (up2 M 0 k t) 1 k g) 2 k r) 3 k l) 5 k ld) 4 k q) 6 k wr
def frm (M : Fn2) (k j : Nat) : Int32 := if j < 5 then Bm M k j else Bm M k 4 + 1
theorem dec1 (x : Int32) : x + Int32.ofInt (-1) = x - 1 := by
  rw [show Int32.ofInt (-1) = -1 by decide, Int32.sub_eq_add_neg]
theorem c_thrown (l : Launch) {g : KG} {Z : Nat} {σ : CS} {M : Fn2} {er mn mk : Int32} {o : Int64} : Ci l y_m2 prog_4_method_2_code 1 0 [.ref (Z + 602)] g Z (σ, (M, er, mn, mk), o) (fun r u => r = er ∧ u = (σ, (M, er, mn, mk), o)) := by
  refine mk_met (own := "StageClockModel") (by decide) rfl (Nat.le_of_ble_eq_true rfl) fun p e s m below meth c ls C hr hlk hl hw => ?_
  have hl : lv_has ls 1 [(0, .ref (Z + 602))] := hl
  refine lv_aload_n C.x C.b d_m2_0 rfl (lv_at hl 0 rfl) ?_
  refine q_err C hw d_m2_1 ?_
  exact e_i C hr hlk hw d_m2_4 ⟨rfl, rfl⟩
theorem c_fails (l : Launch) {g : KG} {Z : Nat} {σ : CS} {M : Fn2} {er mn mk : Int32} {o : Int64} {b y : Int32} (hb : b = 0 ∨ b = 1) : Cz l y_m3 prog_4_method_3_code 3 0 [.ref (Z + 602), .int b, .int y] g Z (σ, (M, er, mn, mk), o) (fun r u => r = b ∧ u = (σ, (M, if b = 0 then 0 else y, mn, mk), o)) := by
  refine mk_met (own := "StageClockModel") (by decide) rfl (Nat.le_of_ble_eq_true rfl) fun p e s m below meth c ls C hr hlk hl hw => ?_
  have hl : lv_has ls 3 [(0, .ref (Z + 602)), (1, .int b), (2, .int y)] := hl
  refine lv_aload_n C.x C.b d_m3_0 rfl (lv_at hl 0 rfl) ?_
  refine lv_iload_n C.x C.b d_m3_1 rfl (lv_at hl 1 rfl) ?_
  refine lv_if_eq (tgt := 9) C.x C.b d_m3_2 (by decide) (fun h1 => ?_) (fun h1 => ?_)
  · skip
    refine lv_iconst (v := 0) C.x C.b d_m3_9 (by decide) ?_
    refine p_err C hw d_m3_10 (fun H locs hw => ?_)
    refine lv_iload_n C.x C.b d_m3_13 rfl (lv_at hl 1 rfl) ?_
    refine e_z C hr hlk hw d_m3_14 hb ⟨rfl, ?_⟩
    rw [if_pos h1]
  · skip
    refine lv_iload_n C.x C.b d_m3_5 rfl (lv_at hl 2 rfl) ?_
    refine lv_goto (tgt := 10) C.x C.b d_m3_6 (by decide) ?_
    refine p_err C hw d_m3_10 (fun H locs hw => ?_)
    refine lv_iload_n C.x C.b d_m3_13 rfl (lv_at hl 1 rfl) ?_
    refine e_z C hr hlk hw d_m3_14 hb ⟨rfl, ?_⟩
    rw [if_neg h1]
theorem c_bad (l : Launch) {g : KG} {Z : Nat} {τ : TS} {t gg ll q : Int32} : Cz l y_m4 prog_4_method_4_code 4 0 [.int t, .int gg, .int ll, .int q] g Z τ (fun r u => r = (if okd t gg ll q then 0 else 1) ∧ u = τ) := by
  refine mk_met (own := "StageClockModel") (by decide) rfl (Nat.le_of_ble_eq_true rfl) fun p e s m below meth c ls C hr hlk hl hw => ?_
  have hl : lv_has ls 4 [(0, .int t), (1, .int gg), (2, .int ll), (3, .int q)] := hl
  refine lv_iload_n C.x C.b d_m4_0 rfl (lv_at hl 0 rfl) ?_
  refine lv_iconst (v := 1) C.x C.b d_m4_1 (by decide) ?_
  refine lv_icmp_lt (tgt := 41) C.x C.b d_m4_2 (by decide) (fun h0 => ?_) (fun h0 => ?_)
  · skip
    refine lv_iconst (v := 1) C.x C.b d_m4_41 (by decide) ?_
    refine lv_goto (tgt := 46) C.x C.b d_m4_42 (by decide) ?_
    exact e_z C hr hlk hw d_m4_46 (Or.inr rfl) ⟨(if_neg (fun q9 => Int32.not_le.mpr h0 q9.1.1)).symm, rfl⟩
  · skip
    refine lv_iload_n C.x C.b d_m4_5 rfl (lv_at hl 0 rfl) ?_
    refine lv_bipush (v := 12) C.x C.b d_m4_6 (by decide) ?_
    refine lv_icmp_gt (tgt := 41) C.x C.b d_m4_8 (by decide) (fun h1 => ?_) (fun h1 => ?_)
    · skip
      refine lv_iconst (v := 1) C.x C.b d_m4_41 (by decide) ?_
      refine lv_goto (tgt := 46) C.x C.b d_m4_42 (by decide) ?_
      exact e_z C hr hlk hw d_m4_46 (Or.inr rfl) ⟨(if_neg (fun q9 => Int32.not_le.mpr h1 q9.1.2)).symm, rfl⟩
    · skip
      refine lv_iload_n C.x C.b d_m4_11 rfl (lv_at hl 1 rfl) ?_
      refine lv_if_lt (tgt := 41) C.x C.b d_m4_12 (by decide) (fun h2 => ?_) (fun h2 => ?_)
      · skip
        refine lv_iconst (v := 1) C.x C.b d_m4_41 (by decide) ?_
        refine lv_goto (tgt := 46) C.x C.b d_m4_42 (by decide) ?_
        exact e_z C hr hlk hw d_m4_46 (Or.inr rfl) ⟨(if_neg (fun q9 => Int32.not_le.mpr h2 q9.2.1.1)).symm, rfl⟩
      · skip
        refine lv_iload_n C.x C.b d_m4_15 rfl (lv_at hl 1 rfl) ?_
        refine lv_bipush (v := 15) C.x C.b d_m4_16 (by decide) ?_
        refine lv_icmp_gt (tgt := 41) C.x C.b d_m4_18 (by decide) (fun h3 => ?_) (fun h3 => ?_)
        · skip
          refine lv_iconst (v := 1) C.x C.b d_m4_41 (by decide) ?_
          refine lv_goto (tgt := 46) C.x C.b d_m4_42 (by decide) ?_
          exact e_z C hr hlk hw d_m4_46 (Or.inr rfl) ⟨(if_neg (fun q9 => Int32.not_le.mpr h3 q9.2.1.2)).symm, rfl⟩
        · skip
          refine lv_iload_n C.x C.b d_m4_21 rfl (lv_at hl 2 rfl) ?_
          refine lv_if_lt (tgt := 41) C.x C.b d_m4_22 (by decide) (fun h4 => ?_) (fun h4 => ?_)
          · skip
            refine lv_iconst (v := 1) C.x C.b d_m4_41 (by decide) ?_
            refine lv_goto (tgt := 46) C.x C.b d_m4_42 (by decide) ?_
            exact e_z C hr hlk hw d_m4_46 (Or.inr rfl) ⟨(if_neg (fun q9 => Int32.not_le.mpr h4 q9.2.2.1.1)).symm, rfl⟩
          · skip
            refine lv_iload_n C.x C.b d_m4_25 rfl (lv_at hl 2 rfl) ?_
            refine lv_bipush (v := 15) C.x C.b d_m4_26 (by decide) ?_
            refine lv_icmp_gt (tgt := 41) C.x C.b d_m4_28 (by decide) (fun h5 => ?_) (fun h5 => ?_)
            · skip
              refine lv_iconst (v := 1) C.x C.b d_m4_41 (by decide) ?_
              refine lv_goto (tgt := 46) C.x C.b d_m4_42 (by decide) ?_
              exact e_z C hr hlk hw d_m4_46 (Or.inr rfl) ⟨(if_neg (fun q9 => Int32.not_le.mpr h5 q9.2.2.1.2)).symm, rfl⟩
            · skip
              refine lv_iload_n C.x C.b d_m4_31 rfl (lv_at hl 3 rfl) ?_
              refine lv_if_lt (tgt := 41) C.x C.b d_m4_32 (by decide) (fun h6 => ?_) (fun h6 => ?_)
              · skip
                refine lv_iconst (v := 1) C.x C.b d_m4_41 (by decide) ?_
                refine lv_goto (tgt := 46) C.x C.b d_m4_42 (by decide) ?_
                exact e_z C hr hlk hw d_m4_46 (Or.inr rfl) ⟨(if_neg (fun q9 => Int32.not_le.mpr h6 q9.2.2.2.1)).symm, rfl⟩
              · skip
                refine lv_iload_n C.x C.b d_m4_35 rfl (lv_at hl 3 rfl) ?_
                refine lv_bipush (v := 8) C.x C.b d_m4_36 (by decide) ?_
                refine lv_icmp_le (tgt := 45) C.x C.b d_m4_38 (by decide) (fun h7 => ?_) (fun h7 => ?_)
                · skip
                  refine lv_iconst (v := 0) C.x C.b d_m4_45 (by decide) ?_
                  exact e_z C hr hlk hw d_m4_46 (Or.inl rfl) ⟨(if_pos ⟨⟨Int32.not_lt.mp h0, Int32.not_lt.mp h1⟩, ⟨Int32.not_lt.mp h2, Int32.not_lt.mp h3⟩, ⟨Int32.not_lt.mp h4, Int32.not_lt.mp h5⟩, ⟨Int32.not_lt.mp h6, h7⟩⟩).symm, rfl⟩
                · skip
                  refine lv_iconst (v := 1) C.x C.b d_m4_41 (by decide) ?_
                  refine lv_goto (tgt := 46) C.x C.b d_m4_42 (by decide) ?_
                  exact e_z C hr hlk hw d_m4_46 (Or.inr rfl) ⟨(if_neg (fun q9 => h7 q9.2.2.2.2)).symm, rfl⟩
theorem c_more (l : Launch) {g : KG} {Z : Nat} {τ : TS} {a b : Int32} : Ci l y_m13 prog_4_method_13_code 2 0 [.int a, .int b] g Z τ (fun r u => r = mx a b ∧ u = τ) := by
  refine mk_met (own := "StageClockModel") (by decide) rfl (Nat.le_of_ble_eq_true rfl) fun p e s m below meth c ls C hr hlk hl hw => ?_
  have hl : lv_has ls 2 [(0, .int a), (1, .int b)] := hl
  refine lv_iload_n C.x C.b d_m13_0 rfl (lv_at hl 0 rfl) ?_
  refine lv_iload_n C.x C.b d_m13_1 rfl (lv_at hl 1 rfl) ?_
  refine lv_icmp_le (tgt := 9) C.x C.b d_m13_2 (by decide) (fun h1 => ?_) (fun h1 => ?_)
  · skip
    refine lv_iload_n C.x C.b d_m13_9 rfl (lv_at hl 1 rfl) ?_
    refine e_i C hr hlk hw d_m13_10 ⟨?_, rfl⟩
    unfold mx
    by_cases h2 : a < b
    · rw [if_pos h2]
    · rw [if_neg h2]; exact Int32.le_antisymm (Int32.not_lt.mp h2) h1
  · skip
    refine lv_iload_n C.x C.b d_m13_5 rfl (lv_at hl 0 rfl) ?_
    refine lv_goto (tgt := 10) C.x C.b d_m13_6 (by decide) ?_
    exact e_i C hr hlk hw d_m13_10 ⟨(if_neg (fun q => h1 (Int32.le_of_lt q))).symm, rfl⟩
theorem c_xe (l : Launch) {g : KG} {Z : Nat} {σ : CS} {M : Fn2} {er mn mk : Int32} {o : Int64} {k : Nat} (hk : k < 200) : Ci l y_m10 prog_4_method_10_code 2 0 [.ref (Z + 602), .int (nI k)] g Z (σ, (M, er, mn, mk), o) (fun r u => r = xeD M (Bm M) k ∧ u = (σ, (M, er, mn, mk), o)) := by
  refine mk_met (own := "StageClockModel") (by decide) rfl (Nat.le_of_ble_eq_true rfl) fun p e s m below meth c ls C hr hlk hl hw => ?_
  have hl : lv_has ls 2 [(0, .ref (Z + 602)), (1, .int (nI k))] := hl
  refine lv_aload_n C.x C.b d_m10_0 rfl (lv_at hl 0 rfl) ?_
  refine q_m9 C hw d_m10_1 ?_
  refine lv_iload_n C.x C.b d_m10_4 rfl (lv_at hl 1 rfl) ?_
  refine l_m9 C hw k hk rfl d_m10_5 ?_
  refine lv_aload_n C.x C.b d_m10_6 rfl (lv_at hl 0 rfl) ?_
  refine q_m0 C hw d_m10_7 ?_
  refine lv_iload_n C.x C.b d_m10_10 rfl (lv_at hl 1 rfl) ?_
  refine l_m0 C hw k hk rfl d_m10_11 ?_
  refine lv_iadd C.x C.b d_m10_12 ?_
  refine lv_iconst (v := 1) C.x C.b d_m10_13 (by decide) ?_
  refine lv_isub C.x C.b d_m10_14 ?_
  exact e_i C hr hlk hw d_m10_15 ⟨rfl, rfl⟩
theorem c_me (l : Launch) {g : KG} {Z : Nat} {σ : CS} {M : Fn2} {er mn mk : Int32} {o : Int64} {k : Nat} (hk : k < 200) : Ci l y_m11 prog_4_method_11_code 2 0 [.ref (Z + 602), .int (nI k)] g Z (σ, (M, er, mn, mk), o) (fun r u => r = meD M (Bm M) k ∧ u = (σ, (M, er, mn, mk), o)) := by
  refine mk_met (own := "StageClockModel") (by decide) rfl (Nat.le_of_ble_eq_true rfl) fun p e s m below meth c ls C hr hlk hl hw => ?_
  have hl : lv_has ls 2 [(0, .ref (Z + 602)), (1, .int (nI k))] := hl
  refine lv_aload_n C.x C.b d_m11_0 rfl (lv_at hl 0 rfl) ?_
  refine q_m10 C hw d_m11_1 ?_
  refine lv_iload_n C.x C.b d_m11_4 rfl (lv_at hl 1 rfl) ?_
  refine l_m10 C hw k hk rfl d_m11_5 ?_
  refine lv_aload_n C.x C.b d_m11_6 rfl (lv_at hl 0 rfl) ?_
  refine q_m4 C hw d_m11_7 ?_
  refine lv_iload_n C.x C.b d_m11_10 rfl (lv_at hl 1 rfl) ?_
  refine l_m4 C hw k hk rfl d_m11_11 ?_
  refine lv_iadd C.x C.b d_m11_12 ?_
  exact e_i C hr hlk hw d_m11_13 ⟨rfl, rfl⟩
theorem c_before (l : Launch) {g : KG} {Z : Nat} {σ : CS} {M : Fn2} {er mn mk : Int32} {o : Int64} {k : Nat} (hk : k ≤ 200) {reg : Int32} : Ci l y_m9 prog_4_method_9_code 4 0 [.ref (Z + 602), .int (nI k), .int reg] g Z (σ, (M, er, mn, mk), o) (fun r u => r = bfr M k reg ∧ u = (σ, (M, er, mn, mk), o)) := by
  refine mk_met (own := "StageClockModel") (by decide) rfl (Nat.le_of_ble_eq_true rfl) fun p e s m below meth c ls C hr hlk hl hw => ?_
  have hl : lv_has ls 4 [(0, .ref (Z + 602)), (1, .int (nI k)), (2, .int reg)] := hl
  have loop : ∀ (j : Nat), j ≤ k → bfr M k reg = bfr M j reg → ∀ (H : Heap) (locs : List Loc) (ls : Array Slot), WH g Z (σ, (M, er, mn, mk), o) s H locs → lv_has ls 4 [(3, .int (nI j - 1)), (0, .ref (Z + 602)), (1, .int (nI k)), (2, .int reg)] → W p l e (RM 0) s m [Value.ref (Z + 602), .int (nI k), .int reg].toArray below meth c H locs 0 0 (MQ below (va_Qi (fun r u => r = bfr M k reg ∧ u = (σ, (M, er, mn, mk), o)) (Wd g Z) (zfree Z)) [Value.ref (Z + 602), .int (nI k), .int reg].toArray s 0 0 (zfree Z)) (F0 m 4 ls []) := by
    intro j
    induction j with
    | zero =>
      intro hj hb H locs ls hw hl
      refine lv_iload_n C.x C.b d_m9_4 rfl (lv_at hl 0 rfl) ?_
      refine lv_if_lt (tgt := 24) C.x C.b d_m9_5 (by decide) (fun h1 => ?_) (fun h1 => absurd (by decide) h1)
      refine lv_iload_n C.x C.b d_m9_24 rfl (lv_at hl 0 rfl) ?_
      exact e_i C hr hlk hw d_m9_25 ⟨hb.symm, rfl⟩
    | succ j ih =>
      intro hj hb H locs ls hw hl
      rw [nI_pred] at hl
      refine lv_iload_n C.x C.b d_m9_4 rfl (lv_at hl 0 rfl) ?_
      refine lv_if_lt (tgt := 24) C.x C.b d_m9_5 (by decide) (fun h1 => absurd h1 (nI_pos (by omega))) (fun h1 => ?_)
      refine lv_aload_n C.x C.b d_m9_8 rfl (lv_at hl 1 rfl) ?_
      refine q_m1 C hw d_m9_9 ?_
      refine lv_iload_n C.x C.b d_m9_12 rfl (lv_at hl 0 rfl) ?_
      refine l_m1 C hw j (show j < 200 by omega) rfl d_m9_13 ?_
      refine lv_iload_n C.x C.b d_m9_14 rfl (lv_at hl 3 rfl) ?_
      refine lv_icmp_eq (tgt := 24) C.x C.b d_m9_15 (by decide) (fun h2 => ?_) (fun h2 => ?_)
      · skip
        refine lv_iload_n C.x C.b d_m9_24 rfl (lv_at hl 0 rfl) ?_
        exact e_i C hr hlk hw d_m9_25 ⟨by rw [hb]; exact (if_pos h2).symm, rfl⟩
      · skip
        refine lv_iinc (k := 0) (v := nI j - 1) (lv' := [(3, .int (nI j - 1)), (0, .ref (Z + 602)), (1, .int (nI k)), (2, .int reg)]) C.x C.b d_m9_18 hl rfl (dec1 _) (by decide) rfl (fun ls hl => ?_)
        refine lv_goto (tgt := 4) C.x C.b d_m9_21 (by decide) ?_
        exact ih (by omega) (by rw [hb]; exact if_neg h2) H locs ls hw hl
  refine lv_iload_n C.x C.b d_m9_0 rfl (lv_at hl 1 rfl) ?_
  refine lv_iconst (v := 1) C.x C.b d_m9_1 (by decide) ?_
  refine lv_isub C.x C.b d_m9_2 ?_
  refine lv_istore_n (lv' := [(3, .int ((nI k) - 1)), (0, .ref (Z + 602)), (1, .int (nI k)), (2, .int reg)]) C.x C.b d_m9_3 rfl hl (by decide) rfl (fun ls hl => ?_)
  exact loop k (Nat.le_refl _) rfl _ _ _ hw hl
theorem bfr_in (D : Fn2) (reg : Int32) : ∀ k : Nat, 0 ≤ bfr D k reg → ∃ j : Nat, j < k ∧ bfr D k reg = nI j
  | 0, h => absurd h (by simp [bfr])
  | k + 1, h => by
    unfold bfr at h ⊢
    by_cases h1 : D 1 k = reg
    · rw [if_pos h1]; exact ⟨k, Nat.lt_succ_self k, rfl⟩
    · rw [if_neg h1] at h ⊢
      obtain ⟨j, hj, e⟩ := bfr_in D reg k h
      exact ⟨j, Nat.lt_succ_of_lt hj, e⟩
theorem c_behind (l : Launch) {g : KG} {Z : Nat} {σ : CS} {M : Fn2} {er mn mk : Int32} {o : Int64} {k : Nat} (hk : k ≤ 200) {reg : Int32} : Ci l y_m12 prog_4_method_12_code 4 1 [.ref (Z + 602), .int (nI k), .int reg] g Z (σ, (M, er, mn, mk), o) (fun r u => r = bh M (Bm M) (bfr M k reg) ∧ u = (σ, (M, er, mn, mk), o)) := by
  refine mk_met (own := "StageClockModel") (by decide) rfl (Nat.le_of_ble_eq_true rfl) fun p e s m below meth c ls C hr hlk hl hw => ?_
  have hl : lv_has ls 4 [(0, .ref (Z + 602)), (1, .int (nI k)), (2, .int reg)] := hl
  refine lv_aload_n C.x C.b d_m12_0 rfl (lv_at hl 0 rfl) ?_
  refine lv_iload_n C.x C.b d_m12_1 rfl (lv_at hl 1 rfl) ?_
  refine lv_iload_n C.x C.b d_m12_2 rfl (lv_at hl 2 rfl) ?_
  refine ret_i hw (run_V C hw (c_before l hk) (i := 602) (by decide) rfl rfl Y_m9 k_366 k_368 kp_10 ⟨rfl, rfl⟩ (by decide) ⟨Nat.zero_le _, Nat.zero_le _⟩ rfl hl.1 rfl (Nat.le_of_ble_eq_true rfl) d_m12_3) (fun r9 u9 H locs hp hw => ?_)
  obtain ⟨rfl, rfl⟩ := hp
  refine lv_istore_n (lv' := [(3, .int (bfr M k reg)), (0, .ref (Z + 602)), (1, .int (nI k)), (2, .int reg)]) C.x C.b d_m12_6 rfl hl (by decide) rfl (fun ls hl => ?_)
  refine lv_iload_n C.x C.b d_m12_7 rfl (lv_at hl 0 rfl) ?_
  refine lv_if_ge (tgt := 15) C.x C.b d_m12_8 (by decide) (fun h1 => ?_) (fun h1 => ?_)
  · skip
    obtain ⟨j, hj, ej⟩ := bfr_in M reg k h1
    have hj2 : j < 200 := by omega
    rw [ej] at hl
    refine lv_aload_n C.x C.b d_m12_15 rfl (lv_at hl 1 rfl) ?_
    refine q_m5 C hw d_m12_16 ?_
    refine lv_iload_n C.x C.b d_m12_19 rfl (lv_at hl 0 rfl) ?_
    refine l_m5 C hw j hj2 rfl d_m12_20 ?_
    refine lv_if_eq (tgt := 32) C.x C.b d_m12_21 (by decide) (fun h2 => ?_) (fun h2 => ?_)
    · skip
      refine lv_aload_n C.x C.b d_m12_32 rfl (lv_at hl 1 rfl) ?_
      refine lv_iload_n C.x C.b d_m12_33 rfl (lv_at hl 0 rfl) ?_
      refine ret_i hw (run_V C hw (c_xe l hj2) (i := 602) (by decide) rfl rfl Y_m10 k_355 k_357 kp_8 ⟨rfl, rfl⟩ (by decide) ⟨Nat.zero_le _, Nat.zero_le _⟩ rfl hl.1 rfl (Nat.le_of_ble_eq_true rfl) d_m12_34) (fun r9 u9 H locs hp hw => ?_)
      obtain ⟨rfl, rfl⟩ := hp
      refine lv_iconst (v := 1) C.x C.b d_m12_37 (by decide) ?_
      refine lv_iadd C.x C.b d_m12_38 ?_
      refine e_i C hr hlk hw d_m12_39 ⟨?_, rfl⟩
      unfold bh rdy
      rw [if_pos h1, ej, nI_clamp (by omega), if_pos h2]
    · skip
      refine lv_aload_n C.x C.b d_m12_24 rfl (lv_at hl 1 rfl) ?_
      refine lv_iload_n C.x C.b d_m12_25 rfl (lv_at hl 0 rfl) ?_
      refine ret_i hw (run_V C hw (c_me l hj2) (i := 602) (by decide) rfl rfl Y_m11 k_370 k_372 kp_11 ⟨rfl, rfl⟩ (by decide) ⟨Nat.zero_le _, Nat.zero_le _⟩ rfl hl.1 rfl (Nat.le_of_ble_eq_true rfl) d_m12_26) (fun r9 u9 H locs hp hw => ?_)
      obtain ⟨rfl, rfl⟩ := hp
      refine lv_goto (tgt := 37) C.x C.b d_m12_29 (by decide) ?_
      refine lv_iconst (v := 1) C.x C.b d_m12_37 (by decide) ?_
      refine lv_iadd C.x C.b d_m12_38 ?_
      refine e_i C hr hlk hw d_m12_39 ⟨?_, rfl⟩
      unfold bh rdy
      rw [if_pos h1, ej, nI_clamp (by omega), if_neg h2]
  · skip
    refine lv_iconst (v := 0) C.x C.b d_m12_11 (by decide) ?_
    refine lv_goto (tgt := 39) C.x C.b d_m12_12 (by decide) ?_
    exact e_i C hr hlk hw d_m12_39 ⟨(if_neg h1).symm, rfl⟩
theorem c_from0 (l : Launch) {g : KG} {Z : Nat} {σ : CS} {M : Fn2} {er mn mk : Int32} {o : Int64} {k : Nat} (hk : k < 200) : Ci l y_m16 prog_4_method_16_code 3 0 [.ref (Z + 602), .int (nI k), .int 0] g Z (σ, (M, er, mn, mk), o) (fun r u => r = frm M k 0 ∧ u = (σ, (M, er, mn, mk), o)) := by
  refine mk_met (own := "StageClockModel") (by decide) rfl (Nat.le_of_ble_eq_true rfl) fun p e s m below meth c ls C hr hlk hl hw => ?_
  have hl : lv_has ls 3 [(0, .ref (Z + 602)), (1, .int (nI k)), (2, .int 0)] := hl
  refine lv_iload_n C.x C.b d_m16_0 rfl (lv_at hl 2 rfl) ?_
  refine lv_if_ne (tgt := 13) C.x C.b d_m16_1 (by decide) (fun h => absurd rfl h) (fun h => ?_)
  refine lv_aload_n C.x C.b d_m16_4 rfl (lv_at hl 0 rfl) ?_
  refine q_m7 C hw d_m16_5 ?_
  refine lv_iload_n C.x C.b d_m16_8 rfl (lv_at hl 1 rfl) ?_
  refine l_m7 C hw k hk rfl d_m16_9 ?_
  refine lv_goto (tgt := 77) C.x C.b d_m16_10 (by decide) ?_
  exact e_i C hr hlk hw d_m16_77 ⟨rfl, rfl⟩
theorem c_from1 (l : Launch) {g : KG} {Z : Nat} {σ : CS} {M : Fn2} {er mn mk : Int32} {o : Int64} {k : Nat} (hk : k < 200) : Ci l y_m16 prog_4_method_16_code 3 0 [.ref (Z + 602), .int (nI k), .int 1] g Z (σ, (M, er, mn, mk), o) (fun r u => r = frm M k 1 ∧ u = (σ, (M, er, mn, mk), o)) := by
  refine mk_met (own := "StageClockModel") (by decide) rfl (Nat.le_of_ble_eq_true rfl) fun p e s m below meth c ls C hr hlk hl hw => ?_
  have hl : lv_has ls 3 [(0, .ref (Z + 602)), (1, .int (nI k)), (2, .int 1)] := hl
  refine lv_iload_n C.x C.b d_m16_0 rfl (lv_at hl 2 rfl) ?_
  refine lv_if_ne (tgt := 13) C.x C.b d_m16_1 (by decide) (fun h => ?_) (fun h => absurd h (by decide))
  refine lv_iload_n C.x C.b d_m16_13 rfl (lv_at hl 2 rfl) ?_
  refine lv_iconst (v := 1) C.x C.b d_m16_14 (by decide) ?_
  refine lv_icmp_ne (tgt := 27) C.x C.b d_m16_15 (by decide) (fun h => absurd rfl h) (fun h => ?_)
  refine lv_aload_n C.x C.b d_m16_18 rfl (lv_at hl 0 rfl) ?_
  refine q_m8 C hw d_m16_19 ?_
  refine lv_iload_n C.x C.b d_m16_22 rfl (lv_at hl 1 rfl) ?_
  refine l_m8 C hw k hk rfl d_m16_23 ?_
  refine lv_goto (tgt := 77) C.x C.b d_m16_24 (by decide) ?_
  exact e_i C hr hlk hw d_m16_77 ⟨rfl, rfl⟩
theorem c_from2 (l : Launch) {g : KG} {Z : Nat} {σ : CS} {M : Fn2} {er mn mk : Int32} {o : Int64} {k : Nat} (hk : k < 200) : Ci l y_m16 prog_4_method_16_code 3 0 [.ref (Z + 602), .int (nI k), .int 2] g Z (σ, (M, er, mn, mk), o) (fun r u => r = frm M k 2 ∧ u = (σ, (M, er, mn, mk), o)) := by
  refine mk_met (own := "StageClockModel") (by decide) rfl (Nat.le_of_ble_eq_true rfl) fun p e s m below meth c ls C hr hlk hl hw => ?_
  have hl : lv_has ls 3 [(0, .ref (Z + 602)), (1, .int (nI k)), (2, .int 2)] := hl
  refine lv_iload_n C.x C.b d_m16_0 rfl (lv_at hl 2 rfl) ?_
  refine lv_if_ne (tgt := 13) C.x C.b d_m16_1 (by decide) (fun h => ?_) (fun h => absurd h (by decide))
  refine lv_iload_n C.x C.b d_m16_13 rfl (lv_at hl 2 rfl) ?_
  refine lv_iconst (v := 1) C.x C.b d_m16_14 (by decide) ?_
  refine lv_icmp_ne (tgt := 27) C.x C.b d_m16_15 (by decide) (fun h => ?_) (fun h => absurd h (by decide))
  refine lv_iload_n C.x C.b d_m16_27 rfl (lv_at hl 2 rfl) ?_
  refine lv_iconst (v := 2) C.x C.b d_m16_28 (by decide) ?_
  refine lv_icmp_ne (tgt := 41) C.x C.b d_m16_29 (by decide) (fun h => absurd rfl h) (fun h => ?_)
  refine lv_aload_n C.x C.b d_m16_32 rfl (lv_at hl 0 rfl) ?_
  refine q_m9 C hw d_m16_33 ?_
  refine lv_iload_n C.x C.b d_m16_36 rfl (lv_at hl 1 rfl) ?_
  refine l_m9 C hw k hk rfl d_m16_37 ?_
  refine lv_goto (tgt := 77) C.x C.b d_m16_38 (by decide) ?_
  exact e_i C hr hlk hw d_m16_77 ⟨rfl, rfl⟩
theorem c_from3 (l : Launch) {g : KG} {Z : Nat} {σ : CS} {M : Fn2} {er mn mk : Int32} {o : Int64} {k : Nat} (hk : k < 200) : Ci l y_m16 prog_4_method_16_code 3 0 [.ref (Z + 602), .int (nI k), .int 3] g Z (σ, (M, er, mn, mk), o) (fun r u => r = frm M k 3 ∧ u = (σ, (M, er, mn, mk), o)) := by
  refine mk_met (own := "StageClockModel") (by decide) rfl (Nat.le_of_ble_eq_true rfl) fun p e s m below meth c ls C hr hlk hl hw => ?_
  have hl : lv_has ls 3 [(0, .ref (Z + 602)), (1, .int (nI k)), (2, .int 3)] := hl
  refine lv_iload_n C.x C.b d_m16_0 rfl (lv_at hl 2 rfl) ?_
  refine lv_if_ne (tgt := 13) C.x C.b d_m16_1 (by decide) (fun h => ?_) (fun h => absurd h (by decide))
  refine lv_iload_n C.x C.b d_m16_13 rfl (lv_at hl 2 rfl) ?_
  refine lv_iconst (v := 1) C.x C.b d_m16_14 (by decide) ?_
  refine lv_icmp_ne (tgt := 27) C.x C.b d_m16_15 (by decide) (fun h => ?_) (fun h => absurd h (by decide))
  refine lv_iload_n C.x C.b d_m16_27 rfl (lv_at hl 2 rfl) ?_
  refine lv_iconst (v := 2) C.x C.b d_m16_28 (by decide) ?_
  refine lv_icmp_ne (tgt := 41) C.x C.b d_m16_29 (by decide) (fun h => ?_) (fun h => absurd h (by decide))
  refine lv_iload_n C.x C.b d_m16_41 rfl (lv_at hl 2 rfl) ?_
  refine lv_iconst (v := 3) C.x C.b d_m16_42 (by decide) ?_
  refine lv_icmp_ne (tgt := 55) C.x C.b d_m16_43 (by decide) (fun h => absurd rfl h) (fun h => ?_)
  refine lv_aload_n C.x C.b d_m16_46 rfl (lv_at hl 0 rfl) ?_
  refine q_m10 C hw d_m16_47 ?_
  refine lv_iload_n C.x C.b d_m16_50 rfl (lv_at hl 1 rfl) ?_
  refine l_m10 C hw k hk rfl d_m16_51 ?_
  refine lv_goto (tgt := 77) C.x C.b d_m16_52 (by decide) ?_
  exact e_i C hr hlk hw d_m16_77 ⟨rfl, rfl⟩
theorem c_from4 (l : Launch) {g : KG} {Z : Nat} {σ : CS} {M : Fn2} {er mn mk : Int32} {o : Int64} {k : Nat} (hk : k < 200) : Ci l y_m16 prog_4_method_16_code 3 0 [.ref (Z + 602), .int (nI k), .int 4] g Z (σ, (M, er, mn, mk), o) (fun r u => r = frm M k 4 ∧ u = (σ, (M, er, mn, mk), o)) := by
  refine mk_met (own := "StageClockModel") (by decide) rfl (Nat.le_of_ble_eq_true rfl) fun p e s m below meth c ls C hr hlk hl hw => ?_
  have hl : lv_has ls 3 [(0, .ref (Z + 602)), (1, .int (nI k)), (2, .int 4)] := hl
  refine lv_iload_n C.x C.b d_m16_0 rfl (lv_at hl 2 rfl) ?_
  refine lv_if_ne (tgt := 13) C.x C.b d_m16_1 (by decide) (fun h => ?_) (fun h => absurd h (by decide))
  refine lv_iload_n C.x C.b d_m16_13 rfl (lv_at hl 2 rfl) ?_
  refine lv_iconst (v := 1) C.x C.b d_m16_14 (by decide) ?_
  refine lv_icmp_ne (tgt := 27) C.x C.b d_m16_15 (by decide) (fun h => ?_) (fun h => absurd h (by decide))
  refine lv_iload_n C.x C.b d_m16_27 rfl (lv_at hl 2 rfl) ?_
  refine lv_iconst (v := 2) C.x C.b d_m16_28 (by decide) ?_
  refine lv_icmp_ne (tgt := 41) C.x C.b d_m16_29 (by decide) (fun h => ?_) (fun h => absurd h (by decide))
  refine lv_iload_n C.x C.b d_m16_41 rfl (lv_at hl 2 rfl) ?_
  refine lv_iconst (v := 3) C.x C.b d_m16_42 (by decide) ?_
  refine lv_icmp_ne (tgt := 55) C.x C.b d_m16_43 (by decide) (fun h => ?_) (fun h => absurd h (by decide))
  refine lv_iload_n C.x C.b d_m16_55 rfl (lv_at hl 2 rfl) ?_
  refine lv_iconst (v := 4) C.x C.b d_m16_56 (by decide) ?_
  refine lv_icmp_ne (tgt := 69) C.x C.b d_m16_57 (by decide) (fun h => absurd rfl h) (fun h => ?_)
  refine lv_aload_n C.x C.b d_m16_60 rfl (lv_at hl 0 rfl) ?_
  refine q_m11 C hw d_m16_61 ?_
  refine lv_iload_n C.x C.b d_m16_64 rfl (lv_at hl 1 rfl) ?_
  refine l_m11 C hw k hk rfl d_m16_65 ?_
  refine lv_goto (tgt := 77) C.x C.b d_m16_66 (by decide) ?_
  exact e_i C hr hlk hw d_m16_77 ⟨rfl, rfl⟩
theorem c_from5 (l : Launch) {g : KG} {Z : Nat} {σ : CS} {M : Fn2} {er mn mk : Int32} {o : Int64} {k : Nat} (hk : k < 200) : Ci l y_m16 prog_4_method_16_code 3 0 [.ref (Z + 602), .int (nI k), .int 5] g Z (σ, (M, er, mn, mk), o) (fun r u => r = frm M k 5 ∧ u = (σ, (M, er, mn, mk), o)) := by
  refine mk_met (own := "StageClockModel") (by decide) rfl (Nat.le_of_ble_eq_true rfl) fun p e s m below meth c ls C hr hlk hl hw => ?_
  have hl : lv_has ls 3 [(0, .ref (Z + 602)), (1, .int (nI k)), (2, .int 5)] := hl
  refine lv_iload_n C.x C.b d_m16_0 rfl (lv_at hl 2 rfl) ?_
  refine lv_if_ne (tgt := 13) C.x C.b d_m16_1 (by decide) (fun h => ?_) (fun h => absurd h (by decide))
  refine lv_iload_n C.x C.b d_m16_13 rfl (lv_at hl 2 rfl) ?_
  refine lv_iconst (v := 1) C.x C.b d_m16_14 (by decide) ?_
  refine lv_icmp_ne (tgt := 27) C.x C.b d_m16_15 (by decide) (fun h => ?_) (fun h => absurd h (by decide))
  refine lv_iload_n C.x C.b d_m16_27 rfl (lv_at hl 2 rfl) ?_
  refine lv_iconst (v := 2) C.x C.b d_m16_28 (by decide) ?_
  refine lv_icmp_ne (tgt := 41) C.x C.b d_m16_29 (by decide) (fun h => ?_) (fun h => absurd h (by decide))
  refine lv_iload_n C.x C.b d_m16_41 rfl (lv_at hl 2 rfl) ?_
  refine lv_iconst (v := 3) C.x C.b d_m16_42 (by decide) ?_
  refine lv_icmp_ne (tgt := 55) C.x C.b d_m16_43 (by decide) (fun h => ?_) (fun h => absurd h (by decide))
  refine lv_iload_n C.x C.b d_m16_55 rfl (lv_at hl 2 rfl) ?_
  refine lv_iconst (v := 4) C.x C.b d_m16_56 (by decide) ?_
  refine lv_icmp_ne (tgt := 69) C.x C.b d_m16_57 (by decide) (fun h => ?_) (fun h => absurd h (by decide))
  refine lv_aload_n C.x C.b d_m16_69 rfl (lv_at hl 0 rfl) ?_
  refine q_m11 C hw d_m16_70 ?_
  refine lv_iload_n C.x C.b d_m16_73 rfl (lv_at hl 1 rfl) ?_
  refine l_m11 C hw k hk rfl d_m16_74 ?_
  refine lv_iconst (v := 1) C.x C.b d_m16_75 (by decide) ?_
  refine lv_iadd C.x C.b d_m16_76 ?_
  exact e_i C hr hlk hw d_m16_77 ⟨rfl, rfl⟩
theorem c_give (l : Launch) {g : KG} {Z : Nat} {σ : CS} {M : Fn2} {er mn mk : Int32} {o : Int64} {k : Nat} (hk : k < 200) {t gg r ll ld q wr : Int32} (hld : ld = 0 ∨ ld = 1) (hwr : wr = 0 ∨ wr = 1) : Cv l y_m5 prog_4_method_5_code 9 0 [.ref (Z + 602), .int (nI k), .int t, .int gg, .int r, .int ll, .int ld, .int q, .int wr] g Z (σ, (M, er, mn, mk), o) (fun u => u = (σ, (gv7 M k t gg r ll ld q wr, er, mn, 0), o)) := by
  refine mk_met (own := "StageClockModel") (by decide) rfl (Nat.le_of_ble_eq_true rfl) fun p e s m below meth c ls C hr hlk hl hw => ?_
  have hl : lv_has ls 9 [(0, .ref (Z + 602)), (1, .int (nI k)), (2, .int t), (3, .int gg), (4, .int r), (5, .int ll), (6, .int ld), (7, .int q), (8, .int wr)] := hl
  refine lv_aload_n C.x C.b d_m5_0 rfl (lv_at hl 0 rfl) ?_
  refine q_m0 C hw d_m5_1 ?_
  refine lv_iload_n C.x C.b d_m5_4 rfl (lv_at hl 1 rfl) ?_
  refine lv_iload_n C.x C.b d_m5_5 rfl (lv_at hl 2 rfl) ?_
  refine s_m0 C hw k hk rfl d_m5_6 (fun H locs hw => ?_)
  refine lv_aload_n C.x C.b d_m5_7 rfl (lv_at hl 0 rfl) ?_
  refine q_m1 C hw d_m5_8 ?_
  refine lv_iload_n C.x C.b d_m5_11 rfl (lv_at hl 1 rfl) ?_
  refine lv_iload_n C.x C.b d_m5_12 rfl (lv_at hl 3 rfl) ?_
  refine s_m1 C hw k hk rfl d_m5_13 (fun H locs hw => ?_)
  refine lv_aload_n C.x C.b d_m5_14 rfl (lv_at hl 0 rfl) ?_
  refine q_m2 C hw d_m5_15 ?_
  refine lv_iload_n C.x C.b d_m5_18 rfl (lv_at hl 1 rfl) ?_
  refine lv_iload C.x C.b d_m5_19 (lv_at hl 4 rfl) ?_
  refine s_m2 C hw k hk rfl d_m5_21 (fun H locs hw => ?_)
  refine lv_aload_n C.x C.b d_m5_22 rfl (lv_at hl 0 rfl) ?_
  refine q_m3 C hw d_m5_23 ?_
  refine lv_iload_n C.x C.b d_m5_26 rfl (lv_at hl 1 rfl) ?_
  refine lv_iload C.x C.b d_m5_27 (lv_at hl 5 rfl) ?_
  refine s_m3 C hw k hk rfl d_m5_29 (fun H locs hw => ?_)
  refine lv_aload_n C.x C.b d_m5_30 rfl (lv_at hl 0 rfl) ?_
  refine q_m5 C hw d_m5_31 ?_
  refine lv_iload_n C.x C.b d_m5_34 rfl (lv_at hl 1 rfl) ?_
  refine lv_iload C.x C.b d_m5_35 (lv_at hl 6 rfl) ?_
  refine s_m5 C hw k hk rfl hld d_m5_37 (fun H locs hw => ?_)
  refine lv_aload_n C.x C.b d_m5_38 rfl (lv_at hl 0 rfl) ?_
  refine q_m4 C hw d_m5_39 ?_
  refine lv_iload_n C.x C.b d_m5_42 rfl (lv_at hl 1 rfl) ?_
  refine lv_iload C.x C.b d_m5_43 (lv_at hl 7 rfl) ?_
  refine s_m4 C hw k hk rfl d_m5_45 (fun H locs hw => ?_)
  refine lv_aload_n C.x C.b d_m5_46 rfl (lv_at hl 0 rfl) ?_
  refine q_m6 C hw d_m5_47 ?_
  refine lv_iload_n C.x C.b d_m5_50 rfl (lv_at hl 1 rfl) ?_
  refine lv_iload C.x C.b d_m5_51 (lv_at hl 8 rfl) ?_
  refine s_m6 C hw k hk rfl hwr d_m5_53 (fun H locs hw => ?_)
  refine lv_aload_n C.x C.b d_m5_54 rfl (lv_at hl 0 rfl) ?_
  refine lv_iconst (v := 0) C.x C.b d_m5_55 (by decide) ?_
  refine p_mknown C hw d_m5_56 (fun H locs hw => ?_)
  exact e_v C hr hlk hw d_m5_59 rfl
end
section
/-! the component: asSaid, set, add, change, cut, where they return -/
section MM
variable {p : Program} {l : Launch} {e : Env} {R : Room} {s : State} {m : MethodId} {args : Array Value} {below : List Frame} {meth : Method} {c : Code} {H : Heap} {locs : List Loc} {cells slots : Nat} {Q : State → Prop}
variable {cc : ByteArray} {nL pc : Nat} {ls : Array Slot} {rest : List Value} {g : KG} {Z : Nat} {x y : Int32}
theorem k_max (C : Cx p s m c cc nL "StageClock" args g Z) (hls : ls.size = nL) (hf : 1 ≤ R.frames) (hlo : (rest.map fun v => v.category).sum + 13 ≤ R.locals) (hc : cells ≤ R.cells) (hs : slots ≤ R.slots) (hd : decode cc pc = .ok (.invokestatic 58, 3)) (kk : W p l e R s m args below meth c H locs cells slots Q (F0 m (pc + 3) ls (.int (mx x y) :: rest))) : W p l e R s m args below meth c H locs cells slots Q (F0 m pc ls (.int y :: .int x :: rest)) :=
  va_mmax C.x C.b (C.1.2.2.1.trans hls.symm) C.1.2.2.2.1 (C.1.2.2.2.2 _ k_222) (C.1.2.2.2.2 _ k_223) (C.1.2.2.2.2 _ k_9) (C.1.2.2.2.2 _ k_224) hf hlo hc hs hd kk
theorem k_min (C : Cx p s m c cc nL "StageClock" args g Z) (hls : ls.size = nL) (hf : 1 ≤ R.frames) (hlo : (rest.map fun v => v.category).sum + 13 ≤ R.locals) (hc : cells ≤ R.cells) (hs : slots ≤ R.slots) (hd : decode cc pc = .ok (.invokestatic 90, 3)) (kk : W p l e R s m args below meth c H locs cells slots Q (F0 m (pc + 3) ls (.int (mi x y) :: rest))) : W p l e R s m args below meth c H locs cells slots Q (F0 m pc ls (.int y :: .int x :: rest)) :=
  va_mmin C.x C.b (C.1.2.2.1.trans hls.symm) C.1.2.2.2.1 (C.1.2.2.2.2 _ k_170) (C.1.2.2.2.2 _ k_171) (C.1.2.2.2.2 _ k_9) (C.1.2.2.2.2 _ k_172) hf hlo hc hs hd kk
end MM
theorem nI_sub1 {n : Nat} (h : 0 < n) : nI n - 1 = nI (n - 1) := by
  obtain ⟨k, rfl⟩ : ∃ k, n = k + 1 := ⟨n - 1, by omega⟩
  exact nI_pred k
theorem inb {x : Int32} {n : Nat} (hn : n ≤ 200) : (0 ≤ x ∧ x ≤ nI n - 1) ↔ ∃ k : Nat, k < n ∧ x = nI k := by
  constructor
  · rintro ⟨h1, h2⟩
    obtain ⟨j, hj, rfl⟩ := nI_of (Int32.not_lt.mpr h1)
    rcases Nat.eq_zero_or_pos n with rfl | h0
    · exact absurd (Int32.le_trans h1 h2) (by decide)
    · rw [nI_sub1 h0, nI_leI hj (by omega)] at h2
      exact ⟨j, by omega, rfl⟩
  · rintro ⟨k, hk, rfl⟩
    rw [nI_sub1 (by omega)]
    exact ⟨nI_pos' (by omega), nI_le (by omega) (by omega)⟩
theorem inc {x : Int32} {n : Nat} (hn : n ≤ 200) : (0 ≤ x ∧ x ≤ nI n) ↔ ∃ k : Nat, k ≤ n ∧ x = nI k := by
  constructor
  · rintro ⟨h1, h2⟩
    obtain ⟨j, hj, rfl⟩ := nI_of (Int32.not_lt.mpr h1)
    rw [nI_leI hj (by omega)] at h2
    exact ⟨j, h2, rfl⟩
  · rintro ⟨k, hk, rfl⟩
    exact ⟨nI_pos' (by omega), nI_le hk (by omega)⟩
theorem c_asSaid (l : Launch) {g : KG} {Z : Nat} {τ : TS} {t gg ll q : Int32} (h : okd t gg ll q) : Cv l y_s7 prog_1_method_7_code 4 1 [.int t, .int gg, .int ll, .int q] g Z τ (fun u => u = τ) := by
  refine mk_met (own := "StageClock") (by decide) rfl (Nat.le_of_ble_eq_true rfl) fun p e s m below meth c ls C hr hlk hl hw => ?_
  have hl : lv_has ls 4 [(0, .int t), (1, .int gg), (2, .int ll), (3, .int q)] := hl
  refine lv_iload_n C.x C.b d_s7_0 rfl (lv_at hl 0 rfl) ?_
  refine lv_iconst (v := 1) C.x C.b d_s7_1 (by decide) ?_
  refine lv_bipush (v := 12) C.x C.b d_s7_2 (by decide) ?_
  refine ret_i hw (run_S C hw (c_in3 l) Y_s2 k_82 k_83 ⟨rfl, rfl⟩ (by decide) ⟨Nat.zero_le _, Nat.zero_le _⟩ rfl hl.1 rfl (Nat.le_of_ble_eq_true rfl) d_s7_4) (fun r9 u9 H locs hp hw => ?_)
  obtain ⟨hp, hu⟩ := hp
  rw [hu] at hw
  rw [if_pos h.1] at hp
  subst hp
  refine lv_if_eq (tgt := 44) C.x C.b d_s7_7 (by decide) (fun h9 => absurd h9 (by decide)) (fun h9 => ?_)
  refine lv_iload_n C.x C.b d_s7_10 rfl (lv_at hl 1 rfl) ?_
  refine lv_iconst (v := 0) C.x C.b d_s7_11 (by decide) ?_
  refine lv_bipush (v := 15) C.x C.b d_s7_12 (by decide) ?_
  refine ret_i hw (run_S C hw (c_in3 l) Y_s2 k_82 k_83 ⟨rfl, rfl⟩ (by decide) ⟨Nat.zero_le _, Nat.zero_le _⟩ rfl hl.1 rfl (Nat.le_of_ble_eq_true rfl) d_s7_14) (fun r9 u9 H locs hp hw => ?_)
  obtain ⟨hp, hu⟩ := hp
  rw [hu] at hw
  rw [if_pos h.2.1] at hp
  subst hp
  refine lv_if_eq (tgt := 44) C.x C.b d_s7_17 (by decide) (fun h9 => absurd h9 (by decide)) (fun h9 => ?_)
  refine lv_iload_n C.x C.b d_s7_20 rfl (lv_at hl 2 rfl) ?_
  refine lv_iconst (v := 0) C.x C.b d_s7_21 (by decide) ?_
  refine lv_bipush (v := 15) C.x C.b d_s7_22 (by decide) ?_
  refine ret_i hw (run_S C hw (c_in3 l) Y_s2 k_82 k_83 ⟨rfl, rfl⟩ (by decide) ⟨Nat.zero_le _, Nat.zero_le _⟩ rfl hl.1 rfl (Nat.le_of_ble_eq_true rfl) d_s7_24) (fun r9 u9 H locs hp hw => ?_)
  obtain ⟨hp, hu⟩ := hp
  rw [hu] at hw
  rw [if_pos h.2.2.1] at hp
  subst hp
  refine lv_if_eq (tgt := 44) C.x C.b d_s7_27 (by decide) (fun h9 => absurd h9 (by decide)) (fun h9 => ?_)
  refine lv_iload_n C.x C.b d_s7_30 rfl (lv_at hl 3 rfl) ?_
  refine lv_iconst (v := 0) C.x C.b d_s7_31 (by decide) ?_
  refine lv_bipush (v := 8) C.x C.b d_s7_32 (by decide) ?_
  refine ret_i hw (run_S C hw (c_in3 l) Y_s2 k_82 k_83 ⟨rfl, rfl⟩ (by decide) ⟨Nat.zero_le _, Nat.zero_le _⟩ rfl hl.1 rfl (Nat.le_of_ble_eq_true rfl) d_s7_34) (fun r9 u9 H locs hp hw => ?_)
  obtain ⟨hp, hu⟩ := hp
  rw [hu] at hw
  rw [if_pos h.2.2.2] at hp
  subst hp
  refine lv_if_eq (tgt := 44) C.x C.b d_s7_37 (by decide) (fun h9 => absurd h9 (by decide)) (fun h9 => ?_)
  refine lv_iconst (v := 1) C.x C.b d_s7_40 (by decide) ?_
  refine lv_goto (tgt := 45) C.x C.b d_s7_41 (by decide) ?_
  refine ret_v hw (run_S C hw (c_legal l) Y_s3 k_85 k_86 ⟨rfl, rfl⟩ (by decide) ⟨Nat.zero_le _, Nat.zero_le _⟩ rfl hl.1 rfl (Nat.le_of_ble_eq_true rfl) d_s7_45) (fun u9 H locs hp hw => ?_)
  rw [hp] at hw
  exact e_v C hr hlk hw d_s7_48 rfl
theorem c_set (l : Launch) {g : KG} {Z : Nat} {D B G : Fn2} {n kn : Int32} {μ : MS} {o : Int64} {k : Nat} (hk : k < 200) {t gg r ll ld q wr : Int32} (hld : ld = 0 ∨ ld = 1) (hwr : wr = 0 ∨ wr = 1) : Cv l y_s8 prog_1_method_8_code 10 1 [.ref Z, .int (nI k), .int t, .int gg, .int r, .int ll, .int ld, .int q, .int wr] g Z ((D, B, G, n, kn), μ, o) (fun u => u = ((gv7 D k t gg r ll ld q wr, B, G, n, mi kn (nI k)), μ, o)) := by
  refine mk_met (own := "StageClock") (by decide) rfl (Nat.le_of_ble_eq_true rfl) fun p e s m below meth c ls C hr hlk hl hw => ?_
  have hl : lv_has ls 10 [(0, .ref Z), (1, .int (nI k)), (2, .int t), (3, .int gg), (4, .int r), (5, .int ll), (6, .int ld), (7, .int q), (8, .int wr)] := hl
  refine lv_aload_n C.x C.b d_s8_0 rfl (lv_at hl 0 rfl) ?_
  refine q_steps C hw d_s8_1 ?_
  refine lv_iload_n C.x C.b d_s8_4 rfl (lv_at hl 1 rfl) ?_
  refine q_aat C hw k hk rfl d_s8_5 ?_
  refine lv_astore (lv' := [(9, .ref (Z + (2 + 3 * k))), (0, .ref Z), (1, .int (nI k)), (2, .int t), (3, .int gg), (4, .int r), (5, .int ll), (6, .int ld), (7, .int q), (8, .int wr)]) C.x C.b d_s8_6 hl (by decide) rfl (fun ls hl => ?_)
  refine lv_aload C.x C.b d_s8_8 (lv_at hl 0 rfl) ?_
  refine lv_iload_n C.x C.b d_s8_10 rfl (lv_at hl 3 rfl) ?_
  refine p_t C hw hk d_s8_11 (fun H locs hw => ?_)
  refine lv_aload C.x C.b d_s8_14 (lv_at hl 0 rfl) ?_
  refine lv_iload_n C.x C.b d_s8_16 rfl (lv_at hl 4 rfl) ?_
  refine p_gets C hw hk d_s8_17 (fun H locs hw => ?_)
  refine lv_aload C.x C.b d_s8_20 (lv_at hl 0 rfl) ?_
  refine lv_iload C.x C.b d_s8_22 (lv_at hl 5 rfl) ?_
  refine p_reads C hw hk d_s8_24 (fun H locs hw => ?_)
  refine lv_aload C.x C.b d_s8_27 (lv_at hl 0 rfl) ?_
  refine lv_iload C.x C.b d_s8_29 (lv_at hl 6 rfl) ?_
  refine p_late C hw hk d_s8_31 (fun H locs hw => ?_)
  refine lv_aload C.x C.b d_s8_34 (lv_at hl 0 rfl) ?_
  refine lv_iload C.x C.b d_s8_36 (lv_at hl 7 rfl) ?_
  refine p_load C hw hk hld d_s8_38 (fun H locs hw => ?_)
  refine lv_aload C.x C.b d_s8_41 (lv_at hl 0 rfl) ?_
  refine lv_iload C.x C.b d_s8_43 (lv_at hl 8 rfl) ?_
  refine p_wait C hw hk d_s8_45 (fun H locs hw => ?_)
  refine lv_aload C.x C.b d_s8_48 (lv_at hl 0 rfl) ?_
  refine lv_iload C.x C.b d_s8_50 (lv_at hl 9 rfl) ?_
  refine p_wrong C hw hk hwr d_s8_52 (fun H locs hw => ?_)
  refine lv_aload_n C.x C.b d_s8_55 rfl (lv_at hl 1 rfl) ?_
  refine lv_aload_n C.x C.b d_s8_56 rfl (lv_at hl 1 rfl) ?_
  refine q_known C hw d_s8_57 ?_
  refine lv_iload_n C.x C.b d_s8_60 rfl (lv_at hl 2 rfl) ?_
  refine k_min C hl.1 (by decide) (Nat.le_of_ble_eq_true rfl) (Nat.zero_le _) (Nat.zero_le _) d_s8_61 ?_
  refine p_known C hw d_s8_64 (fun H locs hw => ?_)
  exact e_v C hr hlk hw d_s8_67 rfl
theorem c_add (l : Launch) {g : KG} {Z : Nat} {D B G : Fn2} {nn : Nat} {kn : Int32} {μ : MS} {o : Int64} (hn : nn < 200) {t gg r ll ld q wr : Int32} (h : okd t gg ll q) (hld : ld = 0 ∨ ld = 1) (hwr : wr = 0 ∨ wr = 1) : Ci l y_s9 prog_1_method_9_code 8 2 [.ref Z, .int t, .int gg, .int r, .int ll, .int ld, .int q, .int wr] g Z ((D, B, G, nI nn, kn), μ, o) (fun v u => v = nI nn ∧ u = ((gv7 D nn t gg r ll ld q wr, B, G, nI (nn + 1), mi kn (nI nn)), μ, o)) := by
  refine mk_met (own := "StageClock") (by decide) rfl (Nat.le_of_ble_eq_true rfl) fun p e s m below meth c ls C hr hlk hl hw => ?_
  have hl : lv_has ls 8 [(0, .ref Z), (1, .int t), (2, .int gg), (3, .int r), (4, .int ll), (5, .int ld), (6, .int q), (7, .int wr)] := hl
  refine lv_iload_n C.x C.b d_s9_0 rfl (lv_at hl 1 rfl) ?_
  refine lv_iload_n C.x C.b d_s9_1 rfl (lv_at hl 2 rfl) ?_
  refine lv_iload C.x C.b d_s9_2 (lv_at hl 4 rfl) ?_
  refine lv_iload C.x C.b d_s9_4 (lv_at hl 6 rfl) ?_
  refine ret_v hw (run_S C hw (c_asSaid l h) Y_s7 k_79 k_80 ⟨rfl, rfl⟩ (by decide) ⟨Nat.zero_le _, Nat.zero_le _⟩ rfl hl.1 rfl (Nat.le_of_ble_eq_true rfl) d_s9_6) (fun u9 H locs hp hw => ?_)
  subst hp
  refine lv_aload_n C.x C.b d_s9_9 rfl (lv_at hl 0 rfl) ?_
  refine q_many C hw d_s9_10 ?_
  refine lv_sipush (v := 200) C.x C.b d_s9_13 (by decide) ?_
  refine lv_icmp_ne (tgt := 27) C.x C.b d_s9_16 (by decide) (fun h1 => ?_) (fun h1 => absurd h1 (fun q => by have := (nI_eq (a := nn) (b := 200) (by omega) (by decide)).mp q; omega))
  refine lv_aload_n C.x C.b d_s9_27 rfl (lv_at hl 0 rfl) ?_
  refine lv_aload_n C.x C.b d_s9_28 rfl (lv_at hl 0 rfl) ?_
  refine q_many C hw d_s9_29 ?_
  refine lv_iload_n C.x C.b d_s9_32 rfl (lv_at hl 1 rfl) ?_
  refine lv_iload_n C.x C.b d_s9_33 rfl (lv_at hl 2 rfl) ?_
  refine lv_iload_n C.x C.b d_s9_34 rfl (lv_at hl 3 rfl) ?_
  refine lv_iload C.x C.b d_s9_35 (lv_at hl 4 rfl) ?_
  refine lv_iload C.x C.b d_s9_37 (lv_at hl 5 rfl) ?_
  refine lv_iload C.x C.b d_s9_39 (lv_at hl 6 rfl) ?_
  refine lv_iload C.x C.b d_s9_41 (lv_at hl 7 rfl) ?_
  refine ret_v hw (run_V C hw (c_set l hn hld hwr) (i := 0) (by decide) rfl rfl Y_s8 k_166 k_168 kp_1 ⟨rfl, rfl⟩ (by decide) ⟨Nat.zero_le _, Nat.zero_le _⟩ rfl hl.1 rfl (Nat.le_of_ble_eq_true rfl) d_s9_43) (fun u9 H locs hp hw => ?_)
  subst hp
  refine lv_aload_n C.x C.b d_s9_46 rfl (lv_at hl 0 rfl) ?_
  refine lv_dup C.x C.b d_s9_47 rfl ?_
  refine q_many C hw d_s9_48 ?_
  refine lv_dup_x1 C.x C.b d_s9_51 rfl rfl ?_
  refine lv_iconst (v := 1) C.x C.b d_s9_52 (by decide) ?_
  refine lv_iadd C.x C.b d_s9_53 ?_
  rw [nI_1]
  refine p_many C hw d_s9_54 (fun H locs hw => ?_)
  exact e_i C hr hlk hw d_s9_57 ⟨rfl, rfl⟩
theorem c_change (l : Launch) {g : KG} {Z : Nat} {D B G : Fn2} {nn : Nat} {kn : Int32} {μ : MS} {o : Int64} (hn : nn ≤ 200) {k : Nat} (hk : k < nn) {t gg r ll ld q wr : Int32} (h : okd t gg ll q) (hld : ld = 0 ∨ ld = 1) (hwr : wr = 0 ∨ wr = 1) : Cv l y_s10 prog_1_method_10_code 9 2 [.ref Z, .int (nI k), .int t, .int gg, .int r, .int ll, .int ld, .int q, .int wr] g Z ((D, B, G, nI nn, kn), μ, o) (fun u => u = ((gv7 D k t gg r ll ld q wr, B, G, nI nn, mi kn (nI k)), μ, o)) := by
  refine mk_met (own := "StageClock") (by decide) rfl (Nat.le_of_ble_eq_true rfl) fun p e s m below meth c ls C hr hlk hl hw => ?_
  have hl : lv_has ls 9 [(0, .ref Z), (1, .int (nI k)), (2, .int t), (3, .int gg), (4, .int r), (5, .int ll), (6, .int ld), (7, .int q), (8, .int wr)] := hl
  refine lv_iload_n C.x C.b d_s10_0 rfl (lv_at hl 2 rfl) ?_
  refine lv_iload_n C.x C.b d_s10_1 rfl (lv_at hl 3 rfl) ?_
  refine lv_iload C.x C.b d_s10_2 (lv_at hl 5 rfl) ?_
  refine lv_iload C.x C.b d_s10_4 (lv_at hl 7 rfl) ?_
  refine ret_v hw (run_S C hw (c_asSaid l h) Y_s7 k_79 k_80 ⟨rfl, rfl⟩ (by decide) ⟨Nat.zero_le _, Nat.zero_le _⟩ rfl hl.1 rfl (Nat.le_of_ble_eq_true rfl) d_s10_6) (fun u9 H locs hp hw => ?_)
  subst hp
  refine lv_iload_n C.x C.b d_s10_9 rfl (lv_at hl 1 rfl) ?_
  refine lv_iconst (v := 0) C.x C.b d_s10_10 (by decide) ?_
  refine lv_aload_n C.x C.b d_s10_11 rfl (lv_at hl 0 rfl) ?_
  refine q_many C hw d_s10_12 ?_
  refine lv_iconst (v := 1) C.x C.b d_s10_15 (by decide) ?_
  refine lv_isub C.x C.b d_s10_16 ?_
  refine ret_i hw (run_S C hw (c_in3 l) Y_s2 k_82 k_83 ⟨rfl, rfl⟩ (by decide) ⟨Nat.zero_le _, Nat.zero_le _⟩ rfl hl.1 rfl (Nat.le_of_ble_eq_true rfl) d_s10_17) (fun r9 u9 H locs hp hw => ?_)
  obtain ⟨hp, rfl⟩ := hp
  rw [if_pos ((inb hn).mpr ⟨k, hk, rfl⟩)] at hp
  subst hp
  refine lv_if_ne (tgt := 31) C.x C.b d_s10_20 (by decide) (fun h1 => ?_) (fun h1 => absurd h1 (by decide))
  refine lv_aload_n C.x C.b d_s10_31 rfl (lv_at hl 0 rfl) ?_
  refine lv_iload_n C.x C.b d_s10_32 rfl (lv_at hl 1 rfl) ?_
  refine lv_iload_n C.x C.b d_s10_33 rfl (lv_at hl 2 rfl) ?_
  refine lv_iload_n C.x C.b d_s10_34 rfl (lv_at hl 3 rfl) ?_
  refine lv_iload C.x C.b d_s10_35 (lv_at hl 4 rfl) ?_
  refine lv_iload C.x C.b d_s10_37 (lv_at hl 5 rfl) ?_
  refine lv_iload C.x C.b d_s10_39 (lv_at hl 6 rfl) ?_
  refine lv_iload C.x C.b d_s10_41 (lv_at hl 7 rfl) ?_
  refine lv_iload C.x C.b d_s10_43 (lv_at hl 8 rfl) ?_
  refine ret_v hw (run_V C hw (c_set l (show k < 200 by omega) hld hwr) (i := 0) (by decide) rfl rfl Y_s8 k_166 k_168 kp_1 ⟨rfl, rfl⟩ (by decide) ⟨Nat.zero_le _, Nat.zero_le _⟩ rfl hl.1 rfl (Nat.le_of_ble_eq_true rfl) d_s10_45) (fun u9 H locs hp hw => ?_)
  subst hp
  exact e_v C hr hlk hw d_s10_48 rfl
theorem c_cut (l : Launch) {g : KG} {Z : Nat} {D B G : Fn2} {nn : Nat} {kn : Int32} {μ : MS} {o : Int64} (hn : nn ≤ 200) {k : Nat} (hk : k ≤ nn) : Ci l y_s11 prog_1_method_11_code 3 1 [.ref Z, .int (nI k)] g Z ((D, B, G, nI nn, kn), μ, o) (fun v u => v = nI nn ∧ u = ((D, B, G, nI k, mi kn (nI k)), μ, o)) := by
  refine mk_met (own := "StageClock") (by decide) rfl (Nat.le_of_ble_eq_true rfl) fun p e s m below meth c ls C hr hlk hl hw => ?_
  have hl : lv_has ls 3 [(0, .ref Z), (1, .int (nI k))] := hl
  refine lv_iload_n C.x C.b d_s11_0 rfl (lv_at hl 1 rfl) ?_
  refine lv_iconst (v := 0) C.x C.b d_s11_1 (by decide) ?_
  refine lv_aload_n C.x C.b d_s11_2 rfl (lv_at hl 0 rfl) ?_
  refine q_many C hw d_s11_3 ?_
  refine ret_i hw (run_S C hw (c_in3 l) Y_s2 k_82 k_83 ⟨rfl, rfl⟩ (by decide) ⟨Nat.zero_le _, Nat.zero_le _⟩ rfl hl.1 rfl (Nat.le_of_ble_eq_true rfl) d_s11_6) (fun r9 u9 H locs hp hw => ?_)
  obtain ⟨hp, rfl⟩ := hp
  rw [if_pos ((inc hn).mpr ⟨k, hk, rfl⟩)] at hp
  subst hp
  refine ret_v hw (run_S C hw (c_legal l) Y_s3 k_85 k_86 ⟨rfl, rfl⟩ (by decide) ⟨Nat.zero_le _, Nat.zero_le _⟩ rfl hl.1 rfl (Nat.le_of_ble_eq_true rfl) d_s11_9) (fun u9 H locs hp hw => ?_)
  subst hp
  refine lv_aload_n C.x C.b d_s11_12 rfl (lv_at hl 0 rfl) ?_
  refine q_many C hw d_s11_13 ?_
  refine lv_istore_n (lv' := [(2, .int (nI nn)), (0, .ref Z), (1, .int (nI k))]) C.x C.b d_s11_16 rfl hl (by decide) rfl (fun ls hl => ?_)
  refine lv_aload_n C.x C.b d_s11_17 rfl (lv_at hl 1 rfl) ?_
  refine lv_iload_n C.x C.b d_s11_18 rfl (lv_at hl 2 rfl) ?_
  refine p_many C hw d_s11_19 (fun H locs hw => ?_)
  refine lv_aload_n C.x C.b d_s11_22 rfl (lv_at hl 1 rfl) ?_
  refine lv_aload_n C.x C.b d_s11_23 rfl (lv_at hl 1 rfl) ?_
  refine q_known C hw d_s11_24 ?_
  refine lv_iload_n C.x C.b d_s11_27 rfl (lv_at hl 2 rfl) ?_
  refine k_min C hl.1 (by decide) (Nat.le_of_ble_eq_true rfl) (Nat.zero_le _) (Nat.zero_le _) d_s11_28 ?_
  refine p_known C hw d_s11_31 (fun H locs hw => ?_)
  refine lv_iload_n C.x C.b d_s11_34 rfl (lv_at hl 0 rfl) ?_
  exact e_i C hr hlk hw d_s11_35 ⟨rfl, rfl⟩
end
section
/-! StageClock.work(i) -/
theorem va_up_id {α : Type} (f : Nat → α) (k : Nat) : va_up f k (f k) = f := by
  funext j
  by_cases h : j = k
  · subst h; rw [va_up_self]
  · rw [va_up_ne _ _ h]
theorem xeD_up {D B : Fn2} {i j : Nat} {b : Nat → Int32} (h : j ≠ i) : xeD D (va_up B i b) j = xeD D B j := by
  unfold xeD; rw [va_up_ne _ _ h]
theorem xeD_own {D B : Fn2} {i : Nat} {b : Nat → Int32} : xeD D (va_up B i b) i = b 2 + D 0 i - 1 := by
  unfold xeD; rw [va_up_self]
theorem meD_own {D B : Fn2} {i : Nat} {b : Nat → Int32} : meD D (va_up B i b) i = b 3 + D 4 i := by
  unfold meD; rw [va_up_self]
theorem rdy_up {D B : Fn2} {i j : Nat} {b : Nat → Int32} (h : j ≠ i) : rdy D (va_up B i b) j = rdy D B j := by
  unfold rdy xeD meD; rw [va_up_ne _ _ h]
theorem bh_up {D B : Fn2} {i : Nat} {b : Nat → Int32} (hi : i ≤ 200) (reg : Int32) : bh D (va_up B i b) (bfr D i reg) = bh D B (bfr D i reg) := by
  unfold bh
  by_cases h : 0 ≤ bfr D i reg
  · obtain ⟨j, hj, e⟩ := bfr_in D reg i h
    rw [if_pos h, if_pos h, e, nI_clamp (by omega), rdy_up (by omega)]
  · rw [if_neg h, if_neg h]
section Wk
variable {p : Program} {l : Launch} {e : Env} {s : State} {m : MethodId} {args : Array Value} {below : List Frame} {meth : Method} {c : Code} {H : Heap} {locs : List Loc} {Q : State → Prop} {R : Room} {cells slots : Nat}
variable {cc : ByteArray} {nL pc : Nat} {ls : Array Slot} {rest : List Value} {own : String} {g : KG} {Z : Nat} {D B G : Fn2} {n kn x y : Int32} {μ : MS} {o : Int64} {i k : Nat} {b gg : Nat → Int32}
theorem l_Bi (C : Cx p s m c cc nL own args g Z) (hw : WH g Z ((D, va_up B i b, G, n, kn), μ, o) s H locs) (j : Nat) (hi : i < 200) (hj : j < 5) (hx : x = nI j) (hd : decode cc pc = .ok (.iaload, 1)) (kk : W p l e R s m args below meth c H locs cells slots Q (F0 m (pc + 1) ls (.int (b j) :: rest))) : W p l e R s m args below meth c H locs cells slots Q (F0 m pc ls (.int x :: .ref (Z + (3 + 3 * i)) :: rest)) :=
  l_B C hw j hi hj hx hd (by rw [va_up_self]; exact kk)
theorem l_Bo (C : Cx p s m c cc nL own args g Z) (hw : WH g Z ((D, va_up B i b, G, n, kn), μ, o) s H locs) (j : Nat) (hk : k < 200) (hki : k ≠ i) (hj : j < 5) (hx : x = nI j) (hd : decode cc pc = .ok (.iaload, 1)) (kk : W p l e R s m args below meth c H locs cells slots Q (F0 m (pc + 1) ls (.int (B k j) :: rest))) : W p l e R s m args below meth c H locs cells slots Q (F0 m pc ls (.int x :: .ref (Z + (3 + 3 * k)) :: rest)) :=
  l_B C hw j hk hj hx hd (by rw [va_up_ne _ _ hki]; exact kk)
theorem s_Bi (C : Cx p s m c cc nL own args g Z) (hw : WH g Z ((D, va_up B i b, G, n, kn), μ, o) s H locs) (j : Nat) (hi : i < 200) (hj : j < 5) (hx : x = nI j) (hd : decode cc pc = .ok (.iastore, 1)) (kk : ∀ (H1 : Heap) (locs1 : List Loc), WH g Z ((D, va_up B i (upd b j y), G, n, kn), μ, o) s H1 locs1 → W p l e R s m args below meth c H1 locs1 cells slots Q (F0 m (pc + 1) ls rest)) : W p l e R s m args below meth c H locs cells slots Q (F0 m pc ls (.int y :: .int x :: .ref (Z + (3 + 3 * i)) :: rest)) :=
  s_B C hw j hi hj hx hd (fun H1 l1 h => kk H1 l1 (by rw [va_up_self, bx_uu] at h; exact h))
theorem s_Gi (C : Cx p s m c cc nL own args g Z) (hw : WH g Z ((D, B, va_up G i gg, n, kn), μ, o) s H locs) (j : Nat) (hi : i < 200) (hj : j < 16) (hx : x = nI j) (hd : decode cc pc = .ok (.iastore, 1)) (kk : ∀ (H1 : Heap) (locs1 : List Loc), WH g Z ((D, B, va_up G i (upd gg j y), n, kn), μ, o) s H1 locs1 → W p l e R s m args below meth c H1 locs1 cells slots Q (F0 m (pc + 1) ls rest)) : W p l e R s m args below meth c H locs cells slots Q (F0 m pc ls (.int y :: .int x :: .ref (Z + (4 + 3 * i)) :: rest)) :=
  s_G C hw j hi hj hx hd (fun H1 l1 h => kk H1 l1 (by rw [va_up_self, bx_uu] at h; exact h))
theorem l_Go (C : Cx p s m c cc nL own args g Z) (hw : WH g Z ((D, B, va_up G i gg, n, kn), μ, o) s H locs) (j : Nat) (hk : k < 200) (hki : k ≠ i) (hj : j < 16) (hx : x = nI j) (hd : decode cc pc = .ok (.iaload, 1)) (kk : W p l e R s m args below meth c H locs cells slots Q (F0 m (pc + 1) ls (.int (G k j) :: rest))) : W p l e R s m args below meth c H locs cells slots Q (F0 m pc ls (.int x :: .ref (Z + (4 + 3 * k)) :: rest)) :=
  l_G C hw j hk hj hx hd (by rw [va_up_ne _ _ hki]; exact kk)
theorem wk1_0 (C : Cx p s m c prog_1_method_6_code 6 "StageClock" args g Z) (kk : ∀ (gg : Nat → Int32) (H : Heap) (locs : List Loc) (ls : Array Slot), (∀ r, r < 16 → gg r = Gv D 0 r) → WH g Z ((D, B, va_up G 0 gg, n, kn), μ, o) s H locs → lv_has ls 6 [(3, .null), (2, .ref (Z + (2 + 3 * 0))), (0, .ref Z), (1, .int (nI 0))] → W p l e (RM 3) s m args below meth c H locs 0 0 Q (F0 m 82 ls [])) :
    ∀ (d r : Nat), r + d = 16 → ∀ (gg : Nat → Int32) (H : Heap) (locs : List Loc) (ls : Array Slot), (∀ q, q < r → gg q = Gv D 0 q) → WH g Z ((D, B, va_up G 0 gg, n, kn), μ, o) s H locs → lv_has ls 6 [(4, .int (nI r)), (3, .null), (2, .ref (Z + (2 + 3 * 0))), (0, .ref Z), (1, .int (nI 0))] → W p l e (RM 3) s m args below meth c H locs 0 0 Q (F0 m 27 ls []) := by
  intro d
  induction d with
  | zero =>
    intro r hd gg H locs ls hg hw hl
    obtain rfl : r = 16 := by omega
    refine lv_iload C.x C.b d_s6_27 (lv_at hl 0 rfl) ?_
    refine lv_bipush (v := 16) C.x C.b d_s6_29 (by decide) ?_
    refine lv_icmp_ge (tgt := 82) C.x C.b d_s6_31 (by decide) (fun h1 => ?_) (fun h1 => absurd (by decide) h1)
    exact kk gg H locs ls hg hw (lv_sub hl [1, 2, 3, 4] rfl)
  | succ d ih =>
    intro r hd gg H locs ls hg hw hl
    refine lv_iload C.x C.b d_s6_27 (lv_at hl 0 rfl) ?_
    refine lv_bipush (v := 16) C.x C.b d_s6_29 (by decide) ?_
    refine lv_icmp_ge (tgt := 82) C.x C.b d_s6_31 (by decide) (fun h1 => absurd h1 (nI_ge (show r < 16 by omega) (by decide))) (fun h1 => ?_)
    refine lv_aload_n C.x C.b d_s6_34 rfl (lv_at hl 2 rfl) ?_
    refine q_givers C hw (show 0 < 200 by omega) d_s6_35 ?_
    refine lv_iload C.x C.b d_s6_38 (lv_at hl 0 rfl) ?_
    refine lv_aload_nN C.x C.b d_s6_40 rfl (lv_at hl 1 rfl) ?_
    refine lv_ifnonnullN C.x C.b d_s6_41 ?_
    refine lv_iconst (v := (-1)) C.x C.b d_s6_44 (by decide) ?_
    refine lv_goto (tgt := 75) C.x C.b d_s6_45 (by decide) ?_
    refine s_Gi C hw r (show 0 < 200 by omega) (show r < 16 by omega) rfl d_s6_75 (fun H locs hw => ?_)
    refine lv_iinc (k := 0) (v := (nI (r + 1))) (lv' := [(4, .int (nI (r + 1))), (3, .null), (2, .ref (Z + (2 + 3 * 0))), (0, .ref Z), (1, .int (nI 0))]) C.x C.b d_s6_76 hl rfl (nI_1 _) (by decide) rfl (fun ls hl => ?_)
    refine lv_goto (tgt := 27) C.x C.b d_s6_79 (by decide) ?_
    refine ih (r + 1) (by omega) _ H locs ls (fun q hq => ?_) hw hl
    by_cases hqr : q = r
    · subst hqr
      rw [pk_us]
      unfold Gv bfr
      by_cases h0 : q = 0
      · rw [if_pos h0]
      · rw [if_neg h0]
    · rw [pk_un hqr]; exact hg q (by omega)
theorem wk2_0 (C : Cx p s m c prog_1_method_6_code 6 "StageClock" args g Z) (hw : WH g Z ((D, va_up B 0 b, G, n, kn), μ, o) s H locs) (hl : lv_has ls 6 [(3, .null), (2, .ref (Z + (2 + 3 * 0))), (0, .ref Z), (1, .int (nI 0))]) (kk : ∀ (b : Nat → Int32) (H : Heap) (locs : List Loc) (ls : Array Slot), b 0 = st0 D B 0 → b 1 = st1 D B 0 → b 2 = st2a D B 0 → WH g Z ((D, va_up B 0 b, G, n, kn), μ, o) s H locs → lv_has ls 6 [(5, .int 1), (4, .ref (Z + (3 + 3 * 0))), (3, .null), (2, .ref (Z + (2 + 3 * 0))), (0, .ref Z), (1, .int (nI 0))] → W p l e (RM 3) s m args below meth c H locs 0 0 Q (F0 m 179 ls [])) : W p l e (RM 3) s m args below meth c H locs 0 0 Q (F0 m 82 ls []) := by
  refine lv_aload_n C.x C.b d_s6_82 rfl (lv_at hl 1 rfl) ?_
  refine q_begins C hw (show 0 < 200 by omega) d_s6_83 ?_
  refine lv_astore (lv' := [(4, .ref (Z + (3 + 3 * 0))), (3, .null), (2, .ref (Z + (2 + 3 * 0))), (0, .ref Z), (1, .int (nI 0))]) C.x C.b d_s6_86 hl (by decide) rfl (fun ls hl => ?_)
  refine lv_aload C.x C.b d_s6_88 (lv_at hl 0 rfl) ?_
  refine lv_iconst (v := 0) C.x C.b d_s6_90 (by decide) ?_
  refine lv_aload_nN C.x C.b d_s6_91 rfl (lv_at hl 1 rfl) ?_
  refine lv_ifnonnullN C.x C.b d_s6_92 ?_
  refine lv_iconst (v := 1) C.x C.b d_s6_95 (by decide) ?_
  refine lv_goto (tgt := 121) C.x C.b d_s6_96 (by decide) ?_
  refine s_Bi C hw 0 (show 0 < 200 by omega) (by decide) rfl d_s6_121 (fun H locs hw => ?_)
  refine lv_aload C.x C.b d_s6_122 (lv_at hl 0 rfl) ?_
  refine lv_iconst (v := 1) C.x C.b d_s6_124 (by decide) ?_
  refine lv_aload C.x C.b d_s6_125 (lv_at hl 0 rfl) ?_
  refine lv_iconst (v := 0) C.x C.b d_s6_127 (by decide) ?_
  refine l_Bi C hw 0 (show 0 < 200 by omega) (by decide) rfl d_s6_128 ?_
  refine lv_iconst (v := 1) C.x C.b d_s6_129 (by decide) ?_
  refine lv_iadd C.x C.b d_s6_130 ?_
  refine lv_aload_nN C.x C.b d_s6_131 rfl (lv_at hl 1 rfl) ?_
  refine lv_ifnonnullN C.x C.b d_s6_132 ?_
  refine lv_iconst (v := 0) C.x C.b d_s6_135 (by decide) ?_
  refine lv_goto (tgt := 145) C.x C.b d_s6_136 (by decide) ?_
  refine k_max C hl.1 (by decide) (Nat.le_of_ble_eq_true rfl) (Nat.zero_le _) (Nat.zero_le _) d_s6_145 ?_
  refine s_Bi C hw 1 (show 0 < 200 by omega) (by decide) rfl d_s6_148 (fun H locs hw => ?_)
  refine lv_aload C.x C.b d_s6_149 (lv_at hl 0 rfl) ?_
  refine lv_iconst (v := 2) C.x C.b d_s6_151 (by decide) ?_
  refine lv_aload C.x C.b d_s6_152 (lv_at hl 0 rfl) ?_
  refine lv_iconst (v := 1) C.x C.b d_s6_154 (by decide) ?_
  refine l_Bi C hw 1 (show 0 < 200 by omega) (by decide) rfl d_s6_155 ?_
  refine lv_iconst (v := 1) C.x C.b d_s6_156 (by decide) ?_
  refine lv_iadd C.x C.b d_s6_157 ?_
  refine lv_aload_nN C.x C.b d_s6_158 rfl (lv_at hl 1 rfl) ?_
  refine lv_ifnonnullN C.x C.b d_s6_159 ?_
  refine lv_iconst (v := 0) C.x C.b d_s6_162 (by decide) ?_
  refine lv_goto (tgt := 172) C.x C.b d_s6_163 (by decide) ?_
  refine k_max C hl.1 (by decide) (Nat.le_of_ble_eq_true rfl) (Nat.zero_le _) (Nat.zero_le _) d_s6_172 ?_
  refine s_Bi C hw 2 (show 0 < 200 by omega) (by decide) rfl d_s6_175 (fun H locs hw => ?_)
  refine lv_iconst (v := 1) C.x C.b d_s6_176 (by decide) ?_
  refine lv_istore (lv' := [(5, .int 1), (4, .ref (Z + (3 + 3 * 0))), (3, .null), (2, .ref (Z + (2 + 3 * 0))), (0, .ref Z), (1, .int (nI 0))]) C.x C.b d_s6_177 hl (by decide) rfl (fun ls hl => ?_)
  refine kk _ H locs ls ?_ ?_ ?_ hw hl
  · rfl
  · rfl
  · rfl
theorem wk3_0 (C : Cx p s m c prog_1_method_6_code 6 "StageClock" args g Z) (hgg : ∀ r, r < 16 → gg r = Gv D 0 r) (kk : ∀ (b : Nat → Int32) (H : Heap) (locs : List Loc) (ls : Array Slot), b 0 = st0 D B 0 → b 1 = st1 D B 0 → b 2 = st2 D B 0 → WH g Z ((D, va_up B 0 b, va_up G 0 gg, n, kn), μ, o) s H locs → lv_has ls 6 [(4, .ref (Z + (3 + 3 * 0))), (3, .null), (2, .ref (Z + (2 + 3 * 0))), (0, .ref Z), (1, .int (nI 0))] → W p l e (RM 3) s m args below meth c H locs 0 0 Q (F0 m 223 ls [])) :
    ∀ (d r : Nat), r + d = 15 → ∀ (b : Nat → Int32) (H : Heap) (locs : List Loc) (ls : Array Slot), b 0 = st0 D B 0 → b 1 = st1 D B 0 → b 2 = lpx (fun r => bh D B (bfr D 0 (nI r))) (D 2 0) (st2a D B 0) r → WH g Z ((D, va_up B 0 b, va_up G 0 gg, n, kn), μ, o) s H locs → lv_has ls 6 [(5, .int (nI (r + 1))), (4, .ref (Z + (3 + 3 * 0))), (3, .null), (2, .ref (Z + (2 + 3 * 0))), (0, .ref Z), (1, .int (nI 0))] → W p l e (RM 3) s m args below meth c H locs 0 0 Q (F0 m 179 ls []) := by
  intro d
  induction d with
  | zero =>
    intro r hd b H locs ls h0 h1 h2 hw hl
    obtain rfl : r = 15 := by omega
    refine lv_iload C.x C.b d_s6_179 (lv_at hl 0 rfl) ?_
    refine lv_bipush (v := 16) C.x C.b d_s6_181 (by decide) ?_
    refine lv_icmp_ge (tgt := 223) C.x C.b d_s6_183 (by decide) (fun h9 => ?_) (fun h9 => absurd (by decide) h9)
    exact kk b H locs ls h0 h1 h2 hw (lv_sub hl [1, 2, 3, 4, 5] rfl)
  | succ d ih =>
    intro r hd b H locs ls h0 h1 h2 hw hl
    refine lv_iload C.x C.b d_s6_179 (lv_at hl 0 rfl) ?_
    refine lv_bipush (v := 16) C.x C.b d_s6_181 (by decide) ?_
    refine lv_icmp_ge (tgt := 223) C.x C.b d_s6_183 (by decide) (fun h9 => absurd h9 (nI_ge (show r + 1 < 16 by omega) (by decide))) (fun h9 => ?_)
    refine lv_aload_n C.x C.b d_s6_186 rfl (lv_at hl 3 rfl) ?_
    refine q_reads C hw (show 0 < 200 by omega) d_s6_187 ?_
    refine lv_iload C.x C.b d_s6_190 (lv_at hl 0 rfl) ?_
    refine lv_ishr C.x C.b d_s6_192 ?_
    refine lv_iconst (v := 1) C.x C.b d_s6_193 (by decide) ?_
    refine lv_iand C.x C.b d_s6_194 ?_
    refine lv_iconst (v := 1) C.x C.b d_s6_195 (by decide) ?_
    refine lv_icmp_ne (tgt := 217) C.x C.b d_s6_196 (by decide) (fun h3 => ?_) (fun h3 => ?_)
    · skip
      refine lv_iinc (k := 0) (v := (nI ((r + 1) + 1))) (lv' := [(5, .int (nI ((r + 1) + 1))), (4, .ref (Z + (3 + 3 * 0))), (3, .null), (2, .ref (Z + (2 + 3 * 0))), (0, .ref Z), (1, .int (nI 0))]) C.x C.b d_s6_217 hl rfl (nI_1 _) (by decide) rfl (fun ls hl => ?_)
      refine lv_goto (tgt := 179) C.x C.b d_s6_220 (by decide) ?_
      refine ih (r + 1) (by omega) b H locs ls h0 h1 ?_ hw hl
      rw [h2]
      exact (if_neg h3).symm
    · skip
      refine lv_aload C.x C.b d_s6_199 (lv_at hl 1 rfl) ?_
      refine lv_iconst (v := 2) C.x C.b d_s6_201 (by decide) ?_
      refine lv_aload C.x C.b d_s6_202 (lv_at hl 1 rfl) ?_
      refine lv_iconst (v := 2) C.x C.b d_s6_204 (by decide) ?_
      refine l_Bi C hw 2 (show 0 < 200 by omega) (by decide) rfl d_s6_205 ?_
      refine lv_aload_n C.x C.b d_s6_206 rfl (lv_at hl 4 rfl) ?_
      refine lv_aload_n C.x C.b d_s6_207 rfl (lv_at hl 3 rfl) ?_
      refine lv_iload C.x C.b d_s6_208 (lv_at hl 0 rfl) ?_
      have eg : va_up G 0 gg 0 (r + 1) = bfr D 0 (nI (r + 1)) := by rw [va_up_self, hgg (r + 1) (by omega)]; exact if_neg (Nat.succ_ne_zero r)
      have hth : 0 ≤ va_up G 0 gg 0 (r + 1) → ∃ j9 : Nat, j9 < 200 ∧ va_up G 0 gg 0 (r + 1) = nI j9 := fun hq => by
              rw [eg] at hq ⊢
              obtain ⟨j9, hj9, e9⟩ := bfr_in D _ _ hq
              exact ⟨j9, by omega, e9⟩
      refine ret_i hw (run_V C hw (c_there l (show 0 < 200 by omega) (show r + 1 < 16 by omega) hth) (i := 0) (by decide) rfl rfl Y_s5 k_225 k_227 kp_4 ⟨rfl, rfl⟩ (by decide) ⟨Nat.zero_le _, Nat.zero_le _⟩ rfl hl.1 rfl (Nat.le_of_ble_eq_true rfl) d_s6_210) (fun r9 u9 H locs hp hw => ?_)
      obtain ⟨rfl, rfl⟩ := hp
      rw [eg, bh_up (by omega)]
      refine k_max C hl.1 (by decide) (Nat.le_of_ble_eq_true rfl) (Nat.zero_le _) (Nat.zero_le _) d_s6_213 ?_
      refine s_Bi C hw 2 (show 0 < 200 by omega) (by decide) rfl d_s6_216 (fun H locs hw => ?_)
      refine lv_iinc (k := 0) (v := (nI ((r + 1) + 1))) (lv' := [(5, .int (nI ((r + 1) + 1))), (4, .ref (Z + (3 + 3 * 0))), (3, .null), (2, .ref (Z + (2 + 3 * 0))), (0, .ref Z), (1, .int (nI 0))]) C.x C.b d_s6_217 hl rfl (nI_1 _) (by decide) rfl (fun ls hl => ?_)
      refine lv_goto (tgt := 179) C.x C.b d_s6_220 (by decide) ?_
      refine ih (r + 1) (by omega) _ H locs ls ?_ ?_ ?_ hw hl
      · exact (pk_un (by decide)).trans h0
      · exact (pk_un (by decide)).trans h1
      · rw [pk_us, h2]
        exact (if_pos h3).symm
theorem wk4_0 (C : Cx p s m c prog_1_method_6_code 6 "StageClock" args g Z) (hr : meth.sig.returnType = none) (hlk : meth.locks = false) {post : TS → Prop} {lt : Nat} (hlt : lt < 16) (elt : D 3 0 = nI lt) (hgg : ∀ r, r < 16 → gg r = Gv D 0 r) (h0 : b 0 = st0 D B 0) (h1 : b 1 = st1 D B 0) (h2 : b 2 = st2 D B 0) (hw : WH g Z ((D, va_up B 0 b, va_up G 0 gg, n, kn), μ, o) s H locs) (hl : lv_has ls 6 [(4, .ref (Z + (3 + 3 * 0))), (3, .null), (2, .ref (Z + (2 + 3 * 0))), (0, .ref Z), (1, .int (nI 0))]) (hp : ∀ b : Nat → Int32, (∀ j7, j7 < 5 → b j7 = stp D B 0 j7) → post ((D, va_up B 0 b, va_up G 0 gg, n, kn), μ, o)) :
    W p l e (RM 3) s m args below meth c H locs 0 0 (MQ below (va_Qv post (Wd g Z) (zfree Z)) args s 0 0 (zfree Z)) (F0 m 223 ls []) := by
  refine lv_aload C.x C.b d_s6_223 (lv_at hl 0 rfl) ?_
  refine lv_iconst (v := 3) C.x C.b d_s6_225 (by decide) ?_
  refine lv_aload_n C.x C.b d_s6_226 rfl (lv_at hl 2 rfl) ?_
  refine ret_i hw (run_V C hw (c_done l (show 0 < 200 by omega)) (i := 2 + 3 * 0) (by omega) (cont_T g Z _ (show 0 < 200 by omega)) rfl Y_t2 k_218 k_219 k_220 ⟨rfl, rfl⟩ (by decide) ⟨Nat.zero_le _, Nat.zero_le _⟩ rfl hl.1 rfl (Nat.le_of_ble_eq_true rfl) d_s6_227) (fun r9 u9 H locs hp hw => ?_)
  obtain ⟨rfl, rfl⟩ := hp
  rw [xeD_own, h2]
  refine lv_iconst (v := 1) C.x C.b d_s6_230 (by decide) ?_
  refine lv_iadd C.x C.b d_s6_231 ?_
  refine lv_aload_nN C.x C.b d_s6_232 rfl (lv_at hl 1 rfl) ?_
  refine lv_ifnonnullN C.x C.b d_s6_233 ?_
  refine lv_iconst (v := 0) C.x C.b d_s6_236 (by decide) ?_
  refine lv_goto (tgt := 246) C.x C.b d_s6_237 (by decide) ?_
  refine k_max C hl.1 (by decide) (Nat.le_of_ble_eq_true rfl) (Nat.zero_le _) (Nat.zero_le _) d_s6_246 ?_
  refine s_Bi C hw 3 (show 0 < 200 by omega) (by decide) rfl d_s6_249 (fun H locs hw => ?_)
  have e3 : mx (st2 D B 0 + D 0 0 - 1 + 1) (0) = st3a D B 0 := rfl
  rw [e3] at hw
  refine lv_aload_n C.x C.b d_s6_250 rfl (lv_at hl 2 rfl) ?_
  refine q_late C hw (show 0 < 200 by omega) d_s6_251 ?_
  refine lv_if_le (tgt := 277) C.x C.b d_s6_254 (by decide) (fun h3 => ?_) (fun h3 => ?_)
  · skip
    refine lv_aload C.x C.b d_s6_277 (lv_at hl 0 rfl) ?_
    refine lv_iconst (v := 4) C.x C.b d_s6_279 (by decide) ?_
    refine lv_aload_n C.x C.b d_s6_280 rfl (lv_at hl 2 rfl) ?_
    refine ret_i hw (run_V C hw (c_through l (show 0 < 200 by omega)) (i := 2 + 3 * 0) (by omega) (cont_T g Z _ (show 0 < 200 by omega)) rfl Y_t3 k_238 k_234 k_235 ⟨rfl, rfl⟩ (by decide) ⟨Nat.zero_le _, Nat.zero_le _⟩ rfl hl.1 rfl (Nat.le_of_ble_eq_true rfl) d_s6_281) (fun r9 u9 H locs hp hw => ?_)
    obtain ⟨rfl, rfl⟩ := hp
    rw [meD_own]
    rw [pk_us]
    refine lv_iconst (v := 1) C.x C.b d_s6_284 (by decide) ?_
    refine lv_iadd C.x C.b d_s6_285 ?_
    refine s_Bi C hw 4 (show 0 < 200 by omega) (by decide) rfl d_s6_286 (fun H locs hw => ?_)
    have e5 : st3a D B 0 = st3 D B 0 := (if_neg (Int32.not_lt.mpr h3)).symm
    rw [e5] at hw
    refine e_v C hr hlk hw d_s6_287 (hp _ (fun j7 hj7 => ?_))
    match j7, hj7 with
    | 0, _ => exact h0
    | 1, _ => exact h1
    | 2, _ => exact h2
    | 3, _ => rfl
    | 4, _ => rfl
  · skip
    refine lv_aload C.x C.b d_s6_257 (lv_at hl 0 rfl) ?_
    refine lv_iconst (v := 3) C.x C.b d_s6_259 (by decide) ?_
    refine lv_aload C.x C.b d_s6_260 (lv_at hl 0 rfl) ?_
    refine lv_iconst (v := 3) C.x C.b d_s6_262 (by decide) ?_
    refine l_Bi C hw 3 (show 0 < 200 by omega) (by decide) rfl d_s6_263 ?_
    refine lv_aload_n C.x C.b d_s6_264 rfl (lv_at hl 3 rfl) ?_
    refine lv_aload_n C.x C.b d_s6_265 rfl (lv_at hl 2 rfl) ?_
    refine lv_aload_n C.x C.b d_s6_266 rfl (lv_at hl 2 rfl) ?_
    refine q_late C hw (show 0 < 200 by omega) d_s6_267 ?_
    have hlp : 0 < D 3 0 := Int32.not_le.mp h3
    have hl0 : ¬ lt = 0 := fun h => by rw [elt, h] at h3; exact h3 (by decide)
    have eg : va_up G 0 gg 0 lt = bfr D 0 (D 3 0) := by rw [va_up_self, hgg lt hlt, elt]; exact if_neg hl0
    have hth : 0 ≤ va_up G 0 gg 0 lt → ∃ j9 : Nat, j9 < 200 ∧ va_up G 0 gg 0 lt = nI j9 := fun hq => by
          rw [eg] at hq ⊢
          obtain ⟨j9, hj9, e9⟩ := bfr_in D _ _ hq
          exact ⟨j9, by omega, e9⟩
    rw [elt, pk_us]
    refine ret_i hw (run_V C hw (c_there l (show 0 < 200 by omega) hlt hth) (i := 0) (by decide) rfl rfl Y_s5 k_225 k_227 kp_4 ⟨rfl, rfl⟩ (by decide) ⟨Nat.zero_le _, Nat.zero_le _⟩ rfl hl.1 rfl (Nat.le_of_ble_eq_true rfl) d_s6_270) (fun r9 u9 H locs hp hw => ?_)
    obtain ⟨rfl, rfl⟩ := hp
    rw [eg, bh_up (by omega)]
    refine k_max C hl.1 (by decide) (Nat.le_of_ble_eq_true rfl) (Nat.zero_le _) (Nat.zero_le _) d_s6_273 ?_
    refine s_Bi C hw 3 (show 0 < 200 by omega) (by decide) rfl d_s6_276 (fun H locs hw => ?_)
    refine lv_aload C.x C.b d_s6_277 (lv_at hl 0 rfl) ?_
    refine lv_iconst (v := 4) C.x C.b d_s6_279 (by decide) ?_
    refine lv_aload_n C.x C.b d_s6_280 rfl (lv_at hl 2 rfl) ?_
    refine ret_i hw (run_V C hw (c_through l (show 0 < 200 by omega)) (i := 2 + 3 * 0) (by omega) (cont_T g Z _ (show 0 < 200 by omega)) rfl Y_t3 k_238 k_234 k_235 ⟨rfl, rfl⟩ (by decide) ⟨Nat.zero_le _, Nat.zero_le _⟩ rfl hl.1 rfl (Nat.le_of_ble_eq_true rfl) d_s6_281) (fun r9 u9 H locs hp hw => ?_)
    obtain ⟨rfl, rfl⟩ := hp
    rw [meD_own]
    rw [pk_us]
    refine lv_iconst (v := 1) C.x C.b d_s6_284 (by decide) ?_
    refine lv_iadd C.x C.b d_s6_285 ?_
    refine s_Bi C hw 4 (show 0 < 200 by omega) (by decide) rfl d_s6_286 (fun H locs hw => ?_)
    have e5 : mx (st3a D B 0) (bh D B (bfr D 0 (D 3 0))) = st3 D B 0 := (if_pos hlp).symm
    rw [e5] at hw
    refine e_v C hr hlk hw d_s6_287 (hp _ (fun j7 hj7 => ?_))
    match j7, hj7 with
    | 0, _ => exact h0
    | 1, _ => exact h1
    | 2, _ => exact h2
    | 3, _ => rfl
    | 4, _ => rfl
theorem wk1_1 (C : Cx p s m c prog_1_method_6_code 6 "StageClock" args g Z) {j : Nat} (hi : j + 1 < 200) (hG : ∀ r, r < 16 → G j r = Gv D j r) (kk : ∀ (gg : Nat → Int32) (H : Heap) (locs : List Loc) (ls : Array Slot), (∀ r, r < 16 → gg r = Gv D (j + 1) r) → WH g Z ((D, B, va_up G (j + 1) gg, n, kn), μ, o) s H locs → lv_has ls 6 [(3, .ref (Z + (2 + 3 * j))), (2, .ref (Z + (2 + 3 * (j + 1)))), (0, .ref Z), (1, .int (nI (j + 1)))] → W p l e (RM 3) s m args below meth c H locs 0 0 Q (F0 m 82 ls [])) :
    ∀ (d r : Nat), r + d = 16 → ∀ (gg : Nat → Int32) (H : Heap) (locs : List Loc) (ls : Array Slot), (∀ q, q < r → gg q = Gv D (j + 1) q) → WH g Z ((D, B, va_up G (j + 1) gg, n, kn), μ, o) s H locs → lv_has ls 6 [(4, .int (nI r)), (3, .ref (Z + (2 + 3 * j))), (2, .ref (Z + (2 + 3 * (j + 1)))), (0, .ref Z), (1, .int (nI (j + 1)))] → W p l e (RM 3) s m args below meth c H locs 0 0 Q (F0 m 27 ls []) := by
  intro d
  induction d with
  | zero =>
    intro r hd gg H locs ls hg hw hl
    obtain rfl : r = 16 := by omega
    refine lv_iload C.x C.b d_s6_27 (lv_at hl 0 rfl) ?_
    refine lv_bipush (v := 16) C.x C.b d_s6_29 (by decide) ?_
    refine lv_icmp_ge (tgt := 82) C.x C.b d_s6_31 (by decide) (fun h1 => ?_) (fun h1 => absurd (by decide) h1)
    exact kk gg H locs ls hg hw (lv_sub hl [1, 2, 3, 4] rfl)
  | succ d ih =>
    intro r hd gg H locs ls hg hw hl
    refine lv_iload C.x C.b d_s6_27 (lv_at hl 0 rfl) ?_
    refine lv_bipush (v := 16) C.x C.b d_s6_29 (by decide) ?_
    refine lv_icmp_ge (tgt := 82) C.x C.b d_s6_31 (by decide) (fun h1 => absurd h1 (nI_ge (show r < 16 by omega) (by decide))) (fun h1 => ?_)
    refine lv_aload_n C.x C.b d_s6_34 rfl (lv_at hl 2 rfl) ?_
    refine q_givers C hw (show (j + 1) < 200 by omega) d_s6_35 ?_
    refine lv_iload C.x C.b d_s6_38 (lv_at hl 0 rfl) ?_
    refine lv_aload_n C.x C.b d_s6_40 rfl (lv_at hl 1 rfl) ?_
    refine lv_ifnonnull (tgt := 48) C.x C.b d_s6_41 (by decide) ?_
    refine lv_aload_n C.x C.b d_s6_48 rfl (lv_at hl 1 rfl) ?_
    refine q_gets C hw (show j < 200 by omega) d_s6_49 ?_
    refine lv_iload C.x C.b d_s6_52 (lv_at hl 0 rfl) ?_
    refine lv_icmp_ne (tgt := 68) C.x C.b d_s6_54 (by decide) (fun h2 => ?_) (fun h2 => ?_)
    · skip
      refine lv_aload_n C.x C.b d_s6_68 rfl (lv_at hl 1 rfl) ?_
      refine q_givers C hw (show j < 200 by omega) d_s6_69 ?_
      refine lv_iload C.x C.b d_s6_72 (lv_at hl 0 rfl) ?_
      refine l_Go C hw r (show j < 200 by omega) (by omega) (show r < 16 by omega) rfl d_s6_74 ?_
      refine s_Gi C hw r (show (j + 1) < 200 by omega) (show r < 16 by omega) rfl d_s6_75 (fun H locs hw => ?_)
      refine lv_iinc (k := 0) (v := (nI (r + 1))) (lv' := [(4, .int (nI (r + 1))), (3, .ref (Z + (2 + 3 * j))), (2, .ref (Z + (2 + 3 * (j + 1)))), (0, .ref Z), (1, .int (nI (j + 1)))]) C.x C.b d_s6_76 hl rfl (nI_1 _) (by decide) rfl (fun ls hl => ?_)
      refine lv_goto (tgt := 27) C.x C.b d_s6_79 (by decide) ?_
      refine ih (r + 1) (by omega) _ H locs ls (fun q hq => ?_) hw hl
      by_cases hqr : q = r
      · subst hqr
        rw [pk_us]
        rw [hG q (by omega)]
        unfold Gv
        by_cases h0 : q = 0
        · rw [if_pos h0, if_pos h0]
        · rw [if_neg h0, if_neg h0]
          exact (if_neg h2).symm
      · rw [pk_un hqr]; exact hg q (by omega)
    · skip
      refine lv_iload C.x C.b d_s6_57 (lv_at hl 0 rfl) ?_
      refine lv_if_le (tgt := 68) C.x C.b d_s6_59 (by decide) (fun h3 => ?_) (fun h3 => ?_)
      · skip
        refine lv_aload_n C.x C.b d_s6_68 rfl (lv_at hl 1 rfl) ?_
        refine q_givers C hw (show j < 200 by omega) d_s6_69 ?_
        refine lv_iload C.x C.b d_s6_72 (lv_at hl 0 rfl) ?_
        refine l_Go C hw r (show j < 200 by omega) (by omega) (show r < 16 by omega) rfl d_s6_74 ?_
        refine s_Gi C hw r (show (j + 1) < 200 by omega) (show r < 16 by omega) rfl d_s6_75 (fun H locs hw => ?_)
        refine lv_iinc (k := 0) (v := (nI (r + 1))) (lv' := [(4, .int (nI (r + 1))), (3, .ref (Z + (2 + 3 * j))), (2, .ref (Z + (2 + 3 * (j + 1)))), (0, .ref Z), (1, .int (nI (j + 1)))]) C.x C.b d_s6_76 hl rfl (nI_1 _) (by decide) rfl (fun ls hl => ?_)
        refine lv_goto (tgt := 27) C.x C.b d_s6_79 (by decide) ?_
        refine ih (r + 1) (by omega) _ H locs ls (fun q hq => ?_) hw hl
        by_cases hqr : q = r
        · subst hqr
          rw [pk_us]
          have h0 : q = 0 := by
            rcases Nat.eq_zero_or_pos q with h | h
            · exact h
            · exact absurd h3 (nI_nle h (by omega))
          rw [hG q (by omega)]
          unfold Gv
          rw [if_pos h0, if_pos h0]
        · rw [pk_un hqr]; exact hg q (by omega)
      · skip
        refine lv_iload_n C.x C.b d_s6_62 rfl (lv_at hl 4 rfl) ?_
        refine lv_iconst (v := 1) C.x C.b d_s6_63 (by decide) ?_
        refine lv_isub C.x C.b d_s6_64 ?_
        rw [nI_pred]
        refine lv_goto (tgt := 75) C.x C.b d_s6_65 (by decide) ?_
        refine s_Gi C hw r (show (j + 1) < 200 by omega) (show r < 16 by omega) rfl d_s6_75 (fun H locs hw => ?_)
        refine lv_iinc (k := 0) (v := (nI (r + 1))) (lv' := [(4, .int (nI (r + 1))), (3, .ref (Z + (2 + 3 * j))), (2, .ref (Z + (2 + 3 * (j + 1)))), (0, .ref Z), (1, .int (nI (j + 1)))]) C.x C.b d_s6_76 hl rfl (nI_1 _) (by decide) rfl (fun ls hl => ?_)
        refine lv_goto (tgt := 27) C.x C.b d_s6_79 (by decide) ?_
        refine ih (r + 1) (by omega) _ H locs ls (fun q hq => ?_) hw hl
        by_cases hqr : q = r
        · subst hqr
          rw [pk_us]
          have h0 : ¬ q = 0 := fun h => h3 (by rw [h]; decide)
          unfold Gv
          rw [if_neg h0]
          exact (if_pos h2).symm
        · rw [pk_un hqr]; exact hg q (by omega)
theorem wk2_1 (C : Cx p s m c prog_1_method_6_code 6 "StageClock" args g Z) {j : Nat} (hi : j + 1 < 200) (hw : WH g Z ((D, va_up B (j + 1) b, G, n, kn), μ, o) s H locs) (hl : lv_has ls 6 [(3, .ref (Z + (2 + 3 * j))), (2, .ref (Z + (2 + 3 * (j + 1)))), (0, .ref Z), (1, .int (nI (j + 1)))]) (kk : ∀ (b : Nat → Int32) (H : Heap) (locs : List Loc) (ls : Array Slot), b 0 = st0 D B (j + 1) → b 1 = st1 D B (j + 1) → b 2 = st2a D B (j + 1) → WH g Z ((D, va_up B (j + 1) b, G, n, kn), μ, o) s H locs → lv_has ls 6 [(5, .int 1), (4, .ref (Z + (3 + 3 * (j + 1)))), (3, .ref (Z + (2 + 3 * j))), (2, .ref (Z + (2 + 3 * (j + 1)))), (0, .ref Z), (1, .int (nI (j + 1)))] → W p l e (RM 3) s m args below meth c H locs 0 0 Q (F0 m 179 ls [])) : W p l e (RM 3) s m args below meth c H locs 0 0 Q (F0 m 82 ls []) := by
  refine lv_aload_n C.x C.b d_s6_82 rfl (lv_at hl 1 rfl) ?_
  refine q_begins C hw (show (j + 1) < 200 by omega) d_s6_83 ?_
  refine lv_astore (lv' := [(4, .ref (Z + (3 + 3 * (j + 1)))), (3, .ref (Z + (2 + 3 * j))), (2, .ref (Z + (2 + 3 * (j + 1)))), (0, .ref Z), (1, .int (nI (j + 1)))]) C.x C.b d_s6_86 hl (by decide) rfl (fun ls hl => ?_)
  refine lv_aload C.x C.b d_s6_88 (lv_at hl 0 rfl) ?_
  refine lv_iconst (v := 0) C.x C.b d_s6_90 (by decide) ?_
  refine lv_aload_n C.x C.b d_s6_91 rfl (lv_at hl 1 rfl) ?_
  refine lv_ifnonnull (tgt := 99) C.x C.b d_s6_92 (by decide) ?_
  refine lv_aload_n C.x C.b d_s6_99 rfl (lv_at hl 1 rfl) ?_
  refine q_wrong C hw (show j < 200 by omega) d_s6_100 ?_
  refine lv_if_eq (tgt := 115) C.x C.b d_s6_103 (by decide) (fun h1 => ?_) (fun h1 => ?_)
  · skip
    refine lv_aload_n C.x C.b d_s6_115 rfl (lv_at hl 1 rfl) ?_
    refine q_begins C hw (show j < 200 by omega) d_s6_116 ?_
    refine lv_iconst (v := 1) C.x C.b d_s6_119 (by decide) ?_
    refine l_Bo C hw 1 (show j < 200 by omega) (by omega) (by decide) rfl d_s6_120 ?_
    refine s_Bi C hw 0 (show (j + 1) < 200 by omega) (by decide) rfl d_s6_121 (fun H locs hw => ?_)
    refine lv_aload C.x C.b d_s6_122 (lv_at hl 0 rfl) ?_
    refine lv_iconst (v := 1) C.x C.b d_s6_124 (by decide) ?_
    refine lv_aload C.x C.b d_s6_125 (lv_at hl 0 rfl) ?_
    refine lv_iconst (v := 0) C.x C.b d_s6_127 (by decide) ?_
    refine l_Bi C hw 0 (show (j + 1) < 200 by omega) (by decide) rfl d_s6_128 ?_
    refine lv_iconst (v := 1) C.x C.b d_s6_129 (by decide) ?_
    refine lv_iadd C.x C.b d_s6_130 ?_
    refine lv_aload_n C.x C.b d_s6_131 rfl (lv_at hl 1 rfl) ?_
    refine lv_ifnonnull (tgt := 139) C.x C.b d_s6_132 (by decide) ?_
    refine lv_aload_n C.x C.b d_s6_139 rfl (lv_at hl 1 rfl) ?_
    refine q_begins C hw (show j < 200 by omega) d_s6_140 ?_
    refine lv_iconst (v := 2) C.x C.b d_s6_143 (by decide) ?_
    refine l_Bo C hw 2 (show j < 200 by omega) (by omega) (by decide) rfl d_s6_144 ?_
    refine k_max C hl.1 (by decide) (Nat.le_of_ble_eq_true rfl) (Nat.zero_le _) (Nat.zero_le _) d_s6_145 ?_
    refine s_Bi C hw 1 (show (j + 1) < 200 by omega) (by decide) rfl d_s6_148 (fun H locs hw => ?_)
    refine lv_aload C.x C.b d_s6_149 (lv_at hl 0 rfl) ?_
    refine lv_iconst (v := 2) C.x C.b d_s6_151 (by decide) ?_
    refine lv_aload C.x C.b d_s6_152 (lv_at hl 0 rfl) ?_
    refine lv_iconst (v := 1) C.x C.b d_s6_154 (by decide) ?_
    refine l_Bi C hw 1 (show (j + 1) < 200 by omega) (by decide) rfl d_s6_155 ?_
    refine lv_iconst (v := 1) C.x C.b d_s6_156 (by decide) ?_
    refine lv_iadd C.x C.b d_s6_157 ?_
    refine lv_aload_n C.x C.b d_s6_158 rfl (lv_at hl 1 rfl) ?_
    refine lv_ifnonnull (tgt := 166) C.x C.b d_s6_159 (by decide) ?_
    refine lv_aload_n C.x C.b d_s6_166 rfl (lv_at hl 1 rfl) ?_
    refine q_begins C hw (show j < 200 by omega) d_s6_167 ?_
    refine lv_iconst (v := 3) C.x C.b d_s6_170 (by decide) ?_
    refine l_Bo C hw 3 (show j < 200 by omega) (by omega) (by decide) rfl d_s6_171 ?_
    refine k_max C hl.1 (by decide) (Nat.le_of_ble_eq_true rfl) (Nat.zero_le _) (Nat.zero_le _) d_s6_172 ?_
    refine s_Bi C hw 2 (show (j + 1) < 200 by omega) (by decide) rfl d_s6_175 (fun H locs hw => ?_)
    refine lv_iconst (v := 1) C.x C.b d_s6_176 (by decide) ?_
    refine lv_istore (lv' := [(5, .int 1), (4, .ref (Z + (3 + 3 * (j + 1)))), (3, .ref (Z + (2 + 3 * j))), (2, .ref (Z + (2 + 3 * (j + 1)))), (0, .ref Z), (1, .int (nI (j + 1)))]) C.x C.b d_s6_177 hl (by decide) rfl (fun ls hl => ?_)
    have e0 : st0 D B (j + 1) = _ := (if_neg (Nat.succ_ne_zero j)).trans (if_pos h1)
    refine kk _ H locs ls ?_ ?_ ?_ hw hl
    · exact e0.symm
    · unfold st1; rw [e0]; rfl
    · unfold st2a st1; rw [e0]; rfl
  · skip
    refine lv_aload_n C.x C.b d_s6_106 rfl (lv_at hl 1 rfl) ?_
    refine ret_i hw (run_V C hw (c_done l (show j < 200 by omega)) (i := 2 + 3 * j) (by omega) (cont_T g Z _ (show j < 200 by omega)) rfl Y_t2 k_218 k_219 k_220 ⟨rfl, rfl⟩ (by decide) ⟨Nat.zero_le _, Nat.zero_le _⟩ rfl hl.1 rfl (Nat.le_of_ble_eq_true rfl) d_s6_107) (fun r9 u9 H locs hp hw => ?_)
    obtain ⟨rfl, rfl⟩ := hp
    rw [xeD_up (show j ≠ j + 1 by omega)]
    refine lv_iconst (v := 1) C.x C.b d_s6_110 (by decide) ?_
    refine lv_iadd C.x C.b d_s6_111 ?_
    refine lv_goto (tgt := 121) C.x C.b d_s6_112 (by decide) ?_
    refine s_Bi C hw 0 (show (j + 1) < 200 by omega) (by decide) rfl d_s6_121 (fun H locs hw => ?_)
    refine lv_aload C.x C.b d_s6_122 (lv_at hl 0 rfl) ?_
    refine lv_iconst (v := 1) C.x C.b d_s6_124 (by decide) ?_
    refine lv_aload C.x C.b d_s6_125 (lv_at hl 0 rfl) ?_
    refine lv_iconst (v := 0) C.x C.b d_s6_127 (by decide) ?_
    refine l_Bi C hw 0 (show (j + 1) < 200 by omega) (by decide) rfl d_s6_128 ?_
    refine lv_iconst (v := 1) C.x C.b d_s6_129 (by decide) ?_
    refine lv_iadd C.x C.b d_s6_130 ?_
    refine lv_aload_n C.x C.b d_s6_131 rfl (lv_at hl 1 rfl) ?_
    refine lv_ifnonnull (tgt := 139) C.x C.b d_s6_132 (by decide) ?_
    refine lv_aload_n C.x C.b d_s6_139 rfl (lv_at hl 1 rfl) ?_
    refine q_begins C hw (show j < 200 by omega) d_s6_140 ?_
    refine lv_iconst (v := 2) C.x C.b d_s6_143 (by decide) ?_
    refine l_Bo C hw 2 (show j < 200 by omega) (by omega) (by decide) rfl d_s6_144 ?_
    refine k_max C hl.1 (by decide) (Nat.le_of_ble_eq_true rfl) (Nat.zero_le _) (Nat.zero_le _) d_s6_145 ?_
    refine s_Bi C hw 1 (show (j + 1) < 200 by omega) (by decide) rfl d_s6_148 (fun H locs hw => ?_)
    refine lv_aload C.x C.b d_s6_149 (lv_at hl 0 rfl) ?_
    refine lv_iconst (v := 2) C.x C.b d_s6_151 (by decide) ?_
    refine lv_aload C.x C.b d_s6_152 (lv_at hl 0 rfl) ?_
    refine lv_iconst (v := 1) C.x C.b d_s6_154 (by decide) ?_
    refine l_Bi C hw 1 (show (j + 1) < 200 by omega) (by decide) rfl d_s6_155 ?_
    refine lv_iconst (v := 1) C.x C.b d_s6_156 (by decide) ?_
    refine lv_iadd C.x C.b d_s6_157 ?_
    refine lv_aload_n C.x C.b d_s6_158 rfl (lv_at hl 1 rfl) ?_
    refine lv_ifnonnull (tgt := 166) C.x C.b d_s6_159 (by decide) ?_
    refine lv_aload_n C.x C.b d_s6_166 rfl (lv_at hl 1 rfl) ?_
    refine q_begins C hw (show j < 200 by omega) d_s6_167 ?_
    refine lv_iconst (v := 3) C.x C.b d_s6_170 (by decide) ?_
    refine l_Bo C hw 3 (show j < 200 by omega) (by omega) (by decide) rfl d_s6_171 ?_
    refine k_max C hl.1 (by decide) (Nat.le_of_ble_eq_true rfl) (Nat.zero_le _) (Nat.zero_le _) d_s6_172 ?_
    refine s_Bi C hw 2 (show (j + 1) < 200 by omega) (by decide) rfl d_s6_175 (fun H locs hw => ?_)
    refine lv_iconst (v := 1) C.x C.b d_s6_176 (by decide) ?_
    refine lv_istore (lv' := [(5, .int 1), (4, .ref (Z + (3 + 3 * (j + 1)))), (3, .ref (Z + (2 + 3 * j))), (2, .ref (Z + (2 + 3 * (j + 1)))), (0, .ref Z), (1, .int (nI (j + 1)))]) C.x C.b d_s6_177 hl (by decide) rfl (fun ls hl => ?_)
    have e0 : st0 D B (j + 1) = _ := (if_neg (Nat.succ_ne_zero j)).trans (if_neg h1)
    refine kk _ H locs ls ?_ ?_ ?_ hw hl
    · exact e0.symm
    · unfold st1; rw [e0]; rfl
    · unfold st2a st1; rw [e0]; rfl
theorem wk3_1 (C : Cx p s m c prog_1_method_6_code 6 "StageClock" args g Z) {j : Nat} (hi : j + 1 < 200) (hgg : ∀ r, r < 16 → gg r = Gv D (j + 1) r) (kk : ∀ (b : Nat → Int32) (H : Heap) (locs : List Loc) (ls : Array Slot), b 0 = st0 D B (j + 1) → b 1 = st1 D B (j + 1) → b 2 = st2 D B (j + 1) → WH g Z ((D, va_up B (j + 1) b, va_up G (j + 1) gg, n, kn), μ, o) s H locs → lv_has ls 6 [(4, .ref (Z + (3 + 3 * (j + 1)))), (3, .ref (Z + (2 + 3 * j))), (2, .ref (Z + (2 + 3 * (j + 1)))), (0, .ref Z), (1, .int (nI (j + 1)))] → W p l e (RM 3) s m args below meth c H locs 0 0 Q (F0 m 223 ls [])) :
    ∀ (d r : Nat), r + d = 15 → ∀ (b : Nat → Int32) (H : Heap) (locs : List Loc) (ls : Array Slot), b 0 = st0 D B (j + 1) → b 1 = st1 D B (j + 1) → b 2 = lpx (fun r => bh D B (bfr D (j + 1) (nI r))) (D 2 (j + 1)) (st2a D B (j + 1)) r → WH g Z ((D, va_up B (j + 1) b, va_up G (j + 1) gg, n, kn), μ, o) s H locs → lv_has ls 6 [(5, .int (nI (r + 1))), (4, .ref (Z + (3 + 3 * (j + 1)))), (3, .ref (Z + (2 + 3 * j))), (2, .ref (Z + (2 + 3 * (j + 1)))), (0, .ref Z), (1, .int (nI (j + 1)))] → W p l e (RM 3) s m args below meth c H locs 0 0 Q (F0 m 179 ls []) := by
  intro d
  induction d with
  | zero =>
    intro r hd b H locs ls h0 h1 h2 hw hl
    obtain rfl : r = 15 := by omega
    refine lv_iload C.x C.b d_s6_179 (lv_at hl 0 rfl) ?_
    refine lv_bipush (v := 16) C.x C.b d_s6_181 (by decide) ?_
    refine lv_icmp_ge (tgt := 223) C.x C.b d_s6_183 (by decide) (fun h9 => ?_) (fun h9 => absurd (by decide) h9)
    exact kk b H locs ls h0 h1 h2 hw (lv_sub hl [1, 2, 3, 4, 5] rfl)
  | succ d ih =>
    intro r hd b H locs ls h0 h1 h2 hw hl
    refine lv_iload C.x C.b d_s6_179 (lv_at hl 0 rfl) ?_
    refine lv_bipush (v := 16) C.x C.b d_s6_181 (by decide) ?_
    refine lv_icmp_ge (tgt := 223) C.x C.b d_s6_183 (by decide) (fun h9 => absurd h9 (nI_ge (show r + 1 < 16 by omega) (by decide))) (fun h9 => ?_)
    refine lv_aload_n C.x C.b d_s6_186 rfl (lv_at hl 3 rfl) ?_
    refine q_reads C hw (show (j + 1) < 200 by omega) d_s6_187 ?_
    refine lv_iload C.x C.b d_s6_190 (lv_at hl 0 rfl) ?_
    refine lv_ishr C.x C.b d_s6_192 ?_
    refine lv_iconst (v := 1) C.x C.b d_s6_193 (by decide) ?_
    refine lv_iand C.x C.b d_s6_194 ?_
    refine lv_iconst (v := 1) C.x C.b d_s6_195 (by decide) ?_
    refine lv_icmp_ne (tgt := 217) C.x C.b d_s6_196 (by decide) (fun h3 => ?_) (fun h3 => ?_)
    · skip
      refine lv_iinc (k := 0) (v := (nI ((r + 1) + 1))) (lv' := [(5, .int (nI ((r + 1) + 1))), (4, .ref (Z + (3 + 3 * (j + 1)))), (3, .ref (Z + (2 + 3 * j))), (2, .ref (Z + (2 + 3 * (j + 1)))), (0, .ref Z), (1, .int (nI (j + 1)))]) C.x C.b d_s6_217 hl rfl (nI_1 _) (by decide) rfl (fun ls hl => ?_)
      refine lv_goto (tgt := 179) C.x C.b d_s6_220 (by decide) ?_
      refine ih (r + 1) (by omega) b H locs ls h0 h1 ?_ hw hl
      rw [h2]
      exact (if_neg h3).symm
    · skip
      refine lv_aload C.x C.b d_s6_199 (lv_at hl 1 rfl) ?_
      refine lv_iconst (v := 2) C.x C.b d_s6_201 (by decide) ?_
      refine lv_aload C.x C.b d_s6_202 (lv_at hl 1 rfl) ?_
      refine lv_iconst (v := 2) C.x C.b d_s6_204 (by decide) ?_
      refine l_Bi C hw 2 (show (j + 1) < 200 by omega) (by decide) rfl d_s6_205 ?_
      refine lv_aload_n C.x C.b d_s6_206 rfl (lv_at hl 4 rfl) ?_
      refine lv_aload_n C.x C.b d_s6_207 rfl (lv_at hl 3 rfl) ?_
      refine lv_iload C.x C.b d_s6_208 (lv_at hl 0 rfl) ?_
      have eg : va_up G (j + 1) gg (j + 1) (r + 1) = bfr D (j + 1) (nI (r + 1)) := by rw [va_up_self, hgg (r + 1) (by omega)]; exact if_neg (Nat.succ_ne_zero r)
      have hth : 0 ≤ va_up G (j + 1) gg (j + 1) (r + 1) → ∃ j9 : Nat, j9 < 200 ∧ va_up G (j + 1) gg (j + 1) (r + 1) = nI j9 := fun hq => by
              rw [eg] at hq ⊢
              obtain ⟨j9, hj9, e9⟩ := bfr_in D _ _ hq
              exact ⟨j9, by omega, e9⟩
      refine ret_i hw (run_V C hw (c_there l (show (j + 1) < 200 by omega) (show r + 1 < 16 by omega) hth) (i := 0) (by decide) rfl rfl Y_s5 k_225 k_227 kp_4 ⟨rfl, rfl⟩ (by decide) ⟨Nat.zero_le _, Nat.zero_le _⟩ rfl hl.1 rfl (Nat.le_of_ble_eq_true rfl) d_s6_210) (fun r9 u9 H locs hp hw => ?_)
      obtain ⟨rfl, rfl⟩ := hp
      rw [eg, bh_up (by omega)]
      refine k_max C hl.1 (by decide) (Nat.le_of_ble_eq_true rfl) (Nat.zero_le _) (Nat.zero_le _) d_s6_213 ?_
      refine s_Bi C hw 2 (show (j + 1) < 200 by omega) (by decide) rfl d_s6_216 (fun H locs hw => ?_)
      refine lv_iinc (k := 0) (v := (nI ((r + 1) + 1))) (lv' := [(5, .int (nI ((r + 1) + 1))), (4, .ref (Z + (3 + 3 * (j + 1)))), (3, .ref (Z + (2 + 3 * j))), (2, .ref (Z + (2 + 3 * (j + 1)))), (0, .ref Z), (1, .int (nI (j + 1)))]) C.x C.b d_s6_217 hl rfl (nI_1 _) (by decide) rfl (fun ls hl => ?_)
      refine lv_goto (tgt := 179) C.x C.b d_s6_220 (by decide) ?_
      refine ih (r + 1) (by omega) _ H locs ls ?_ ?_ ?_ hw hl
      · exact (pk_un (by decide)).trans h0
      · exact (pk_un (by decide)).trans h1
      · rw [pk_us, h2]
        exact (if_pos h3).symm
theorem wk4_1 (C : Cx p s m c prog_1_method_6_code 6 "StageClock" args g Z) {j : Nat} (hi : j + 1 < 200) (hr : meth.sig.returnType = none) (hlk : meth.locks = false) {post : TS → Prop} {lt : Nat} (hlt : lt < 16) (elt : D 3 (j + 1) = nI lt) (hgg : ∀ r, r < 16 → gg r = Gv D (j + 1) r) (h0 : b 0 = st0 D B (j + 1)) (h1 : b 1 = st1 D B (j + 1)) (h2 : b 2 = st2 D B (j + 1)) (hw : WH g Z ((D, va_up B (j + 1) b, va_up G (j + 1) gg, n, kn), μ, o) s H locs) (hl : lv_has ls 6 [(4, .ref (Z + (3 + 3 * (j + 1)))), (3, .ref (Z + (2 + 3 * j))), (2, .ref (Z + (2 + 3 * (j + 1)))), (0, .ref Z), (1, .int (nI (j + 1)))]) (hp : ∀ b : Nat → Int32, (∀ j7, j7 < 5 → b j7 = stp D B (j + 1) j7) → post ((D, va_up B (j + 1) b, va_up G (j + 1) gg, n, kn), μ, o)) :
    W p l e (RM 3) s m args below meth c H locs 0 0 (MQ below (va_Qv post (Wd g Z) (zfree Z)) args s 0 0 (zfree Z)) (F0 m 223 ls []) := by
  refine lv_aload C.x C.b d_s6_223 (lv_at hl 0 rfl) ?_
  refine lv_iconst (v := 3) C.x C.b d_s6_225 (by decide) ?_
  refine lv_aload_n C.x C.b d_s6_226 rfl (lv_at hl 2 rfl) ?_
  refine ret_i hw (run_V C hw (c_done l (show (j + 1) < 200 by omega)) (i := 2 + 3 * (j + 1)) (by omega) (cont_T g Z _ (show (j + 1) < 200 by omega)) rfl Y_t2 k_218 k_219 k_220 ⟨rfl, rfl⟩ (by decide) ⟨Nat.zero_le _, Nat.zero_le _⟩ rfl hl.1 rfl (Nat.le_of_ble_eq_true rfl) d_s6_227) (fun r9 u9 H locs hp hw => ?_)
  obtain ⟨rfl, rfl⟩ := hp
  rw [xeD_own, h2]
  refine lv_iconst (v := 1) C.x C.b d_s6_230 (by decide) ?_
  refine lv_iadd C.x C.b d_s6_231 ?_
  refine lv_aload_n C.x C.b d_s6_232 rfl (lv_at hl 1 rfl) ?_
  refine lv_ifnonnull (tgt := 240) C.x C.b d_s6_233 (by decide) ?_
  refine lv_aload_n C.x C.b d_s6_240 rfl (lv_at hl 1 rfl) ?_
  refine q_begins C hw (show j < 200 by omega) d_s6_241 ?_
  refine lv_iconst (v := 4) C.x C.b d_s6_244 (by decide) ?_
  refine l_Bo C hw 4 (show j < 200 by omega) (by omega) (by decide) rfl d_s6_245 ?_
  refine k_max C hl.1 (by decide) (Nat.le_of_ble_eq_true rfl) (Nat.zero_le _) (Nat.zero_le _) d_s6_246 ?_
  refine s_Bi C hw 3 (show (j + 1) < 200 by omega) (by decide) rfl d_s6_249 (fun H locs hw => ?_)
  have e3 : mx (st2 D B (j + 1) + D 0 (j + 1) - 1 + 1) (B j 4) = st3a D B (j + 1) := rfl
  rw [e3] at hw
  refine lv_aload_n C.x C.b d_s6_250 rfl (lv_at hl 2 rfl) ?_
  refine q_late C hw (show (j + 1) < 200 by omega) d_s6_251 ?_
  refine lv_if_le (tgt := 277) C.x C.b d_s6_254 (by decide) (fun h3 => ?_) (fun h3 => ?_)
  · skip
    refine lv_aload C.x C.b d_s6_277 (lv_at hl 0 rfl) ?_
    refine lv_iconst (v := 4) C.x C.b d_s6_279 (by decide) ?_
    refine lv_aload_n C.x C.b d_s6_280 rfl (lv_at hl 2 rfl) ?_
    refine ret_i hw (run_V C hw (c_through l (show (j + 1) < 200 by omega)) (i := 2 + 3 * (j + 1)) (by omega) (cont_T g Z _ (show (j + 1) < 200 by omega)) rfl Y_t3 k_238 k_234 k_235 ⟨rfl, rfl⟩ (by decide) ⟨Nat.zero_le _, Nat.zero_le _⟩ rfl hl.1 rfl (Nat.le_of_ble_eq_true rfl) d_s6_281) (fun r9 u9 H locs hp hw => ?_)
    obtain ⟨rfl, rfl⟩ := hp
    rw [meD_own]
    rw [pk_us]
    refine lv_iconst (v := 1) C.x C.b d_s6_284 (by decide) ?_
    refine lv_iadd C.x C.b d_s6_285 ?_
    refine s_Bi C hw 4 (show (j + 1) < 200 by omega) (by decide) rfl d_s6_286 (fun H locs hw => ?_)
    have e5 : st3a D B (j + 1) = st3 D B (j + 1) := (if_neg (Int32.not_lt.mpr h3)).symm
    rw [e5] at hw
    refine e_v C hr hlk hw d_s6_287 (hp _ (fun j7 hj7 => ?_))
    match j7, hj7 with
    | 0, _ => exact h0
    | 1, _ => exact h1
    | 2, _ => exact h2
    | 3, _ => rfl
    | 4, _ => rfl
  · skip
    refine lv_aload C.x C.b d_s6_257 (lv_at hl 0 rfl) ?_
    refine lv_iconst (v := 3) C.x C.b d_s6_259 (by decide) ?_
    refine lv_aload C.x C.b d_s6_260 (lv_at hl 0 rfl) ?_
    refine lv_iconst (v := 3) C.x C.b d_s6_262 (by decide) ?_
    refine l_Bi C hw 3 (show (j + 1) < 200 by omega) (by decide) rfl d_s6_263 ?_
    refine lv_aload_n C.x C.b d_s6_264 rfl (lv_at hl 3 rfl) ?_
    refine lv_aload_n C.x C.b d_s6_265 rfl (lv_at hl 2 rfl) ?_
    refine lv_aload_n C.x C.b d_s6_266 rfl (lv_at hl 2 rfl) ?_
    refine q_late C hw (show (j + 1) < 200 by omega) d_s6_267 ?_
    have hlp : 0 < D 3 (j + 1) := Int32.not_le.mp h3
    have hl0 : ¬ lt = 0 := fun h => by rw [elt, h] at h3; exact h3 (by decide)
    have eg : va_up G (j + 1) gg (j + 1) lt = bfr D (j + 1) (D 3 (j + 1)) := by rw [va_up_self, hgg lt hlt, elt]; exact if_neg hl0
    have hth : 0 ≤ va_up G (j + 1) gg (j + 1) lt → ∃ j9 : Nat, j9 < 200 ∧ va_up G (j + 1) gg (j + 1) lt = nI j9 := fun hq => by
          rw [eg] at hq ⊢
          obtain ⟨j9, hj9, e9⟩ := bfr_in D _ _ hq
          exact ⟨j9, by omega, e9⟩
    rw [elt, pk_us]
    refine ret_i hw (run_V C hw (c_there l (show (j + 1) < 200 by omega) hlt hth) (i := 0) (by decide) rfl rfl Y_s5 k_225 k_227 kp_4 ⟨rfl, rfl⟩ (by decide) ⟨Nat.zero_le _, Nat.zero_le _⟩ rfl hl.1 rfl (Nat.le_of_ble_eq_true rfl) d_s6_270) (fun r9 u9 H locs hp hw => ?_)
    obtain ⟨rfl, rfl⟩ := hp
    rw [eg, bh_up (by omega)]
    refine k_max C hl.1 (by decide) (Nat.le_of_ble_eq_true rfl) (Nat.zero_le _) (Nat.zero_le _) d_s6_273 ?_
    refine s_Bi C hw 3 (show (j + 1) < 200 by omega) (by decide) rfl d_s6_276 (fun H locs hw => ?_)
    refine lv_aload C.x C.b d_s6_277 (lv_at hl 0 rfl) ?_
    refine lv_iconst (v := 4) C.x C.b d_s6_279 (by decide) ?_
    refine lv_aload_n C.x C.b d_s6_280 rfl (lv_at hl 2 rfl) ?_
    refine ret_i hw (run_V C hw (c_through l (show (j + 1) < 200 by omega)) (i := 2 + 3 * (j + 1)) (by omega) (cont_T g Z _ (show (j + 1) < 200 by omega)) rfl Y_t3 k_238 k_234 k_235 ⟨rfl, rfl⟩ (by decide) ⟨Nat.zero_le _, Nat.zero_le _⟩ rfl hl.1 rfl (Nat.le_of_ble_eq_true rfl) d_s6_281) (fun r9 u9 H locs hp hw => ?_)
    obtain ⟨rfl, rfl⟩ := hp
    rw [meD_own]
    rw [pk_us]
    refine lv_iconst (v := 1) C.x C.b d_s6_284 (by decide) ?_
    refine lv_iadd C.x C.b d_s6_285 ?_
    refine s_Bi C hw 4 (show (j + 1) < 200 by omega) (by decide) rfl d_s6_286 (fun H locs hw => ?_)
    have e5 : mx (st3a D B (j + 1)) (bh D B (bfr D (j + 1) (D 3 (j + 1)))) = st3 D B (j + 1) := (if_pos hlp).symm
    rw [e5] at hw
    refine e_v C hr hlk hw d_s6_287 (hp _ (fun j7 hj7 => ?_))
    match j7, hj7 with
    | 0, _ => exact h0
    | 1, _ => exact h1
    | 2, _ => exact h2
    | 3, _ => rfl
    | 4, _ => rfl
end Wk
/-- work(i): the row i of begins and of givers as the pure step says -/
theorem c_work (l : Launch) {g : KG} {Z : Nat} {D B G : Fn2} {n kn : Int32} {μ : MS} {o : Int64} {i : Nat} (hi : i < 200) {lt : Nat} (hlt : lt < 16) (elt : D 3 i = nI lt) (hG : ∀ j, i = j + 1 → ∀ r, r < 16 → G j r = Gv D j r) : Cv l y_s6 prog_1_method_6_code 6 3 [.ref Z, .int (nI i)] g Z ((D, B, G, n, kn), μ, o) (fun u => ∃ (b gg : Nat → Int32), (∀ j, j < 5 → b j = stp D B i j) ∧ (∀ r, r < 16 → gg r = Gv D i r) ∧ u = ((D, va_up B i b, va_up G i gg, n, kn), μ, o)) := by
  refine mk_met (own := "StageClock") (by decide) rfl (Nat.le_of_ble_eq_true rfl) fun p e s m below meth c ls C hr hlk hl hw => ?_
  rcases Nat.eq_zero_or_pos i with h0 | h0
  · skip
    subst h0
    have hl : lv_has ls 6 [(0, .ref Z), (1, .int (nI 0))] := hl
    refine lv_aload_n C.x C.b d_s6_0 rfl (lv_at hl 0 rfl) ?_
    refine q_steps C hw d_s6_1 ?_
    refine lv_iload_n C.x C.b d_s6_4 rfl (lv_at hl 1 rfl) ?_
    refine q_aat C hw 0 (show 0 < 200 by omega) rfl d_s6_5 ?_
    refine lv_astore_n (lv' := [(2, .ref (Z + (2 + 3 * 0))), (0, .ref Z), (1, .int (nI 0))]) C.x C.b d_s6_6 rfl hl (by decide) rfl (fun ls hl => ?_)
    refine lv_iload_n C.x C.b d_s6_7 rfl (lv_at hl 2 rfl) ?_
    refine lv_if_ne (tgt := 15) C.x C.b d_s6_8 (by decide) (fun h1 => absurd rfl h1) (fun h1 => ?_)
    refine lv_null C.x C.b d_s6_11 ?_
    refine lv_goto (tgt := 23) C.x C.b d_s6_12 (by decide) ?_
    refine lv_astore_nN (lv' := [(3, .null), (2, .ref (Z + (2 + 3 * 0))), (0, .ref Z), (1, .int (nI 0))]) C.x C.b d_s6_23 rfl hl (by decide) rfl (fun ls hl => ?_)
    refine lv_iconst (v := 0) C.x C.b d_s6_24 (by decide) ?_
    refine lv_istore (lv' := [(4, .int 0), (3, .null), (2, .ref (Z + (2 + 3 * 0))), (0, .ref Z), (1, .int (nI 0))]) C.x C.b d_s6_25 hl (by decide) rfl (fun ls hl => ?_)
    have hw : WH g Z ((D, va_up B 0 (B 0), va_up G 0 (G 0), n, kn), μ, o) s s.heap [] := by rw [va_up_id, va_up_id]; exact hw
    refine wk1_0 C (fun gg H locs ls hgg hw hl => ?_) 16 0 rfl (G 0) _ _ _ (fun q hq => absurd hq (Nat.not_lt_zero q)) hw hl
    refine wk2_0 C hw hl (fun b H locs ls h0 h1 h2 hw hl => ?_)
    have hw : WH g Z ((D, va_up B 0 b, va_up G 0 gg, n, kn), μ, o) s H locs := hw
    refine wk3_0 C hgg (fun b H locs ls h0 h1 h2 hw hl => ?_) 15 0 rfl b H locs ls h0 h1 h2 hw hl
    exact wk4_0 C hr hlk hlt elt hgg h0 h1 h2 hw hl (fun b hb => ⟨b, gg, hb, hgg, rfl⟩)
  · skip
    obtain ⟨j, rfl⟩ : ∃ j, i = j + 1 := ⟨i - 1, by omega⟩
    have hl : lv_has ls 6 [(0, .ref Z), (1, .int (nI (j + 1)))] := hl
    refine lv_aload_n C.x C.b d_s6_0 rfl (lv_at hl 0 rfl) ?_
    refine q_steps C hw d_s6_1 ?_
    refine lv_iload_n C.x C.b d_s6_4 rfl (lv_at hl 1 rfl) ?_
    refine q_aat C hw (j + 1) (show (j + 1) < 200 by omega) rfl d_s6_5 ?_
    refine lv_astore_n (lv' := [(2, .ref (Z + (2 + 3 * (j + 1)))), (0, .ref Z), (1, .int (nI (j + 1)))]) C.x C.b d_s6_6 rfl hl (by decide) rfl (fun ls hl => ?_)
    refine lv_iload_n C.x C.b d_s6_7 rfl (lv_at hl 2 rfl) ?_
    refine lv_if_ne (tgt := 15) C.x C.b d_s6_8 (by decide) (fun h1 => ?_) (fun h1 => absurd h1 (nI_ne0 (by omega) (by omega)))
    refine lv_aload_n C.x C.b d_s6_15 rfl (lv_at hl 1 rfl) ?_
    refine q_steps C hw d_s6_16 ?_
    refine lv_iload_n C.x C.b d_s6_19 rfl (lv_at hl 2 rfl) ?_
    refine lv_iconst (v := 1) C.x C.b d_s6_20 (by decide) ?_
    refine lv_isub C.x C.b d_s6_21 ?_
    rw [nI_pred]
    refine q_aat C hw j (show j < 200 by omega) rfl d_s6_22 ?_
    refine lv_astore_n (lv' := [(3, .ref (Z + (2 + 3 * j))), (2, .ref (Z + (2 + 3 * (j + 1)))), (0, .ref Z), (1, .int (nI (j + 1)))]) C.x C.b d_s6_23 rfl hl (by decide) rfl (fun ls hl => ?_)
    refine lv_iconst (v := 0) C.x C.b d_s6_24 (by decide) ?_
    refine lv_istore (lv' := [(4, .int 0), (3, .ref (Z + (2 + 3 * j))), (2, .ref (Z + (2 + 3 * (j + 1)))), (0, .ref Z), (1, .int (nI (j + 1)))]) C.x C.b d_s6_25 hl (by decide) rfl (fun ls hl => ?_)
    have hw : WH g Z ((D, va_up B (j + 1) (B (j + 1)), va_up G (j + 1) (G (j + 1)), n, kn), μ, o) s s.heap [] := by rw [va_up_id, va_up_id]; exact hw
    refine wk1_1 C hi (hG j rfl) (fun gg H locs ls hgg hw hl => ?_) 16 0 rfl (G (j + 1)) _ _ _ (fun q hq => absurd hq (Nat.not_lt_zero q)) hw hl
    refine wk2_1 C hi hw hl (fun b H locs ls h0 h1 h2 hw hl => ?_)
    have hw : WH g Z ((D, va_up B (j + 1) b, va_up G (j + 1) gg, n, kn), μ, o) s H locs := hw
    refine wk3_1 C hi hgg (fun b H locs ls h0 h1 h2 hw hl => ?_) 15 0 rfl b H locs ls h0 h1 h2 hw hl
    exact wk4_1 C hi hr hlk hlt elt hgg h0 h1 h2 hw hl (fun b hb => ⟨b, gg, hb, hgg, rfl⟩)
end
section
/-! the pure step depends on earlier rows alone; StageClock.step(k) -/
theorem lpx_congr {f f' : Nat → Int32} {rd a : Int32} : ∀ n : Nat, (∀ r, 1 ≤ r → r ≤ n → f r = f' r) → lpx f rd a n = lpx f' rd a n
  | 0, _ => rfl
  | n + 1, h => by
    unfold lpx
    rw [lpx_congr n (fun r h1 h2 => h r h1 (by omega)), h (n + 1) (by omega) (by omega)]
section Congr
variable {D B B' : Fn2} {i : Nat}
theorem xeD_congr (h : ∀ j, j < 5 → B i j = B' i j) : xeD D B i = xeD D B' i := by unfold xeD; rw [h 2 (by decide)]
theorem meD_congr (h : ∀ j, j < 5 → B i j = B' i j) : meD D B i = meD D B' i := by unfold meD; rw [h 3 (by decide)]
theorem bh_congr (hi : i ≤ 200) (h : ∀ k, k < i → ∀ j, j < 5 → B k j = B' k j) (reg : Int32) : bh D B (bfr D i reg) = bh D B' (bfr D i reg) := by
  unfold bh
  by_cases h0 : 0 ≤ bfr D i reg
  · obtain ⟨j, hj, e⟩ := bfr_in D reg i h0
    rw [if_pos h0, if_pos h0, e, nI_clamp (by omega)]
    unfold rdy
    rw [xeD_congr (h j hj), meD_congr (h j hj)]
  · rw [if_neg h0, if_neg h0]
theorem st0_congr (h : ∀ k, k < i → ∀ j, j < 5 → B k j = B' k j) : st0 D B i = st0 D B' i := by
  unfold st0
  by_cases h0 : i = 0
  · rw [if_pos h0, if_pos h0]
  · rw [if_neg h0, if_neg h0, xeD_congr (h (i - 1) (by omega)), h (i - 1) (by omega) 1 (by decide)]
theorem at_congr (h : ∀ k, k < i → ∀ j, j < 5 → B k j = B' k j) {j : Nat} (hj : j < 5) : (if i = 0 then (0 : Int32) else B (i - 1) j) = if i = 0 then 0 else B' (i - 1) j := by
  by_cases h0 : i = 0
  · rw [if_pos h0, if_pos h0]
  · rw [if_neg h0, if_neg h0, h (i - 1) (by omega) j hj]
theorem st1_congr (h : ∀ k, k < i → ∀ j, j < 5 → B k j = B' k j) : st1 D B i = st1 D B' i := by
  unfold st1
  rw [st0_congr h, at_congr h (by decide)]
theorem st2_congr (hi : i ≤ 200) (h : ∀ k, k < i → ∀ j, j < 5 → B k j = B' k j) : st2 D B i = st2 D B' i := by
  unfold st2 st2a
  rw [st1_congr h, at_congr h (by decide)]
  exact lpx_congr 15 (fun r _ _ => bh_congr hi h _)
theorem st3_congr (hi : i ≤ 200) (h : ∀ k, k < i → ∀ j, j < 5 → B k j = B' k j) : st3 D B i = st3 D B' i := by
  unfold st3 st3a
  rw [st2_congr hi h, at_congr h (by decide), bh_congr hi h]
theorem stp_congr (hi : i ≤ 200) (h : ∀ k, k < i → ∀ j, j < 5 → B k j = B' k j) (j : Nat) : stp D B i j = stp D B' i j := by
  unfold stp
  split
  · exact st0_congr h
  · exact st1_congr h
  · exact st2_congr hi h
  · exact st3_congr hi h
  · unfold st4; rw [st3_congr hi h]
end Congr
/-- what is known: the first kk rows are as the pure step says -/
def tgood (D B : Fn2) (kk : Nat) : Prop := ∀ i, i < kk → ∀ j, j < 5 → B i j = stp D B i j
def ggood (D G : Fn2) (kk : Nat) : Prop := ∀ i, i < kk → ∀ r, r < 16 → G i r = Gv D i r
def lateOK (D : Fn2) (nn : Nat) : Prop := ∀ i, i < nn → ∃ lt : Nat, lt < 16 ∧ D 3 i = nI lt
theorem tgood_step {D B : Fn2} {kk : Nat} {b : Nat → Int32} (hk : kk < 200) (h : tgood D B kk) (hb : ∀ j, j < 5 → b j = stp D B kk j) : tgood D (va_up B kk b) (kk + 1) := by
  intro i hi j hj
  have hc : stp D (va_up B kk b) i j = stp D B i j := stp_congr (by omega) (fun k hk2 j _ => by rw [va_up_ne _ _ (show k ≠ kk by omega)]) j
  rw [hc]
  by_cases e : i = kk
  · subst e; rw [va_up_self]; exact hb j hj
  · rw [va_up_ne _ _ e]; exact h i (by omega) j hj
theorem ggood_step {D G : Fn2} {kk : Nat} {b : Nat → Int32} (h : ggood D G kk) (hb : ∀ r, r < 16 → b r = Gv D kk r) : ggood D (va_up G kk b) (kk + 1) := by
  intro i hi r hr
  by_cases e : i = kk
  · subst e; rw [va_up_self]; exact hb r hr
  · rw [va_up_ne _ _ e]; exact h i (by omega) r hr
/-- two tables that obey the step agree -/
theorem tgood_uniq {D B B' : Fn2} {n : Nat} (hn : n ≤ 200) (h : tgood D B n) (h' : tgood D B' n) : ∀ i, i < n → ∀ j, j < 5 → B i j = B' i j := by
  intro i
  induction i using Nat.strongRecOn with
  | ind i ih =>
    intro hi j hj
    rw [h i hi j hj, h' i hi j hj]
    exact stp_congr (by omega) (fun k hk => ih k hk (by omega)) j
/-- the step(k)'s end -/
def SPost (D : Fn2) (nn k : Nat) (μ : MS) (o : Int64) (u : TS) : Prop := ∃ (B G : Fn2) (kk : Nat), tgood D B kk ∧ ggood D G kk ∧ k < kk ∧ kk ≤ nn ∧ u = ((D, B, G, nI nn, nI kk), μ, o)
/-- step(k) of a place that is there: works out the times up to k, answers the Step -/
theorem c_step (l : Launch) {g : KG} {Z : Nat} {D B G : Fn2} {nn kk : Nat} {μ : MS} {o : Int64} (hn : nn ≤ 200) (hkk : kk ≤ nn) (hT : tgood D B kk) (hG : ggood D G kk) (hL : lateOK D nn) {k : Nat} (hk : k < nn) : Cr l y_s4 prog_1_method_4_code 2 4 [.ref Z, .int (nI k)] g Z ((D, B, G, nI nn, nI kk), μ, o) (Z + (2 + 3 * k)) (SPost D nn k μ o) := by
  refine mk_met (own := "StageClock") (by decide) rfl (Nat.le_of_ble_eq_true rfl) fun p e s m below meth c ls C hr hlk hl hw => ?_
  have hl : lv_has ls 2 [(0, .ref Z), (1, .int (nI k))] := hl
  have loop : ∀ (d kk : Nat) (B G : Fn2) (H : Heap) (locs : List Loc) (ls : Array Slot), k + 1 - kk = d → kk ≤ nn → tgood D B kk → ggood D G kk → WH g Z ((D, B, G, nI nn, nI kk), μ, o) s H locs → lv_has ls 2 [(0, .ref Z), (1, .int (nI k))] → W p l e (RM 4) s m [Value.ref Z, .int (nI k)].toArray below meth c H locs 0 0 (MQ below (va_Qr (SPost D nn k μ o) (fun u q t => q = (Z + (2 + 3 * k)) ∧ Wd g Z u t) (zfree Z)) [Value.ref Z, .int (nI k)].toArray s 0 0 (zfree Z)) (F0 m 22 ls []) := by
    intro d
    induction d with
    | zero =>
      intro kk B G H locs ls hd hkk hT hG hw hl
      refine lv_aload_n C.x C.b d_s4_22 rfl (lv_at hl 0 rfl) ?_
      refine q_known C hw d_s4_23 ?_
      refine lv_iload_n C.x C.b d_s4_26 rfl (lv_at hl 1 rfl) ?_
      refine lv_icmp_gt (tgt := 51) C.x C.b d_s4_27 (by decide) (fun h1 => ?_) (fun h1 => absurd (nI_lt (show k < kk by omega) (by omega)) h1)
      refine lv_aload_n C.x C.b d_s4_51 rfl (lv_at hl 0 rfl) ?_
      refine q_steps C hw d_s4_52 ?_
      refine lv_iload_n C.x C.b d_s4_55 rfl (lv_at hl 1 rfl) ?_
      refine q_aat C hw k (show k < 200 by omega) rfl d_s4_56 ?_
      exact e_r C hr hlk hw d_s4_57 ⟨B, G, kk, hT, hG, by omega, hkk, rfl⟩
    | succ d ih =>
      intro kk B G H locs ls hd hkk hT hG hw hl
      refine lv_aload_n C.x C.b d_s4_22 rfl (lv_at hl 0 rfl) ?_
      refine q_known C hw d_s4_23 ?_
      refine lv_iload_n C.x C.b d_s4_26 rfl (lv_at hl 1 rfl) ?_
      refine lv_icmp_gt (tgt := 51) C.x C.b d_s4_27 (by decide) (fun h1 => absurd h1 (nI_nlt (show kk ≤ k by omega) (by omega))) (fun h1 => ?_)
      refine lv_aload_n C.x C.b d_s4_30 rfl (lv_at hl 0 rfl) ?_
      refine lv_aload_n C.x C.b d_s4_31 rfl (lv_at hl 0 rfl) ?_
      refine q_known C hw d_s4_32 ?_
      obtain ⟨lt, hlt, elt⟩ := hL kk (by omega)
      refine ret_v hw (run_V C hw (c_work l (show kk < 200 by omega) hlt elt (fun j ej r hr => hG j (by omega) r hr)) (i := 0) (by decide) rfl rfl Y_s6 k_214 k_216 kp_3 ⟨rfl, rfl⟩ (by decide) ⟨Nat.zero_le _, Nat.zero_le _⟩ rfl hl.1 rfl (Nat.le_of_ble_eq_true rfl) d_s4_35) (fun u9 H locs hp hw => ?_)
      obtain ⟨b, gg, hb, hgg, rfl⟩ := hp
      refine lv_aload_n C.x C.b d_s4_38 rfl (lv_at hl 0 rfl) ?_
      refine lv_dup C.x C.b d_s4_39 rfl ?_
      refine q_known C hw d_s4_40 ?_
      refine lv_iconst (v := 1) C.x C.b d_s4_43 (by decide) ?_
      refine lv_iadd C.x C.b d_s4_44 ?_
      rw [nI_1]
      refine p_known C hw d_s4_45 (fun H locs hw => ?_)
      refine lv_goto (tgt := 22) C.x C.b d_s4_48 (by decide) ?_
      exact ih (kk + 1) _ _ H locs ls (by omega) (by omega) (tgood_step (by omega) hT hb) (ggood_step hG hgg) hw hl
  refine lv_iload_n C.x C.b d_s4_0 rfl (lv_at hl 1 rfl) ?_
  refine lv_iconst (v := 0) C.x C.b d_s4_1 (by decide) ?_
  refine lv_aload_n C.x C.b d_s4_2 rfl (lv_at hl 0 rfl) ?_
  refine q_many C hw d_s4_3 ?_
  refine lv_iconst (v := 1) C.x C.b d_s4_6 (by decide) ?_
  refine lv_isub C.x C.b d_s4_7 ?_
  refine ret_i hw (run_S C hw (c_in3 l) Y_s2 k_82 k_83 ⟨rfl, rfl⟩ (by decide) ⟨Nat.zero_le _, Nat.zero_le _⟩ rfl hl.1 rfl (Nat.le_of_ble_eq_true rfl) d_s4_8) (fun r9 u9 H locs hp hw => ?_)
  obtain ⟨hp, rfl⟩ := hp
  rw [if_pos ((inb hn).mpr ⟨k, hk, rfl⟩)] at hp
  subst hp
  refine lv_if_ne (tgt := 22) C.x C.b d_s4_11 (by decide) (fun h1 => ?_) (fun h1 => absurd h1 (by decide))
  exact loop _ kk B G _ _ _ rfl hkk hT hG hw hl
end
section
/-! the component's questions, where they return -/
def whn (D B : Fn2) (k wj : Nat) : Int32 := if wj < 5 then B k wj else if wj = 5 then xeD D B k else meD D B k
def frB (B : Fn2) (k j : Nat) : Int32 := if j < 5 then B k j else B k 4 + 1
def inP (B : Fn2) (nn stg : Nat) (cyc r : Int32) : Prop := ∃ p : Nat, p ≤ nn ∧ (p = 0 ∨ B (p - 1) stg ≤ cyc) ∧ (p = nn ∨ cyc < B p stg) ∧ r = (if p = 0 then -1 else if cyc < frB B (p - 1) (stg + 1) then nI (p - 1) else -1)
def cw (D : Fn2) : Nat → Int32
  | 0 => 0
  | k + 1 => if D 6 k = 0 then cw D k else cw D k + 1
def lst (B : Fn2) (nn : Nat) : Int32 := if nn = 0 then 0 else B (nn - 1) 4
def cntV (D B : Fn2) (nn wj : Nat) : Int32 := if wj = 0 then nI nn else if wj = 1 then lst B nn else if wj = 2 then lst B nn - nI nn else cw D nn
/-- the end of a question that has worked out the times up to k (all, where k = nn - 1) -/
def QP (D : Fn2) (nn : Nat) (μ : MS) (o : Int64) (u : TS) (F : Fn2 → Fn2 → Nat → Prop) : Prop := ∃ (B G : Fn2) (kk : Nat), tgood D B kk ∧ ggood D G kk ∧ kk ≤ nn ∧ u = ((D, B, G, nI nn, nI kk), μ, o) ∧ F B G kk
theorem c_when (l : Launch) {g : KG} {Z : Nat} {D B G : Fn2} {nn kk : Nat} {μ : MS} {o : Int64} (hn : nn ≤ 200) (hkk : kk ≤ nn) (hT : tgood D B kk) (hG : ggood D G kk) (hL : lateOK D nn) {k : Nat} (hk : k < nn) {wj : Nat} (hw6 : wj ≤ 6) : Ci l y_s12 prog_1_method_12_code 4 5 [.ref Z, .int (nI k), .int (nI wj)] g Z ((D, B, G, nI nn, nI kk), μ, o) (fun r u => QP D nn μ o u (fun B _ kk => k < kk ∧ r = whn D B k wj)) := by
  refine mk_met (own := "StageClock") (by decide) rfl (Nat.le_of_ble_eq_true rfl) fun p e s m below meth c ls C hr hlk hl hw => ?_
  have hl : lv_has ls 4 [(0, .ref Z), (1, .int (nI k)), (2, .int (nI wj))] := hl
  refine lv_iload_n C.x C.b d_s12_0 rfl (lv_at hl 2 rfl) ?_
  refine lv_iconst (v := 0) C.x C.b d_s12_1 (by decide) ?_
  refine lv_bipush (v := 6) C.x C.b d_s12_2 (by decide) ?_
  refine ret_i hw (run_S C hw (c_in3 l) Y_s2 k_82 k_83 ⟨rfl, rfl⟩ (by decide) ⟨Nat.zero_le _, Nat.zero_le _⟩ rfl hl.1 rfl (Nat.le_of_ble_eq_true rfl) d_s12_4) (fun r9 u9 H locs hp hw => ?_)
  obtain ⟨hp, rfl⟩ := hp
  rw [if_pos (show 0 ≤ nI wj ∧ nI wj ≤ 6 from (inc (n := 6) (by decide)).mpr ⟨wj, hw6, rfl⟩)] at hp
  subst hp
  refine ret_v hw (run_S C hw (c_legal l) Y_s3 k_85 k_86 ⟨rfl, rfl⟩ (by decide) ⟨Nat.zero_le _, Nat.zero_le _⟩ rfl hl.1 rfl (Nat.le_of_ble_eq_true rfl) d_s12_7) (fun u9 H locs hp hw => ?_)
  subst hp
  refine lv_aload_n C.x C.b d_s12_10 rfl (lv_at hl 0 rfl) ?_
  refine lv_iload_n C.x C.b d_s12_11 rfl (lv_at hl 1 rfl) ?_
  refine ret_r hw (run_V C hw (c_step l hn hkk hT hG hL hk) (i := 0) (by decide) rfl rfl Y_s4 k_210 k_212 kp_2 ⟨rfl, rfl⟩ (by decide) ⟨Nat.zero_le _, Nat.zero_le _⟩ rfl hl.1 rfl (Nat.le_of_ble_eq_true rfl) d_s12_12) (fun u9 H locs hp hw => ?_)
  obtain ⟨B, G, kk, hT, hG, hk2, hkk, rfl⟩ := hp
  refine lv_astore_n (lv' := [(3, .ref (Z + (2 + 3 * k))), (0, .ref Z), (1, .int (nI k)), (2, .int (nI wj))]) C.x C.b d_s12_15 rfl hl (by decide) rfl (fun ls hl => ?_)
  refine lv_iload_n C.x C.b d_s12_16 rfl (lv_at hl 3 rfl) ?_
  refine lv_iconst (v := 5) C.x C.b d_s12_17 (by decide) ?_
  refine lv_icmp_ne (tgt := 28) C.x C.b d_s12_18 (by decide) (fun h1 => ?_) (fun h1 => ?_)
  · skip
    refine lv_iload_n C.x C.b d_s12_28 rfl (lv_at hl 3 rfl) ?_
    refine lv_bipush (v := 6) C.x C.b d_s12_29 (by decide) ?_
    refine lv_icmp_ne (tgt := 41) C.x C.b d_s12_31 (by decide) (fun h2 => ?_) (fun h2 => ?_)
    · skip
      have h5 : wj < 5 := by
        rcases Nat.lt_or_ge wj 5 with h | h
        · exact h
        · rcases (show wj = 5 ∨ wj = 6 by omega) with rfl | rfl
          · exact absurd rfl h1
          · exact absurd rfl h2
      refine lv_aload_n C.x C.b d_s12_41 rfl (lv_at hl 0 rfl) ?_
      refine q_begins C hw (show k < 200 by omega) d_s12_42 ?_
      refine lv_iload_n C.x C.b d_s12_45 rfl (lv_at hl 3 rfl) ?_
      refine l_B C hw wj (show k < 200 by omega) h5 rfl d_s12_46 ?_
      refine e_i C hr hlk hw d_s12_47 ⟨B, G, kk, hT, hG, hkk, rfl, hk2, ?_⟩
      unfold whn; rw [if_pos h5]
    · skip
      have h6 : wj = 6 := (nI_eq (b := 6) (by omega) (by decide)).mp h2
      refine lv_aload_n C.x C.b d_s12_34 rfl (lv_at hl 0 rfl) ?_
      refine ret_i hw (run_V C hw (c_through l (show k < 200 by omega)) (i := 2 + 3 * k) (by omega) (cont_T g Z _ (show k < 200 by omega)) rfl Y_t3 k_238 k_234 k_235 ⟨rfl, rfl⟩ (by decide) ⟨Nat.zero_le _, Nat.zero_le _⟩ rfl hl.1 rfl (Nat.le_of_ble_eq_true rfl) d_s12_35) (fun r9 u9 H locs hp hw => ?_)
      obtain ⟨rfl, rfl⟩ := hp
      refine lv_goto (tgt := 47) C.x C.b d_s12_38 (by decide) ?_
      refine e_i C hr hlk hw d_s12_47 ⟨B, G, kk, hT, hG, hkk, rfl, hk2, ?_⟩
      subst h6; rfl
  · skip
    have h5 : wj = 5 := (nI_eq (b := 5) (by omega) (by decide)).mp h1
    refine lv_aload_n C.x C.b d_s12_21 rfl (lv_at hl 0 rfl) ?_
    refine ret_i hw (run_V C hw (c_done l (show k < 200 by omega)) (i := 2 + 3 * k) (by omega) (cont_T g Z _ (show k < 200 by omega)) rfl Y_t2 k_218 k_219 k_220 ⟨rfl, rfl⟩ (by decide) ⟨Nat.zero_le _, Nat.zero_le _⟩ rfl hl.1 rfl (Nat.le_of_ble_eq_true rfl) d_s12_22) (fun r9 u9 H locs hp hw => ?_)
    obtain ⟨rfl, rfl⟩ := hp
    refine lv_goto (tgt := 47) C.x C.b d_s12_25 (by decide) ?_
    refine e_i C hr hlk hw d_s12_47 ⟨B, G, kk, hT, hG, hkk, rfl, hk2, ?_⟩
    subst h5; rfl
theorem c_held (l : Launch) {g : KG} {Z : Nat} {D B G : Fn2} {nn kk : Nat} {μ : MS} {o : Int64} (hn : nn ≤ 200) (hkk : kk ≤ nn) (hT : tgood D B kk) (hG : ggood D G kk) (hL : lateOK D nn) {k : Nat} (hk : k < nn) : Ci l y_s14 prog_1_method_14_code 3 5 [.ref Z, .int (nI k)] g Z ((D, B, G, nI nn, nI kk), μ, o) (fun r u => QP D nn μ o u (fun B _ kk => k < kk ∧ r = B k 2 - B k 1 - 1)) := by
  refine mk_met (own := "StageClock") (by decide) rfl (Nat.le_of_ble_eq_true rfl) fun p e s m below meth c ls C hr hlk hl hw => ?_
  have hl : lv_has ls 3 [(0, .ref Z), (1, .int (nI k))] := hl
  refine lv_aload_n C.x C.b d_s14_0 rfl (lv_at hl 0 rfl) ?_
  refine lv_iload_n C.x C.b d_s14_1 rfl (lv_at hl 1 rfl) ?_
  refine ret_r hw (run_V C hw (c_step l hn hkk hT hG hL hk) (i := 0) (by decide) rfl rfl Y_s4 k_210 k_212 kp_2 ⟨rfl, rfl⟩ (by decide) ⟨Nat.zero_le _, Nat.zero_le _⟩ rfl hl.1 rfl (Nat.le_of_ble_eq_true rfl) d_s14_2) (fun u9 H locs hp hw => ?_)
  obtain ⟨B, G, kk, hT, hG, hk2, hkk, rfl⟩ := hp
  refine lv_astore_n (lv' := [(2, .ref (Z + (2 + 3 * k))), (0, .ref Z), (1, .int (nI k))]) C.x C.b d_s14_5 rfl hl (by decide) rfl (fun ls hl => ?_)
  refine lv_aload_n C.x C.b d_s14_6 rfl (lv_at hl 0 rfl) ?_
  refine q_begins C hw (show k < 200 by omega) d_s14_7 ?_
  refine lv_iconst (v := 2) C.x C.b d_s14_10 (by decide) ?_
  refine l_B C hw 2 (show k < 200 by omega) (by decide) rfl d_s14_11 ?_
  refine lv_aload_n C.x C.b d_s14_12 rfl (lv_at hl 0 rfl) ?_
  refine q_begins C hw (show k < 200 by omega) d_s14_13 ?_
  refine lv_iconst (v := 1) C.x C.b d_s14_16 (by decide) ?_
  refine l_B C hw 1 (show k < 200 by omega) (by decide) rfl d_s14_17 ?_
  refine lv_isub C.x C.b d_s14_18 ?_
  refine lv_iconst (v := 1) C.x C.b d_s14_19 (by decide) ?_
  refine lv_isub C.x C.b d_s14_20 ?_
  refine e_i C hr hlk hw d_s14_21 ⟨B, G, kk, hT, hG, hkk, rfl, hk2, rfl⟩
theorem c_giver (l : Launch) {g : KG} {Z : Nat} {D B G : Fn2} {nn kk : Nat} {μ : MS} {o : Int64} (hn : nn ≤ 200) (hkk : kk ≤ nn) (hT : tgood D B kk) (hG : ggood D G kk) (hL : lateOK D nn) {k : Nat} (hk : k < nn) {r : Nat} (hr1 : 1 ≤ r) (hr2 : r ≤ 15) : Ci l y_s15 prog_1_method_15_code 3 5 [.ref Z, .int (nI k), .int (nI r)] g Z ((D, B, G, nI nn, nI kk), μ, o) (fun v u => QP D nn μ o u (fun _ G kk => k < kk ∧ v = G k r)) := by
  refine mk_met (own := "StageClock") (by decide) rfl (Nat.le_of_ble_eq_true rfl) fun p e s m below meth c ls C hr hlk hl hw => ?_
  have hl : lv_has ls 3 [(0, .ref Z), (1, .int (nI k)), (2, .int (nI r))] := hl
  refine lv_iload_n C.x C.b d_s15_0 rfl (lv_at hl 2 rfl) ?_
  refine lv_iconst (v := 1) C.x C.b d_s15_1 (by decide) ?_
  refine lv_bipush (v := 15) C.x C.b d_s15_2 (by decide) ?_
  refine ret_i hw (run_S C hw (c_in3 l) Y_s2 k_82 k_83 ⟨rfl, rfl⟩ (by decide) ⟨Nat.zero_le _, Nat.zero_le _⟩ rfl hl.1 rfl (Nat.le_of_ble_eq_true rfl) d_s15_4) (fun r9 u9 H locs hp hw => ?_)
  obtain ⟨hp, rfl⟩ := hp
  rw [if_pos (show 1 ≤ nI r ∧ nI r ≤ 15 from ⟨nI_le (a := 1) hr1 (by omega), nI_le (b := 15) hr2 (by decide)⟩)] at hp
  subst hp
  refine ret_v hw (run_S C hw (c_legal l) Y_s3 k_85 k_86 ⟨rfl, rfl⟩ (by decide) ⟨Nat.zero_le _, Nat.zero_le _⟩ rfl hl.1 rfl (Nat.le_of_ble_eq_true rfl) d_s15_7) (fun u9 H locs hp hw => ?_)
  subst hp
  refine lv_aload_n C.x C.b d_s15_10 rfl (lv_at hl 0 rfl) ?_
  refine lv_iload_n C.x C.b d_s15_11 rfl (lv_at hl 1 rfl) ?_
  refine ret_r hw (run_V C hw (c_step l hn hkk hT hG hL hk) (i := 0) (by decide) rfl rfl Y_s4 k_210 k_212 kp_2 ⟨rfl, rfl⟩ (by decide) ⟨Nat.zero_le _, Nat.zero_le _⟩ rfl hl.1 rfl (Nat.le_of_ble_eq_true rfl) d_s15_12) (fun u9 H locs hp hw => ?_)
  obtain ⟨B, G, kk, hT, hG, hk2, hkk, rfl⟩ := hp
  refine q_givers C hw (show k < 200 by omega) d_s15_15 ?_
  refine lv_iload_n C.x C.b d_s15_18 rfl (lv_at hl 2 rfl) ?_
  refine l_G C hw r (show k < 200 by omega) (show r < 16 by omega) rfl d_s15_19 ?_
  refine e_i C hr hlk hw d_s15_20 ⟨B, G, kk, hT, hG, hkk, rfl, hk2, rfl⟩
theorem c_in (l : Launch) {g : KG} {Z : Nat} {D B G : Fn2} {nn kk : Nat} {μ : MS} {o : Int64} (hn : nn ≤ 200) (hkk : kk ≤ nn) (hT : tgood D B kk) (hG : ggood D G kk) (hL : lateOK D nn) {stg : Nat} (hs4 : stg ≤ 4) {cyc : Int32} : Ci l y_s13 prog_1_method_13_code 7 5 [.ref Z, .int (nI stg), .int cyc] g Z ((D, B, G, nI nn, nI kk), μ, o) (fun r u => QP D nn μ o u (fun B _ _ => tgood D B nn ∧ inP B nn stg cyc r)) := by
  refine mk_met (own := "StageClock") (by decide) rfl (Nat.le_of_ble_eq_true rfl) fun p e s m below meth c ls C hr hlk hl hw => ?_
  have hl : lv_has ls 7 [(0, .ref Z), (1, .int (nI stg)), (2, .int cyc)] := hl
  refine lv_iload_n C.x C.b d_s13_0 rfl (lv_at hl 1 rfl) ?_
  refine lv_iconst (v := 0) C.x C.b d_s13_1 (by decide) ?_
  refine lv_iconst (v := 4) C.x C.b d_s13_2 (by decide) ?_
  refine ret_i hw (run_S C hw (c_in3 l) Y_s2 k_82 k_83 ⟨rfl, rfl⟩ (by decide) ⟨Nat.zero_le _, Nat.zero_le _⟩ rfl hl.1 rfl (Nat.le_of_ble_eq_true rfl) d_s13_3) (fun r9 u9 H locs hp hw => ?_)
  obtain ⟨hp, rfl⟩ := hp
  rw [if_pos (show 0 ≤ nI stg ∧ nI stg ≤ 4 from (inc (n := 4) (by decide)).mpr ⟨stg, hs4, rfl⟩)] at hp
  subst hp
  refine ret_v hw (run_S C hw (c_legal l) Y_s3 k_85 k_86 ⟨rfl, rfl⟩ (by decide) ⟨Nat.zero_le _, Nat.zero_le _⟩ rfl hl.1 rfl (Nat.le_of_ble_eq_true rfl) d_s13_6) (fun u9 H locs hp hw => ?_)
  subst hp
  refine lv_aload_n C.x C.b d_s13_9 rfl (lv_at hl 0 rfl) ?_
  refine q_many C hw d_s13_10 ?_
  refine lv_if_ne (tgt := 18) C.x C.b d_s13_13 (by decide) (fun h1 => ?_) (fun h1 => ?_)
  · skip
    have hn0 : 0 < nn := Nat.pos_of_ne_zero (fun h => h1 (by rw [h]; rfl))
    refine lv_aload_n C.x C.b d_s13_18 rfl (lv_at hl 0 rfl) ?_
    refine lv_aload_n C.x C.b d_s13_19 rfl (lv_at hl 0 rfl) ?_
    refine q_many C hw d_s13_20 ?_
    refine lv_iconst (v := 1) C.x C.b d_s13_23 (by decide) ?_
    refine lv_isub C.x C.b d_s13_24 ?_
    rw [nI_sub1 hn0]
    refine ret_r hw (run_V C hw (c_step l hn hkk hT hG hL (show nn - 1 < nn by omega)) (i := 0) (by decide) rfl rfl Y_s4 k_210 k_212 kp_2 ⟨rfl, rfl⟩ (by decide) ⟨Nat.zero_le _, Nat.zero_le _⟩ rfl hl.1 rfl (Nat.le_of_ble_eq_true rfl) d_s13_25) (fun u9 H locs hp hw => ?_)
    obtain ⟨B, G, kk, hT, hG, hk2, hkk, rfl⟩ := hp
    have ekk : kk = nn := by omega
    rw [ekk] at hw hT hG
    have loop : ∀ (d lo hi : Nat) (H : Heap) (locs : List Loc) (ls : Array Slot), hi - lo ≤ d → lo ≤ hi → hi ≤ nn → (lo = 0 ∨ B (lo - 1) stg ≤ cyc) → (hi = nn ∨ cyc < B hi stg) → WH g Z ((D, B, G, nI nn, nI nn), μ, o) s H locs → lv_has ls 7 [(3, .int (nI lo)), (4, .int (nI hi)), (0, .ref Z), (1, .int (nI stg)), (2, .int cyc)] → W p l e (RM 5) s m [Value.ref Z, .int (nI stg), .int cyc].toArray below meth c H locs 0 0 (MQ below (va_Qi (fun r u => QP D nn μ o u (fun B _ _ => tgood D B nn ∧ inP B nn stg cyc r)) (Wd g Z) (zfree Z)) [Value.ref Z, .int (nI stg), .int cyc].toArray s 0 0 (zfree Z)) (F0 m 37 ls []) := by
      have ext : ∀ (lo : Nat) (H : Heap) (locs : List Loc) (ls : Array Slot), lo ≤ nn → (lo = 0 ∨ B (lo - 1) stg ≤ cyc) → (lo = nn ∨ cyc < B lo stg) → WH g Z ((D, B, G, nI nn, nI nn), μ, o) s H locs → lv_has ls 7 [(3, .int (nI lo)), (4, .int (nI lo)), (0, .ref Z), (1, .int (nI stg)), (2, .int cyc)] → W p l e (RM 5) s m [Value.ref Z, .int (nI stg), .int cyc].toArray below meth c H locs 0 0 (MQ below (va_Qi (fun r u => QP D nn μ o u (fun B _ _ => tgood D B nn ∧ inP B nn stg cyc r)) (Wd g Z) (zfree Z)) [Value.ref Z, .int (nI stg), .int cyc].toArray s 0 0 (zfree Z)) (F0 m 82 ls []) := by
        intro lo H locs ls hlo ha hb hw hl
        refine lv_iload_n C.x C.b d_s13_82 rfl (lv_at hl 0 rfl) ?_
        refine lv_if_ne (tgt := 88) C.x C.b d_s13_83 (by decide) (fun h2 => ?_) (fun h2 => ?_)
        · skip
          have hlo0 : ¬ lo = 0 := fun h => h2 (by rw [h]; rfl)
          refine lv_aload_n C.x C.b d_s13_88 rfl (lv_at hl 2 rfl) ?_
          refine q_steps C hw d_s13_89 ?_
          refine lv_iload_n C.x C.b d_s13_92 rfl (lv_at hl 0 rfl) ?_
          refine lv_iconst (v := 1) C.x C.b d_s13_93 (by decide) ?_
          refine lv_isub C.x C.b d_s13_94 ?_
          rw [nI_sub1 (by omega)]
          refine q_aat C hw (lo - 1) (show lo - 1 < 200 by omega) rfl d_s13_95 ?_
          refine lv_astore (lv' := [(5, .ref (Z + (2 + 3 * (lo - 1)))), (3, .int (nI lo)), (4, .int (nI lo)), (0, .ref Z), (1, .int (nI stg)), (2, .int cyc)]) C.x C.b d_s13_96 hl (by decide) rfl (fun ls hl => ?_)
          refine lv_iload_n C.x C.b d_s13_98 rfl (lv_at hl 4 rfl) ?_
          refine lv_iconst (v := 4) C.x C.b d_s13_99 (by decide) ?_
          refine lv_icmp_ne (tgt := 115) C.x C.b d_s13_100 (by decide) (fun h3 => ?_) (fun h3 => ?_)
          · skip
            have hs3 : stg + 1 < 5 := by
              rcases Nat.lt_or_ge stg 4 with h | h
              · omega
              · exact absurd (show nI stg = 4 by rw [show stg = 4 by omega]; rfl) h3
            refine lv_aload C.x C.b d_s13_115 (lv_at hl 0 rfl) ?_
            refine q_begins C hw (show lo - 1 < 200 by omega) d_s13_117 ?_
            refine lv_iload_n C.x C.b d_s13_120 rfl (lv_at hl 4 rfl) ?_
            refine lv_iconst (v := 1) C.x C.b d_s13_121 (by decide) ?_
            refine lv_iadd C.x C.b d_s13_122 ?_
            rw [nI_1]
            have ef : frB B (lo - 1) (stg + 1) = B (lo - 1) (stg + 1) := if_pos hs3
            refine l_B C hw (stg + 1) (show lo - 1 < 200 by omega) hs3 rfl d_s13_123 ?_
            refine lv_istore (lv' := [(6, .int (B (lo - 1) (stg + 1))), (5, .ref (Z + (2 + 3 * (lo - 1)))), (3, .int (nI lo)), (4, .int (nI lo)), (0, .ref Z), (1, .int (nI stg)), (2, .int cyc)]) C.x C.b d_s13_124 hl (by decide) rfl (fun ls hl => ?_)
            refine lv_iload_n C.x C.b d_s13_126 rfl (lv_at hl 6 rfl) ?_
            refine lv_iload C.x C.b d_s13_127 (lv_at hl 0 rfl) ?_
            refine lv_icmp_ge (tgt := 138) C.x C.b d_s13_129 (by decide) (fun h4 => ?_) (fun h4 => ?_)
            · skip
              refine lv_iconst (v := (-1)) C.x C.b d_s13_138 (by decide) ?_
              refine e_i C hr hlk hw d_s13_139 ⟨B, G, nn, hT, hG, Nat.le_refl _, rfl, hT, lo, hlo, ha, hb, ?_⟩
              rw [if_neg hlo0, ef]
              exact (if_neg (Int32.not_lt.mpr h4)).symm
            · skip
              refine lv_iload_n C.x C.b d_s13_132 rfl (lv_at hl 2 rfl) ?_
              refine lv_iconst (v := 1) C.x C.b d_s13_133 (by decide) ?_
              refine lv_isub C.x C.b d_s13_134 ?_
              rw [nI_sub1 (by omega)]
              refine lv_goto (tgt := 139) C.x C.b d_s13_135 (by decide) ?_
              refine e_i C hr hlk hw d_s13_139 ⟨B, G, nn, hT, hG, Nat.le_refl _, rfl, hT, lo, hlo, ha, hb, ?_⟩
              rw [if_neg hlo0, ef]
              exact (if_pos (Int32.not_le.mp h4)).symm
          · skip
            have hs3 : stg = 4 := (nI_eq (b := 4) (by omega) (by decide)).mp h3
            have ef : frB B (lo - 1) (stg + 1) = B (lo - 1) stg + 1 := by rw [hs3]; rfl
            refine lv_aload C.x C.b d_s13_103 (lv_at hl 0 rfl) ?_
            refine q_begins C hw (show lo - 1 < 200 by omega) d_s13_105 ?_
            refine lv_iload_n C.x C.b d_s13_108 rfl (lv_at hl 4 rfl) ?_
            refine l_B C hw stg (show lo - 1 < 200 by omega) (show stg < 5 by omega) rfl d_s13_109 ?_
            refine lv_iconst (v := 1) C.x C.b d_s13_110 (by decide) ?_
            refine lv_iadd C.x C.b d_s13_111 ?_
            refine lv_goto (tgt := 124) C.x C.b d_s13_112 (by decide) ?_
            refine lv_istore (lv' := [(6, .int ((B (lo - 1) stg) + 1)), (5, .ref (Z + (2 + 3 * (lo - 1)))), (3, .int (nI lo)), (4, .int (nI lo)), (0, .ref Z), (1, .int (nI stg)), (2, .int cyc)]) C.x C.b d_s13_124 hl (by decide) rfl (fun ls hl => ?_)
            refine lv_iload_n C.x C.b d_s13_126 rfl (lv_at hl 6 rfl) ?_
            refine lv_iload C.x C.b d_s13_127 (lv_at hl 0 rfl) ?_
            refine lv_icmp_ge (tgt := 138) C.x C.b d_s13_129 (by decide) (fun h4 => ?_) (fun h4 => ?_)
            · skip
              refine lv_iconst (v := (-1)) C.x C.b d_s13_138 (by decide) ?_
              refine e_i C hr hlk hw d_s13_139 ⟨B, G, nn, hT, hG, Nat.le_refl _, rfl, hT, lo, hlo, ha, hb, ?_⟩
              rw [if_neg hlo0, ef]
              exact (if_neg (Int32.not_lt.mpr h4)).symm
            · skip
              refine lv_iload_n C.x C.b d_s13_132 rfl (lv_at hl 2 rfl) ?_
              refine lv_iconst (v := 1) C.x C.b d_s13_133 (by decide) ?_
              refine lv_isub C.x C.b d_s13_134 ?_
              rw [nI_sub1 (by omega)]
              refine lv_goto (tgt := 139) C.x C.b d_s13_135 (by decide) ?_
              refine e_i C hr hlk hw d_s13_139 ⟨B, G, nn, hT, hG, Nat.le_refl _, rfl, hT, lo, hlo, ha, hb, ?_⟩
              rw [if_neg hlo0, ef]
              exact (if_pos (Int32.not_le.mp h4)).symm
        · skip
          have hlo0 : lo = 0 := (nI_eq (b := 0) (by omega) (by decide)).mp h2
          refine lv_iconst (v := (-1)) C.x C.b d_s13_86 (by decide) ?_
          refine e_i C hr hlk hw d_s13_87 ⟨B, G, nn, hT, hG, Nat.le_refl _, rfl, hT, lo, hlo, ha, hb, ?_⟩
          exact (if_pos hlo0).symm
      intro d
      induction d with
      | zero =>
        intro lo hi H locs ls hd h1 h2 ha hb hw hl
        obtain rfl : lo = hi := by omega
        refine lv_iload_n C.x C.b d_s13_37 rfl (lv_at hl 0 rfl) ?_
        refine lv_iload C.x C.b d_s13_38 (lv_at hl 1 rfl) ?_
        refine lv_icmp_ge (tgt := 82) C.x C.b d_s13_40 (by decide) (fun h9 => ?_) (fun h9 => absurd (Int32.le_refl _) h9)
        exact ext lo H locs ls h2 ha hb hw hl
      | succ d ih =>
        intro lo hi H locs ls hd h1 h2 ha hb hw hl
        refine lv_iload_n C.x C.b d_s13_37 rfl (lv_at hl 0 rfl) ?_
        refine lv_iload C.x C.b d_s13_38 (lv_at hl 1 rfl) ?_
        refine lv_icmp_ge (tgt := 82) C.x C.b d_s13_40 (by decide) (fun h9 => ?_) (fun h9 => ?_)
        · skip
          obtain rfl : lo = hi := by have := (nI_leI (by omega) (by omega)).mp h9; omega
          exact ext lo H locs ls h2 ha hb hw hl
        · skip
          have hlh : lo < hi := by rcases Nat.lt_or_ge lo hi with h | h; exact h; exact absurd (nI_le h (by omega)) h9
          refine lv_iload_n C.x C.b d_s13_43 rfl (lv_at hl 0 rfl) ?_
          refine lv_iload C.x C.b d_s13_44 (lv_at hl 1 rfl) ?_
          refine lv_iadd C.x C.b d_s13_46 ?_
          refine lv_iconst (v := 2) C.x C.b d_s13_47 (by decide) ?_
          refine lv_idiv C.x C.b d_s13_48 (by decide) ?_
          have em : (nI lo + nI hi) / 2 = nI ((lo + hi) / 2) := by rw [nI_add]; exact pk_div (d := 2) (by omega) (by decide) (by decide)
          rw [em]
          generalize hmid : (lo + hi) / 2 = mid
          refine lv_istore (lv' := [(5, .int (nI mid)), (3, .int (nI lo)), (4, .int (nI hi)), (0, .ref Z), (1, .int (nI stg)), (2, .int cyc)]) C.x C.b d_s13_49 hl (by decide) rfl (fun ls hl => ?_)
          refine lv_aload_n C.x C.b d_s13_51 rfl (lv_at hl 3 rfl) ?_
          refine q_steps C hw d_s13_52 ?_
          refine lv_iload C.x C.b d_s13_55 (lv_at hl 0 rfl) ?_
          refine q_aat C hw mid (show mid < 200 by omega) rfl d_s13_57 ?_
          refine q_begins C hw (show mid < 200 by omega) d_s13_58 ?_
          refine lv_iload_n C.x C.b d_s13_61 rfl (lv_at hl 4 rfl) ?_
          refine l_B C hw stg (show mid < 200 by omega) (show stg < 5 by omega) rfl d_s13_62 ?_
          refine lv_iload_n C.x C.b d_s13_63 rfl (lv_at hl 5 rfl) ?_
          refine lv_icmp_gt (tgt := 75) C.x C.b d_s13_64 (by decide) (fun h8 => ?_) (fun h8 => ?_)
          · skip
            refine lv_iload C.x C.b d_s13_75 (lv_at hl 0 rfl) ?_
            refine lv_istore (lv' := [(4, .int (nI mid)), (5, .int (nI mid)), (3, .int (nI lo)), (0, .ref Z), (1, .int (nI stg)), (2, .int cyc)]) C.x C.b d_s13_77 hl (by decide) rfl (fun ls hl => ?_)
            refine lv_goto (tgt := 37) C.x C.b d_s13_79 (by decide) ?_
            exact ih lo mid H locs ls (by omega) (by omega) (by omega) ha (Or.inr h8) hw (lv_sub hl [2, 0, 3, 4, 5] rfl)
          · skip
            refine lv_iload C.x C.b d_s13_67 (lv_at hl 0 rfl) ?_
            refine lv_iconst (v := 1) C.x C.b d_s13_69 (by decide) ?_
            refine lv_iadd C.x C.b d_s13_70 ?_
            rw [nI_1]
            refine lv_istore_n (lv' := [(3, .int (nI (mid + 1))), (5, .int (nI mid)), (4, .int (nI hi)), (0, .ref Z), (1, .int (nI stg)), (2, .int cyc)]) C.x C.b d_s13_71 rfl hl (by decide) rfl (fun ls hl => ?_)
            refine lv_goto (tgt := 79) C.x C.b d_s13_72 (by decide) ?_
            refine lv_goto (tgt := 37) C.x C.b d_s13_79 (by decide) ?_
            exact ih (mid + 1) hi H locs ls (by omega) (by omega) (by omega) (Or.inr (Int32.not_lt.mp h8)) hb hw (lv_sub hl [0, 2, 3, 4, 5] rfl)
    refine lv_pop C.x C.b d_s13_28 rfl ?_
    refine lv_iconst (v := 0) C.x C.b d_s13_29 (by decide) ?_
    refine lv_istore_n (lv' := [(3, .int 0), (0, .ref Z), (1, .int (nI stg)), (2, .int cyc)]) C.x C.b d_s13_30 rfl hl (by decide) rfl (fun ls hl => ?_)
    refine lv_aload_n C.x C.b d_s13_31 rfl (lv_at hl 1 rfl) ?_
    refine q_many C hw d_s13_32 ?_
    refine lv_istore (lv' := [(4, .int (nI nn)), (3, .int 0), (0, .ref Z), (1, .int (nI stg)), (2, .int cyc)]) C.x C.b d_s13_35 hl (by decide) rfl (fun ls hl => ?_)
    exact loop nn 0 nn _ _ _ (by omega) (Nat.zero_le _) (Nat.le_refl _) (Or.inl rfl) (Or.inl rfl) hw (lv_sub hl [1, 0, 2, 3, 4] rfl)
  · skip
    have hn0 : nn = 0 := (nI_eq (b := 0) (by omega) (by decide)).mp h1
    refine lv_iconst (v := (-1)) C.x C.b d_s13_16 (by decide) ?_
    exact e_i C hr hlk hw d_s13_17 ⟨B, G, kk, hT, hG, hkk, rfl, fun i hi => absurd hi (by omega), 0, Nat.zero_le _, Or.inl rfl, Or.inl hn0.symm, rfl⟩
theorem c_count (l : Launch) {g : KG} {Z : Nat} {D B G : Fn2} {nn kk : Nat} {μ : MS} {o : Int64} (hn : nn ≤ 200) (hkk : kk ≤ nn) (hT : tgood D B kk) (hG : ggood D G kk) (hL : lateOK D nn) {wj : Nat} (hw3 : wj ≤ 3) : Ci l y_s16 prog_1_method_16_code 5 5 [.ref Z, .int (nI wj)] g Z ((D, B, G, nI nn, nI kk), μ, o) (fun r u => QP D nn μ o u (fun B _ _ => tgood D B nn ∧ r = cntV D B nn wj)) := by
  refine mk_met (own := "StageClock") (by decide) rfl (Nat.le_of_ble_eq_true rfl) fun p e s m below meth c ls C hr hlk hl hw => ?_
  have hl : lv_has ls 5 [(0, .ref Z), (1, .int (nI wj))] := hl
  have loop : ∀ (B G : Fn2) (kk : Nat), tgood D B kk → ggood D G kk → kk ≤ nn → tgood D B nn → ∀ (d k : Nat) (H : Heap) (locs : List Loc) (ls : Array Slot), k + d = nn → WH g Z ((D, B, G, nI nn, nI kk), μ, o) s H locs → lv_has ls 5 [(4, .int (nI k)), (3, .int (cw D k)), (2, .int (lst B nn)), (0, .ref Z), (1, .int (nI wj))] → W p l e (RM 5) s m [Value.ref Z, .int (nI wj)].toArray below meth c H locs 0 0 (MQ below (va_Qi (fun r u => QP D nn μ o u (fun B _ _ => tgood D B nn ∧ r = cntV D B nn wj)) (Wd g Z) (zfree Z)) [Value.ref Z, .int (nI wj)].toArray s 0 0 (zfree Z)) (F0 m 41 ls []) := by
    intro B G kk hT hG hkk hTn d
    induction d with
    | zero =>
      intro k H locs ls hd hw hl
      obtain rfl : k = nn := by omega
      refine lv_iload C.x C.b d_s16_41 (lv_at hl 0 rfl) ?_
      refine lv_aload_n C.x C.b d_s16_43 rfl (lv_at hl 3 rfl) ?_
      refine q_many C hw d_s16_44 ?_
      refine lv_icmp_ge (tgt := 72) C.x C.b d_s16_47 (by decide) (fun h9 => ?_) (fun h9 => absurd (Int32.le_refl _) h9)
      refine lv_iload_n C.x C.b d_s16_72 rfl (lv_at hl 4 rfl) ?_
      refine lv_if_ne (tgt := 83) C.x C.b d_s16_73 (by decide) (fun h1 => ?_) (fun h1 => ?_)
      · skip
        refine lv_iload_n C.x C.b d_s16_83 rfl (lv_at hl 4 rfl) ?_
        refine lv_iconst (v := 1) C.x C.b d_s16_84 (by decide) ?_
        refine lv_icmp_ne (tgt := 92) C.x C.b d_s16_85 (by decide) (fun h2 => ?_) (fun h2 => ?_)
        · skip
          refine lv_iload_n C.x C.b d_s16_92 rfl (lv_at hl 4 rfl) ?_
          refine lv_iconst (v := 2) C.x C.b d_s16_93 (by decide) ?_
          refine lv_icmp_ne (tgt := 106) C.x C.b d_s16_94 (by decide) (fun h3 => ?_) (fun h3 => ?_)
          · skip
            have e9 : wj = 3 := by
              rcases (show wj = 0 ∨ wj = 1 ∨ wj = 2 ∨ wj = 3 by omega) with rfl | rfl | rfl | h
              · exact absurd rfl h1
              · exact absurd rfl h2
              · exact absurd rfl h3
              · exact h
            refine lv_iload_n C.x C.b d_s16_106 rfl (lv_at hl 1 rfl) ?_
            exact e_i C hr hlk hw d_s16_107 ⟨B, G, kk, hT, hG, hkk, rfl, hTn, by rw [e9]; rfl⟩
          · skip
            have e9 : wj = 2 := (nI_eq (b := 2) (by omega) (by decide)).mp h3
            refine lv_iload_n C.x C.b d_s16_97 rfl (lv_at hl 2 rfl) ?_
            refine lv_aload_n C.x C.b d_s16_98 rfl (lv_at hl 3 rfl) ?_
            refine q_many C hw d_s16_99 ?_
            refine lv_isub C.x C.b d_s16_102 ?_
            refine lv_goto (tgt := 107) C.x C.b d_s16_103 (by decide) ?_
            exact e_i C hr hlk hw d_s16_107 ⟨B, G, kk, hT, hG, hkk, rfl, hTn, by rw [e9]; rfl⟩
        · skip
          have e9 : wj = 1 := (nI_eq (b := 1) (by omega) (by decide)).mp h2
          refine lv_iload_n C.x C.b d_s16_88 rfl (lv_at hl 2 rfl) ?_
          refine lv_goto (tgt := 107) C.x C.b d_s16_89 (by decide) ?_
          exact e_i C hr hlk hw d_s16_107 ⟨B, G, kk, hT, hG, hkk, rfl, hTn, by rw [e9]; rfl⟩
      · skip
        have e9 : wj = 0 := (nI_eq (b := 0) (by omega) (by decide)).mp h1
        refine lv_aload_n C.x C.b d_s16_76 rfl (lv_at hl 3 rfl) ?_
        refine q_many C hw d_s16_77 ?_
        refine lv_goto (tgt := 107) C.x C.b d_s16_80 (by decide) ?_
        exact e_i C hr hlk hw d_s16_107 ⟨B, G, kk, hT, hG, hkk, rfl, hTn, by rw [e9]; rfl⟩
    | succ d ih =>
      intro k H locs ls hd hw hl
      refine lv_iload C.x C.b d_s16_41 (lv_at hl 0 rfl) ?_
      refine lv_aload_n C.x C.b d_s16_43 rfl (lv_at hl 3 rfl) ?_
      refine q_many C hw d_s16_44 ?_
      refine lv_icmp_ge (tgt := 72) C.x C.b d_s16_47 (by decide) (fun h9 => absurd h9 (nI_ge (show k < nn by omega) (by omega))) (fun h9 => ?_)
      refine lv_aload_n C.x C.b d_s16_50 rfl (lv_at hl 3 rfl) ?_
      refine q_steps C hw d_s16_51 ?_
      refine lv_iload C.x C.b d_s16_54 (lv_at hl 0 rfl) ?_
      refine q_aat C hw k (show k < 200 by omega) rfl d_s16_56 ?_
      refine q_wrong C hw (show k < 200 by omega) d_s16_57 ?_
      refine lv_if_eq (tgt := 66) C.x C.b d_s16_60 (by decide) (fun h8 => ?_) (fun h8 => ?_)
      · skip
        have ec : cw D (k + 1) = cw D k := if_pos h8
        refine lv_iinc (k := 0) (v := (nI (k + 1))) (lv' := [(4, .int (nI (k + 1))), (3, .int (cw D k)), (2, .int (lst B nn)), (0, .ref Z), (1, .int (nI wj))]) C.x C.b d_s16_66 hl rfl (nI_1 _) (by decide) rfl (fun ls hl => ?_)
        refine lv_goto (tgt := 41) C.x C.b d_s16_69 (by decide) ?_
        refine ih (k + 1) H locs ls (by omega) hw ?_
        rw [ec]; exact hl
      · skip
        have ec : cw D (k + 1) = cw D k + 1 := if_neg h8
        refine lv_iinc (k := 1) (v := ((cw D k) + 1)) (lv' := [(3, .int ((cw D k) + 1)), (4, .int (nI k)), (2, .int (lst B nn)), (0, .ref Z), (1, .int (nI wj))]) C.x C.b d_s16_63 hl rfl rfl (by decide) rfl (fun ls hl => ?_)
        refine lv_iinc (k := 1) (v := (nI (k + 1))) (lv' := [(4, .int (nI (k + 1))), (3, .int ((cw D k) + 1)), (2, .int (lst B nn)), (0, .ref Z), (1, .int (nI wj))]) C.x C.b d_s16_66 hl rfl (nI_1 _) (by decide) rfl (fun ls hl => ?_)
        refine lv_goto (tgt := 41) C.x C.b d_s16_69 (by decide) ?_
        refine ih (k + 1) H locs ls (by omega) hw ?_
        rw [ec]; exact lv_sub hl [0, 1, 2, 3, 4] rfl
  refine lv_iload_n C.x C.b d_s16_0 rfl (lv_at hl 1 rfl) ?_
  refine lv_iconst (v := 0) C.x C.b d_s16_1 (by decide) ?_
  refine lv_iconst (v := 3) C.x C.b d_s16_2 (by decide) ?_
  refine ret_i hw (run_S C hw (c_in3 l) Y_s2 k_82 k_83 ⟨rfl, rfl⟩ (by decide) ⟨Nat.zero_le _, Nat.zero_le _⟩ rfl hl.1 rfl (Nat.le_of_ble_eq_true rfl) d_s16_3) (fun r9 u9 H locs hp hw => ?_)
  obtain ⟨hp, rfl⟩ := hp
  rw [if_pos (show 0 ≤ nI wj ∧ nI wj ≤ 3 from (inc (n := 3) (by decide)).mpr ⟨wj, hw3, rfl⟩)] at hp
  subst hp
  refine ret_v hw (run_S C hw (c_legal l) Y_s3 k_85 k_86 ⟨rfl, rfl⟩ (by decide) ⟨Nat.zero_le _, Nat.zero_le _⟩ rfl hl.1 rfl (Nat.le_of_ble_eq_true rfl) d_s16_6) (fun u9 H locs hp hw => ?_)
  subst hp
  refine lv_aload_n C.x C.b d_s16_9 rfl (lv_at hl 0 rfl) ?_
  refine q_many C hw d_s16_10 ?_
  refine lv_if_ne (tgt := 20) C.x C.b d_s16_13 (by decide) (fun h1 => ?_) (fun h1 => ?_)
  · skip
    have hn0 : 0 < nn := Nat.pos_of_ne_zero (fun h => h1 (by rw [h]; rfl))
    refine lv_aload_n C.x C.b d_s16_20 rfl (lv_at hl 0 rfl) ?_
    refine lv_aload_n C.x C.b d_s16_21 rfl (lv_at hl 0 rfl) ?_
    refine q_many C hw d_s16_22 ?_
    refine lv_iconst (v := 1) C.x C.b d_s16_25 (by decide) ?_
    refine lv_isub C.x C.b d_s16_26 ?_
    rw [nI_sub1 hn0]
    refine ret_r hw (run_V C hw (c_step l hn hkk hT hG hL (show nn - 1 < nn by omega)) (i := 0) (by decide) rfl rfl Y_s4 k_210 k_212 kp_2 ⟨rfl, rfl⟩ (by decide) ⟨Nat.zero_le _, Nat.zero_le _⟩ rfl hl.1 rfl (Nat.le_of_ble_eq_true rfl) d_s16_27) (fun u9 H locs hp hw => ?_)
    obtain ⟨B, G, kk, hT, hG, hk2, hkk, rfl⟩ := hp
    refine q_begins C hw (show nn - 1 < 200 by omega) d_s16_30 ?_
    refine lv_iconst (v := 4) C.x C.b d_s16_33 (by decide) ?_
    refine l_B C hw 4 (show nn - 1 < 200 by omega) (by decide) rfl d_s16_34 ?_
    refine lv_istore_n (lv' := [(2, .int (B (nn - 1) 4)), (0, .ref Z), (1, .int (nI wj))]) C.x C.b d_s16_35 rfl hl (by decide) rfl (fun ls hl => ?_)
    refine lv_iconst (v := 0) C.x C.b d_s16_36 (by decide) ?_
    refine lv_istore_n (lv' := [(3, .int 0), (2, .int (B (nn - 1) 4)), (0, .ref Z), (1, .int (nI wj))]) C.x C.b d_s16_37 rfl hl (by decide) rfl (fun ls hl => ?_)
    refine lv_iconst (v := 0) C.x C.b d_s16_38 (by decide) ?_
    refine lv_istore (lv' := [(4, .int 0), (3, .int 0), (2, .int (B (nn - 1) 4)), (0, .ref Z), (1, .int (nI wj))]) C.x C.b d_s16_39 hl (by decide) rfl (fun ls hl => ?_)
    have ekk : kk = nn := by omega
    refine loop B G kk hT hG hkk (ekk ▸ hT) nn 0 _ _ _ (Nat.zero_add nn) hw ?_
    have el : lst B nn = B (nn - 1) 4 := if_neg (by omega)
    rw [el]; exact hl
  · skip
    have hn0 : nn = 0 := (nI_eq (b := 0) (by omega) (by decide)).mp h1
    refine lv_iconst (v := 0) C.x C.b d_s16_16 (by decide) ?_
    refine lv_goto (tgt := 35) C.x C.b d_s16_17 (by decide) ?_
    refine lv_istore_n (lv' := [(2, .int 0), (0, .ref Z), (1, .int (nI wj))]) C.x C.b d_s16_35 rfl hl (by decide) rfl (fun ls hl => ?_)
    refine lv_iconst (v := 0) C.x C.b d_s16_36 (by decide) ?_
    refine lv_istore_n (lv' := [(3, .int 0), (2, .int 0), (0, .ref Z), (1, .int (nI wj))]) C.x C.b d_s16_37 rfl hl (by decide) rfl (fun ls hl => ?_)
    refine lv_iconst (v := 0) C.x C.b d_s16_38 (by decide) ?_
    refine lv_istore (lv' := [(4, .int 0), (3, .int 0), (2, .int 0), (0, .ref Z), (1, .int (nI wj))]) C.x C.b d_s16_39 hl (by decide) rfl (fun ls hl => ?_)
    refine loop B G kk hT hG hkk (fun i hi => absurd hi (by omega)) nn 0 _ _ _ (Nat.zero_add nn) hw ?_
    have el : lst B nn = 0 := if_pos hn0
    rw [el]; exact hl
end
section
/-! StageClockModel.reckon() -/
theorem bfr_D {D D' : Fn2} (h : ∀ i, i < 7 → D i = D' i) (reg : Int32) : ∀ k : Nat, bfr D k reg = bfr D' k reg
  | 0 => rfl
  | k + 1 => by
    unfold bfr
    rw [h 1 (by decide), bfr_D h reg k]
theorem stp_D {D D' B : Fn2} (h : ∀ i, i < 7 → D i = D' i) (i j : Nat) : stp D B i j = stp D' B i j := by
  have hx : ∀ k, xeD D B k = xeD D' B k := fun k => by unfold xeD; rw [h 0 (by decide)]
  have hm : ∀ k, meD D B k = meD D' B k := fun k => by unfold meD; rw [h 4 (by decide)]
  have hb : ∀ x, bh D B x = bh D' B x := fun x => by unfold bh rdy; rw [h 5 (by decide), hx, hm]
  have h0 : st0 D B i = st0 D' B i := by unfold st0; rw [h 6 (by decide), hx]
  have h1 : st1 D B i = st1 D' B i := by unfold st1; rw [h0]
  have h2 : st2 D B i = st2 D' B i := by
    unfold st2 st2a
    rw [h1, h 2 (by decide)]
    exact lpx_congr 15 (fun r _ _ => by rw [bfr_D h, hb])
  have h3 : st3 D B i = st3 D' B i := by unfold st3 st3a; rw [h2, h 0 (by decide), h 3 (by decide), bfr_D h, hb]
  unfold stp
  split
  · exact h0
  · exact h1
  · exact h2
  · exact h3
  · unfold st4; rw [h3, h 4 (by decide)]
theorem tgood_D {D D' B : Fn2} (h : ∀ i, i < 7 → D i = D' i) {n : Nat} (hT : tgood D B n) : tgood D' B n := fun i hi j hj => (hT i hi j hj).trans (stp_D h i j)
/-- M' is M but for the times of the place k -/
def Cur (M : Fn2) (k : Nat) (M' : Fn2) : Prop := ∀ i q, (i < 7 ∨ q ≠ k) → M' i q = M i q
theorem Cur.rf (M : Fn2) (k : Nat) : Cur M k M := fun _ _ _ => rfl
theorem Cur.put {M M' : Fn2} {k a : Nat} {v : Int32} (h : Cur M k M') (ha : 7 ≤ a) : Cur M k (up2 M' a k v) := fun i q hq => by
  rw [up2_ne (by rcases hq with h | h; exact Or.inl (by omega); exact Or.inr h)]
  exact h i q hq
theorem Cur.xe {M M' : Fn2} {k q : Nat} (h : Cur M k M') (hq : q ≠ k) : xeD M' (Bm M') q = xeD M (Bm M) q := by
  unfold xeD Bm; rw [h 0 q (Or.inl (by decide)), h _ q (Or.inr hq)]
theorem Cur.me {M M' : Fn2} {k q : Nat} (h : Cur M k M') (hq : q ≠ k) : meD M' (Bm M') q = meD M (Bm M) q := by
  unfold meD Bm; rw [h 4 q (Or.inl (by decide)), h _ q (Or.inr hq)]
theorem Cur_bfr {M M' : Fn2} {k : Nat} (h : Cur M k M') (reg : Int32) (q : Nat) : bfr M' q reg = bfr M q reg := bfr_D (fun i hi => funext fun x => h i x (Or.inl hi)) reg q
theorem Cur_bh {M M' : Fn2} {k : Nat} (h : Cur M k M') (hk : k ≤ 200) (reg : Int32) : bh M' (Bm M') (bfr M' k reg) = bh M (Bm M) (bfr M k reg) := by
  rw [Cur_bfr h]
  generalize hx : bfr M k reg = x
  by_cases h0 : 0 ≤ x
  · obtain ⟨j, hj, e⟩ := bfr_in M reg k (by rw [hx]; exact h0)
    have ej : x = nI j := hx.symm.trans e
    rw [ej]
    unfold bh rdy
    have h00 : 0 ≤ nI j := by rw [← ej]; exact h0
    rw [if_pos h00, if_pos h00, nI_clamp (by omega), h 5 j (Or.inl (by decide)), h.xe (by omega), h.me (by omega)]
  · unfold bh
    rw [if_neg h0, if_neg h0]
section Rk
variable {p : Program} {l : Launch} {e : Env} {s : State} {m : MethodId} {args : Array Value} {below : List Frame} {meth : Method} {c : Code} {H : Heap} {locs : List Loc} {Q : State → Prop}
variable {ls : Array Slot} {g : KG} {Z : Nat} {σ : CS} {M M1 : Fn2} {er : Int32} {nn : Nat} {o : Int64}
theorem rk1_0 (C : Cx p s m c prog_4_method_14_code 4 "StageClockModel" args g Z) (hw : WH g Z (σ, (M, er, nI nn, nI 0), o) s H locs) (hl : lv_has ls 4 [(0, .ref (Z + 602))]) (kk : ∀ (M1 : Fn2) (H : Heap) (locs : List Loc) (ls : Array Slot), Cur M 0 M1 → M1 7 0 = st0 M (Bm M) 0 → M1 8 0 = st1 M (Bm M) 0 → M1 9 0 = st2a M (Bm M) 0 → WH g Z (σ, (M1, er, nI nn, nI 0), o) s H locs → lv_has ls 4 [(3, .int 1), (2, .int 1), (1, .int (nI 0)), (0, .ref (Z + 602))] → W p l e (RM 2) s m args below meth c H locs 0 0 Q (F0 m 139 ls [])) : W p l e (RM 2) s m args below meth c H locs 0 0 Q (F0 m 11 ls []) := by
  have hC : Cur M 0 M := Cur.rf M 0
  refine lv_aload_n C.x C.b d_m14_11 rfl (lv_at hl 0 rfl) ?_
  refine q_mknown C hw d_m14_12 ?_
  refine lv_istore_n (lv' := [(1, .int (nI 0)), (0, .ref (Z + 602))]) C.x C.b d_m14_15 rfl hl (by decide) rfl (fun ls hl => ?_)
  refine lv_iload_n C.x C.b d_m14_16 rfl (lv_at hl 0 rfl) ?_
  refine lv_if_ne (tgt := 24) C.x C.b d_m14_17 (by decide) (fun h9 => absurd rfl h9) (fun h9 => ?_)
  refine lv_iconst (v := 1) C.x C.b d_m14_20 (by decide) ?_
  refine lv_goto (tgt := 25) C.x C.b d_m14_21 (by decide) ?_
  refine lv_istore_n (lv' := [(2, .int 1), (1, .int (nI 0)), (0, .ref (Z + 602))]) C.x C.b d_m14_25 rfl hl (by decide) rfl (fun ls hl => ?_)
  refine lv_aload_n C.x C.b d_m14_26 rfl (lv_at hl 2 rfl) ?_
  refine q_m7 C hw d_m14_27 ?_
  refine lv_iload_n C.x C.b d_m14_30 rfl (lv_at hl 1 rfl) ?_
  refine lv_iload_n C.x C.b d_m14_31 rfl (lv_at hl 0 rfl) ?_
  refine lv_if_eq (tgt := 39) C.x C.b d_m14_32 (by decide) (fun h9 => absurd h9 (by decide)) (fun h9 => ?_)
  refine lv_iconst (v := 1) C.x C.b d_m14_35 (by decide) ?_
  refine lv_goto (tgt := 70) C.x C.b d_m14_36 (by decide) ?_
  rw [show 1 = st0 M (Bm M) 0 from rfl]
  refine s_m7 C hw 0 (show 0 < 200 by omega) rfl d_m14_70 (fun H locs hw => ?_)
  obtain ⟨M1, eM1⟩ : ∃ x, x = up2 M 7 0 (st0 M (Bm M) 0) := ⟨_, rfl⟩
  rw [← eM1] at hw
  have h7 : M1 7 0 = st0 M (Bm M) 0 := by rw [eM1]; exact up2_self _ _ _ _
  have hC : Cur M 0 M1 := by rw [eM1]; exact hC.put (by decide)
  refine lv_aload_n C.x C.b d_m14_71 rfl (lv_at hl 2 rfl) ?_
  refine q_m8 C hw d_m14_72 ?_
  refine lv_iload_n C.x C.b d_m14_75 rfl (lv_at hl 1 rfl) ?_
  refine lv_aload_n C.x C.b d_m14_76 rfl (lv_at hl 2 rfl) ?_
  refine q_m7 C hw d_m14_77 ?_
  refine lv_iload_n C.x C.b d_m14_80 rfl (lv_at hl 1 rfl) ?_
  refine l_m7 C hw 0 (show 0 < 200 by omega) rfl d_m14_81 ?_
  rw [h7]
  refine lv_iconst (v := 1) C.x C.b d_m14_82 (by decide) ?_
  refine lv_iadd C.x C.b d_m14_83 ?_
  refine lv_iload_n C.x C.b d_m14_84 rfl (lv_at hl 0 rfl) ?_
  refine lv_if_eq (tgt := 92) C.x C.b d_m14_85 (by decide) (fun h9 => absurd h9 (by decide)) (fun h9 => ?_)
  refine lv_iconst (v := 0) C.x C.b d_m14_88 (by decide) ?_
  refine lv_goto (tgt := 100) C.x C.b d_m14_89 (by decide) ?_
  refine ret_i hw (run_S C hw (c_more l) Y_m13 k_359 k_360 ⟨rfl, rfl⟩ (by decide) ⟨Nat.zero_le _, Nat.zero_le _⟩ rfl hl.1 rfl (Nat.le_of_ble_eq_true rfl) d_m14_100) (fun r9 u9 H locs hp hw => ?_)
  obtain ⟨rfl, rfl⟩ := hp
  rw [show (mx ((st0 M (Bm M) 0) + 1) 0) = st1 M (Bm M) 0 from rfl]
  refine s_m8 C hw 0 (show 0 < 200 by omega) rfl d_m14_103 (fun H locs hw => ?_)
  obtain ⟨M2, eM2⟩ : ∃ x, x = up2 M1 8 0 (st1 M (Bm M) 0) := ⟨_, rfl⟩
  rw [← eM2] at hw
  have h8 : M2 8 0 = st1 M (Bm M) 0 := by rw [eM2]; exact up2_self _ _ _ _
  have h7 : M2 7 0 = st0 M (Bm M) 0 := by rw [eM2, up2_ne (Or.inl (by decide))]; exact h7
  have hC : Cur M 0 M2 := by rw [eM2]; exact hC.put (by decide)
  refine lv_aload_n C.x C.b d_m14_104 rfl (lv_at hl 2 rfl) ?_
  refine q_m9 C hw d_m14_105 ?_
  refine lv_iload_n C.x C.b d_m14_108 rfl (lv_at hl 1 rfl) ?_
  refine lv_aload_n C.x C.b d_m14_109 rfl (lv_at hl 2 rfl) ?_
  refine q_m8 C hw d_m14_110 ?_
  refine lv_iload_n C.x C.b d_m14_113 rfl (lv_at hl 1 rfl) ?_
  refine l_m8 C hw 0 (show 0 < 200 by omega) rfl d_m14_114 ?_
  rw [h8]
  refine lv_iconst (v := 1) C.x C.b d_m14_115 (by decide) ?_
  refine lv_iadd C.x C.b d_m14_116 ?_
  refine lv_iload_n C.x C.b d_m14_117 rfl (lv_at hl 0 rfl) ?_
  refine lv_if_eq (tgt := 125) C.x C.b d_m14_118 (by decide) (fun h9 => absurd h9 (by decide)) (fun h9 => ?_)
  refine lv_iconst (v := 0) C.x C.b d_m14_121 (by decide) ?_
  refine lv_goto (tgt := 133) C.x C.b d_m14_122 (by decide) ?_
  refine ret_i hw (run_S C hw (c_more l) Y_m13 k_359 k_360 ⟨rfl, rfl⟩ (by decide) ⟨Nat.zero_le _, Nat.zero_le _⟩ rfl hl.1 rfl (Nat.le_of_ble_eq_true rfl) d_m14_133) (fun r9 u9 H locs hp hw => ?_)
  obtain ⟨rfl, rfl⟩ := hp
  rw [show (mx ((st1 M (Bm M) 0) + 1) 0) = st2a M (Bm M) 0 from rfl]
  refine s_m9 C hw 0 (show 0 < 200 by omega) rfl d_m14_136 (fun H locs hw => ?_)
  obtain ⟨M3, eM3⟩ : ∃ x, x = up2 M2 9 0 (st2a M (Bm M) 0) := ⟨_, rfl⟩
  rw [← eM3] at hw
  have h9 : M3 9 0 = st2a M (Bm M) 0 := by rw [eM3]; exact up2_self _ _ _ _
  have h7 : M3 7 0 = st0 M (Bm M) 0 := by rw [eM3, up2_ne (Or.inl (by decide))]; exact h7
  have h8 : M3 8 0 = st1 M (Bm M) 0 := by rw [eM3, up2_ne (Or.inl (by decide))]; exact h8
  have hC : Cur M 0 M3 := by rw [eM3]; exact hC.put (by decide)
  refine lv_iconst (v := 1) C.x C.b d_m14_137 (by decide) ?_
  refine lv_istore_n (lv' := [(3, .int 1), (2, .int 1), (1, .int (nI 0)), (0, .ref (Z + 602))]) C.x C.b d_m14_138 rfl hl (by decide) rfl (fun ls hl => ?_)
  exact kk _ H locs ls hC h7 h8 h9 hw hl
theorem rk2_0 (C : Cx p s m c prog_4_method_14_code 4 "StageClockModel" args g Z) (kk : ∀ (M1 : Fn2) (H : Heap) (locs : List Loc) (ls : Array Slot), Cur M 0 M1 → M1 7 0 = st0 M (Bm M) 0 → M1 8 0 = st1 M (Bm M) 0 → M1 9 0 = st2 M (Bm M) 0 → WH g Z (σ, (M1, er, nI nn, nI 0), o) s H locs → lv_has ls 4 [(2, .int 1), (1, .int (nI 0)), (0, .ref (Z + 602))] → W p l e (RM 2) s m args below meth c H locs 0 0 Q (F0 m 186 ls [])) :
    ∀ (d r : Nat), r + d = 15 → ∀ (M1 : Fn2) (H : Heap) (locs : List Loc) (ls : Array Slot), Cur M 0 M1 → M1 7 0 = st0 M (Bm M) 0 → M1 8 0 = st1 M (Bm M) 0 → M1 9 0 = lpx (fun r => bh M (Bm M) (bfr M 0 (nI r))) (M 2 0) (st2a M (Bm M) 0) r → WH g Z (σ, (M1, er, nI nn, nI 0), o) s H locs → lv_has ls 4 [(3, .int (nI (r + 1))), (2, .int 1), (1, .int (nI 0)), (0, .ref (Z + 602))] → W p l e (RM 2) s m args below meth c H locs 0 0 Q (F0 m 139 ls []) := by
  intro d
  induction d with
  | zero =>
    intro r hd M1 H locs ls hC h7 h8 h9 hw hl
    obtain rfl : r = 15 := by omega
    refine lv_iload_n C.x C.b d_m14_139 rfl (lv_at hl 0 rfl) ?_
    refine lv_bipush (v := 16) C.x C.b d_m14_140 (by decide) ?_
    refine lv_icmp_ge (tgt := 186) C.x C.b d_m14_142 (by decide) (fun q9 => ?_) (fun q9 => absurd (by decide) q9)
    exact kk M1 H locs ls hC h7 h8 h9 hw (lv_sub hl [1, 2, 3] rfl)
  | succ d ih =>
    intro r hd M1 H locs ls hC h7 h8 h9 hw hl
    refine lv_iload_n C.x C.b d_m14_139 rfl (lv_at hl 0 rfl) ?_
    refine lv_bipush (v := 16) C.x C.b d_m14_140 (by decide) ?_
    refine lv_icmp_ge (tgt := 186) C.x C.b d_m14_142 (by decide) (fun q9 => absurd q9 (nI_ge (show r + 1 < 16 by omega) (by decide))) (fun q9 => ?_)
    refine lv_aload_n C.x C.b d_m14_145 rfl (lv_at hl 3 rfl) ?_
    refine q_m2 C hw d_m14_146 ?_
    refine lv_iload_n C.x C.b d_m14_149 rfl (lv_at hl 2 rfl) ?_
    refine l_m2 C hw 0 (show 0 < 200 by omega) rfl d_m14_150 ?_
    rw [hC 2 0 (Or.inl (by decide))]
    refine lv_iload_n C.x C.b d_m14_151 rfl (lv_at hl 0 rfl) ?_
    refine lv_ishr C.x C.b d_m14_152 ?_
    refine lv_iconst (v := 1) C.x C.b d_m14_153 (by decide) ?_
    refine lv_iand C.x C.b d_m14_154 ?_
    refine lv_iconst (v := 1) C.x C.b d_m14_155 (by decide) ?_
    refine lv_icmp_ne (tgt := 180) C.x C.b d_m14_156 (by decide) (fun q3 => ?_) (fun q3 => ?_)
    · skip
      refine lv_iinc (k := 0) (v := (nI ((r + 1) + 1))) (lv' := [(3, .int (nI ((r + 1) + 1))), (2, .int 1), (1, .int (nI 0)), (0, .ref (Z + 602))]) C.x C.b d_m14_180 hl rfl (nI_1 _) (by decide) rfl (fun ls hl => ?_)
      refine lv_goto (tgt := 139) C.x C.b d_m14_183 (by decide) ?_
      refine ih (r + 1) (by omega) M1 H locs ls hC h7 h8 ?_ hw hl
      rw [h9]; exact (if_neg q3).symm
    · skip
      refine lv_aload_n C.x C.b d_m14_159 rfl (lv_at hl 3 rfl) ?_
      refine q_m9 C hw d_m14_160 ?_
      refine lv_iload_n C.x C.b d_m14_163 rfl (lv_at hl 2 rfl) ?_
      refine lv_aload_n C.x C.b d_m14_164 rfl (lv_at hl 3 rfl) ?_
      refine q_m9 C hw d_m14_165 ?_
      refine lv_iload_n C.x C.b d_m14_168 rfl (lv_at hl 2 rfl) ?_
      refine l_m9 C hw 0 (show 0 < 200 by omega) rfl d_m14_169 ?_
      rw [h9]
      refine lv_aload_n C.x C.b d_m14_170 rfl (lv_at hl 3 rfl) ?_
      refine lv_iload_n C.x C.b d_m14_171 rfl (lv_at hl 2 rfl) ?_
      refine lv_iload_n C.x C.b d_m14_172 rfl (lv_at hl 0 rfl) ?_
      refine ret_i hw (run_V C hw (c_behind l (show 0 ≤ 200 by omega)) (i := 602) (by decide) rfl rfl Y_m12 k_362 k_364 kp_9 ⟨rfl, rfl⟩ (by decide) ⟨Nat.zero_le _, Nat.zero_le _⟩ rfl hl.1 rfl (Nat.le_of_ble_eq_true rfl) d_m14_173) (fun r9 u9 H locs hp hw => ?_)
      obtain ⟨rfl, rfl⟩ := hp
      rw [Cur_bh hC (by omega)]
      refine ret_i hw (run_S C hw (c_more l) Y_m13 k_359 k_360 ⟨rfl, rfl⟩ (by decide) ⟨Nat.zero_le _, Nat.zero_le _⟩ rfl hl.1 rfl (Nat.le_of_ble_eq_true rfl) d_m14_176) (fun r9 u9 H locs hp hw => ?_)
      obtain ⟨rfl, rfl⟩ := hp
      refine s_m9 C hw 0 (show 0 < 200 by omega) rfl d_m14_179 (fun H locs hw => ?_)
      obtain ⟨M4, eM4⟩ : ∃ x, x = up2 M1 9 0 (mx (lpx (fun r => bh M (Bm M) (bfr M 0 (nI r))) (M 2 0) (st2a M (Bm M) 0) r) (bh M (Bm M) (bfr M 0 (nI (r + 1))))) := ⟨_, rfl⟩
      rw [← eM4] at hw
      have h9 : M4 9 0 = mx (lpx (fun r => bh M (Bm M) (bfr M 0 (nI r))) (M 2 0) (st2a M (Bm M) 0) r) (bh M (Bm M) (bfr M 0 (nI (r + 1)))) := by rw [eM4]; exact up2_self _ _ _ _
      have h7 : M4 7 0 = st0 M (Bm M) 0 := by rw [eM4, up2_ne (Or.inl (by decide))]; exact h7
      have h8 : M4 8 0 = st1 M (Bm M) 0 := by rw [eM4, up2_ne (Or.inl (by decide))]; exact h8
      have hC : Cur M 0 M4 := by rw [eM4]; exact hC.put (by decide)
      refine lv_iinc (k := 0) (v := (nI ((r + 1) + 1))) (lv' := [(3, .int (nI ((r + 1) + 1))), (2, .int 1), (1, .int (nI 0)), (0, .ref (Z + 602))]) C.x C.b d_m14_180 hl rfl (nI_1 _) (by decide) rfl (fun ls hl => ?_)
      refine lv_goto (tgt := 139) C.x C.b d_m14_183 (by decide) ?_
      refine ih (r + 1) (by omega) _ H locs ls hC h7 h8 ?_ hw hl
      rw [h9]; exact (if_pos q3).symm
theorem rk3_0 (C : Cx p s m c prog_4_method_14_code 4 "StageClockModel" args g Z) (hC : Cur M 0 M1) (h7 : M1 7 0 = st0 M (Bm M) 0) (h8 : M1 8 0 = st1 M (Bm M) 0) (h9 : M1 9 0 = st2 M (Bm M) 0) (hw : WH g Z (σ, (M1, er, nI nn, nI 0), o) s H locs) (hl : lv_has ls 4 [(2, .int 1), (1, .int (nI 0)), (0, .ref (Z + 602))]) (kk : ∀ (M1 : Fn2) (H : Heap) (locs : List Loc) (ls : Array Slot), Cur M 0 M1 → (∀ j7, j7 < 5 → M1 (7 + j7) 0 = stp M (Bm M) 0 j7) → WH g Z (σ, (M1, er, nI nn, nI (0 + 1)), o) s H locs → lv_has ls 4 [(0, .ref (Z + 602))] → W p l e (RM 2) s m args below meth c H locs 0 0 Q (F0 m 0 ls [])) : W p l e (RM 2) s m args below meth c H locs 0 0 Q (F0 m 186 ls []) := by
  refine lv_aload_n C.x C.b d_m14_186 rfl (lv_at hl 2 rfl) ?_
  refine q_m10 C hw d_m14_187 ?_
  refine lv_iload_n C.x C.b d_m14_190 rfl (lv_at hl 1 rfl) ?_
  refine lv_aload_n C.x C.b d_m14_191 rfl (lv_at hl 2 rfl) ?_
  refine lv_iload_n C.x C.b d_m14_192 rfl (lv_at hl 1 rfl) ?_
  refine ret_i hw (run_V C hw (c_xe l (show 0 < 200 by omega)) (i := 602) (by decide) rfl rfl Y_m10 k_355 k_357 kp_8 ⟨rfl, rfl⟩ (by decide) ⟨Nat.zero_le _, Nat.zero_le _⟩ rfl hl.1 rfl (Nat.le_of_ble_eq_true rfl) d_m14_193) (fun r9 u9 H locs hp hw => ?_)
  obtain ⟨rfl, rfl⟩ := hp
  rw [show xeD M1 (Bm M1) 0 = st2 M (Bm M) 0 + M 0 0 - 1 by show M1 9 0 + M1 0 0 - 1 = _; rw [hC 0 0 (Or.inl (by decide)), h9]]
  refine lv_iconst (v := 1) C.x C.b d_m14_196 (by decide) ?_
  refine lv_iadd C.x C.b d_m14_197 ?_
  refine lv_iload_n C.x C.b d_m14_198 rfl (lv_at hl 0 rfl) ?_
  refine lv_if_eq (tgt := 206) C.x C.b d_m14_199 (by decide) (fun q9 => absurd q9 (by decide)) (fun q9 => ?_)
  refine lv_iconst (v := 0) C.x C.b d_m14_202 (by decide) ?_
  refine lv_goto (tgt := 214) C.x C.b d_m14_203 (by decide) ?_
  refine ret_i hw (run_S C hw (c_more l) Y_m13 k_359 k_360 ⟨rfl, rfl⟩ (by decide) ⟨Nat.zero_le _, Nat.zero_le _⟩ rfl hl.1 rfl (Nat.le_of_ble_eq_true rfl) d_m14_214) (fun r9 u9 H locs hp hw => ?_)
  obtain ⟨rfl, rfl⟩ := hp
  rw [show (mx ((st2 M (Bm M) 0 + M 0 0 - 1) + 1) 0) = st3a M (Bm M) 0 from rfl]
  refine s_m10 C hw 0 (show 0 < 200 by omega) rfl d_m14_217 (fun H locs hw => ?_)
  obtain ⟨M5, eM5⟩ : ∃ x, x = up2 M1 10 0 (st3a M (Bm M) 0) := ⟨_, rfl⟩
  rw [← eM5] at hw
  have h10 : M5 10 0 = st3a M (Bm M) 0 := by rw [eM5]; exact up2_self _ _ _ _
  have h7 : M5 7 0 = st0 M (Bm M) 0 := by rw [eM5, up2_ne (Or.inl (by decide))]; exact h7
  have h8 : M5 8 0 = st1 M (Bm M) 0 := by rw [eM5, up2_ne (Or.inl (by decide))]; exact h8
  have h9 : M5 9 0 = st2 M (Bm M) 0 := by rw [eM5, up2_ne (Or.inl (by decide))]; exact h9
  have hC : Cur M 0 M5 := by rw [eM5]; exact hC.put (by decide)
  refine lv_aload_n C.x C.b d_m14_218 rfl (lv_at hl 2 rfl) ?_
  refine q_m3 C hw d_m14_219 ?_
  refine lv_iload_n C.x C.b d_m14_222 rfl (lv_at hl 1 rfl) ?_
  refine l_m3 C hw 0 (show 0 < 200 by omega) rfl d_m14_223 ?_
  rw [hC 3 0 (Or.inl (by decide))]
  refine lv_if_le (tgt := 253) C.x C.b d_m14_224 (by decide) (fun q3 => ?_) (fun q3 => ?_)
  · skip
    refine lv_aload_n C.x C.b d_m14_253 rfl (lv_at hl 2 rfl) ?_
    refine q_m11 C hw d_m14_254 ?_
    refine lv_iload_n C.x C.b d_m14_257 rfl (lv_at hl 1 rfl) ?_
    refine lv_aload_n C.x C.b d_m14_258 rfl (lv_at hl 2 rfl) ?_
    refine lv_iload_n C.x C.b d_m14_259 rfl (lv_at hl 1 rfl) ?_
    refine ret_i hw (run_V C hw (c_me l (show 0 < 200 by omega)) (i := 602) (by decide) rfl rfl Y_m11 k_370 k_372 kp_11 ⟨rfl, rfl⟩ (by decide) ⟨Nat.zero_le _, Nat.zero_le _⟩ rfl hl.1 rfl (Nat.le_of_ble_eq_true rfl) d_m14_260) (fun r9 u9 H locs hp hw => ?_)
    obtain ⟨rfl, rfl⟩ := hp
    rw [show meD M5 (Bm M5) 0 = (st3a M (Bm M) 0) + M 4 0 by show M5 10 0 + M5 4 0 = _; rw [hC 4 0 (Or.inl (by decide)), h10]]
    have e5 : st3a M (Bm M) 0 = st3 M (Bm M) 0 := (if_neg (Int32.not_lt.mpr q3)).symm
    rw [e5]
    rw [e5] at h10
    refine lv_iconst (v := 1) C.x C.b d_m14_263 (by decide) ?_
    refine lv_iadd C.x C.b d_m14_264 ?_
    rw [show ((st3 M (Bm M) 0 + M 4 0) + 1) = st4 M (Bm M) 0 from rfl]
    refine s_m11 C hw 0 (show 0 < 200 by omega) rfl d_m14_265 (fun H locs hw => ?_)
    obtain ⟨M6, eM6⟩ : ∃ x, x = up2 M5 11 0 (st4 M (Bm M) 0) := ⟨_, rfl⟩
    rw [← eM6] at hw
    have h11 : M6 11 0 = st4 M (Bm M) 0 := by rw [eM6]; exact up2_self _ _ _ _
    have h7 : M6 7 0 = st0 M (Bm M) 0 := by rw [eM6, up2_ne (Or.inl (by decide))]; exact h7
    have h8 : M6 8 0 = st1 M (Bm M) 0 := by rw [eM6, up2_ne (Or.inl (by decide))]; exact h8
    have h9 : M6 9 0 = st2 M (Bm M) 0 := by rw [eM6, up2_ne (Or.inl (by decide))]; exact h9
    have h10 : M6 10 0 = st3 M (Bm M) 0 := by rw [eM6, up2_ne (Or.inl (by decide))]; exact h10
    have hC : Cur M 0 M6 := by rw [eM6]; exact hC.put (by decide)
    refine lv_aload_n C.x C.b d_m14_266 rfl (lv_at hl 2 rfl) ?_
    refine lv_dup C.x C.b d_m14_267 rfl ?_
    refine q_mknown C hw d_m14_268 ?_
    refine lv_iconst (v := 1) C.x C.b d_m14_271 (by decide) ?_
    refine lv_iadd C.x C.b d_m14_272 ?_
    rw [nI_1]
    refine p_mknown C hw d_m14_273 (fun H locs hw => ?_)
    refine lv_goto (tgt := 0) C.x C.b d_m14_276 (by decide) ?_
    refine kk _ H locs ls hC (fun j7 hj7 => ?_) hw (lv_sub hl [2] rfl)
    match j7, hj7 with
    | 0, _ => exact h7
    | 1, _ => exact h8
    | 2, _ => exact h9
    | 3, _ => exact h10
    | 4, _ => exact h11
  · skip
    refine lv_aload_n C.x C.b d_m14_227 rfl (lv_at hl 2 rfl) ?_
    refine q_m10 C hw d_m14_228 ?_
    refine lv_iload_n C.x C.b d_m14_231 rfl (lv_at hl 1 rfl) ?_
    refine lv_aload_n C.x C.b d_m14_232 rfl (lv_at hl 2 rfl) ?_
    refine q_m10 C hw d_m14_233 ?_
    refine lv_iload_n C.x C.b d_m14_236 rfl (lv_at hl 1 rfl) ?_
    refine l_m10 C hw 0 (show 0 < 200 by omega) rfl d_m14_237 ?_
    rw [h10]
    refine lv_aload_n C.x C.b d_m14_238 rfl (lv_at hl 2 rfl) ?_
    refine lv_iload_n C.x C.b d_m14_239 rfl (lv_at hl 1 rfl) ?_
    refine lv_aload_n C.x C.b d_m14_240 rfl (lv_at hl 2 rfl) ?_
    refine q_m3 C hw d_m14_241 ?_
    refine lv_iload_n C.x C.b d_m14_244 rfl (lv_at hl 1 rfl) ?_
    refine l_m3 C hw 0 (show 0 < 200 by omega) rfl d_m14_245 ?_
    rw [hC 3 0 (Or.inl (by decide))]
    refine ret_i hw (run_V C hw (c_behind l (show 0 ≤ 200 by omega)) (i := 602) (by decide) rfl rfl Y_m12 k_362 k_364 kp_9 ⟨rfl, rfl⟩ (by decide) ⟨Nat.zero_le _, Nat.zero_le _⟩ rfl hl.1 rfl (Nat.le_of_ble_eq_true rfl) d_m14_246) (fun r9 u9 H locs hp hw => ?_)
    obtain ⟨rfl, rfl⟩ := hp
    rw [Cur_bh hC (by omega)]
    refine ret_i hw (run_S C hw (c_more l) Y_m13 k_359 k_360 ⟨rfl, rfl⟩ (by decide) ⟨Nat.zero_le _, Nat.zero_le _⟩ rfl hl.1 rfl (Nat.le_of_ble_eq_true rfl) d_m14_249) (fun r9 u9 H locs hp hw => ?_)
    obtain ⟨rfl, rfl⟩ := hp
    refine s_m10 C hw 0 (show 0 < 200 by omega) rfl d_m14_252 (fun H locs hw => ?_)
    obtain ⟨M7, eM7⟩ : ∃ x, x = up2 M5 10 0 (mx (st3a M (Bm M) 0) (bh M (Bm M) (bfr M 0 (M 3 0)))) := ⟨_, rfl⟩
    rw [← eM7] at hw
    have h10 : M7 10 0 = mx (st3a M (Bm M) 0) (bh M (Bm M) (bfr M 0 (M 3 0))) := by rw [eM7]; exact up2_self _ _ _ _
    have h7 : M7 7 0 = st0 M (Bm M) 0 := by rw [eM7, up2_ne (Or.inl (by decide))]; exact h7
    have h8 : M7 8 0 = st1 M (Bm M) 0 := by rw [eM7, up2_ne (Or.inl (by decide))]; exact h8
    have h9 : M7 9 0 = st2 M (Bm M) 0 := by rw [eM7, up2_ne (Or.inl (by decide))]; exact h9
    have hC : Cur M 0 M7 := by rw [eM7]; exact hC.put (by decide)
    refine lv_aload_n C.x C.b d_m14_253 rfl (lv_at hl 2 rfl) ?_
    refine q_m11 C hw d_m14_254 ?_
    refine lv_iload_n C.x C.b d_m14_257 rfl (lv_at hl 1 rfl) ?_
    refine lv_aload_n C.x C.b d_m14_258 rfl (lv_at hl 2 rfl) ?_
    refine lv_iload_n C.x C.b d_m14_259 rfl (lv_at hl 1 rfl) ?_
    refine ret_i hw (run_V C hw (c_me l (show 0 < 200 by omega)) (i := 602) (by decide) rfl rfl Y_m11 k_370 k_372 kp_11 ⟨rfl, rfl⟩ (by decide) ⟨Nat.zero_le _, Nat.zero_le _⟩ rfl hl.1 rfl (Nat.le_of_ble_eq_true rfl) d_m14_260) (fun r9 u9 H locs hp hw => ?_)
    obtain ⟨rfl, rfl⟩ := hp
    rw [show meD M7 (Bm M7) 0 = (mx (st3a M (Bm M) 0) (bh M (Bm M) (bfr M 0 (M 3 0)))) + M 4 0 by show M7 10 0 + M7 4 0 = _; rw [hC 4 0 (Or.inl (by decide)), h10]]
    have e5 : mx (st3a M (Bm M) 0) (bh M (Bm M) (bfr M 0 (M 3 0))) = st3 M (Bm M) 0 := (if_pos (Int32.not_le.mp q3)).symm
    rw [e5]
    rw [e5] at h10
    refine lv_iconst (v := 1) C.x C.b d_m14_263 (by decide) ?_
    refine lv_iadd C.x C.b d_m14_264 ?_
    rw [show ((st3 M (Bm M) 0 + M 4 0) + 1) = st4 M (Bm M) 0 from rfl]
    refine s_m11 C hw 0 (show 0 < 200 by omega) rfl d_m14_265 (fun H locs hw => ?_)
    obtain ⟨M8, eM8⟩ : ∃ x, x = up2 M7 11 0 (st4 M (Bm M) 0) := ⟨_, rfl⟩
    rw [← eM8] at hw
    have h11 : M8 11 0 = st4 M (Bm M) 0 := by rw [eM8]; exact up2_self _ _ _ _
    have h7 : M8 7 0 = st0 M (Bm M) 0 := by rw [eM8, up2_ne (Or.inl (by decide))]; exact h7
    have h8 : M8 8 0 = st1 M (Bm M) 0 := by rw [eM8, up2_ne (Or.inl (by decide))]; exact h8
    have h9 : M8 9 0 = st2 M (Bm M) 0 := by rw [eM8, up2_ne (Or.inl (by decide))]; exact h9
    have h10 : M8 10 0 = st3 M (Bm M) 0 := by rw [eM8, up2_ne (Or.inl (by decide))]; exact h10
    have hC : Cur M 0 M8 := by rw [eM8]; exact hC.put (by decide)
    refine lv_aload_n C.x C.b d_m14_266 rfl (lv_at hl 2 rfl) ?_
    refine lv_dup C.x C.b d_m14_267 rfl ?_
    refine q_mknown C hw d_m14_268 ?_
    refine lv_iconst (v := 1) C.x C.b d_m14_271 (by decide) ?_
    refine lv_iadd C.x C.b d_m14_272 ?_
    rw [nI_1]
    refine p_mknown C hw d_m14_273 (fun H locs hw => ?_)
    refine lv_goto (tgt := 0) C.x C.b d_m14_276 (by decide) ?_
    refine kk _ H locs ls hC (fun j7 hj7 => ?_) hw (lv_sub hl [2] rfl)
    match j7, hj7 with
    | 0, _ => exact h7
    | 1, _ => exact h8
    | 2, _ => exact h9
    | 3, _ => exact h10
    | 4, _ => exact h11
theorem rk1_1 (C : Cx p s m c prog_4_method_14_code 4 "StageClockModel" args g Z) {j : Nat} (hj : j + 1 < 200) (hw : WH g Z (σ, (M, er, nI nn, nI (j + 1)), o) s H locs) (hl : lv_has ls 4 [(0, .ref (Z + 602))]) (kk : ∀ (M1 : Fn2) (H : Heap) (locs : List Loc) (ls : Array Slot), Cur M (j + 1) M1 → M1 7 (j + 1) = st0 M (Bm M) (j + 1) → M1 8 (j + 1) = st1 M (Bm M) (j + 1) → M1 9 (j + 1) = st2a M (Bm M) (j + 1) → WH g Z (σ, (M1, er, nI nn, nI (j + 1)), o) s H locs → lv_has ls 4 [(3, .int 1), (2, .int 0), (1, .int (nI (j + 1))), (0, .ref (Z + 602))] → W p l e (RM 2) s m args below meth c H locs 0 0 Q (F0 m 139 ls [])) : W p l e (RM 2) s m args below meth c H locs 0 0 Q (F0 m 11 ls []) := by
  have hC : Cur M (j + 1) M := Cur.rf M (j + 1)
  refine lv_aload_n C.x C.b d_m14_11 rfl (lv_at hl 0 rfl) ?_
  refine q_mknown C hw d_m14_12 ?_
  refine lv_istore_n (lv' := [(1, .int (nI (j + 1))), (0, .ref (Z + 602))]) C.x C.b d_m14_15 rfl hl (by decide) rfl (fun ls hl => ?_)
  refine lv_iload_n C.x C.b d_m14_16 rfl (lv_at hl 0 rfl) ?_
  refine lv_if_ne (tgt := 24) C.x C.b d_m14_17 (by decide) (fun h9 => ?_) (fun h9 => absurd h9 (nI_ne0 (by omega) (by omega)))
  refine lv_iconst (v := 0) C.x C.b d_m14_24 (by decide) ?_
  refine lv_istore_n (lv' := [(2, .int 0), (1, .int (nI (j + 1))), (0, .ref (Z + 602))]) C.x C.b d_m14_25 rfl hl (by decide) rfl (fun ls hl => ?_)
  refine lv_aload_n C.x C.b d_m14_26 rfl (lv_at hl 2 rfl) ?_
  refine q_m7 C hw d_m14_27 ?_
  refine lv_iload_n C.x C.b d_m14_30 rfl (lv_at hl 1 rfl) ?_
  refine lv_iload_n C.x C.b d_m14_31 rfl (lv_at hl 0 rfl) ?_
  refine lv_if_eq (tgt := 39) C.x C.b d_m14_32 (by decide) (fun h9 => ?_) (fun h9 => absurd rfl h9)
  refine lv_aload_n C.x C.b d_m14_39 rfl (lv_at hl 2 rfl) ?_
  refine q_m6 C hw d_m14_40 ?_
  refine lv_iload_n C.x C.b d_m14_43 rfl (lv_at hl 1 rfl) ?_
  refine lv_iconst (v := 1) C.x C.b d_m14_44 (by decide) ?_
  refine lv_isub C.x C.b d_m14_45 ?_
  rw [nI_pred]
  refine l_m6 C hw j (show j < 200 by omega) rfl d_m14_46 ?_
  refine lv_if_eq (tgt := 62) C.x C.b d_m14_47 (by decide) (fun h6 => ?_) (fun h6 => ?_)
  · skip
    refine lv_aload_n C.x C.b d_m14_62 rfl (lv_at hl 2 rfl) ?_
    refine q_m8 C hw d_m14_63 ?_
    refine lv_iload_n C.x C.b d_m14_66 rfl (lv_at hl 1 rfl) ?_
    refine lv_iconst (v := 1) C.x C.b d_m14_67 (by decide) ?_
    refine lv_isub C.x C.b d_m14_68 ?_
    rw [nI_pred]
    refine l_m8 C hw j (show j < 200 by omega) rfl d_m14_69 ?_
    rw [show (M 8 j) = st0 M (Bm M) (j + 1) from ((if_neg (Nat.succ_ne_zero j)).trans (if_pos h6)).symm]
    refine s_m7 C hw (j + 1) (show (j + 1) < 200 by omega) rfl d_m14_70 (fun H locs hw => ?_)
    obtain ⟨M9, eM9⟩ : ∃ x, x = up2 M 7 (j + 1) (st0 M (Bm M) (j + 1)) := ⟨_, rfl⟩
    rw [← eM9] at hw
    have h7 : M9 7 (j + 1) = st0 M (Bm M) (j + 1) := by rw [eM9]; exact up2_self _ _ _ _
    have hC : Cur M (j + 1) M9 := by rw [eM9]; exact hC.put (by decide)
    refine lv_aload_n C.x C.b d_m14_71 rfl (lv_at hl 2 rfl) ?_
    refine q_m8 C hw d_m14_72 ?_
    refine lv_iload_n C.x C.b d_m14_75 rfl (lv_at hl 1 rfl) ?_
    refine lv_aload_n C.x C.b d_m14_76 rfl (lv_at hl 2 rfl) ?_
    refine q_m7 C hw d_m14_77 ?_
    refine lv_iload_n C.x C.b d_m14_80 rfl (lv_at hl 1 rfl) ?_
    refine l_m7 C hw (j + 1) (show (j + 1) < 200 by omega) rfl d_m14_81 ?_
    rw [h7]
    refine lv_iconst (v := 1) C.x C.b d_m14_82 (by decide) ?_
    refine lv_iadd C.x C.b d_m14_83 ?_
    refine lv_iload_n C.x C.b d_m14_84 rfl (lv_at hl 0 rfl) ?_
    refine lv_if_eq (tgt := 92) C.x C.b d_m14_85 (by decide) (fun h9 => ?_) (fun h9 => absurd rfl h9)
    refine lv_aload_n C.x C.b d_m14_92 rfl (lv_at hl 2 rfl) ?_
    refine q_m9 C hw d_m14_93 ?_
    refine lv_iload_n C.x C.b d_m14_96 rfl (lv_at hl 1 rfl) ?_
    refine lv_iconst (v := 1) C.x C.b d_m14_97 (by decide) ?_
    refine lv_isub C.x C.b d_m14_98 ?_
    rw [nI_pred]
    refine l_m9 C hw j (show j < 200 by omega) rfl d_m14_99 ?_
    rw [hC 9 j (Or.inr (by omega))]
    refine ret_i hw (run_S C hw (c_more l) Y_m13 k_359 k_360 ⟨rfl, rfl⟩ (by decide) ⟨Nat.zero_le _, Nat.zero_le _⟩ rfl hl.1 rfl (Nat.le_of_ble_eq_true rfl) d_m14_100) (fun r9 u9 H locs hp hw => ?_)
    obtain ⟨rfl, rfl⟩ := hp
    rw [show (mx ((st0 M (Bm M) (j + 1)) + 1) (M 9 j)) = st1 M (Bm M) (j + 1) from rfl]
    refine s_m8 C hw (j + 1) (show (j + 1) < 200 by omega) rfl d_m14_103 (fun H locs hw => ?_)
    obtain ⟨M10, eM10⟩ : ∃ x, x = up2 M9 8 (j + 1) (st1 M (Bm M) (j + 1)) := ⟨_, rfl⟩
    rw [← eM10] at hw
    have h8 : M10 8 (j + 1) = st1 M (Bm M) (j + 1) := by rw [eM10]; exact up2_self _ _ _ _
    have h7 : M10 7 (j + 1) = st0 M (Bm M) (j + 1) := by rw [eM10, up2_ne (Or.inl (by decide))]; exact h7
    have hC : Cur M (j + 1) M10 := by rw [eM10]; exact hC.put (by decide)
    refine lv_aload_n C.x C.b d_m14_104 rfl (lv_at hl 2 rfl) ?_
    refine q_m9 C hw d_m14_105 ?_
    refine lv_iload_n C.x C.b d_m14_108 rfl (lv_at hl 1 rfl) ?_
    refine lv_aload_n C.x C.b d_m14_109 rfl (lv_at hl 2 rfl) ?_
    refine q_m8 C hw d_m14_110 ?_
    refine lv_iload_n C.x C.b d_m14_113 rfl (lv_at hl 1 rfl) ?_
    refine l_m8 C hw (j + 1) (show (j + 1) < 200 by omega) rfl d_m14_114 ?_
    rw [h8]
    refine lv_iconst (v := 1) C.x C.b d_m14_115 (by decide) ?_
    refine lv_iadd C.x C.b d_m14_116 ?_
    refine lv_iload_n C.x C.b d_m14_117 rfl (lv_at hl 0 rfl) ?_
    refine lv_if_eq (tgt := 125) C.x C.b d_m14_118 (by decide) (fun h9 => ?_) (fun h9 => absurd rfl h9)
    refine lv_aload_n C.x C.b d_m14_125 rfl (lv_at hl 2 rfl) ?_
    refine q_m10 C hw d_m14_126 ?_
    refine lv_iload_n C.x C.b d_m14_129 rfl (lv_at hl 1 rfl) ?_
    refine lv_iconst (v := 1) C.x C.b d_m14_130 (by decide) ?_
    refine lv_isub C.x C.b d_m14_131 ?_
    rw [nI_pred]
    refine l_m10 C hw j (show j < 200 by omega) rfl d_m14_132 ?_
    rw [hC 10 j (Or.inr (by omega))]
    refine ret_i hw (run_S C hw (c_more l) Y_m13 k_359 k_360 ⟨rfl, rfl⟩ (by decide) ⟨Nat.zero_le _, Nat.zero_le _⟩ rfl hl.1 rfl (Nat.le_of_ble_eq_true rfl) d_m14_133) (fun r9 u9 H locs hp hw => ?_)
    obtain ⟨rfl, rfl⟩ := hp
    rw [show (mx ((st1 M (Bm M) (j + 1)) + 1) (M 10 j)) = st2a M (Bm M) (j + 1) from rfl]
    refine s_m9 C hw (j + 1) (show (j + 1) < 200 by omega) rfl d_m14_136 (fun H locs hw => ?_)
    obtain ⟨M11, eM11⟩ : ∃ x, x = up2 M10 9 (j + 1) (st2a M (Bm M) (j + 1)) := ⟨_, rfl⟩
    rw [← eM11] at hw
    have h9 : M11 9 (j + 1) = st2a M (Bm M) (j + 1) := by rw [eM11]; exact up2_self _ _ _ _
    have h7 : M11 7 (j + 1) = st0 M (Bm M) (j + 1) := by rw [eM11, up2_ne (Or.inl (by decide))]; exact h7
    have h8 : M11 8 (j + 1) = st1 M (Bm M) (j + 1) := by rw [eM11, up2_ne (Or.inl (by decide))]; exact h8
    have hC : Cur M (j + 1) M11 := by rw [eM11]; exact hC.put (by decide)
    refine lv_iconst (v := 1) C.x C.b d_m14_137 (by decide) ?_
    refine lv_istore_n (lv' := [(3, .int 1), (2, .int 0), (1, .int (nI (j + 1))), (0, .ref (Z + 602))]) C.x C.b d_m14_138 rfl hl (by decide) rfl (fun ls hl => ?_)
    exact kk _ H locs ls hC h7 h8 h9 hw hl
  · skip
    refine lv_aload_n C.x C.b d_m14_50 rfl (lv_at hl 2 rfl) ?_
    refine lv_iload_n C.x C.b d_m14_51 rfl (lv_at hl 1 rfl) ?_
    refine lv_iconst (v := 1) C.x C.b d_m14_52 (by decide) ?_
    refine lv_isub C.x C.b d_m14_53 ?_
    rw [nI_pred]
    refine ret_i hw (run_V C hw (c_xe l (show j < 200 by omega)) (i := 602) (by decide) rfl rfl Y_m10 k_355 k_357 kp_8 ⟨rfl, rfl⟩ (by decide) ⟨Nat.zero_le _, Nat.zero_le _⟩ rfl hl.1 rfl (Nat.le_of_ble_eq_true rfl) d_m14_54) (fun r9 u9 H locs hp hw => ?_)
    obtain ⟨rfl, rfl⟩ := hp
    refine lv_iconst (v := 1) C.x C.b d_m14_57 (by decide) ?_
    refine lv_iadd C.x C.b d_m14_58 ?_
    refine lv_goto (tgt := 70) C.x C.b d_m14_59 (by decide) ?_
    rw [show ((xeD M (Bm M) j) + 1) = st0 M (Bm M) (j + 1) from ((if_neg (Nat.succ_ne_zero j)).trans (if_neg h6)).symm]
    refine s_m7 C hw (j + 1) (show (j + 1) < 200 by omega) rfl d_m14_70 (fun H locs hw => ?_)
    obtain ⟨M12, eM12⟩ : ∃ x, x = up2 M 7 (j + 1) (st0 M (Bm M) (j + 1)) := ⟨_, rfl⟩
    rw [← eM12] at hw
    have h7 : M12 7 (j + 1) = st0 M (Bm M) (j + 1) := by rw [eM12]; exact up2_self _ _ _ _
    have hC : Cur M (j + 1) M12 := by rw [eM12]; exact hC.put (by decide)
    refine lv_aload_n C.x C.b d_m14_71 rfl (lv_at hl 2 rfl) ?_
    refine q_m8 C hw d_m14_72 ?_
    refine lv_iload_n C.x C.b d_m14_75 rfl (lv_at hl 1 rfl) ?_
    refine lv_aload_n C.x C.b d_m14_76 rfl (lv_at hl 2 rfl) ?_
    refine q_m7 C hw d_m14_77 ?_
    refine lv_iload_n C.x C.b d_m14_80 rfl (lv_at hl 1 rfl) ?_
    refine l_m7 C hw (j + 1) (show (j + 1) < 200 by omega) rfl d_m14_81 ?_
    rw [h7]
    refine lv_iconst (v := 1) C.x C.b d_m14_82 (by decide) ?_
    refine lv_iadd C.x C.b d_m14_83 ?_
    refine lv_iload_n C.x C.b d_m14_84 rfl (lv_at hl 0 rfl) ?_
    refine lv_if_eq (tgt := 92) C.x C.b d_m14_85 (by decide) (fun h9 => ?_) (fun h9 => absurd rfl h9)
    refine lv_aload_n C.x C.b d_m14_92 rfl (lv_at hl 2 rfl) ?_
    refine q_m9 C hw d_m14_93 ?_
    refine lv_iload_n C.x C.b d_m14_96 rfl (lv_at hl 1 rfl) ?_
    refine lv_iconst (v := 1) C.x C.b d_m14_97 (by decide) ?_
    refine lv_isub C.x C.b d_m14_98 ?_
    rw [nI_pred]
    refine l_m9 C hw j (show j < 200 by omega) rfl d_m14_99 ?_
    rw [hC 9 j (Or.inr (by omega))]
    refine ret_i hw (run_S C hw (c_more l) Y_m13 k_359 k_360 ⟨rfl, rfl⟩ (by decide) ⟨Nat.zero_le _, Nat.zero_le _⟩ rfl hl.1 rfl (Nat.le_of_ble_eq_true rfl) d_m14_100) (fun r9 u9 H locs hp hw => ?_)
    obtain ⟨rfl, rfl⟩ := hp
    rw [show (mx ((st0 M (Bm M) (j + 1)) + 1) (M 9 j)) = st1 M (Bm M) (j + 1) from rfl]
    refine s_m8 C hw (j + 1) (show (j + 1) < 200 by omega) rfl d_m14_103 (fun H locs hw => ?_)
    obtain ⟨M13, eM13⟩ : ∃ x, x = up2 M12 8 (j + 1) (st1 M (Bm M) (j + 1)) := ⟨_, rfl⟩
    rw [← eM13] at hw
    have h8 : M13 8 (j + 1) = st1 M (Bm M) (j + 1) := by rw [eM13]; exact up2_self _ _ _ _
    have h7 : M13 7 (j + 1) = st0 M (Bm M) (j + 1) := by rw [eM13, up2_ne (Or.inl (by decide))]; exact h7
    have hC : Cur M (j + 1) M13 := by rw [eM13]; exact hC.put (by decide)
    refine lv_aload_n C.x C.b d_m14_104 rfl (lv_at hl 2 rfl) ?_
    refine q_m9 C hw d_m14_105 ?_
    refine lv_iload_n C.x C.b d_m14_108 rfl (lv_at hl 1 rfl) ?_
    refine lv_aload_n C.x C.b d_m14_109 rfl (lv_at hl 2 rfl) ?_
    refine q_m8 C hw d_m14_110 ?_
    refine lv_iload_n C.x C.b d_m14_113 rfl (lv_at hl 1 rfl) ?_
    refine l_m8 C hw (j + 1) (show (j + 1) < 200 by omega) rfl d_m14_114 ?_
    rw [h8]
    refine lv_iconst (v := 1) C.x C.b d_m14_115 (by decide) ?_
    refine lv_iadd C.x C.b d_m14_116 ?_
    refine lv_iload_n C.x C.b d_m14_117 rfl (lv_at hl 0 rfl) ?_
    refine lv_if_eq (tgt := 125) C.x C.b d_m14_118 (by decide) (fun h9 => ?_) (fun h9 => absurd rfl h9)
    refine lv_aload_n C.x C.b d_m14_125 rfl (lv_at hl 2 rfl) ?_
    refine q_m10 C hw d_m14_126 ?_
    refine lv_iload_n C.x C.b d_m14_129 rfl (lv_at hl 1 rfl) ?_
    refine lv_iconst (v := 1) C.x C.b d_m14_130 (by decide) ?_
    refine lv_isub C.x C.b d_m14_131 ?_
    rw [nI_pred]
    refine l_m10 C hw j (show j < 200 by omega) rfl d_m14_132 ?_
    rw [hC 10 j (Or.inr (by omega))]
    refine ret_i hw (run_S C hw (c_more l) Y_m13 k_359 k_360 ⟨rfl, rfl⟩ (by decide) ⟨Nat.zero_le _, Nat.zero_le _⟩ rfl hl.1 rfl (Nat.le_of_ble_eq_true rfl) d_m14_133) (fun r9 u9 H locs hp hw => ?_)
    obtain ⟨rfl, rfl⟩ := hp
    rw [show (mx ((st1 M (Bm M) (j + 1)) + 1) (M 10 j)) = st2a M (Bm M) (j + 1) from rfl]
    refine s_m9 C hw (j + 1) (show (j + 1) < 200 by omega) rfl d_m14_136 (fun H locs hw => ?_)
    obtain ⟨M14, eM14⟩ : ∃ x, x = up2 M13 9 (j + 1) (st2a M (Bm M) (j + 1)) := ⟨_, rfl⟩
    rw [← eM14] at hw
    have h9 : M14 9 (j + 1) = st2a M (Bm M) (j + 1) := by rw [eM14]; exact up2_self _ _ _ _
    have h7 : M14 7 (j + 1) = st0 M (Bm M) (j + 1) := by rw [eM14, up2_ne (Or.inl (by decide))]; exact h7
    have h8 : M14 8 (j + 1) = st1 M (Bm M) (j + 1) := by rw [eM14, up2_ne (Or.inl (by decide))]; exact h8
    have hC : Cur M (j + 1) M14 := by rw [eM14]; exact hC.put (by decide)
    refine lv_iconst (v := 1) C.x C.b d_m14_137 (by decide) ?_
    refine lv_istore_n (lv' := [(3, .int 1), (2, .int 0), (1, .int (nI (j + 1))), (0, .ref (Z + 602))]) C.x C.b d_m14_138 rfl hl (by decide) rfl (fun ls hl => ?_)
    exact kk _ H locs ls hC h7 h8 h9 hw hl
theorem rk2_1 (C : Cx p s m c prog_4_method_14_code 4 "StageClockModel" args g Z) {j : Nat} (hj : j + 1 < 200) (kk : ∀ (M1 : Fn2) (H : Heap) (locs : List Loc) (ls : Array Slot), Cur M (j + 1) M1 → M1 7 (j + 1) = st0 M (Bm M) (j + 1) → M1 8 (j + 1) = st1 M (Bm M) (j + 1) → M1 9 (j + 1) = st2 M (Bm M) (j + 1) → WH g Z (σ, (M1, er, nI nn, nI (j + 1)), o) s H locs → lv_has ls 4 [(2, .int 0), (1, .int (nI (j + 1))), (0, .ref (Z + 602))] → W p l e (RM 2) s m args below meth c H locs 0 0 Q (F0 m 186 ls [])) :
    ∀ (d r : Nat), r + d = 15 → ∀ (M1 : Fn2) (H : Heap) (locs : List Loc) (ls : Array Slot), Cur M (j + 1) M1 → M1 7 (j + 1) = st0 M (Bm M) (j + 1) → M1 8 (j + 1) = st1 M (Bm M) (j + 1) → M1 9 (j + 1) = lpx (fun r => bh M (Bm M) (bfr M (j + 1) (nI r))) (M 2 (j + 1)) (st2a M (Bm M) (j + 1)) r → WH g Z (σ, (M1, er, nI nn, nI (j + 1)), o) s H locs → lv_has ls 4 [(3, .int (nI (r + 1))), (2, .int 0), (1, .int (nI (j + 1))), (0, .ref (Z + 602))] → W p l e (RM 2) s m args below meth c H locs 0 0 Q (F0 m 139 ls []) := by
  intro d
  induction d with
  | zero =>
    intro r hd M1 H locs ls hC h7 h8 h9 hw hl
    obtain rfl : r = 15 := by omega
    refine lv_iload_n C.x C.b d_m14_139 rfl (lv_at hl 0 rfl) ?_
    refine lv_bipush (v := 16) C.x C.b d_m14_140 (by decide) ?_
    refine lv_icmp_ge (tgt := 186) C.x C.b d_m14_142 (by decide) (fun q9 => ?_) (fun q9 => absurd (by decide) q9)
    exact kk M1 H locs ls hC h7 h8 h9 hw (lv_sub hl [1, 2, 3] rfl)
  | succ d ih =>
    intro r hd M1 H locs ls hC h7 h8 h9 hw hl
    refine lv_iload_n C.x C.b d_m14_139 rfl (lv_at hl 0 rfl) ?_
    refine lv_bipush (v := 16) C.x C.b d_m14_140 (by decide) ?_
    refine lv_icmp_ge (tgt := 186) C.x C.b d_m14_142 (by decide) (fun q9 => absurd q9 (nI_ge (show r + 1 < 16 by omega) (by decide))) (fun q9 => ?_)
    refine lv_aload_n C.x C.b d_m14_145 rfl (lv_at hl 3 rfl) ?_
    refine q_m2 C hw d_m14_146 ?_
    refine lv_iload_n C.x C.b d_m14_149 rfl (lv_at hl 2 rfl) ?_
    refine l_m2 C hw (j + 1) (show (j + 1) < 200 by omega) rfl d_m14_150 ?_
    rw [hC 2 (j + 1) (Or.inl (by decide))]
    refine lv_iload_n C.x C.b d_m14_151 rfl (lv_at hl 0 rfl) ?_
    refine lv_ishr C.x C.b d_m14_152 ?_
    refine lv_iconst (v := 1) C.x C.b d_m14_153 (by decide) ?_
    refine lv_iand C.x C.b d_m14_154 ?_
    refine lv_iconst (v := 1) C.x C.b d_m14_155 (by decide) ?_
    refine lv_icmp_ne (tgt := 180) C.x C.b d_m14_156 (by decide) (fun q3 => ?_) (fun q3 => ?_)
    · skip
      refine lv_iinc (k := 0) (v := (nI ((r + 1) + 1))) (lv' := [(3, .int (nI ((r + 1) + 1))), (2, .int 0), (1, .int (nI (j + 1))), (0, .ref (Z + 602))]) C.x C.b d_m14_180 hl rfl (nI_1 _) (by decide) rfl (fun ls hl => ?_)
      refine lv_goto (tgt := 139) C.x C.b d_m14_183 (by decide) ?_
      refine ih (r + 1) (by omega) M1 H locs ls hC h7 h8 ?_ hw hl
      rw [h9]; exact (if_neg q3).symm
    · skip
      refine lv_aload_n C.x C.b d_m14_159 rfl (lv_at hl 3 rfl) ?_
      refine q_m9 C hw d_m14_160 ?_
      refine lv_iload_n C.x C.b d_m14_163 rfl (lv_at hl 2 rfl) ?_
      refine lv_aload_n C.x C.b d_m14_164 rfl (lv_at hl 3 rfl) ?_
      refine q_m9 C hw d_m14_165 ?_
      refine lv_iload_n C.x C.b d_m14_168 rfl (lv_at hl 2 rfl) ?_
      refine l_m9 C hw (j + 1) (show (j + 1) < 200 by omega) rfl d_m14_169 ?_
      rw [h9]
      refine lv_aload_n C.x C.b d_m14_170 rfl (lv_at hl 3 rfl) ?_
      refine lv_iload_n C.x C.b d_m14_171 rfl (lv_at hl 2 rfl) ?_
      refine lv_iload_n C.x C.b d_m14_172 rfl (lv_at hl 0 rfl) ?_
      refine ret_i hw (run_V C hw (c_behind l (show (j + 1) ≤ 200 by omega)) (i := 602) (by decide) rfl rfl Y_m12 k_362 k_364 kp_9 ⟨rfl, rfl⟩ (by decide) ⟨Nat.zero_le _, Nat.zero_le _⟩ rfl hl.1 rfl (Nat.le_of_ble_eq_true rfl) d_m14_173) (fun r9 u9 H locs hp hw => ?_)
      obtain ⟨rfl, rfl⟩ := hp
      rw [Cur_bh hC (by omega)]
      refine ret_i hw (run_S C hw (c_more l) Y_m13 k_359 k_360 ⟨rfl, rfl⟩ (by decide) ⟨Nat.zero_le _, Nat.zero_le _⟩ rfl hl.1 rfl (Nat.le_of_ble_eq_true rfl) d_m14_176) (fun r9 u9 H locs hp hw => ?_)
      obtain ⟨rfl, rfl⟩ := hp
      refine s_m9 C hw (j + 1) (show (j + 1) < 200 by omega) rfl d_m14_179 (fun H locs hw => ?_)
      obtain ⟨M15, eM15⟩ : ∃ x, x = up2 M1 9 (j + 1) (mx (lpx (fun r => bh M (Bm M) (bfr M (j + 1) (nI r))) (M 2 (j + 1)) (st2a M (Bm M) (j + 1)) r) (bh M (Bm M) (bfr M (j + 1) (nI (r + 1))))) := ⟨_, rfl⟩
      rw [← eM15] at hw
      have h9 : M15 9 (j + 1) = mx (lpx (fun r => bh M (Bm M) (bfr M (j + 1) (nI r))) (M 2 (j + 1)) (st2a M (Bm M) (j + 1)) r) (bh M (Bm M) (bfr M (j + 1) (nI (r + 1)))) := by rw [eM15]; exact up2_self _ _ _ _
      have h7 : M15 7 (j + 1) = st0 M (Bm M) (j + 1) := by rw [eM15, up2_ne (Or.inl (by decide))]; exact h7
      have h8 : M15 8 (j + 1) = st1 M (Bm M) (j + 1) := by rw [eM15, up2_ne (Or.inl (by decide))]; exact h8
      have hC : Cur M (j + 1) M15 := by rw [eM15]; exact hC.put (by decide)
      refine lv_iinc (k := 0) (v := (nI ((r + 1) + 1))) (lv' := [(3, .int (nI ((r + 1) + 1))), (2, .int 0), (1, .int (nI (j + 1))), (0, .ref (Z + 602))]) C.x C.b d_m14_180 hl rfl (nI_1 _) (by decide) rfl (fun ls hl => ?_)
      refine lv_goto (tgt := 139) C.x C.b d_m14_183 (by decide) ?_
      refine ih (r + 1) (by omega) _ H locs ls hC h7 h8 ?_ hw hl
      rw [h9]; exact (if_pos q3).symm
theorem rk3_1 (C : Cx p s m c prog_4_method_14_code 4 "StageClockModel" args g Z) {j : Nat} (hj : j + 1 < 200) (hC : Cur M (j + 1) M1) (h7 : M1 7 (j + 1) = st0 M (Bm M) (j + 1)) (h8 : M1 8 (j + 1) = st1 M (Bm M) (j + 1)) (h9 : M1 9 (j + 1) = st2 M (Bm M) (j + 1)) (hw : WH g Z (σ, (M1, er, nI nn, nI (j + 1)), o) s H locs) (hl : lv_has ls 4 [(2, .int 0), (1, .int (nI (j + 1))), (0, .ref (Z + 602))]) (kk : ∀ (M1 : Fn2) (H : Heap) (locs : List Loc) (ls : Array Slot), Cur M (j + 1) M1 → (∀ j7, j7 < 5 → M1 (7 + j7) (j + 1) = stp M (Bm M) (j + 1) j7) → WH g Z (σ, (M1, er, nI nn, nI ((j + 1) + 1)), o) s H locs → lv_has ls 4 [(0, .ref (Z + 602))] → W p l e (RM 2) s m args below meth c H locs 0 0 Q (F0 m 0 ls [])) : W p l e (RM 2) s m args below meth c H locs 0 0 Q (F0 m 186 ls []) := by
  refine lv_aload_n C.x C.b d_m14_186 rfl (lv_at hl 2 rfl) ?_
  refine q_m10 C hw d_m14_187 ?_
  refine lv_iload_n C.x C.b d_m14_190 rfl (lv_at hl 1 rfl) ?_
  refine lv_aload_n C.x C.b d_m14_191 rfl (lv_at hl 2 rfl) ?_
  refine lv_iload_n C.x C.b d_m14_192 rfl (lv_at hl 1 rfl) ?_
  refine ret_i hw (run_V C hw (c_xe l (show (j + 1) < 200 by omega)) (i := 602) (by decide) rfl rfl Y_m10 k_355 k_357 kp_8 ⟨rfl, rfl⟩ (by decide) ⟨Nat.zero_le _, Nat.zero_le _⟩ rfl hl.1 rfl (Nat.le_of_ble_eq_true rfl) d_m14_193) (fun r9 u9 H locs hp hw => ?_)
  obtain ⟨rfl, rfl⟩ := hp
  rw [show xeD M1 (Bm M1) (j + 1) = st2 M (Bm M) (j + 1) + M 0 (j + 1) - 1 by show M1 9 (j + 1) + M1 0 (j + 1) - 1 = _; rw [hC 0 (j + 1) (Or.inl (by decide)), h9]]
  refine lv_iconst (v := 1) C.x C.b d_m14_196 (by decide) ?_
  refine lv_iadd C.x C.b d_m14_197 ?_
  refine lv_iload_n C.x C.b d_m14_198 rfl (lv_at hl 0 rfl) ?_
  refine lv_if_eq (tgt := 206) C.x C.b d_m14_199 (by decide) (fun q9 => ?_) (fun q9 => absurd rfl q9)
  refine lv_aload_n C.x C.b d_m14_206 rfl (lv_at hl 2 rfl) ?_
  refine q_m11 C hw d_m14_207 ?_
  refine lv_iload_n C.x C.b d_m14_210 rfl (lv_at hl 1 rfl) ?_
  refine lv_iconst (v := 1) C.x C.b d_m14_211 (by decide) ?_
  refine lv_isub C.x C.b d_m14_212 ?_
  rw [nI_pred]
  refine l_m11 C hw j (show j < 200 by omega) rfl d_m14_213 ?_
  rw [hC 11 j (Or.inr (by omega))]
  refine ret_i hw (run_S C hw (c_more l) Y_m13 k_359 k_360 ⟨rfl, rfl⟩ (by decide) ⟨Nat.zero_le _, Nat.zero_le _⟩ rfl hl.1 rfl (Nat.le_of_ble_eq_true rfl) d_m14_214) (fun r9 u9 H locs hp hw => ?_)
  obtain ⟨rfl, rfl⟩ := hp
  rw [show (mx ((st2 M (Bm M) (j + 1) + M 0 (j + 1) - 1) + 1) (M 11 j)) = st3a M (Bm M) (j + 1) from rfl]
  refine s_m10 C hw (j + 1) (show (j + 1) < 200 by omega) rfl d_m14_217 (fun H locs hw => ?_)
  obtain ⟨M16, eM16⟩ : ∃ x, x = up2 M1 10 (j + 1) (st3a M (Bm M) (j + 1)) := ⟨_, rfl⟩
  rw [← eM16] at hw
  have h10 : M16 10 (j + 1) = st3a M (Bm M) (j + 1) := by rw [eM16]; exact up2_self _ _ _ _
  have h7 : M16 7 (j + 1) = st0 M (Bm M) (j + 1) := by rw [eM16, up2_ne (Or.inl (by decide))]; exact h7
  have h8 : M16 8 (j + 1) = st1 M (Bm M) (j + 1) := by rw [eM16, up2_ne (Or.inl (by decide))]; exact h8
  have h9 : M16 9 (j + 1) = st2 M (Bm M) (j + 1) := by rw [eM16, up2_ne (Or.inl (by decide))]; exact h9
  have hC : Cur M (j + 1) M16 := by rw [eM16]; exact hC.put (by decide)
  refine lv_aload_n C.x C.b d_m14_218 rfl (lv_at hl 2 rfl) ?_
  refine q_m3 C hw d_m14_219 ?_
  refine lv_iload_n C.x C.b d_m14_222 rfl (lv_at hl 1 rfl) ?_
  refine l_m3 C hw (j + 1) (show (j + 1) < 200 by omega) rfl d_m14_223 ?_
  rw [hC 3 (j + 1) (Or.inl (by decide))]
  refine lv_if_le (tgt := 253) C.x C.b d_m14_224 (by decide) (fun q3 => ?_) (fun q3 => ?_)
  · skip
    refine lv_aload_n C.x C.b d_m14_253 rfl (lv_at hl 2 rfl) ?_
    refine q_m11 C hw d_m14_254 ?_
    refine lv_iload_n C.x C.b d_m14_257 rfl (lv_at hl 1 rfl) ?_
    refine lv_aload_n C.x C.b d_m14_258 rfl (lv_at hl 2 rfl) ?_
    refine lv_iload_n C.x C.b d_m14_259 rfl (lv_at hl 1 rfl) ?_
    refine ret_i hw (run_V C hw (c_me l (show (j + 1) < 200 by omega)) (i := 602) (by decide) rfl rfl Y_m11 k_370 k_372 kp_11 ⟨rfl, rfl⟩ (by decide) ⟨Nat.zero_le _, Nat.zero_le _⟩ rfl hl.1 rfl (Nat.le_of_ble_eq_true rfl) d_m14_260) (fun r9 u9 H locs hp hw => ?_)
    obtain ⟨rfl, rfl⟩ := hp
    rw [show meD M16 (Bm M16) (j + 1) = (st3a M (Bm M) (j + 1)) + M 4 (j + 1) by show M16 10 (j + 1) + M16 4 (j + 1) = _; rw [hC 4 (j + 1) (Or.inl (by decide)), h10]]
    have e5 : st3a M (Bm M) (j + 1) = st3 M (Bm M) (j + 1) := (if_neg (Int32.not_lt.mpr q3)).symm
    rw [e5]
    rw [e5] at h10
    refine lv_iconst (v := 1) C.x C.b d_m14_263 (by decide) ?_
    refine lv_iadd C.x C.b d_m14_264 ?_
    rw [show ((st3 M (Bm M) (j + 1) + M 4 (j + 1)) + 1) = st4 M (Bm M) (j + 1) from rfl]
    refine s_m11 C hw (j + 1) (show (j + 1) < 200 by omega) rfl d_m14_265 (fun H locs hw => ?_)
    obtain ⟨M17, eM17⟩ : ∃ x, x = up2 M16 11 (j + 1) (st4 M (Bm M) (j + 1)) := ⟨_, rfl⟩
    rw [← eM17] at hw
    have h11 : M17 11 (j + 1) = st4 M (Bm M) (j + 1) := by rw [eM17]; exact up2_self _ _ _ _
    have h7 : M17 7 (j + 1) = st0 M (Bm M) (j + 1) := by rw [eM17, up2_ne (Or.inl (by decide))]; exact h7
    have h8 : M17 8 (j + 1) = st1 M (Bm M) (j + 1) := by rw [eM17, up2_ne (Or.inl (by decide))]; exact h8
    have h9 : M17 9 (j + 1) = st2 M (Bm M) (j + 1) := by rw [eM17, up2_ne (Or.inl (by decide))]; exact h9
    have h10 : M17 10 (j + 1) = st3 M (Bm M) (j + 1) := by rw [eM17, up2_ne (Or.inl (by decide))]; exact h10
    have hC : Cur M (j + 1) M17 := by rw [eM17]; exact hC.put (by decide)
    refine lv_aload_n C.x C.b d_m14_266 rfl (lv_at hl 2 rfl) ?_
    refine lv_dup C.x C.b d_m14_267 rfl ?_
    refine q_mknown C hw d_m14_268 ?_
    refine lv_iconst (v := 1) C.x C.b d_m14_271 (by decide) ?_
    refine lv_iadd C.x C.b d_m14_272 ?_
    rw [nI_1]
    refine p_mknown C hw d_m14_273 (fun H locs hw => ?_)
    refine lv_goto (tgt := 0) C.x C.b d_m14_276 (by decide) ?_
    refine kk _ H locs ls hC (fun j7 hj7 => ?_) hw (lv_sub hl [2] rfl)
    match j7, hj7 with
    | 0, _ => exact h7
    | 1, _ => exact h8
    | 2, _ => exact h9
    | 3, _ => exact h10
    | 4, _ => exact h11
  · skip
    refine lv_aload_n C.x C.b d_m14_227 rfl (lv_at hl 2 rfl) ?_
    refine q_m10 C hw d_m14_228 ?_
    refine lv_iload_n C.x C.b d_m14_231 rfl (lv_at hl 1 rfl) ?_
    refine lv_aload_n C.x C.b d_m14_232 rfl (lv_at hl 2 rfl) ?_
    refine q_m10 C hw d_m14_233 ?_
    refine lv_iload_n C.x C.b d_m14_236 rfl (lv_at hl 1 rfl) ?_
    refine l_m10 C hw (j + 1) (show (j + 1) < 200 by omega) rfl d_m14_237 ?_
    rw [h10]
    refine lv_aload_n C.x C.b d_m14_238 rfl (lv_at hl 2 rfl) ?_
    refine lv_iload_n C.x C.b d_m14_239 rfl (lv_at hl 1 rfl) ?_
    refine lv_aload_n C.x C.b d_m14_240 rfl (lv_at hl 2 rfl) ?_
    refine q_m3 C hw d_m14_241 ?_
    refine lv_iload_n C.x C.b d_m14_244 rfl (lv_at hl 1 rfl) ?_
    refine l_m3 C hw (j + 1) (show (j + 1) < 200 by omega) rfl d_m14_245 ?_
    rw [hC 3 (j + 1) (Or.inl (by decide))]
    refine ret_i hw (run_V C hw (c_behind l (show (j + 1) ≤ 200 by omega)) (i := 602) (by decide) rfl rfl Y_m12 k_362 k_364 kp_9 ⟨rfl, rfl⟩ (by decide) ⟨Nat.zero_le _, Nat.zero_le _⟩ rfl hl.1 rfl (Nat.le_of_ble_eq_true rfl) d_m14_246) (fun r9 u9 H locs hp hw => ?_)
    obtain ⟨rfl, rfl⟩ := hp
    rw [Cur_bh hC (by omega)]
    refine ret_i hw (run_S C hw (c_more l) Y_m13 k_359 k_360 ⟨rfl, rfl⟩ (by decide) ⟨Nat.zero_le _, Nat.zero_le _⟩ rfl hl.1 rfl (Nat.le_of_ble_eq_true rfl) d_m14_249) (fun r9 u9 H locs hp hw => ?_)
    obtain ⟨rfl, rfl⟩ := hp
    refine s_m10 C hw (j + 1) (show (j + 1) < 200 by omega) rfl d_m14_252 (fun H locs hw => ?_)
    obtain ⟨M18, eM18⟩ : ∃ x, x = up2 M16 10 (j + 1) (mx (st3a M (Bm M) (j + 1)) (bh M (Bm M) (bfr M (j + 1) (M 3 (j + 1))))) := ⟨_, rfl⟩
    rw [← eM18] at hw
    have h10 : M18 10 (j + 1) = mx (st3a M (Bm M) (j + 1)) (bh M (Bm M) (bfr M (j + 1) (M 3 (j + 1)))) := by rw [eM18]; exact up2_self _ _ _ _
    have h7 : M18 7 (j + 1) = st0 M (Bm M) (j + 1) := by rw [eM18, up2_ne (Or.inl (by decide))]; exact h7
    have h8 : M18 8 (j + 1) = st1 M (Bm M) (j + 1) := by rw [eM18, up2_ne (Or.inl (by decide))]; exact h8
    have h9 : M18 9 (j + 1) = st2 M (Bm M) (j + 1) := by rw [eM18, up2_ne (Or.inl (by decide))]; exact h9
    have hC : Cur M (j + 1) M18 := by rw [eM18]; exact hC.put (by decide)
    refine lv_aload_n C.x C.b d_m14_253 rfl (lv_at hl 2 rfl) ?_
    refine q_m11 C hw d_m14_254 ?_
    refine lv_iload_n C.x C.b d_m14_257 rfl (lv_at hl 1 rfl) ?_
    refine lv_aload_n C.x C.b d_m14_258 rfl (lv_at hl 2 rfl) ?_
    refine lv_iload_n C.x C.b d_m14_259 rfl (lv_at hl 1 rfl) ?_
    refine ret_i hw (run_V C hw (c_me l (show (j + 1) < 200 by omega)) (i := 602) (by decide) rfl rfl Y_m11 k_370 k_372 kp_11 ⟨rfl, rfl⟩ (by decide) ⟨Nat.zero_le _, Nat.zero_le _⟩ rfl hl.1 rfl (Nat.le_of_ble_eq_true rfl) d_m14_260) (fun r9 u9 H locs hp hw => ?_)
    obtain ⟨rfl, rfl⟩ := hp
    rw [show meD M18 (Bm M18) (j + 1) = (mx (st3a M (Bm M) (j + 1)) (bh M (Bm M) (bfr M (j + 1) (M 3 (j + 1))))) + M 4 (j + 1) by show M18 10 (j + 1) + M18 4 (j + 1) = _; rw [hC 4 (j + 1) (Or.inl (by decide)), h10]]
    have e5 : mx (st3a M (Bm M) (j + 1)) (bh M (Bm M) (bfr M (j + 1) (M 3 (j + 1)))) = st3 M (Bm M) (j + 1) := (if_pos (Int32.not_le.mp q3)).symm
    rw [e5]
    rw [e5] at h10
    refine lv_iconst (v := 1) C.x C.b d_m14_263 (by decide) ?_
    refine lv_iadd C.x C.b d_m14_264 ?_
    rw [show ((st3 M (Bm M) (j + 1) + M 4 (j + 1)) + 1) = st4 M (Bm M) (j + 1) from rfl]
    refine s_m11 C hw (j + 1) (show (j + 1) < 200 by omega) rfl d_m14_265 (fun H locs hw => ?_)
    obtain ⟨M19, eM19⟩ : ∃ x, x = up2 M18 11 (j + 1) (st4 M (Bm M) (j + 1)) := ⟨_, rfl⟩
    rw [← eM19] at hw
    have h11 : M19 11 (j + 1) = st4 M (Bm M) (j + 1) := by rw [eM19]; exact up2_self _ _ _ _
    have h7 : M19 7 (j + 1) = st0 M (Bm M) (j + 1) := by rw [eM19, up2_ne (Or.inl (by decide))]; exact h7
    have h8 : M19 8 (j + 1) = st1 M (Bm M) (j + 1) := by rw [eM19, up2_ne (Or.inl (by decide))]; exact h8
    have h9 : M19 9 (j + 1) = st2 M (Bm M) (j + 1) := by rw [eM19, up2_ne (Or.inl (by decide))]; exact h9
    have h10 : M19 10 (j + 1) = st3 M (Bm M) (j + 1) := by rw [eM19, up2_ne (Or.inl (by decide))]; exact h10
    have hC : Cur M (j + 1) M19 := by rw [eM19]; exact hC.put (by decide)
    refine lv_aload_n C.x C.b d_m14_266 rfl (lv_at hl 2 rfl) ?_
    refine lv_dup C.x C.b d_m14_267 rfl ?_
    refine q_mknown C hw d_m14_268 ?_
    refine lv_iconst (v := 1) C.x C.b d_m14_271 (by decide) ?_
    refine lv_iadd C.x C.b d_m14_272 ?_
    rw [nI_1]
    refine p_mknown C hw d_m14_273 (fun H locs hw => ?_)
    refine lv_goto (tgt := 0) C.x C.b d_m14_276 (by decide) ?_
    refine kk _ H locs ls hC (fun j7 hj7 => ?_) hw (lv_sub hl [2] rfl)
    match j7, hj7 with
    | 0, _ => exact h7
    | 1, _ => exact h8
    | 2, _ => exact h9
    | 3, _ => exact h10
    | 4, _ => exact h11
end Rk
theorem tgood_cur {M M1 : Fn2} {k : Nat} (hk : k < 200) (hC : Cur M k M1) (h : ∀ j7, j7 < 5 → M1 (7 + j7) k = stp M (Bm M) k j7) (hT : tgood M (Bm M) k) : tgood M1 (Bm M1) (k + 1) := by
  refine tgood_D (D := M) (fun i hi => funext fun x => (hC i x (Or.inl hi)).symm) ?_
  intro i hi j hj
  have hc : stp M (Bm M1) i j = stp M (Bm M) i j := stp_congr (by omega) (fun q hq j _ => hC (7 + j) q (Or.inr (by omega))) j
  rw [hc]
  by_cases e : i = k
  · subst e; exact h j hj
  · exact (hC (7 + j) i (Or.inr e)).trans (hT i (by omega) j hj)
/-- reckon(): all times up to many -/
theorem c_reckon (l : Launch) {g : KG} {Z : Nat} {σ : CS} {M : Fn2} {er : Int32} {nn kk : Nat} {o : Int64} (hn : nn ≤ 200) (hkk : kk ≤ nn) (hT : tgood M (Bm M) kk) : Cv l y_m14 prog_4_method_14_code 4 2 [.ref (Z + 602)] g Z (σ, (M, er, nI nn, nI kk), o) (fun u => ∃ M1 : Fn2, (∀ i, i < 7 → M1 i = M i) ∧ tgood M1 (Bm M1) nn ∧ u = (σ, (M1, er, nI nn, nI nn), o)) := by
  refine mk_met (own := "StageClockModel") (by decide) rfl (Nat.le_of_ble_eq_true rfl) fun p e s m below meth c ls C hr hlk hl hw => ?_
  have hl : lv_has ls 4 [(0, .ref (Z + 602))] := hl
  have loop : ∀ (d kk : Nat) (M1 : Fn2) (H : Heap) (locs : List Loc) (ls : Array Slot), kk + d = nn → (∀ i, i < 7 → M1 i = M i) → tgood M1 (Bm M1) kk → WH g Z (σ, (M1, er, nI nn, nI kk), o) s H locs → lv_has ls 4 [(0, .ref (Z + 602))] → W p l e (RM 2) s m [Value.ref (Z + 602)].toArray below meth c H locs 0 0 (MQ below (va_Qv (fun u => ∃ M1 : Fn2, (∀ i, i < 7 → M1 i = M i) ∧ tgood M1 (Bm M1) nn ∧ u = (σ, (M1, er, nI nn, nI nn), o)) (Wd g Z) (zfree Z)) [Value.ref (Z + 602)].toArray s 0 0 (zfree Z)) (F0 m 0 ls []) := by
    intro d
    induction d with
    | zero =>
      intro kk M1 H locs ls hd hM hT hw hl
      obtain rfl : kk = nn := by omega
      refine lv_aload_n C.x C.b d_m14_0 rfl (lv_at hl 0 rfl) ?_
      refine q_mknown C hw d_m14_1 ?_
      refine lv_aload_n C.x C.b d_m14_4 rfl (lv_at hl 0 rfl) ?_
      refine q_mmany C hw d_m14_5 ?_
      refine lv_icmp_ge (tgt := 279) C.x C.b d_m14_8 (by decide) (fun h1 => ?_) (fun h1 => absurd (Int32.le_refl _) h1)
      exact e_v C hr hlk hw d_m14_279 ⟨M1, hM, hT, rfl⟩
    | succ d ih =>
      intro kk M1 H locs ls hd hM hT hw hl
      refine lv_aload_n C.x C.b d_m14_0 rfl (lv_at hl 0 rfl) ?_
      refine q_mknown C hw d_m14_1 ?_
      refine lv_aload_n C.x C.b d_m14_4 rfl (lv_at hl 0 rfl) ?_
      refine q_mmany C hw d_m14_5 ?_
      refine lv_icmp_ge (tgt := 279) C.x C.b d_m14_8 (by decide) (fun h1 => absurd h1 (nI_ge (show kk < nn by omega) (by omega))) (fun h1 => ?_)
      rcases Nat.eq_zero_or_pos kk with h0 | h0
      · skip
        subst h0
        refine rk1_0 C hw hl (fun M2 H locs ls hC h7 h8 h9 hw hl => ?_)
        refine rk2_0 C (fun M2 H locs ls hC h7 h8 h9 hw hl => ?_) 15 0 rfl M2 H locs ls hC h7 h8 h9 hw hl
        refine rk3_0 C hC h7 h8 h9 hw hl (fun M3 H locs ls hC h hw hl => ?_)
        exact ih (0 + 1) M3 H locs ls (by omega) (fun i hi => (funext fun q => hC i q (Or.inl hi)).trans (hM i hi)) (tgood_cur (by omega) hC h hT) hw hl
      · skip
        obtain ⟨j, rfl⟩ : ∃ j, kk = j + 1 := ⟨kk - 1, by omega⟩
        refine rk1_1 C (show j + 1 < 200 by omega) hw hl (fun M2 H locs ls hC h7 h8 h9 hw hl => ?_)
        refine rk2_1 C (show j + 1 < 200 by omega) (fun M2 H locs ls hC h7 h8 h9 hw hl => ?_) 15 0 rfl M2 H locs ls hC h7 h8 h9 hw hl
        refine rk3_1 C (show j + 1 < 200 by omega) hC h7 h8 h9 hw hl (fun M3 H locs ls hC h hw hl => ?_)
        exact ih ((j + 1) + 1) M3 H locs ls (by omega) (fun i hi => (funext fun q => hC i q (Or.inl hi)).trans (hM i hi)) (tgood_cur (by omega) hC h hT) hw hl
  exact loop (nn - kk) kk M _ _ _ (by omega) (fun _ _ => rfl) hT hw hl
end
section
/-! the model's public methods -/
theorem idx_lt {x : Int32} {nn : Nat} (hn : nn ≤ 200) (h1 : ¬ x < 0) (h2 : x < nI nn) : ∃ k : Nat, k < nn ∧ x = nI k := by
  obtain ⟨j, hj, rfl⟩ := nI_of h1
  exact ⟨j, (nI_ltI hj (by omega)).mp h2, rfl⟩
theorem idx_le {x : Int32} {nn : Nat} (hn : nn ≤ 200) (h1 : ¬ x < 0) (h2 : x ≤ nI nn) : ∃ k : Nat, k ≤ nn ∧ x = nI k := by
  obtain ⟨j, hj, rfl⟩ := nI_of h1
  exact ⟨j, (nI_leI hj (by omega)).mp h2, rfl⟩
def inM (M : Fn2) (nn stg : Nat) (cyc r : Int32) : Prop := (∃ k : Nat, k < nn ∧ (frm M k stg ≤ cyc ∧ cyc < frm M k (stg + 1)) ∧ (∀ q, q < k → ¬ (frm M q stg ≤ cyc ∧ cyc < frm M q (stg + 1))) ∧ r = nI k) ∨ ((∀ q, q < nn → ¬ (frm M q stg ≤ cyc ∧ cyc < frm M q (stg + 1))) ∧ r = -1)
def clm (B : Fn2) (L : Int32) : Nat → Int32
  | 0 => L
  | k + 1 => if L < B k 4 then clm B L k else clm B L k - 1
def cntM (M : Fn2) (nn wj : Nat) : Int32 := if wj = 0 then nI nn else if wj = 1 then lst (Bm M) nn else if wj = 2 then clm (Bm M) (lst (Bm M) nn) nn else cw M nn
theorem c_from (l : Launch) {g : KG} {Z : Nat} {σ : CS} {M : Fn2} {er mn mk : Int32} {o : Int64} {k : Nat} (hk : k < 200) {j : Nat} (hj : j ≤ 5) : Ci l y_m16 prog_4_method_16_code 3 0 [.ref (Z + 602), .int (nI k), .int (nI j)] g Z (σ, (M, er, mn, mk), o) (fun r u => r = frm M k j ∧ u = (σ, (M, er, mn, mk), o)) :=
  match j, hj with
  | 0, _ => c_from0 l hk
  | 1, _ => c_from1 l hk
  | 2, _ => c_from2 l hk
  | 3, _ => c_from3 l hk
  | 4, _ => c_from4 l hk
  | 5, _ => c_from5 l hk
/-- a question's end: all times known, no error -/
def MP (σ : CS) (M : Fn2) (nn : Nat) (o : Int64) (u : TS) (F : Fn2 → Prop) : Prop := ∃ M1 : Fn2, (∀ i, i < 7 → M1 i = M i) ∧ tgood M1 (Bm M1) nn ∧ u = (σ, (M1, 0, nI nn, nI nn), o) ∧ F M1
theorem c_madd1 (l : Launch) {g : KG} {Z : Nat} {σ : CS} {M : Fn2} {er : Int32} {nn kk : Nat} {o : Int64} (hn : nn ≤ 200) {t gg r ll ld q wr : Int32} (h : ¬ okd t gg ll q) : Ci l y_m6 prog_4_method_6_code 8 1 [.ref (Z + 602), .int t, .int gg, .int r, .int ll, .int ld, .int q, .int wr] g Z (σ, (M, er, nI nn, nI kk), o) (fun r u => r = 0 ∧ u = (σ, (M, 1, nI nn, nI kk), o)) := by
  refine mk_met (own := "StageClockModel") (by decide) rfl (Nat.le_of_ble_eq_true rfl) fun p e s m below meth c ls C hr hlk hl hw => ?_
  have hl : lv_has ls 8 [(0, .ref (Z + 602)), (1, .int t), (2, .int gg), (3, .int r), (4, .int ll), (5, .int ld), (6, .int q), (7, .int wr)] := hl
  refine lv_aload_n C.x C.b d_m6_0 rfl (lv_at hl 0 rfl) ?_
  refine lv_iload_n C.x C.b d_m6_1 rfl (lv_at hl 1 rfl) ?_
  refine lv_iload_n C.x C.b d_m6_2 rfl (lv_at hl 2 rfl) ?_
  refine lv_iload C.x C.b d_m6_3 (lv_at hl 4 rfl) ?_
  refine lv_iload C.x C.b d_m6_5 (lv_at hl 6 rfl) ?_
  refine ret_i hw (run_S C hw (c_bad l) Y_m4 k_328 k_329 ⟨rfl, rfl⟩ (by decide) ⟨Nat.zero_le _, Nat.zero_le _⟩ rfl hl.1 rfl (Nat.le_of_ble_eq_true rfl) d_m6_7) (fun r9 u9 H locs hp hw => ?_)
  obtain ⟨hp, rfl⟩ := hp
  rw [if_neg h] at hp
  subst hp
  refine lv_iconst (v := 1) C.x C.b d_m6_10 (by decide) ?_
  refine ret_i hw (run_V C hw (c_fails l (Or.inr rfl)) (i := 602) (by decide) rfl rfl Y_m3 k_331 k_333 kp_5 ⟨rfl, rfl⟩ (by decide) ⟨Nat.zero_le _, Nat.zero_le _⟩ rfl hl.1 rfl (Nat.le_of_ble_eq_true rfl) d_m6_11) (fun r9 u9 H locs hp hw => ?_)
  obtain ⟨rfl, rfl⟩ := hp
  refine lv_if_eq (tgt := 19) C.x C.b d_m6_14 (by decide) (fun h9 => absurd h9 (by decide)) (fun h9 => ?_)
  refine lv_iconst (v := 0) C.x C.b d_m6_17 (by decide) ?_
  exact e_i C hr hlk hw d_m6_18 ⟨rfl, rfl⟩
theorem c_madd2 (l : Launch) {g : KG} {Z : Nat} {σ : CS} {M : Fn2} {er : Int32} {nn kk : Nat} {o : Int64} (hn : nn ≤ 200) (hf : nn = 200) {t gg r ll ld q wr : Int32} (h : okd t gg ll q) : Ci l y_m6 prog_4_method_6_code 8 1 [.ref (Z + 602), .int t, .int gg, .int r, .int ll, .int ld, .int q, .int wr] g Z (σ, (M, er, nI nn, nI kk), o) (fun r u => r = 0 ∧ u = (σ, (M, 2, nI nn, nI kk), o)) := by
  refine mk_met (own := "StageClockModel") (by decide) rfl (Nat.le_of_ble_eq_true rfl) fun p e s m below meth c ls C hr hlk hl hw => ?_
  have hl : lv_has ls 8 [(0, .ref (Z + 602)), (1, .int t), (2, .int gg), (3, .int r), (4, .int ll), (5, .int ld), (6, .int q), (7, .int wr)] := hl
  refine lv_aload_n C.x C.b d_m6_0 rfl (lv_at hl 0 rfl) ?_
  refine lv_iload_n C.x C.b d_m6_1 rfl (lv_at hl 1 rfl) ?_
  refine lv_iload_n C.x C.b d_m6_2 rfl (lv_at hl 2 rfl) ?_
  refine lv_iload C.x C.b d_m6_3 (lv_at hl 4 rfl) ?_
  refine lv_iload C.x C.b d_m6_5 (lv_at hl 6 rfl) ?_
  refine ret_i hw (run_S C hw (c_bad l) Y_m4 k_328 k_329 ⟨rfl, rfl⟩ (by decide) ⟨Nat.zero_le _, Nat.zero_le _⟩ rfl hl.1 rfl (Nat.le_of_ble_eq_true rfl) d_m6_7) (fun r9 u9 H locs hp hw => ?_)
  obtain ⟨hp, rfl⟩ := hp
  rw [if_pos h] at hp
  subst hp
  refine lv_iconst (v := 1) C.x C.b d_m6_10 (by decide) ?_
  refine ret_i hw (run_V C hw (c_fails l (Or.inl rfl)) (i := 602) (by decide) rfl rfl Y_m3 k_331 k_333 kp_5 ⟨rfl, rfl⟩ (by decide) ⟨Nat.zero_le _, Nat.zero_le _⟩ rfl hl.1 rfl (Nat.le_of_ble_eq_true rfl) d_m6_11) (fun r9 u9 H locs hp hw => ?_)
  obtain ⟨rfl, rfl⟩ := hp
  replace hw : WH g Z (σ, (M, 0, (nI nn), (nI kk)), o) s H locs := hw
  refine lv_if_eq (tgt := 19) C.x C.b d_m6_14 (by decide) (fun h9 => ?_) (fun h9 => absurd rfl h9)
  refine lv_aload_n C.x C.b d_m6_19 rfl (lv_at hl 0 rfl) ?_
  refine lv_aload_n C.x C.b d_m6_20 rfl (lv_at hl 0 rfl) ?_
  refine q_mmany C hw d_m6_21 ?_
  refine lv_sipush (v := 200) C.x C.b d_m6_24 (by decide) ?_
  refine lv_icmp_ne (tgt := 34) C.x C.b d_m6_27 (by decide) (fun h9 => absurd (by rw [hf]; rfl) h9) (fun h9 => ?_)
  refine lv_iconst (v := 1) C.x C.b d_m6_30 (by decide) ?_
  refine lv_goto (tgt := 35) C.x C.b d_m6_31 (by decide) ?_
  refine lv_iconst (v := 2) C.x C.b d_m6_35 (by decide) ?_
  refine ret_i hw (run_V C hw (c_fails l (Or.inr rfl)) (i := 602) (by decide) rfl rfl Y_m3 k_331 k_333 kp_5 ⟨rfl, rfl⟩ (by decide) ⟨Nat.zero_le _, Nat.zero_le _⟩ rfl hl.1 rfl (Nat.le_of_ble_eq_true rfl) d_m6_36) (fun r9 u9 H locs hp hw => ?_)
  obtain ⟨rfl, rfl⟩ := hp
  refine lv_if_eq (tgt := 44) C.x C.b d_m6_39 (by decide) (fun h9 => absurd h9 (by decide)) (fun h9 => ?_)
  refine lv_iconst (v := 0) C.x C.b d_m6_42 (by decide) ?_
  exact e_i C hr hlk hw d_m6_43 ⟨rfl, rfl⟩
theorem c_madd0 (l : Launch) {g : KG} {Z : Nat} {σ : CS} {M : Fn2} {er : Int32} {nn kk : Nat} {o : Int64} (hn : nn ≤ 200) (hf : nn < 200) {t gg r ll ld q wr : Int32} (h : okd t gg ll q) (hld : ld = 0 ∨ ld = 1) (hwr : wr = 0 ∨ wr = 1) : Ci l y_m6 prog_4_method_6_code 8 1 [.ref (Z + 602), .int t, .int gg, .int r, .int ll, .int ld, .int q, .int wr] g Z (σ, (M, er, nI nn, nI kk), o) (fun v u => v = nI nn ∧ u = (σ, (gv7 M nn t gg r ll ld q wr, 0, nI (nn + 1), 0), o)) := by
  refine mk_met (own := "StageClockModel") (by decide) rfl (Nat.le_of_ble_eq_true rfl) fun p e s m below meth c ls C hr hlk hl hw => ?_
  have hl : lv_has ls 8 [(0, .ref (Z + 602)), (1, .int t), (2, .int gg), (3, .int r), (4, .int ll), (5, .int ld), (6, .int q), (7, .int wr)] := hl
  refine lv_aload_n C.x C.b d_m6_0 rfl (lv_at hl 0 rfl) ?_
  refine lv_iload_n C.x C.b d_m6_1 rfl (lv_at hl 1 rfl) ?_
  refine lv_iload_n C.x C.b d_m6_2 rfl (lv_at hl 2 rfl) ?_
  refine lv_iload C.x C.b d_m6_3 (lv_at hl 4 rfl) ?_
  refine lv_iload C.x C.b d_m6_5 (lv_at hl 6 rfl) ?_
  refine ret_i hw (run_S C hw (c_bad l) Y_m4 k_328 k_329 ⟨rfl, rfl⟩ (by decide) ⟨Nat.zero_le _, Nat.zero_le _⟩ rfl hl.1 rfl (Nat.le_of_ble_eq_true rfl) d_m6_7) (fun r9 u9 H locs hp hw => ?_)
  obtain ⟨hp, rfl⟩ := hp
  rw [if_pos h] at hp
  subst hp
  refine lv_iconst (v := 1) C.x C.b d_m6_10 (by decide) ?_
  refine ret_i hw (run_V C hw (c_fails l (Or.inl rfl)) (i := 602) (by decide) rfl rfl Y_m3 k_331 k_333 kp_5 ⟨rfl, rfl⟩ (by decide) ⟨Nat.zero_le _, Nat.zero_le _⟩ rfl hl.1 rfl (Nat.le_of_ble_eq_true rfl) d_m6_11) (fun r9 u9 H locs hp hw => ?_)
  obtain ⟨rfl, rfl⟩ := hp
  replace hw : WH g Z (σ, (M, 0, (nI nn), (nI kk)), o) s H locs := hw
  refine lv_if_eq (tgt := 19) C.x C.b d_m6_14 (by decide) (fun h9 => ?_) (fun h9 => absurd rfl h9)
  refine lv_aload_n C.x C.b d_m6_19 rfl (lv_at hl 0 rfl) ?_
  refine lv_aload_n C.x C.b d_m6_20 rfl (lv_at hl 0 rfl) ?_
  refine q_mmany C hw d_m6_21 ?_
  refine lv_sipush (v := 200) C.x C.b d_m6_24 (by decide) ?_
  refine lv_icmp_ne (tgt := 34) C.x C.b d_m6_27 (by decide) (fun h9 => ?_) (fun h9 => absurd h9 (fun q => by have := (nI_eq (a := nn) (b := 200) (by omega) (by decide)).mp q; omega))
  refine lv_iconst (v := 0) C.x C.b d_m6_34 (by decide) ?_
  refine lv_iconst (v := 2) C.x C.b d_m6_35 (by decide) ?_
  refine ret_i hw (run_V C hw (c_fails l (Or.inl rfl)) (i := 602) (by decide) rfl rfl Y_m3 k_331 k_333 kp_5 ⟨rfl, rfl⟩ (by decide) ⟨Nat.zero_le _, Nat.zero_le _⟩ rfl hl.1 rfl (Nat.le_of_ble_eq_true rfl) d_m6_36) (fun r9 u9 H locs hp hw => ?_)
  obtain ⟨rfl, rfl⟩ := hp
  replace hw : WH g Z (σ, (M, 0, (nI nn), (nI kk)), o) s H locs := hw
  refine lv_if_eq (tgt := 44) C.x C.b d_m6_39 (by decide) (fun h9 => ?_) (fun h9 => absurd rfl h9)
  refine lv_aload_n C.x C.b d_m6_44 rfl (lv_at hl 0 rfl) ?_
  refine lv_aload_n C.x C.b d_m6_45 rfl (lv_at hl 0 rfl) ?_
  refine lv_dup C.x C.b d_m6_46 rfl ?_
  refine q_mmany C hw d_m6_47 ?_
  refine lv_dup_x1 C.x C.b d_m6_50 rfl rfl ?_
  refine lv_iconst (v := 1) C.x C.b d_m6_51 (by decide) ?_
  refine lv_iadd C.x C.b d_m6_52 ?_
  rw [nI_1]
  refine p_mmany C hw d_m6_53 (fun H locs hw => ?_)
  refine lv_iload_n C.x C.b d_m6_56 rfl (lv_at hl 1 rfl) ?_
  refine lv_iload_n C.x C.b d_m6_57 rfl (lv_at hl 2 rfl) ?_
  refine lv_iload_n C.x C.b d_m6_58 rfl (lv_at hl 3 rfl) ?_
  refine lv_iload C.x C.b d_m6_59 (lv_at hl 4 rfl) ?_
  refine lv_iload C.x C.b d_m6_61 (lv_at hl 5 rfl) ?_
  refine lv_iload C.x C.b d_m6_63 (lv_at hl 6 rfl) ?_
  refine lv_iload C.x C.b d_m6_65 (lv_at hl 7 rfl) ?_
  refine ret_v hw (run_V C hw (c_give l hf hld hwr) (i := 602) (by decide) rfl rfl Y_m5 k_335 k_337 kp_6 ⟨rfl, rfl⟩ (by decide) ⟨Nat.zero_le _, Nat.zero_le _⟩ rfl hl.1 rfl (Nat.le_of_ble_eq_true rfl) d_m6_67) (fun u9 H locs hp hw => ?_)
  subst hp
  refine lv_aload_n C.x C.b d_m6_70 rfl (lv_at hl 0 rfl) ?_
  refine q_mmany C hw d_m6_71 ?_
  refine lv_iconst (v := 1) C.x C.b d_m6_74 (by decide) ?_
  refine lv_isub C.x C.b d_m6_75 ?_
  rw [nI_pred]
  exact e_i C hr hlk hw d_m6_76 ⟨rfl, rfl⟩
theorem c_mchange1 (l : Launch) {g : KG} {Z : Nat} {σ : CS} {M : Fn2} {er : Int32} {nn kk : Nat} {o : Int64} (hn : nn ≤ 200) {x : Int32} {t gg r ll ld q wr : Int32} (h : ¬ okd t gg ll q) : Cv l y_m7 prog_4_method_7_code 9 1 [.ref (Z + 602), .int x, .int t, .int gg, .int r, .int ll, .int ld, .int q, .int wr] g Z (σ, (M, er, nI nn, nI kk), o) (fun u => u = (σ, (M, 1, nI nn, nI kk), o)) := by
  refine mk_met (own := "StageClockModel") (by decide) rfl (Nat.le_of_ble_eq_true rfl) fun p e s m below meth c ls C hr hlk hl hw => ?_
  have hl : lv_has ls 9 [(0, .ref (Z + 602)), (1, .int x), (2, .int t), (3, .int gg), (4, .int r), (5, .int ll), (6, .int ld), (7, .int q), (8, .int wr)] := hl
  refine lv_aload_n C.x C.b d_m7_0 rfl (lv_at hl 0 rfl) ?_
  refine lv_iload_n C.x C.b d_m7_1 rfl (lv_at hl 2 rfl) ?_
  refine lv_iload_n C.x C.b d_m7_2 rfl (lv_at hl 3 rfl) ?_
  refine lv_iload C.x C.b d_m7_3 (lv_at hl 5 rfl) ?_
  refine lv_iload C.x C.b d_m7_5 (lv_at hl 7 rfl) ?_
  refine ret_i hw (run_S C hw (c_bad l) Y_m4 k_328 k_329 ⟨rfl, rfl⟩ (by decide) ⟨Nat.zero_le _, Nat.zero_le _⟩ rfl hl.1 rfl (Nat.le_of_ble_eq_true rfl) d_m7_7) (fun r9 u9 H locs hp hw => ?_)
  obtain ⟨hp, rfl⟩ := hp
  rw [if_neg h] at hp
  subst hp
  refine lv_iconst (v := 1) C.x C.b d_m7_10 (by decide) ?_
  refine ret_i hw (run_V C hw (c_fails l (Or.inr rfl)) (i := 602) (by decide) rfl rfl Y_m3 k_331 k_333 kp_5 ⟨rfl, rfl⟩ (by decide) ⟨Nat.zero_le _, Nat.zero_le _⟩ rfl hl.1 rfl (Nat.le_of_ble_eq_true rfl) d_m7_11) (fun r9 u9 H locs hp hw => ?_)
  obtain ⟨rfl, rfl⟩ := hp
  refine lv_if_eq (tgt := 18) C.x C.b d_m7_14 (by decide) (fun h9 => absurd h9 (by decide)) (fun h9 => ?_)
  exact e_v C hr hlk hw d_m7_17 rfl
theorem c_mchange2 (l : Launch) {g : KG} {Z : Nat} {σ : CS} {M : Fn2} {er : Int32} {nn kk : Nat} {o : Int64} (hn : nn ≤ 200) {x : Int32} (hx : ¬ ∃ k : Nat, k < nn ∧ x = nI k) {t gg r ll ld q wr : Int32} (h : okd t gg ll q) : Cv l y_m7 prog_4_method_7_code 9 1 [.ref (Z + 602), .int x, .int t, .int gg, .int r, .int ll, .int ld, .int q, .int wr] g Z (σ, (M, er, nI nn, nI kk), o) (fun u => u = (σ, (M, 2, nI nn, nI kk), o)) := by
  refine mk_met (own := "StageClockModel") (by decide) rfl (Nat.le_of_ble_eq_true rfl) fun p e s m below meth c ls C hr hlk hl hw => ?_
  have hl : lv_has ls 9 [(0, .ref (Z + 602)), (1, .int x), (2, .int t), (3, .int gg), (4, .int r), (5, .int ll), (6, .int ld), (7, .int q), (8, .int wr)] := hl
  refine lv_aload_n C.x C.b d_m7_0 rfl (lv_at hl 0 rfl) ?_
  refine lv_iload_n C.x C.b d_m7_1 rfl (lv_at hl 2 rfl) ?_
  refine lv_iload_n C.x C.b d_m7_2 rfl (lv_at hl 3 rfl) ?_
  refine lv_iload C.x C.b d_m7_3 (lv_at hl 5 rfl) ?_
  refine lv_iload C.x C.b d_m7_5 (lv_at hl 7 rfl) ?_
  refine ret_i hw (run_S C hw (c_bad l) Y_m4 k_328 k_329 ⟨rfl, rfl⟩ (by decide) ⟨Nat.zero_le _, Nat.zero_le _⟩ rfl hl.1 rfl (Nat.le_of_ble_eq_true rfl) d_m7_7) (fun r9 u9 H locs hp hw => ?_)
  obtain ⟨hp, rfl⟩ := hp
  rw [if_pos h] at hp
  subst hp
  refine lv_iconst (v := 1) C.x C.b d_m7_10 (by decide) ?_
  refine ret_i hw (run_V C hw (c_fails l (Or.inl rfl)) (i := 602) (by decide) rfl rfl Y_m3 k_331 k_333 kp_5 ⟨rfl, rfl⟩ (by decide) ⟨Nat.zero_le _, Nat.zero_le _⟩ rfl hl.1 rfl (Nat.le_of_ble_eq_true rfl) d_m7_11) (fun r9 u9 H locs hp hw => ?_)
  obtain ⟨rfl, rfl⟩ := hp
  replace hw : WH g Z (σ, (M, 0, (nI nn), (nI kk)), o) s H locs := hw
  refine lv_if_eq (tgt := 18) C.x C.b d_m7_14 (by decide) (fun h9 => ?_) (fun h9 => absurd rfl h9)
  refine lv_aload_n C.x C.b d_m7_18 rfl (lv_at hl 0 rfl) ?_
  refine lv_iload_n C.x C.b d_m7_19 rfl (lv_at hl 1 rfl) ?_
  refine lv_if_lt (tgt := 31) C.x C.b d_m7_20 (by decide) (fun h1 => ?_) (fun h1 => ?_)
  · skip
    refine lv_iconst (v := 1) C.x C.b d_m7_31 (by decide) ?_
    refine lv_goto (tgt := 36) C.x C.b d_m7_32 (by decide) ?_
    refine lv_iconst (v := 2) C.x C.b d_m7_36 (by decide) ?_
    refine ret_i hw (run_V C hw (c_fails l (Or.inr rfl)) (i := 602) (by decide) rfl rfl Y_m3 k_331 k_333 kp_5 ⟨rfl, rfl⟩ (by decide) ⟨Nat.zero_le _, Nat.zero_le _⟩ rfl hl.1 rfl (Nat.le_of_ble_eq_true rfl) d_m7_37) (fun r9 u9 H locs hp hw => ?_)
    obtain ⟨rfl, rfl⟩ := hp
    refine lv_if_eq (tgt := 44) C.x C.b d_m7_40 (by decide) (fun h9 => absurd h9 (by decide)) (fun h9 => ?_)
    exact e_v C hr hlk hw d_m7_43 rfl
  · skip
    refine lv_iload_n C.x C.b d_m7_23 rfl (lv_at hl 1 rfl) ?_
    refine lv_aload_n C.x C.b d_m7_24 rfl (lv_at hl 0 rfl) ?_
    refine q_mmany C hw d_m7_25 ?_
    refine lv_icmp_lt (tgt := 35) C.x C.b d_m7_28 (by decide) (fun h2 => (hx (idx_lt hn h1 h2)).elim) (fun h2 => ?_)
    refine lv_iconst (v := 1) C.x C.b d_m7_31 (by decide) ?_
    refine lv_goto (tgt := 36) C.x C.b d_m7_32 (by decide) ?_
    refine lv_iconst (v := 2) C.x C.b d_m7_36 (by decide) ?_
    refine ret_i hw (run_V C hw (c_fails l (Or.inr rfl)) (i := 602) (by decide) rfl rfl Y_m3 k_331 k_333 kp_5 ⟨rfl, rfl⟩ (by decide) ⟨Nat.zero_le _, Nat.zero_le _⟩ rfl hl.1 rfl (Nat.le_of_ble_eq_true rfl) d_m7_37) (fun r9 u9 H locs hp hw => ?_)
    obtain ⟨rfl, rfl⟩ := hp
    refine lv_if_eq (tgt := 44) C.x C.b d_m7_40 (by decide) (fun h9 => absurd h9 (by decide)) (fun h9 => ?_)
    exact e_v C hr hlk hw d_m7_43 rfl
theorem c_mchange0 (l : Launch) {g : KG} {Z : Nat} {σ : CS} {M : Fn2} {er : Int32} {nn kk : Nat} {o : Int64} (hn : nn ≤ 200) {k : Nat} (hk : k < nn) {t gg r ll ld q wr : Int32} (h : okd t gg ll q) (hld : ld = 0 ∨ ld = 1) (hwr : wr = 0 ∨ wr = 1) : Cv l y_m7 prog_4_method_7_code 9 1 [.ref (Z + 602), .int (nI k), .int t, .int gg, .int r, .int ll, .int ld, .int q, .int wr] g Z (σ, (M, er, nI nn, nI kk), o) (fun u => u = (σ, (gv7 M k t gg r ll ld q wr, 0, nI nn, 0), o)) := by
  refine mk_met (own := "StageClockModel") (by decide) rfl (Nat.le_of_ble_eq_true rfl) fun p e s m below meth c ls C hr hlk hl hw => ?_
  have hl : lv_has ls 9 [(0, .ref (Z + 602)), (1, .int (nI k)), (2, .int t), (3, .int gg), (4, .int r), (5, .int ll), (6, .int ld), (7, .int q), (8, .int wr)] := hl
  refine lv_aload_n C.x C.b d_m7_0 rfl (lv_at hl 0 rfl) ?_
  refine lv_iload_n C.x C.b d_m7_1 rfl (lv_at hl 2 rfl) ?_
  refine lv_iload_n C.x C.b d_m7_2 rfl (lv_at hl 3 rfl) ?_
  refine lv_iload C.x C.b d_m7_3 (lv_at hl 5 rfl) ?_
  refine lv_iload C.x C.b d_m7_5 (lv_at hl 7 rfl) ?_
  refine ret_i hw (run_S C hw (c_bad l) Y_m4 k_328 k_329 ⟨rfl, rfl⟩ (by decide) ⟨Nat.zero_le _, Nat.zero_le _⟩ rfl hl.1 rfl (Nat.le_of_ble_eq_true rfl) d_m7_7) (fun r9 u9 H locs hp hw => ?_)
  obtain ⟨hp, rfl⟩ := hp
  rw [if_pos h] at hp
  subst hp
  refine lv_iconst (v := 1) C.x C.b d_m7_10 (by decide) ?_
  refine ret_i hw (run_V C hw (c_fails l (Or.inl rfl)) (i := 602) (by decide) rfl rfl Y_m3 k_331 k_333 kp_5 ⟨rfl, rfl⟩ (by decide) ⟨Nat.zero_le _, Nat.zero_le _⟩ rfl hl.1 rfl (Nat.le_of_ble_eq_true rfl) d_m7_11) (fun r9 u9 H locs hp hw => ?_)
  obtain ⟨rfl, rfl⟩ := hp
  replace hw : WH g Z (σ, (M, 0, (nI nn), (nI kk)), o) s H locs := hw
  refine lv_if_eq (tgt := 18) C.x C.b d_m7_14 (by decide) (fun h9 => ?_) (fun h9 => absurd rfl h9)
  refine lv_aload_n C.x C.b d_m7_18 rfl (lv_at hl 0 rfl) ?_
  refine lv_iload_n C.x C.b d_m7_19 rfl (lv_at hl 1 rfl) ?_
  refine lv_if_lt (tgt := 31) C.x C.b d_m7_20 (by decide) (fun h9 => absurd h9 (nI_pos (by omega))) (fun h9 => ?_)
  refine lv_iload_n C.x C.b d_m7_23 rfl (lv_at hl 1 rfl) ?_
  refine lv_aload_n C.x C.b d_m7_24 rfl (lv_at hl 0 rfl) ?_
  refine q_mmany C hw d_m7_25 ?_
  refine lv_icmp_lt (tgt := 35) C.x C.b d_m7_28 (by decide) (fun h9 => ?_) (fun h9 => absurd (nI_lt (show k < nn by omega) (by omega)) h9)
  refine lv_iconst (v := 0) C.x C.b d_m7_35 (by decide) ?_
  refine lv_iconst (v := 2) C.x C.b d_m7_36 (by decide) ?_
  refine ret_i hw (run_V C hw (c_fails l (Or.inl rfl)) (i := 602) (by decide) rfl rfl Y_m3 k_331 k_333 kp_5 ⟨rfl, rfl⟩ (by decide) ⟨Nat.zero_le _, Nat.zero_le _⟩ rfl hl.1 rfl (Nat.le_of_ble_eq_true rfl) d_m7_37) (fun r9 u9 H locs hp hw => ?_)
  obtain ⟨rfl, rfl⟩ := hp
  replace hw : WH g Z (σ, (M, 0, (nI nn), (nI kk)), o) s H locs := hw
  refine lv_if_eq (tgt := 44) C.x C.b d_m7_40 (by decide) (fun h9 => ?_) (fun h9 => absurd rfl h9)
  refine lv_aload_n C.x C.b d_m7_44 rfl (lv_at hl 0 rfl) ?_
  refine lv_iload_n C.x C.b d_m7_45 rfl (lv_at hl 1 rfl) ?_
  refine lv_iload_n C.x C.b d_m7_46 rfl (lv_at hl 2 rfl) ?_
  refine lv_iload_n C.x C.b d_m7_47 rfl (lv_at hl 3 rfl) ?_
  refine lv_iload C.x C.b d_m7_48 (lv_at hl 4 rfl) ?_
  refine lv_iload C.x C.b d_m7_50 (lv_at hl 5 rfl) ?_
  refine lv_iload C.x C.b d_m7_52 (lv_at hl 6 rfl) ?_
  refine lv_iload C.x C.b d_m7_54 (lv_at hl 7 rfl) ?_
  refine lv_iload C.x C.b d_m7_56 (lv_at hl 8 rfl) ?_
  refine ret_v hw (run_V C hw (c_give l (show k < 200 by omega) hld hwr) (i := 602) (by decide) rfl rfl Y_m5 k_335 k_337 kp_6 ⟨rfl, rfl⟩ (by decide) ⟨Nat.zero_le _, Nat.zero_le _⟩ rfl hl.1 rfl (Nat.le_of_ble_eq_true rfl) d_m7_58) (fun u9 H locs hp hw => ?_)
  subst hp
  exact e_v C hr hlk hw d_m7_61 rfl
theorem c_mcut1 (l : Launch) {g : KG} {Z : Nat} {σ : CS} {M : Fn2} {er : Int32} {nn kk : Nat} {o : Int64} (hn : nn ≤ 200) {x : Int32} (hx : ¬ ∃ k : Nat, k ≤ nn ∧ x = nI k) : Ci l y_m8 prog_4_method_8_code 3 1 [.ref (Z + 602), .int x] g Z (σ, (M, er, nI nn, nI kk), o) (fun r u => r = 0 ∧ u = (σ, (M, 1, nI nn, nI kk), o)) := by
  refine mk_met (own := "StageClockModel") (by decide) rfl (Nat.le_of_ble_eq_true rfl) fun p e s m below meth c ls C hr hlk hl hw => ?_
  have hl : lv_has ls 3 [(0, .ref (Z + 602)), (1, .int x)] := hl
  refine lv_aload_n C.x C.b d_m8_0 rfl (lv_at hl 0 rfl) ?_
  refine lv_iload_n C.x C.b d_m8_1 rfl (lv_at hl 1 rfl) ?_
  refine lv_if_lt (tgt := 13) C.x C.b d_m8_2 (by decide) (fun h1 => ?_) (fun h1 => ?_)
  · skip
    refine lv_iconst (v := 1) C.x C.b d_m8_13 (by decide) ?_
    refine lv_goto (tgt := 18) C.x C.b d_m8_14 (by decide) ?_
    refine lv_iconst (v := 1) C.x C.b d_m8_18 (by decide) ?_
    refine ret_i hw (run_V C hw (c_fails l (Or.inr rfl)) (i := 602) (by decide) rfl rfl Y_m3 k_331 k_333 kp_5 ⟨rfl, rfl⟩ (by decide) ⟨Nat.zero_le _, Nat.zero_le _⟩ rfl hl.1 rfl (Nat.le_of_ble_eq_true rfl) d_m8_19) (fun r9 u9 H locs hp hw => ?_)
    obtain ⟨rfl, rfl⟩ := hp
    refine lv_if_eq (tgt := 27) C.x C.b d_m8_22 (by decide) (fun h9 => absurd h9 (by decide)) (fun h9 => ?_)
    refine lv_iconst (v := 0) C.x C.b d_m8_25 (by decide) ?_
    exact e_i C hr hlk hw d_m8_26 ⟨rfl, rfl⟩
  · skip
    refine lv_iload_n C.x C.b d_m8_5 rfl (lv_at hl 1 rfl) ?_
    refine lv_aload_n C.x C.b d_m8_6 rfl (lv_at hl 0 rfl) ?_
    refine q_mmany C hw d_m8_7 ?_
    refine lv_icmp_le (tgt := 17) C.x C.b d_m8_10 (by decide) (fun h2 => (hx (idx_le hn h1 h2)).elim) (fun h2 => ?_)
    refine lv_iconst (v := 1) C.x C.b d_m8_13 (by decide) ?_
    refine lv_goto (tgt := 18) C.x C.b d_m8_14 (by decide) ?_
    refine lv_iconst (v := 1) C.x C.b d_m8_18 (by decide) ?_
    refine ret_i hw (run_V C hw (c_fails l (Or.inr rfl)) (i := 602) (by decide) rfl rfl Y_m3 k_331 k_333 kp_5 ⟨rfl, rfl⟩ (by decide) ⟨Nat.zero_le _, Nat.zero_le _⟩ rfl hl.1 rfl (Nat.le_of_ble_eq_true rfl) d_m8_19) (fun r9 u9 H locs hp hw => ?_)
    obtain ⟨rfl, rfl⟩ := hp
    refine lv_if_eq (tgt := 27) C.x C.b d_m8_22 (by decide) (fun h9 => absurd h9 (by decide)) (fun h9 => ?_)
    refine lv_iconst (v := 0) C.x C.b d_m8_25 (by decide) ?_
    exact e_i C hr hlk hw d_m8_26 ⟨rfl, rfl⟩
theorem c_mcut0 (l : Launch) {g : KG} {Z : Nat} {σ : CS} {M : Fn2} {er : Int32} {nn kk : Nat} {o : Int64} (hn : nn ≤ 200) {k : Nat} (hk : k ≤ nn) : Ci l y_m8 prog_4_method_8_code 3 1 [.ref (Z + 602), .int (nI k)] g Z (σ, (M, er, nI nn, nI kk), o) (fun v u => v = nI nn ∧ u = (σ, (M, 0, nI k, 0), o)) := by
  refine mk_met (own := "StageClockModel") (by decide) rfl (Nat.le_of_ble_eq_true rfl) fun p e s m below meth c ls C hr hlk hl hw => ?_
  have hl : lv_has ls 3 [(0, .ref (Z + 602)), (1, .int (nI k))] := hl
  refine lv_aload_n C.x C.b d_m8_0 rfl (lv_at hl 0 rfl) ?_
  refine lv_iload_n C.x C.b d_m8_1 rfl (lv_at hl 1 rfl) ?_
  refine lv_if_lt (tgt := 13) C.x C.b d_m8_2 (by decide) (fun h9 => absurd h9 (nI_pos (by omega))) (fun h9 => ?_)
  refine lv_iload_n C.x C.b d_m8_5 rfl (lv_at hl 1 rfl) ?_
  refine lv_aload_n C.x C.b d_m8_6 rfl (lv_at hl 0 rfl) ?_
  refine q_mmany C hw d_m8_7 ?_
  refine lv_icmp_le (tgt := 17) C.x C.b d_m8_10 (by decide) (fun h9 => ?_) (fun h9 => absurd (nI_le hk (by omega)) h9)
  refine lv_iconst (v := 0) C.x C.b d_m8_17 (by decide) ?_
  refine lv_iconst (v := 1) C.x C.b d_m8_18 (by decide) ?_
  refine ret_i hw (run_V C hw (c_fails l (Or.inl rfl)) (i := 602) (by decide) rfl rfl Y_m3 k_331 k_333 kp_5 ⟨rfl, rfl⟩ (by decide) ⟨Nat.zero_le _, Nat.zero_le _⟩ rfl hl.1 rfl (Nat.le_of_ble_eq_true rfl) d_m8_19) (fun r9 u9 H locs hp hw => ?_)
  obtain ⟨rfl, rfl⟩ := hp
  replace hw : WH g Z (σ, (M, 0, (nI nn), (nI kk)), o) s H locs := hw
  refine lv_if_eq (tgt := 27) C.x C.b d_m8_22 (by decide) (fun h9 => ?_) (fun h9 => absurd rfl h9)
  refine lv_aload_n C.x C.b d_m8_27 rfl (lv_at hl 0 rfl) ?_
  refine q_mmany C hw d_m8_28 ?_
  refine lv_istore_n (lv' := [(2, .int (nI nn)), (0, .ref (Z + 602)), (1, .int (nI k))]) C.x C.b d_m8_31 rfl hl (by decide) rfl (fun ls hl => ?_)
  refine lv_aload_n C.x C.b d_m8_32 rfl (lv_at hl 1 rfl) ?_
  refine lv_iload_n C.x C.b d_m8_33 rfl (lv_at hl 2 rfl) ?_
  refine p_mmany C hw d_m8_34 (fun H locs hw => ?_)
  refine lv_aload_n C.x C.b d_m8_37 rfl (lv_at hl 1 rfl) ?_
  refine lv_iconst (v := 0) C.x C.b d_m8_38 (by decide) ?_
  refine p_mknown C hw d_m8_39 (fun H locs hw => ?_)
  refine lv_iload_n C.x C.b d_m8_42 rfl (lv_at hl 0 rfl) ?_
  exact e_i C hr hlk hw d_m8_43 ⟨rfl, rfl⟩
theorem c_mwhen1 (l : Launch) {g : KG} {Z : Nat} {σ : CS} {M : Fn2} {er : Int32} {nn kk : Nat} {o : Int64} (hn : nn ≤ 200) {y x : Int32} (hx : ¬ (0 ≤ x ∧ x ≤ 6)) : Ci l y_m15 prog_4_method_15_code 3 3 [.ref (Z + 602), .int y, .int x] g Z (σ, (M, er, nI nn, nI kk), o) (fun r u => r = 0 ∧ u = (σ, (M, 1, nI nn, nI kk), o)) := by
  refine mk_met (own := "StageClockModel") (by decide) rfl (Nat.le_of_ble_eq_true rfl) fun p e s m below meth c ls C hr hlk hl hw => ?_
  have hl : lv_has ls 3 [(0, .ref (Z + 602)), (1, .int y), (2, .int x)] := hl
  refine lv_aload_n C.x C.b d_m15_0 rfl (lv_at hl 0 rfl) ?_
  refine lv_iload_n C.x C.b d_m15_1 rfl (lv_at hl 2 rfl) ?_
  refine lv_if_lt (tgt := 11) C.x C.b d_m15_2 (by decide) (fun h1 => ?_) (fun h1 => ?_)
  · skip
    refine lv_iconst (v := 1) C.x C.b d_m15_11 (by decide) ?_
    refine lv_goto (tgt := 16) C.x C.b d_m15_12 (by decide) ?_
    refine lv_iconst (v := 1) C.x C.b d_m15_16 (by decide) ?_
    refine ret_i hw (run_V C hw (c_fails l (Or.inr rfl)) (i := 602) (by decide) rfl rfl Y_m3 k_331 k_333 kp_5 ⟨rfl, rfl⟩ (by decide) ⟨Nat.zero_le _, Nat.zero_le _⟩ rfl hl.1 rfl (Nat.le_of_ble_eq_true rfl) d_m15_17) (fun r9 u9 H locs hp hw => ?_)
    obtain ⟨rfl, rfl⟩ := hp
    refine lv_if_eq (tgt := 25) C.x C.b d_m15_20 (by decide) (fun h9 => absurd h9 (by decide)) (fun h9 => ?_)
    refine lv_iconst (v := 0) C.x C.b d_m15_23 (by decide) ?_
    exact e_i C hr hlk hw d_m15_24 ⟨rfl, rfl⟩
  · skip
    refine lv_iload_n C.x C.b d_m15_5 rfl (lv_at hl 2 rfl) ?_
    refine lv_bipush (v := 6) C.x C.b d_m15_6 (by decide) ?_
    refine lv_icmp_le (tgt := 15) C.x C.b d_m15_8 (by decide) (fun h2 => (hx ⟨Int32.not_lt.mp h1, h2⟩).elim) (fun h2 => ?_)
    refine lv_iconst (v := 1) C.x C.b d_m15_11 (by decide) ?_
    refine lv_goto (tgt := 16) C.x C.b d_m15_12 (by decide) ?_
    refine lv_iconst (v := 1) C.x C.b d_m15_16 (by decide) ?_
    refine ret_i hw (run_V C hw (c_fails l (Or.inr rfl)) (i := 602) (by decide) rfl rfl Y_m3 k_331 k_333 kp_5 ⟨rfl, rfl⟩ (by decide) ⟨Nat.zero_le _, Nat.zero_le _⟩ rfl hl.1 rfl (Nat.le_of_ble_eq_true rfl) d_m15_17) (fun r9 u9 H locs hp hw => ?_)
    obtain ⟨rfl, rfl⟩ := hp
    refine lv_if_eq (tgt := 25) C.x C.b d_m15_20 (by decide) (fun h9 => absurd h9 (by decide)) (fun h9 => ?_)
    refine lv_iconst (v := 0) C.x C.b d_m15_23 (by decide) ?_
    exact e_i C hr hlk hw d_m15_24 ⟨rfl, rfl⟩
theorem c_mwhen2 (l : Launch) {g : KG} {Z : Nat} {σ : CS} {M : Fn2} {er : Int32} {nn kk : Nat} {o : Int64} (hn : nn ≤ 200) {x : Int32} (hx : ¬ ∃ k : Nat, k < nn ∧ x = nI k) {wj : Nat} (hw6 : wj ≤ 6) : Ci l y_m15 prog_4_method_15_code 3 3 [.ref (Z + 602), .int x, .int (nI wj)] g Z (σ, (M, er, nI nn, nI kk), o) (fun r u => r = 0 ∧ u = (σ, (M, 2, nI nn, nI kk), o)) := by
  refine mk_met (own := "StageClockModel") (by decide) rfl (Nat.le_of_ble_eq_true rfl) fun p e s m below meth c ls C hr hlk hl hw => ?_
  have hl : lv_has ls 3 [(0, .ref (Z + 602)), (1, .int x), (2, .int (nI wj))] := hl
  refine lv_aload_n C.x C.b d_m15_0 rfl (lv_at hl 0 rfl) ?_
  refine lv_iload_n C.x C.b d_m15_1 rfl (lv_at hl 2 rfl) ?_
  refine lv_if_lt (tgt := 11) C.x C.b d_m15_2 (by decide) (fun h9 => absurd h9 (nI_pos (by omega))) (fun h9 => ?_)
  refine lv_iload_n C.x C.b d_m15_5 rfl (lv_at hl 2 rfl) ?_
  refine lv_bipush (v := 6) C.x C.b d_m15_6 (by decide) ?_
  refine lv_icmp_le (tgt := 15) C.x C.b d_m15_8 (by decide) (fun h9 => ?_) (fun h9 => absurd (nI_le (b := 6) hw6 (by decide)) h9)
  refine lv_iconst (v := 0) C.x C.b d_m15_15 (by decide) ?_
  refine lv_iconst (v := 1) C.x C.b d_m15_16 (by decide) ?_
  refine ret_i hw (run_V C hw (c_fails l (Or.inl rfl)) (i := 602) (by decide) rfl rfl Y_m3 k_331 k_333 kp_5 ⟨rfl, rfl⟩ (by decide) ⟨Nat.zero_le _, Nat.zero_le _⟩ rfl hl.1 rfl (Nat.le_of_ble_eq_true rfl) d_m15_17) (fun r9 u9 H locs hp hw => ?_)
  obtain ⟨rfl, rfl⟩ := hp
  replace hw : WH g Z (σ, (M, 0, (nI nn), (nI kk)), o) s H locs := hw
  refine lv_if_eq (tgt := 25) C.x C.b d_m15_20 (by decide) (fun h9 => ?_) (fun h9 => absurd rfl h9)
  refine lv_aload_n C.x C.b d_m15_25 rfl (lv_at hl 0 rfl) ?_
  refine lv_iload_n C.x C.b d_m15_26 rfl (lv_at hl 1 rfl) ?_
  refine lv_if_lt (tgt := 38) C.x C.b d_m15_27 (by decide) (fun h1 => ?_) (fun h1 => ?_)
  · skip
    refine lv_iconst (v := 1) C.x C.b d_m15_38 (by decide) ?_
    refine lv_goto (tgt := 43) C.x C.b d_m15_39 (by decide) ?_
    refine lv_iconst (v := 2) C.x C.b d_m15_43 (by decide) ?_
    refine ret_i hw (run_V C hw (c_fails l (Or.inr rfl)) (i := 602) (by decide) rfl rfl Y_m3 k_331 k_333 kp_5 ⟨rfl, rfl⟩ (by decide) ⟨Nat.zero_le _, Nat.zero_le _⟩ rfl hl.1 rfl (Nat.le_of_ble_eq_true rfl) d_m15_44) (fun r9 u9 H locs hp hw => ?_)
    obtain ⟨rfl, rfl⟩ := hp
    refine lv_if_eq (tgt := 52) C.x C.b d_m15_47 (by decide) (fun h9 => absurd h9 (by decide)) (fun h9 => ?_)
    refine lv_iconst (v := 0) C.x C.b d_m15_50 (by decide) ?_
    exact e_i C hr hlk hw d_m15_51 ⟨rfl, rfl⟩
  · skip
    refine lv_iload_n C.x C.b d_m15_30 rfl (lv_at hl 1 rfl) ?_
    refine lv_aload_n C.x C.b d_m15_31 rfl (lv_at hl 0 rfl) ?_
    refine q_mmany C hw d_m15_32 ?_
    refine lv_icmp_lt (tgt := 42) C.x C.b d_m15_35 (by decide) (fun h2 => (hx (idx_lt hn h1 h2)).elim) (fun h2 => ?_)
    refine lv_iconst (v := 1) C.x C.b d_m15_38 (by decide) ?_
    refine lv_goto (tgt := 43) C.x C.b d_m15_39 (by decide) ?_
    refine lv_iconst (v := 2) C.x C.b d_m15_43 (by decide) ?_
    refine ret_i hw (run_V C hw (c_fails l (Or.inr rfl)) (i := 602) (by decide) rfl rfl Y_m3 k_331 k_333 kp_5 ⟨rfl, rfl⟩ (by decide) ⟨Nat.zero_le _, Nat.zero_le _⟩ rfl hl.1 rfl (Nat.le_of_ble_eq_true rfl) d_m15_44) (fun r9 u9 H locs hp hw => ?_)
    obtain ⟨rfl, rfl⟩ := hp
    refine lv_if_eq (tgt := 52) C.x C.b d_m15_47 (by decide) (fun h9 => absurd h9 (by decide)) (fun h9 => ?_)
    refine lv_iconst (v := 0) C.x C.b d_m15_50 (by decide) ?_
    exact e_i C hr hlk hw d_m15_51 ⟨rfl, rfl⟩
theorem c_mwhen0 (l : Launch) {g : KG} {Z : Nat} {σ : CS} {M : Fn2} {er : Int32} {nn kk : Nat} {o : Int64} (hn : nn ≤ 200) (hkk : kk ≤ nn) (hT : tgood M (Bm M) kk) {k : Nat} (hk : k < nn) {wj : Nat} (hw6 : wj ≤ 6) : Ci l y_m15 prog_4_method_15_code 3 3 [.ref (Z + 602), .int (nI k), .int (nI wj)] g Z (σ, (M, er, nI nn, nI kk), o) (fun r u => MP σ M nn o u (fun M1 => r = whn M1 (Bm M1) k wj)) := by
  refine mk_met (own := "StageClockModel") (by decide) rfl (Nat.le_of_ble_eq_true rfl) fun p e s m below meth c ls C hr hlk hl hw => ?_
  have hl : lv_has ls 3 [(0, .ref (Z + 602)), (1, .int (nI k)), (2, .int (nI wj))] := hl
  refine lv_aload_n C.x C.b d_m15_0 rfl (lv_at hl 0 rfl) ?_
  refine lv_iload_n C.x C.b d_m15_1 rfl (lv_at hl 2 rfl) ?_
  refine lv_if_lt (tgt := 11) C.x C.b d_m15_2 (by decide) (fun h9 => absurd h9 (nI_pos (by omega))) (fun h9 => ?_)
  refine lv_iload_n C.x C.b d_m15_5 rfl (lv_at hl 2 rfl) ?_
  refine lv_bipush (v := 6) C.x C.b d_m15_6 (by decide) ?_
  refine lv_icmp_le (tgt := 15) C.x C.b d_m15_8 (by decide) (fun h9 => ?_) (fun h9 => absurd (nI_le (b := 6) hw6 (by decide)) h9)
  refine lv_iconst (v := 0) C.x C.b d_m15_15 (by decide) ?_
  refine lv_iconst (v := 1) C.x C.b d_m15_16 (by decide) ?_
  refine ret_i hw (run_V C hw (c_fails l (Or.inl rfl)) (i := 602) (by decide) rfl rfl Y_m3 k_331 k_333 kp_5 ⟨rfl, rfl⟩ (by decide) ⟨Nat.zero_le _, Nat.zero_le _⟩ rfl hl.1 rfl (Nat.le_of_ble_eq_true rfl) d_m15_17) (fun r9 u9 H locs hp hw => ?_)
  obtain ⟨rfl, rfl⟩ := hp
  replace hw : WH g Z (σ, (M, 0, (nI nn), (nI kk)), o) s H locs := hw
  refine lv_if_eq (tgt := 25) C.x C.b d_m15_20 (by decide) (fun h9 => ?_) (fun h9 => absurd rfl h9)
  refine lv_aload_n C.x C.b d_m15_25 rfl (lv_at hl 0 rfl) ?_
  refine lv_iload_n C.x C.b d_m15_26 rfl (lv_at hl 1 rfl) ?_
  refine lv_if_lt (tgt := 38) C.x C.b d_m15_27 (by decide) (fun h9 => absurd h9 (nI_pos (by omega))) (fun h9 => ?_)
  refine lv_iload_n C.x C.b d_m15_30 rfl (lv_at hl 1 rfl) ?_
  refine lv_aload_n C.x C.b d_m15_31 rfl (lv_at hl 0 rfl) ?_
  refine q_mmany C hw d_m15_32 ?_
  refine lv_icmp_lt (tgt := 42) C.x C.b d_m15_35 (by decide) (fun h9 => ?_) (fun h9 => absurd (nI_lt (show k < nn by omega) (by omega)) h9)
  refine lv_iconst (v := 0) C.x C.b d_m15_42 (by decide) ?_
  refine lv_iconst (v := 2) C.x C.b d_m15_43 (by decide) ?_
  refine ret_i hw (run_V C hw (c_fails l (Or.inl rfl)) (i := 602) (by decide) rfl rfl Y_m3 k_331 k_333 kp_5 ⟨rfl, rfl⟩ (by decide) ⟨Nat.zero_le _, Nat.zero_le _⟩ rfl hl.1 rfl (Nat.le_of_ble_eq_true rfl) d_m15_44) (fun r9 u9 H locs hp hw => ?_)
  obtain ⟨rfl, rfl⟩ := hp
  replace hw : WH g Z (σ, (M, 0, (nI nn), (nI kk)), o) s H locs := hw
  refine lv_if_eq (tgt := 52) C.x C.b d_m15_47 (by decide) (fun h9 => ?_) (fun h9 => absurd rfl h9)
  refine lv_aload_n C.x C.b d_m15_52 rfl (lv_at hl 0 rfl) ?_
  refine ret_v hw (run_V C hw (c_reckon l hn hkk hT) (i := 602) (by decide) rfl rfl Y_m14 k_351 k_353 kp_7 ⟨rfl, rfl⟩ (by decide) ⟨Nat.zero_le _, Nat.zero_le _⟩ rfl hl.1 rfl (Nat.le_of_ble_eq_true rfl) d_m15_53) (fun u9 H locs hp hw => ?_)
  obtain ⟨M1, hM, hT1, rfl⟩ := hp
  refine lv_iload_n C.x C.b d_m15_56 rfl (lv_at hl 2 rfl) ?_
  refine lv_if_ne (tgt := 69) C.x C.b d_m15_57 (by decide) (fun q0 => ?_) (fun q0 => ?_)
  · skip
    refine lv_iload_n C.x C.b d_m15_69 rfl (lv_at hl 2 rfl) ?_
    refine lv_iconst (v := 1) C.x C.b d_m15_70 (by decide) ?_
    refine lv_icmp_ne (tgt := 83) C.x C.b d_m15_71 (by decide) (fun q1 => ?_) (fun q1 => ?_)
    · skip
      refine lv_iload_n C.x C.b d_m15_83 rfl (lv_at hl 2 rfl) ?_
      refine lv_iconst (v := 2) C.x C.b d_m15_84 (by decide) ?_
      refine lv_icmp_ne (tgt := 97) C.x C.b d_m15_85 (by decide) (fun q2 => ?_) (fun q2 => ?_)
      · skip
        refine lv_iload_n C.x C.b d_m15_97 rfl (lv_at hl 2 rfl) ?_
        refine lv_iconst (v := 3) C.x C.b d_m15_98 (by decide) ?_
        refine lv_icmp_ne (tgt := 111) C.x C.b d_m15_99 (by decide) (fun q3 => ?_) (fun q3 => ?_)
        · skip
          refine lv_iload_n C.x C.b d_m15_111 rfl (lv_at hl 2 rfl) ?_
          refine lv_iconst (v := 4) C.x C.b d_m15_112 (by decide) ?_
          refine lv_icmp_ne (tgt := 125) C.x C.b d_m15_113 (by decide) (fun q4 => ?_) (fun q4 => ?_)
          · skip
            refine lv_iload_n C.x C.b d_m15_125 rfl (lv_at hl 2 rfl) ?_
            refine lv_iconst (v := 5) C.x C.b d_m15_126 (by decide) ?_
            refine lv_icmp_ne (tgt := 138) C.x C.b d_m15_127 (by decide) (fun q5 => ?_) (fun q5 => ?_)
            · skip
              have e9 : wj = 6 := by
                rcases (show wj = 0 ∨ wj = 1 ∨ wj = 2 ∨ wj = 3 ∨ wj = 4 ∨ wj = 5 ∨ wj = 6 by omega) with rfl | rfl | rfl | rfl | rfl | rfl | h
                · exact absurd rfl q0
                · exact absurd rfl q1
                · exact absurd rfl q2
                · exact absurd rfl q3
                · exact absurd rfl q4
                · exact absurd rfl q5
                · exact h
              refine lv_aload_n C.x C.b d_m15_138 rfl (lv_at hl 0 rfl) ?_
              refine lv_iload_n C.x C.b d_m15_139 rfl (lv_at hl 1 rfl) ?_
              refine ret_i hw (run_V C hw (c_me l (show k < 200 by omega)) (i := 602) (by decide) rfl rfl Y_m11 k_370 k_372 kp_11 ⟨rfl, rfl⟩ (by decide) ⟨Nat.zero_le _, Nat.zero_le _⟩ rfl hl.1 rfl (Nat.le_of_ble_eq_true rfl) d_m15_140) (fun r9 u9 H locs hp hw => ?_)
              obtain ⟨rfl, rfl⟩ := hp
              exact e_i C hr hlk hw d_m15_143 ⟨M1, hM, hT1, rfl, by rw [e9]; rfl⟩
            · skip
              have e9 : wj = 5 := (nI_eq (b := 5) (by omega) (by decide)).mp q5
              refine lv_aload_n C.x C.b d_m15_130 rfl (lv_at hl 0 rfl) ?_
              refine lv_iload_n C.x C.b d_m15_131 rfl (lv_at hl 1 rfl) ?_
              refine ret_i hw (run_V C hw (c_xe l (show k < 200 by omega)) (i := 602) (by decide) rfl rfl Y_m10 k_355 k_357 kp_8 ⟨rfl, rfl⟩ (by decide) ⟨Nat.zero_le _, Nat.zero_le _⟩ rfl hl.1 rfl (Nat.le_of_ble_eq_true rfl) d_m15_132) (fun r9 u9 H locs hp hw => ?_)
              obtain ⟨rfl, rfl⟩ := hp
              refine lv_goto (tgt := 143) C.x C.b d_m15_135 (by decide) ?_
              exact e_i C hr hlk hw d_m15_143 ⟨M1, hM, hT1, rfl, by rw [e9]; rfl⟩
          · skip
            have e9 : wj = 4 := (nI_eq (b := 4) (by omega) (by decide)).mp q4
            refine lv_aload_n C.x C.b d_m15_116 rfl (lv_at hl 0 rfl) ?_
            refine q_m11 C hw d_m15_117 ?_
            refine lv_iload_n C.x C.b d_m15_120 rfl (lv_at hl 1 rfl) ?_
            refine l_m11 C hw k (show k < 200 by omega) rfl d_m15_121 ?_
            refine lv_goto (tgt := 143) C.x C.b d_m15_122 (by decide) ?_
            exact e_i C hr hlk hw d_m15_143 ⟨M1, hM, hT1, rfl, by rw [e9]; rfl⟩
        · skip
          have e9 : wj = 3 := (nI_eq (b := 3) (by omega) (by decide)).mp q3
          refine lv_aload_n C.x C.b d_m15_102 rfl (lv_at hl 0 rfl) ?_
          refine q_m10 C hw d_m15_103 ?_
          refine lv_iload_n C.x C.b d_m15_106 rfl (lv_at hl 1 rfl) ?_
          refine l_m10 C hw k (show k < 200 by omega) rfl d_m15_107 ?_
          refine lv_goto (tgt := 143) C.x C.b d_m15_108 (by decide) ?_
          exact e_i C hr hlk hw d_m15_143 ⟨M1, hM, hT1, rfl, by rw [e9]; rfl⟩
      · skip
        have e9 : wj = 2 := (nI_eq (b := 2) (by omega) (by decide)).mp q2
        refine lv_aload_n C.x C.b d_m15_88 rfl (lv_at hl 0 rfl) ?_
        refine q_m9 C hw d_m15_89 ?_
        refine lv_iload_n C.x C.b d_m15_92 rfl (lv_at hl 1 rfl) ?_
        refine l_m9 C hw k (show k < 200 by omega) rfl d_m15_93 ?_
        refine lv_goto (tgt := 143) C.x C.b d_m15_94 (by decide) ?_
        exact e_i C hr hlk hw d_m15_143 ⟨M1, hM, hT1, rfl, by rw [e9]; rfl⟩
    · skip
      have e9 : wj = 1 := (nI_eq (b := 1) (by omega) (by decide)).mp q1
      refine lv_aload_n C.x C.b d_m15_74 rfl (lv_at hl 0 rfl) ?_
      refine q_m8 C hw d_m15_75 ?_
      refine lv_iload_n C.x C.b d_m15_78 rfl (lv_at hl 1 rfl) ?_
      refine l_m8 C hw k (show k < 200 by omega) rfl d_m15_79 ?_
      refine lv_goto (tgt := 143) C.x C.b d_m15_80 (by decide) ?_
      exact e_i C hr hlk hw d_m15_143 ⟨M1, hM, hT1, rfl, by rw [e9]; rfl⟩
  · skip
    have e9 : wj = 0 := (nI_eq (b := 0) (by omega) (by decide)).mp q0
    refine lv_aload_n C.x C.b d_m15_60 rfl (lv_at hl 0 rfl) ?_
    refine q_m7 C hw d_m15_61 ?_
    refine lv_iload_n C.x C.b d_m15_64 rfl (lv_at hl 1 rfl) ?_
    refine l_m7 C hw k (show k < 200 by omega) rfl d_m15_65 ?_
    refine lv_goto (tgt := 143) C.x C.b d_m15_66 (by decide) ?_
    exact e_i C hr hlk hw d_m15_143 ⟨M1, hM, hT1, rfl, by rw [e9]; rfl⟩
theorem c_mheld1 (l : Launch) {g : KG} {Z : Nat} {σ : CS} {M : Fn2} {er : Int32} {nn kk : Nat} {o : Int64} (hn : nn ≤ 200) {x : Int32} (hx : ¬ ∃ k : Nat, k < nn ∧ x = nI k) : Ci l y_m18 prog_4_method_18_code 2 3 [.ref (Z + 602), .int x] g Z (σ, (M, er, nI nn, nI kk), o) (fun r u => r = 0 ∧ u = (σ, (M, 1, nI nn, nI kk), o)) := by
  refine mk_met (own := "StageClockModel") (by decide) rfl (Nat.le_of_ble_eq_true rfl) fun p e s m below meth c ls C hr hlk hl hw => ?_
  have hl : lv_has ls 2 [(0, .ref (Z + 602)), (1, .int x)] := hl
  refine lv_aload_n C.x C.b d_m18_0 rfl (lv_at hl 0 rfl) ?_
  refine lv_iload_n C.x C.b d_m18_1 rfl (lv_at hl 1 rfl) ?_
  refine lv_if_lt (tgt := 13) C.x C.b d_m18_2 (by decide) (fun h1 => ?_) (fun h1 => ?_)
  · skip
    refine lv_iconst (v := 1) C.x C.b d_m18_13 (by decide) ?_
    refine lv_goto (tgt := 18) C.x C.b d_m18_14 (by decide) ?_
    refine lv_iconst (v := 1) C.x C.b d_m18_18 (by decide) ?_
    refine ret_i hw (run_V C hw (c_fails l (Or.inr rfl)) (i := 602) (by decide) rfl rfl Y_m3 k_331 k_333 kp_5 ⟨rfl, rfl⟩ (by decide) ⟨Nat.zero_le _, Nat.zero_le _⟩ rfl hl.1 rfl (Nat.le_of_ble_eq_true rfl) d_m18_19) (fun r9 u9 H locs hp hw => ?_)
    obtain ⟨rfl, rfl⟩ := hp
    refine lv_if_eq (tgt := 27) C.x C.b d_m18_22 (by decide) (fun h9 => absurd h9 (by decide)) (fun h9 => ?_)
    refine lv_iconst (v := 0) C.x C.b d_m18_25 (by decide) ?_
    exact e_i C hr hlk hw d_m18_26 ⟨rfl, rfl⟩
  · skip
    refine lv_iload_n C.x C.b d_m18_5 rfl (lv_at hl 1 rfl) ?_
    refine lv_aload_n C.x C.b d_m18_6 rfl (lv_at hl 0 rfl) ?_
    refine q_mmany C hw d_m18_7 ?_
    refine lv_icmp_lt (tgt := 17) C.x C.b d_m18_10 (by decide) (fun h2 => (hx (idx_lt hn h1 h2)).elim) (fun h2 => ?_)
    refine lv_iconst (v := 1) C.x C.b d_m18_13 (by decide) ?_
    refine lv_goto (tgt := 18) C.x C.b d_m18_14 (by decide) ?_
    refine lv_iconst (v := 1) C.x C.b d_m18_18 (by decide) ?_
    refine ret_i hw (run_V C hw (c_fails l (Or.inr rfl)) (i := 602) (by decide) rfl rfl Y_m3 k_331 k_333 kp_5 ⟨rfl, rfl⟩ (by decide) ⟨Nat.zero_le _, Nat.zero_le _⟩ rfl hl.1 rfl (Nat.le_of_ble_eq_true rfl) d_m18_19) (fun r9 u9 H locs hp hw => ?_)
    obtain ⟨rfl, rfl⟩ := hp
    refine lv_if_eq (tgt := 27) C.x C.b d_m18_22 (by decide) (fun h9 => absurd h9 (by decide)) (fun h9 => ?_)
    refine lv_iconst (v := 0) C.x C.b d_m18_25 (by decide) ?_
    exact e_i C hr hlk hw d_m18_26 ⟨rfl, rfl⟩
theorem c_mheld0 (l : Launch) {g : KG} {Z : Nat} {σ : CS} {M : Fn2} {er : Int32} {nn kk : Nat} {o : Int64} (hn : nn ≤ 200) (hkk : kk ≤ nn) (hT : tgood M (Bm M) kk) {k : Nat} (hk : k < nn) : Ci l y_m18 prog_4_method_18_code 2 3 [.ref (Z + 602), .int (nI k)] g Z (σ, (M, er, nI nn, nI kk), o) (fun r u => MP σ M nn o u (fun M1 => r = Bm M1 k 2 - Bm M1 k 1 - 1)) := by
  refine mk_met (own := "StageClockModel") (by decide) rfl (Nat.le_of_ble_eq_true rfl) fun p e s m below meth c ls C hr hlk hl hw => ?_
  have hl : lv_has ls 2 [(0, .ref (Z + 602)), (1, .int (nI k))] := hl
  refine lv_aload_n C.x C.b d_m18_0 rfl (lv_at hl 0 rfl) ?_
  refine lv_iload_n C.x C.b d_m18_1 rfl (lv_at hl 1 rfl) ?_
  refine lv_if_lt (tgt := 13) C.x C.b d_m18_2 (by decide) (fun h9 => absurd h9 (nI_pos (by omega))) (fun h9 => ?_)
  refine lv_iload_n C.x C.b d_m18_5 rfl (lv_at hl 1 rfl) ?_
  refine lv_aload_n C.x C.b d_m18_6 rfl (lv_at hl 0 rfl) ?_
  refine q_mmany C hw d_m18_7 ?_
  refine lv_icmp_lt (tgt := 17) C.x C.b d_m18_10 (by decide) (fun h9 => ?_) (fun h9 => absurd (nI_lt (show k < nn by omega) (by omega)) h9)
  refine lv_iconst (v := 0) C.x C.b d_m18_17 (by decide) ?_
  refine lv_iconst (v := 1) C.x C.b d_m18_18 (by decide) ?_
  refine ret_i hw (run_V C hw (c_fails l (Or.inl rfl)) (i := 602) (by decide) rfl rfl Y_m3 k_331 k_333 kp_5 ⟨rfl, rfl⟩ (by decide) ⟨Nat.zero_le _, Nat.zero_le _⟩ rfl hl.1 rfl (Nat.le_of_ble_eq_true rfl) d_m18_19) (fun r9 u9 H locs hp hw => ?_)
  obtain ⟨rfl, rfl⟩ := hp
  replace hw : WH g Z (σ, (M, 0, (nI nn), (nI kk)), o) s H locs := hw
  refine lv_if_eq (tgt := 27) C.x C.b d_m18_22 (by decide) (fun h9 => ?_) (fun h9 => absurd rfl h9)
  refine lv_aload_n C.x C.b d_m18_27 rfl (lv_at hl 0 rfl) ?_
  refine ret_v hw (run_V C hw (c_reckon l hn hkk hT) (i := 602) (by decide) rfl rfl Y_m14 k_351 k_353 kp_7 ⟨rfl, rfl⟩ (by decide) ⟨Nat.zero_le _, Nat.zero_le _⟩ rfl hl.1 rfl (Nat.le_of_ble_eq_true rfl) d_m18_28) (fun u9 H locs hp hw => ?_)
  obtain ⟨M1, hM, hT1, rfl⟩ := hp
  refine lv_aload_n C.x C.b d_m18_31 rfl (lv_at hl 0 rfl) ?_
  refine q_m9 C hw d_m18_32 ?_
  refine lv_iload_n C.x C.b d_m18_35 rfl (lv_at hl 1 rfl) ?_
  refine l_m9 C hw k (show k < 200 by omega) rfl d_m18_36 ?_
  refine lv_aload_n C.x C.b d_m18_37 rfl (lv_at hl 0 rfl) ?_
  refine q_m8 C hw d_m18_38 ?_
  refine lv_iload_n C.x C.b d_m18_41 rfl (lv_at hl 1 rfl) ?_
  refine l_m8 C hw k (show k < 200 by omega) rfl d_m18_42 ?_
  refine lv_isub C.x C.b d_m18_43 ?_
  refine lv_iconst (v := 1) C.x C.b d_m18_44 (by decide) ?_
  refine lv_isub C.x C.b d_m18_45 ?_
  exact e_i C hr hlk hw d_m18_46 ⟨M1, hM, hT1, rfl, rfl⟩
theorem c_mgiver1 (l : Launch) {g : KG} {Z : Nat} {σ : CS} {M : Fn2} {er : Int32} {nn kk : Nat} {o : Int64} (hn : nn ≤ 200) {y x : Int32} (hx : ¬ (1 ≤ x ∧ x ≤ 15)) : Ci l y_m19 prog_4_method_19_code 3 1 [.ref (Z + 602), .int y, .int x] g Z (σ, (M, er, nI nn, nI kk), o) (fun r u => r = 0 ∧ u = (σ, (M, 1, nI nn, nI kk), o)) := by
  refine mk_met (own := "StageClockModel") (by decide) rfl (Nat.le_of_ble_eq_true rfl) fun p e s m below meth c ls C hr hlk hl hw => ?_
  have hl : lv_has ls 3 [(0, .ref (Z + 602)), (1, .int y), (2, .int x)] := hl
  refine lv_aload_n C.x C.b d_m19_0 rfl (lv_at hl 0 rfl) ?_
  refine lv_iload_n C.x C.b d_m19_1 rfl (lv_at hl 2 rfl) ?_
  refine lv_iconst (v := 1) C.x C.b d_m19_2 (by decide) ?_
  refine lv_icmp_lt (tgt := 12) C.x C.b d_m19_3 (by decide) (fun h1 => ?_) (fun h1 => ?_)
  · skip
    refine lv_iconst (v := 1) C.x C.b d_m19_12 (by decide) ?_
    refine lv_goto (tgt := 17) C.x C.b d_m19_13 (by decide) ?_
    refine lv_iconst (v := 1) C.x C.b d_m19_17 (by decide) ?_
    refine ret_i hw (run_V C hw (c_fails l (Or.inr rfl)) (i := 602) (by decide) rfl rfl Y_m3 k_331 k_333 kp_5 ⟨rfl, rfl⟩ (by decide) ⟨Nat.zero_le _, Nat.zero_le _⟩ rfl hl.1 rfl (Nat.le_of_ble_eq_true rfl) d_m19_18) (fun r9 u9 H locs hp hw => ?_)
    obtain ⟨rfl, rfl⟩ := hp
    refine lv_if_eq (tgt := 26) C.x C.b d_m19_21 (by decide) (fun h9 => absurd h9 (by decide)) (fun h9 => ?_)
    refine lv_iconst (v := 0) C.x C.b d_m19_24 (by decide) ?_
    exact e_i C hr hlk hw d_m19_25 ⟨rfl, rfl⟩
  · skip
    refine lv_iload_n C.x C.b d_m19_6 rfl (lv_at hl 2 rfl) ?_
    refine lv_bipush (v := 15) C.x C.b d_m19_7 (by decide) ?_
    refine lv_icmp_le (tgt := 16) C.x C.b d_m19_9 (by decide) (fun h2 => (hx ⟨Int32.not_lt.mp h1, h2⟩).elim) (fun h2 => ?_)
    refine lv_iconst (v := 1) C.x C.b d_m19_12 (by decide) ?_
    refine lv_goto (tgt := 17) C.x C.b d_m19_13 (by decide) ?_
    refine lv_iconst (v := 1) C.x C.b d_m19_17 (by decide) ?_
    refine ret_i hw (run_V C hw (c_fails l (Or.inr rfl)) (i := 602) (by decide) rfl rfl Y_m3 k_331 k_333 kp_5 ⟨rfl, rfl⟩ (by decide) ⟨Nat.zero_le _, Nat.zero_le _⟩ rfl hl.1 rfl (Nat.le_of_ble_eq_true rfl) d_m19_18) (fun r9 u9 H locs hp hw => ?_)
    obtain ⟨rfl, rfl⟩ := hp
    refine lv_if_eq (tgt := 26) C.x C.b d_m19_21 (by decide) (fun h9 => absurd h9 (by decide)) (fun h9 => ?_)
    refine lv_iconst (v := 0) C.x C.b d_m19_24 (by decide) ?_
    exact e_i C hr hlk hw d_m19_25 ⟨rfl, rfl⟩
theorem c_mgiver2 (l : Launch) {g : KG} {Z : Nat} {σ : CS} {M : Fn2} {er : Int32} {nn kk : Nat} {o : Int64} (hn : nn ≤ 200) {x : Int32} (hx : ¬ ∃ k : Nat, k < nn ∧ x = nI k) {r : Nat} (hr1 : 1 ≤ r) (hr2 : r ≤ 15) : Ci l y_m19 prog_4_method_19_code 3 1 [.ref (Z + 602), .int x, .int (nI r)] g Z (σ, (M, er, nI nn, nI kk), o) (fun v u => v = 0 ∧ u = (σ, (M, 2, nI nn, nI kk), o)) := by
  refine mk_met (own := "StageClockModel") (by decide) rfl (Nat.le_of_ble_eq_true rfl) fun p e s m below meth c ls C hr hlk hl hw => ?_
  have hl : lv_has ls 3 [(0, .ref (Z + 602)), (1, .int x), (2, .int (nI r))] := hl
  refine lv_aload_n C.x C.b d_m19_0 rfl (lv_at hl 0 rfl) ?_
  refine lv_iload_n C.x C.b d_m19_1 rfl (lv_at hl 2 rfl) ?_
  refine lv_iconst (v := 1) C.x C.b d_m19_2 (by decide) ?_
  refine lv_icmp_lt (tgt := 12) C.x C.b d_m19_3 (by decide) (fun h9 => absurd h9 (nI_nlt (b := 1) hr1 (by omega))) (fun h9 => ?_)
  refine lv_iload_n C.x C.b d_m19_6 rfl (lv_at hl 2 rfl) ?_
  refine lv_bipush (v := 15) C.x C.b d_m19_7 (by decide) ?_
  refine lv_icmp_le (tgt := 16) C.x C.b d_m19_9 (by decide) (fun h9 => ?_) (fun h9 => absurd (nI_le (b := 15) hr2 (by decide)) h9)
  refine lv_iconst (v := 0) C.x C.b d_m19_16 (by decide) ?_
  refine lv_iconst (v := 1) C.x C.b d_m19_17 (by decide) ?_
  refine ret_i hw (run_V C hw (c_fails l (Or.inl rfl)) (i := 602) (by decide) rfl rfl Y_m3 k_331 k_333 kp_5 ⟨rfl, rfl⟩ (by decide) ⟨Nat.zero_le _, Nat.zero_le _⟩ rfl hl.1 rfl (Nat.le_of_ble_eq_true rfl) d_m19_18) (fun r9 u9 H locs hp hw => ?_)
  obtain ⟨rfl, rfl⟩ := hp
  replace hw : WH g Z (σ, (M, 0, (nI nn), (nI kk)), o) s H locs := hw
  refine lv_if_eq (tgt := 26) C.x C.b d_m19_21 (by decide) (fun h9 => ?_) (fun h9 => absurd rfl h9)
  refine lv_aload_n C.x C.b d_m19_26 rfl (lv_at hl 0 rfl) ?_
  refine lv_iload_n C.x C.b d_m19_27 rfl (lv_at hl 1 rfl) ?_
  refine lv_if_lt (tgt := 39) C.x C.b d_m19_28 (by decide) (fun h1 => ?_) (fun h1 => ?_)
  · skip
    refine lv_iconst (v := 1) C.x C.b d_m19_39 (by decide) ?_
    refine lv_goto (tgt := 44) C.x C.b d_m19_40 (by decide) ?_
    refine lv_iconst (v := 2) C.x C.b d_m19_44 (by decide) ?_
    refine ret_i hw (run_V C hw (c_fails l (Or.inr rfl)) (i := 602) (by decide) rfl rfl Y_m3 k_331 k_333 kp_5 ⟨rfl, rfl⟩ (by decide) ⟨Nat.zero_le _, Nat.zero_le _⟩ rfl hl.1 rfl (Nat.le_of_ble_eq_true rfl) d_m19_45) (fun r9 u9 H locs hp hw => ?_)
    obtain ⟨rfl, rfl⟩ := hp
    refine lv_if_eq (tgt := 53) C.x C.b d_m19_48 (by decide) (fun h9 => absurd h9 (by decide)) (fun h9 => ?_)
    refine lv_iconst (v := 0) C.x C.b d_m19_51 (by decide) ?_
    exact e_i C hr hlk hw d_m19_52 ⟨rfl, rfl⟩
  · skip
    refine lv_iload_n C.x C.b d_m19_31 rfl (lv_at hl 1 rfl) ?_
    refine lv_aload_n C.x C.b d_m19_32 rfl (lv_at hl 0 rfl) ?_
    refine q_mmany C hw d_m19_33 ?_
    refine lv_icmp_lt (tgt := 43) C.x C.b d_m19_36 (by decide) (fun h2 => (hx (idx_lt hn h1 h2)).elim) (fun h2 => ?_)
    refine lv_iconst (v := 1) C.x C.b d_m19_39 (by decide) ?_
    refine lv_goto (tgt := 44) C.x C.b d_m19_40 (by decide) ?_
    refine lv_iconst (v := 2) C.x C.b d_m19_44 (by decide) ?_
    refine ret_i hw (run_V C hw (c_fails l (Or.inr rfl)) (i := 602) (by decide) rfl rfl Y_m3 k_331 k_333 kp_5 ⟨rfl, rfl⟩ (by decide) ⟨Nat.zero_le _, Nat.zero_le _⟩ rfl hl.1 rfl (Nat.le_of_ble_eq_true rfl) d_m19_45) (fun r9 u9 H locs hp hw => ?_)
    obtain ⟨rfl, rfl⟩ := hp
    refine lv_if_eq (tgt := 53) C.x C.b d_m19_48 (by decide) (fun h9 => absurd h9 (by decide)) (fun h9 => ?_)
    refine lv_iconst (v := 0) C.x C.b d_m19_51 (by decide) ?_
    exact e_i C hr hlk hw d_m19_52 ⟨rfl, rfl⟩
theorem c_mgiver0 (l : Launch) {g : KG} {Z : Nat} {σ : CS} {M : Fn2} {er : Int32} {nn kk : Nat} {o : Int64} (hn : nn ≤ 200) {k : Nat} (hk : k < nn) {r : Nat} (hr1 : 1 ≤ r) (hr2 : r ≤ 15) : Ci l y_m19 prog_4_method_19_code 3 1 [.ref (Z + 602), .int (nI k), .int (nI r)] g Z (σ, (M, er, nI nn, nI kk), o) (fun v u => v = bfr M k (nI r) ∧ u = (σ, (M, 0, nI nn, nI kk), o)) := by
  refine mk_met (own := "StageClockModel") (by decide) rfl (Nat.le_of_ble_eq_true rfl) fun p e s m below meth c ls C hr hlk hl hw => ?_
  have hl : lv_has ls 3 [(0, .ref (Z + 602)), (1, .int (nI k)), (2, .int (nI r))] := hl
  refine lv_aload_n C.x C.b d_m19_0 rfl (lv_at hl 0 rfl) ?_
  refine lv_iload_n C.x C.b d_m19_1 rfl (lv_at hl 2 rfl) ?_
  refine lv_iconst (v := 1) C.x C.b d_m19_2 (by decide) ?_
  refine lv_icmp_lt (tgt := 12) C.x C.b d_m19_3 (by decide) (fun h9 => absurd h9 (nI_nlt (b := 1) hr1 (by omega))) (fun h9 => ?_)
  refine lv_iload_n C.x C.b d_m19_6 rfl (lv_at hl 2 rfl) ?_
  refine lv_bipush (v := 15) C.x C.b d_m19_7 (by decide) ?_
  refine lv_icmp_le (tgt := 16) C.x C.b d_m19_9 (by decide) (fun h9 => ?_) (fun h9 => absurd (nI_le (b := 15) hr2 (by decide)) h9)
  refine lv_iconst (v := 0) C.x C.b d_m19_16 (by decide) ?_
  refine lv_iconst (v := 1) C.x C.b d_m19_17 (by decide) ?_
  refine ret_i hw (run_V C hw (c_fails l (Or.inl rfl)) (i := 602) (by decide) rfl rfl Y_m3 k_331 k_333 kp_5 ⟨rfl, rfl⟩ (by decide) ⟨Nat.zero_le _, Nat.zero_le _⟩ rfl hl.1 rfl (Nat.le_of_ble_eq_true rfl) d_m19_18) (fun r9 u9 H locs hp hw => ?_)
  obtain ⟨rfl, rfl⟩ := hp
  replace hw : WH g Z (σ, (M, 0, (nI nn), (nI kk)), o) s H locs := hw
  refine lv_if_eq (tgt := 26) C.x C.b d_m19_21 (by decide) (fun h9 => ?_) (fun h9 => absurd rfl h9)
  refine lv_aload_n C.x C.b d_m19_26 rfl (lv_at hl 0 rfl) ?_
  refine lv_iload_n C.x C.b d_m19_27 rfl (lv_at hl 1 rfl) ?_
  refine lv_if_lt (tgt := 39) C.x C.b d_m19_28 (by decide) (fun h9 => absurd h9 (nI_pos (by omega))) (fun h9 => ?_)
  refine lv_iload_n C.x C.b d_m19_31 rfl (lv_at hl 1 rfl) ?_
  refine lv_aload_n C.x C.b d_m19_32 rfl (lv_at hl 0 rfl) ?_
  refine q_mmany C hw d_m19_33 ?_
  refine lv_icmp_lt (tgt := 43) C.x C.b d_m19_36 (by decide) (fun h9 => ?_) (fun h9 => absurd (nI_lt (show k < nn by omega) (by omega)) h9)
  refine lv_iconst (v := 0) C.x C.b d_m19_43 (by decide) ?_
  refine lv_iconst (v := 2) C.x C.b d_m19_44 (by decide) ?_
  refine ret_i hw (run_V C hw (c_fails l (Or.inl rfl)) (i := 602) (by decide) rfl rfl Y_m3 k_331 k_333 kp_5 ⟨rfl, rfl⟩ (by decide) ⟨Nat.zero_le _, Nat.zero_le _⟩ rfl hl.1 rfl (Nat.le_of_ble_eq_true rfl) d_m19_45) (fun r9 u9 H locs hp hw => ?_)
  obtain ⟨rfl, rfl⟩ := hp
  replace hw : WH g Z (σ, (M, 0, (nI nn), (nI kk)), o) s H locs := hw
  refine lv_if_eq (tgt := 53) C.x C.b d_m19_48 (by decide) (fun h9 => ?_) (fun h9 => absurd rfl h9)
  refine lv_aload_n C.x C.b d_m19_53 rfl (lv_at hl 0 rfl) ?_
  refine lv_iload_n C.x C.b d_m19_54 rfl (lv_at hl 1 rfl) ?_
  refine lv_iload_n C.x C.b d_m19_55 rfl (lv_at hl 2 rfl) ?_
  refine ret_i hw (run_V C hw (c_before l (show k ≤ 200 by omega)) (i := 602) (by decide) rfl rfl Y_m9 k_366 k_368 kp_10 ⟨rfl, rfl⟩ (by decide) ⟨Nat.zero_le _, Nat.zero_le _⟩ rfl hl.1 rfl (Nat.le_of_ble_eq_true rfl) d_m19_56) (fun r9 u9 H locs hp hw => ?_)
  obtain ⟨rfl, rfl⟩ := hp
  exact e_i C hr hlk hw d_m19_59 ⟨rfl, rfl⟩
theorem c_min1 (l : Launch) {g : KG} {Z : Nat} {σ : CS} {M : Fn2} {er : Int32} {nn kk : Nat} {o : Int64} (hn : nn ≤ 200) {y x : Int32} (hx : ¬ (0 ≤ x ∧ x ≤ 4)) : Ci l y_m17 prog_4_method_17_code 4 3 [.ref (Z + 602), .int x, .int y] g Z (σ, (M, er, nI nn, nI kk), o) (fun r u => r = 0 ∧ u = (σ, (M, 1, nI nn, nI kk), o)) := by
  refine mk_met (own := "StageClockModel") (by decide) rfl (Nat.le_of_ble_eq_true rfl) fun p e s m below meth c ls C hr hlk hl hw => ?_
  have hl : lv_has ls 4 [(0, .ref (Z + 602)), (1, .int x), (2, .int y)] := hl
  refine lv_aload_n C.x C.b d_m17_0 rfl (lv_at hl 0 rfl) ?_
  refine lv_iload_n C.x C.b d_m17_1 rfl (lv_at hl 1 rfl) ?_
  refine lv_if_lt (tgt := 10) C.x C.b d_m17_2 (by decide) (fun h1 => ?_) (fun h1 => ?_)
  · skip
    refine lv_iconst (v := 1) C.x C.b d_m17_10 (by decide) ?_
    refine lv_goto (tgt := 15) C.x C.b d_m17_11 (by decide) ?_
    refine lv_iconst (v := 1) C.x C.b d_m17_15 (by decide) ?_
    refine ret_i hw (run_V C hw (c_fails l (Or.inr rfl)) (i := 602) (by decide) rfl rfl Y_m3 k_331 k_333 kp_5 ⟨rfl, rfl⟩ (by decide) ⟨Nat.zero_le _, Nat.zero_le _⟩ rfl hl.1 rfl (Nat.le_of_ble_eq_true rfl) d_m17_16) (fun r9 u9 H locs hp hw => ?_)
    obtain ⟨rfl, rfl⟩ := hp
    refine lv_if_eq (tgt := 24) C.x C.b d_m17_19 (by decide) (fun h9 => absurd h9 (by decide)) (fun h9 => ?_)
    refine lv_iconst (v := 0) C.x C.b d_m17_22 (by decide) ?_
    exact e_i C hr hlk hw d_m17_23 ⟨rfl, rfl⟩
  · skip
    refine lv_iload_n C.x C.b d_m17_5 rfl (lv_at hl 1 rfl) ?_
    refine lv_iconst (v := 4) C.x C.b d_m17_6 (by decide) ?_
    refine lv_icmp_le (tgt := 14) C.x C.b d_m17_7 (by decide) (fun h2 => (hx ⟨Int32.not_lt.mp h1, h2⟩).elim) (fun h2 => ?_)
    refine lv_iconst (v := 1) C.x C.b d_m17_10 (by decide) ?_
    refine lv_goto (tgt := 15) C.x C.b d_m17_11 (by decide) ?_
    refine lv_iconst (v := 1) C.x C.b d_m17_15 (by decide) ?_
    refine ret_i hw (run_V C hw (c_fails l (Or.inr rfl)) (i := 602) (by decide) rfl rfl Y_m3 k_331 k_333 kp_5 ⟨rfl, rfl⟩ (by decide) ⟨Nat.zero_le _, Nat.zero_le _⟩ rfl hl.1 rfl (Nat.le_of_ble_eq_true rfl) d_m17_16) (fun r9 u9 H locs hp hw => ?_)
    obtain ⟨rfl, rfl⟩ := hp
    refine lv_if_eq (tgt := 24) C.x C.b d_m17_19 (by decide) (fun h9 => absurd h9 (by decide)) (fun h9 => ?_)
    refine lv_iconst (v := 0) C.x C.b d_m17_22 (by decide) ?_
    exact e_i C hr hlk hw d_m17_23 ⟨rfl, rfl⟩
theorem c_min0 (l : Launch) {g : KG} {Z : Nat} {σ : CS} {M : Fn2} {er : Int32} {nn kk : Nat} {o : Int64} (hn : nn ≤ 200) (hkk : kk ≤ nn) (hT : tgood M (Bm M) kk) {stg : Nat} (hs4 : stg ≤ 4) {cyc : Int32} : Ci l y_m17 prog_4_method_17_code 4 3 [.ref (Z + 602), .int (nI stg), .int cyc] g Z (σ, (M, er, nI nn, nI kk), o) (fun r u => MP σ M nn o u (fun M1 => inM M1 nn stg cyc r)) := by
  refine mk_met (own := "StageClockModel") (by decide) rfl (Nat.le_of_ble_eq_true rfl) fun p e s m below meth c ls C hr hlk hl hw => ?_
  have hl : lv_has ls 4 [(0, .ref (Z + 602)), (1, .int (nI stg)), (2, .int cyc)] := hl
  refine lv_aload_n C.x C.b d_m17_0 rfl (lv_at hl 0 rfl) ?_
  refine lv_iload_n C.x C.b d_m17_1 rfl (lv_at hl 1 rfl) ?_
  refine lv_if_lt (tgt := 10) C.x C.b d_m17_2 (by decide) (fun h9 => absurd h9 (nI_pos (by omega))) (fun h9 => ?_)
  refine lv_iload_n C.x C.b d_m17_5 rfl (lv_at hl 1 rfl) ?_
  refine lv_iconst (v := 4) C.x C.b d_m17_6 (by decide) ?_
  refine lv_icmp_le (tgt := 14) C.x C.b d_m17_7 (by decide) (fun h9 => ?_) (fun h9 => absurd (nI_le (b := 4) hs4 (by decide)) h9)
  refine lv_iconst (v := 0) C.x C.b d_m17_14 (by decide) ?_
  refine lv_iconst (v := 1) C.x C.b d_m17_15 (by decide) ?_
  refine ret_i hw (run_V C hw (c_fails l (Or.inl rfl)) (i := 602) (by decide) rfl rfl Y_m3 k_331 k_333 kp_5 ⟨rfl, rfl⟩ (by decide) ⟨Nat.zero_le _, Nat.zero_le _⟩ rfl hl.1 rfl (Nat.le_of_ble_eq_true rfl) d_m17_16) (fun r9 u9 H locs hp hw => ?_)
  obtain ⟨rfl, rfl⟩ := hp
  replace hw : WH g Z (σ, (M, 0, (nI nn), (nI kk)), o) s H locs := hw
  refine lv_if_eq (tgt := 24) C.x C.b d_m17_19 (by decide) (fun h9 => ?_) (fun h9 => absurd rfl h9)
  refine lv_aload_n C.x C.b d_m17_24 rfl (lv_at hl 0 rfl) ?_
  refine ret_v hw (run_V C hw (c_reckon l hn hkk hT) (i := 602) (by decide) rfl rfl Y_m14 k_351 k_353 kp_7 ⟨rfl, rfl⟩ (by decide) ⟨Nat.zero_le _, Nat.zero_le _⟩ rfl hl.1 rfl (Nat.le_of_ble_eq_true rfl) d_m17_25) (fun u9 H locs hp hw => ?_)
  obtain ⟨M1, hM, hT1, rfl⟩ := hp
  have loop : ∀ (d k : Nat) (H : Heap) (locs : List Loc) (ls : Array Slot), k + d = nn → (∀ q, q < k → ¬ (frm M1 q stg ≤ cyc ∧ cyc < frm M1 q (stg + 1))) → WH g Z (σ, (M1, 0, nI nn, nI nn), o) s H locs → lv_has ls 4 [(3, .int (nI k)), (0, .ref (Z + 602)), (1, .int (nI stg)), (2, .int cyc)] → W p l e (RM 3) s m [Value.ref (Z + 602), .int (nI stg), .int cyc].toArray below meth c H locs 0 0 (MQ below (va_Qi (fun r u => MP σ M nn o u (fun M1 => inM M1 nn stg cyc r)) (Wd g Z) (zfree Z)) [Value.ref (Z + 602), .int (nI stg), .int cyc].toArray s 0 0 (zfree Z)) (F0 m 30 ls []) := by
    intro d
    induction d with
    | zero =>
      intro k H locs ls hd hq hw hl
      obtain rfl : k = nn := by omega
      refine lv_iload_n C.x C.b d_m17_30 rfl (lv_at hl 0 rfl) ?_
      refine lv_aload_n C.x C.b d_m17_31 rfl (lv_at hl 1 rfl) ?_
      refine q_mmany C hw d_m17_32 ?_
      refine lv_icmp_ge (tgt := 68) C.x C.b d_m17_35 (by decide) (fun h9 => ?_) (fun h9 => absurd (Int32.le_refl _) h9)
      refine lv_iconst (v := (-1)) C.x C.b d_m17_68 (by decide) ?_
      exact e_i C hr hlk hw d_m17_69 ⟨M1, hM, hT1, rfl, Or.inr ⟨hq, rfl⟩⟩
    | succ d ih =>
      intro k H locs ls hd hq hw hl
      refine lv_iload_n C.x C.b d_m17_30 rfl (lv_at hl 0 rfl) ?_
      refine lv_aload_n C.x C.b d_m17_31 rfl (lv_at hl 1 rfl) ?_
      refine q_mmany C hw d_m17_32 ?_
      refine lv_icmp_ge (tgt := 68) C.x C.b d_m17_35 (by decide) (fun h9 => absurd h9 (nI_ge (show k < nn by omega) (by omega))) (fun h9 => ?_)
      refine lv_iload_n C.x C.b d_m17_38 rfl (lv_at hl 3 rfl) ?_
      refine lv_aload_n C.x C.b d_m17_39 rfl (lv_at hl 1 rfl) ?_
      refine lv_iload_n C.x C.b d_m17_40 rfl (lv_at hl 0 rfl) ?_
      refine lv_iload_n C.x C.b d_m17_41 rfl (lv_at hl 2 rfl) ?_
      refine ret_i hw (run_V C hw (c_from l (show k < 200 by omega) (show stg ≤ 5 by omega)) (i := 602) (by decide) rfl rfl Y_m16 k_378 k_380 kp_12 ⟨rfl, rfl⟩ (by decide) ⟨Nat.zero_le _, Nat.zero_le _⟩ rfl hl.1 rfl (Nat.le_of_ble_eq_true rfl) d_m17_42) (fun r9 u9 H locs hp hw => ?_)
      obtain ⟨rfl, rfl⟩ := hp
      refine lv_icmp_lt (tgt := 62) C.x C.b d_m17_45 (by decide) (fun h1 => ?_) (fun h1 => ?_)
      · skip
        refine lv_iinc (k := 0) (v := (nI (k + 1))) (lv' := [(3, .int (nI (k + 1))), (0, .ref (Z + 602)), (1, .int (nI stg)), (2, .int cyc)]) C.x C.b d_m17_62 hl rfl (nI_1 _) (by decide) rfl (fun ls hl => ?_)
        refine lv_goto (tgt := 30) C.x C.b d_m17_65 (by decide) ?_
        refine ih (k + 1) H locs ls (by omega) (fun q hq2 => ?_) hw hl
        rcases Nat.lt_or_ge q k with h | h
        · exact hq q h
        · obtain rfl : q = k := by omega
          exact fun z => absurd h1 (Int32.not_lt.mpr z.1)
      · skip
        refine lv_iload_n C.x C.b d_m17_48 rfl (lv_at hl 3 rfl) ?_
        refine lv_aload_n C.x C.b d_m17_49 rfl (lv_at hl 1 rfl) ?_
        refine lv_iload_n C.x C.b d_m17_50 rfl (lv_at hl 0 rfl) ?_
        refine lv_iload_n C.x C.b d_m17_51 rfl (lv_at hl 2 rfl) ?_
        refine lv_iconst (v := 1) C.x C.b d_m17_52 (by decide) ?_
        refine lv_iadd C.x C.b d_m17_53 ?_
        rw [nI_1]
        refine ret_i hw (run_V C hw (c_from l (show k < 200 by omega) (show stg + 1 ≤ 5 by omega)) (i := 602) (by decide) rfl rfl Y_m16 k_378 k_380 kp_12 ⟨rfl, rfl⟩ (by decide) ⟨Nat.zero_le _, Nat.zero_le _⟩ rfl hl.1 rfl (Nat.le_of_ble_eq_true rfl) d_m17_54) (fun r9 u9 H locs hp hw => ?_)
        obtain ⟨rfl, rfl⟩ := hp
        refine lv_icmp_ge (tgt := 62) C.x C.b d_m17_57 (by decide) (fun h2 => ?_) (fun h2 => ?_)
        · skip
          refine lv_iinc (k := 0) (v := (nI (k + 1))) (lv' := [(3, .int (nI (k + 1))), (0, .ref (Z + 602)), (1, .int (nI stg)), (2, .int cyc)]) C.x C.b d_m17_62 hl rfl (nI_1 _) (by decide) rfl (fun ls hl => ?_)
          refine lv_goto (tgt := 30) C.x C.b d_m17_65 (by decide) ?_
          refine ih (k + 1) H locs ls (by omega) (fun q hq2 => ?_) hw hl
          rcases Nat.lt_or_ge q k with h | h
          · exact hq q h
          · obtain rfl : q = k := by omega
            exact fun z => absurd z.2 (Int32.not_lt.mpr h2)
        · skip
          refine lv_iload_n C.x C.b d_m17_60 rfl (lv_at hl 0 rfl) ?_
          exact e_i C hr hlk hw d_m17_61 ⟨M1, hM, hT1, rfl, Or.inl ⟨k, by omega, ⟨Int32.not_lt.mp h1, Int32.not_le.mp h2⟩, hq, rfl⟩⟩
  refine lv_iconst (v := 0) C.x C.b d_m17_28 (by decide) ?_
  refine lv_istore_n (lv' := [(3, .int 0), (0, .ref (Z + 602)), (1, .int (nI stg)), (2, .int cyc)]) C.x C.b d_m17_29 rfl hl (by decide) rfl (fun ls hl => ?_)
  exact loop nn 0 _ _ _ (Nat.zero_add nn) (fun q hq => absurd hq (Nat.not_lt_zero q)) hw hl
theorem c_mcount1 (l : Launch) {g : KG} {Z : Nat} {σ : CS} {M : Fn2} {er : Int32} {nn kk : Nat} {o : Int64} (hn : nn ≤ 200) {x : Int32} (hx : ¬ (0 ≤ x ∧ x ≤ 3)) : Ci l y_m20 prog_4_method_20_code 5 3 [.ref (Z + 602), .int x] g Z (σ, (M, er, nI nn, nI kk), o) (fun r u => r = 0 ∧ u = (σ, (M, 1, nI nn, nI kk), o)) := by
  refine mk_met (own := "StageClockModel") (by decide) rfl (Nat.le_of_ble_eq_true rfl) fun p e s m below meth c ls C hr hlk hl hw => ?_
  have hl : lv_has ls 5 [(0, .ref (Z + 602)), (1, .int x)] := hl
  refine lv_aload_n C.x C.b d_m20_0 rfl (lv_at hl 0 rfl) ?_
  refine lv_iload_n C.x C.b d_m20_1 rfl (lv_at hl 1 rfl) ?_
  refine lv_if_lt (tgt := 10) C.x C.b d_m20_2 (by decide) (fun h1 => ?_) (fun h1 => ?_)
  · skip
    refine lv_iconst (v := 1) C.x C.b d_m20_10 (by decide) ?_
    refine lv_goto (tgt := 15) C.x C.b d_m20_11 (by decide) ?_
    refine lv_iconst (v := 1) C.x C.b d_m20_15 (by decide) ?_
    refine ret_i hw (run_V C hw (c_fails l (Or.inr rfl)) (i := 602) (by decide) rfl rfl Y_m3 k_331 k_333 kp_5 ⟨rfl, rfl⟩ (by decide) ⟨Nat.zero_le _, Nat.zero_le _⟩ rfl hl.1 rfl (Nat.le_of_ble_eq_true rfl) d_m20_16) (fun r9 u9 H locs hp hw => ?_)
    obtain ⟨rfl, rfl⟩ := hp
    refine lv_if_eq (tgt := 24) C.x C.b d_m20_19 (by decide) (fun h9 => absurd h9 (by decide)) (fun h9 => ?_)
    refine lv_iconst (v := 0) C.x C.b d_m20_22 (by decide) ?_
    exact e_i C hr hlk hw d_m20_23 ⟨rfl, rfl⟩
  · skip
    refine lv_iload_n C.x C.b d_m20_5 rfl (lv_at hl 1 rfl) ?_
    refine lv_iconst (v := 3) C.x C.b d_m20_6 (by decide) ?_
    refine lv_icmp_le (tgt := 14) C.x C.b d_m20_7 (by decide) (fun h2 => (hx ⟨Int32.not_lt.mp h1, h2⟩).elim) (fun h2 => ?_)
    refine lv_iconst (v := 1) C.x C.b d_m20_10 (by decide) ?_
    refine lv_goto (tgt := 15) C.x C.b d_m20_11 (by decide) ?_
    refine lv_iconst (v := 1) C.x C.b d_m20_15 (by decide) ?_
    refine ret_i hw (run_V C hw (c_fails l (Or.inr rfl)) (i := 602) (by decide) rfl rfl Y_m3 k_331 k_333 kp_5 ⟨rfl, rfl⟩ (by decide) ⟨Nat.zero_le _, Nat.zero_le _⟩ rfl hl.1 rfl (Nat.le_of_ble_eq_true rfl) d_m20_16) (fun r9 u9 H locs hp hw => ?_)
    obtain ⟨rfl, rfl⟩ := hp
    refine lv_if_eq (tgt := 24) C.x C.b d_m20_19 (by decide) (fun h9 => absurd h9 (by decide)) (fun h9 => ?_)
    refine lv_iconst (v := 0) C.x C.b d_m20_22 (by decide) ?_
    exact e_i C hr hlk hw d_m20_23 ⟨rfl, rfl⟩
theorem c_mcount0 (l : Launch) {g : KG} {Z : Nat} {σ : CS} {M : Fn2} {er : Int32} {nn kk : Nat} {o : Int64} (hn : nn ≤ 200) (hkk : kk ≤ nn) (hT : tgood M (Bm M) kk) {wj : Nat} (hw3 : wj ≤ 3) : Ci l y_m20 prog_4_method_20_code 5 3 [.ref (Z + 602), .int (nI wj)] g Z (σ, (M, er, nI nn, nI kk), o) (fun r u => MP σ M nn o u (fun M1 => r = cntM M1 nn wj)) := by
  refine mk_met (own := "StageClockModel") (by decide) rfl (Nat.le_of_ble_eq_true rfl) fun p e s m below meth c ls C hr hlk hl hw => ?_
  have hl : lv_has ls 5 [(0, .ref (Z + 602)), (1, .int (nI wj))] := hl
  refine lv_aload_n C.x C.b d_m20_0 rfl (lv_at hl 0 rfl) ?_
  refine lv_iload_n C.x C.b d_m20_1 rfl (lv_at hl 1 rfl) ?_
  refine lv_if_lt (tgt := 10) C.x C.b d_m20_2 (by decide) (fun h9 => absurd h9 (nI_pos (by omega))) (fun h9 => ?_)
  refine lv_iload_n C.x C.b d_m20_5 rfl (lv_at hl 1 rfl) ?_
  refine lv_iconst (v := 3) C.x C.b d_m20_6 (by decide) ?_
  refine lv_icmp_le (tgt := 14) C.x C.b d_m20_7 (by decide) (fun h9 => ?_) (fun h9 => absurd (nI_le (b := 3) hw3 (by decide)) h9)
  refine lv_iconst (v := 0) C.x C.b d_m20_14 (by decide) ?_
  refine lv_iconst (v := 1) C.x C.b d_m20_15 (by decide) ?_
  refine ret_i hw (run_V C hw (c_fails l (Or.inl rfl)) (i := 602) (by decide) rfl rfl Y_m3 k_331 k_333 kp_5 ⟨rfl, rfl⟩ (by decide) ⟨Nat.zero_le _, Nat.zero_le _⟩ rfl hl.1 rfl (Nat.le_of_ble_eq_true rfl) d_m20_16) (fun r9 u9 H locs hp hw => ?_)
  obtain ⟨rfl, rfl⟩ := hp
  replace hw : WH g Z (σ, (M, 0, (nI nn), (nI kk)), o) s H locs := hw
  refine lv_if_eq (tgt := 24) C.x C.b d_m20_19 (by decide) (fun h9 => ?_) (fun h9 => absurd rfl h9)
  refine lv_aload_n C.x C.b d_m20_24 rfl (lv_at hl 0 rfl) ?_
  refine ret_v hw (run_V C hw (c_reckon l hn hkk hT) (i := 602) (by decide) rfl rfl Y_m14 k_351 k_353 kp_7 ⟨rfl, rfl⟩ (by decide) ⟨Nat.zero_le _, Nat.zero_le _⟩ rfl hl.1 rfl (Nat.le_of_ble_eq_true rfl) d_m20_25) (fun u9 H locs hp hw => ?_)
  obtain ⟨M1, hM, hT1, rfl⟩ := hp
  have loop2 : wj = 2 → ∀ (d k : Nat) (H : Heap) (locs : List Loc) (ls : Array Slot), k + d = nn → WH g Z (σ, (M1, 0, nI nn, nI nn), o) s H locs → lv_has ls 5 [(4, .int (nI k)), (2, .int (clm (Bm M1) (lst (Bm M1) nn) k)), (3, .int (lst (Bm M1) nn)), (0, .ref (Z + 602)), (1, .int (nI wj))] → W p l e (RM 3) s m [Value.ref (Z + 602), .int (nI wj)].toArray below meth c H locs 0 0 (MQ below (va_Qi (fun r u => MP σ M nn o u (fun M1 => r = cntM M1 nn wj)) (Wd g Z) (zfree Z)) [Value.ref (Z + 602), .int (nI wj)].toArray s 0 0 (zfree Z)) (F0 m 79 ls []) := by
    intro e9 d
    induction d with
    | zero =>
      intro k H locs ls hd hw hl
      obtain rfl : k = nn := by omega
      refine lv_iload C.x C.b d_m20_79 (lv_at hl 0 rfl) ?_
      refine lv_aload_n C.x C.b d_m20_81 rfl (lv_at hl 3 rfl) ?_
      refine q_mmany C hw d_m20_82 ?_
      refine lv_icmp_ge (tgt := 108) C.x C.b d_m20_85 (by decide) (fun h9 => ?_) (fun h9 => absurd (Int32.le_refl _) h9)
      refine lv_iload_n C.x C.b d_m20_108 rfl (lv_at hl 1 rfl) ?_
      exact e_i C hr hlk hw d_m20_109 ⟨M1, hM, hT1, rfl, by rw [e9]; rfl⟩
    | succ d ih =>
      intro k H locs ls hd hw hl
      refine lv_iload C.x C.b d_m20_79 (lv_at hl 0 rfl) ?_
      refine lv_aload_n C.x C.b d_m20_81 rfl (lv_at hl 3 rfl) ?_
      refine q_mmany C hw d_m20_82 ?_
      refine lv_icmp_ge (tgt := 108) C.x C.b d_m20_85 (by decide) (fun h9 => absurd h9 (nI_ge (show k < nn by omega) (by omega))) (fun h9 => ?_)
      refine lv_aload_n C.x C.b d_m20_88 rfl (lv_at hl 3 rfl) ?_
      refine q_m11 C hw d_m20_89 ?_
      refine lv_iload C.x C.b d_m20_92 (lv_at hl 0 rfl) ?_
      refine l_m11 C hw k (show k < 200 by omega) rfl d_m20_94 ?_
      refine lv_iload_n C.x C.b d_m20_95 rfl (lv_at hl 2 rfl) ?_
      refine lv_icmp_gt (tgt := 102) C.x C.b d_m20_96 (by decide) (fun h8 => ?_) (fun h8 => ?_)
      · skip
        have ec : clm (Bm M1) (lst (Bm M1) nn) (k + 1) = clm (Bm M1) (lst (Bm M1) nn) k := if_pos h8
        refine lv_iinc (k := 0) (v := (nI (k + 1))) (lv' := [(4, .int (nI (k + 1))), (2, .int (clm (Bm M1) (lst (Bm M1) nn) k)), (3, .int (lst (Bm M1) nn)), (0, .ref (Z + 602)), (1, .int (nI wj))]) C.x C.b d_m20_102 hl rfl (nI_1 _) (by decide) rfl (fun ls hl => ?_)
        refine lv_goto (tgt := 79) C.x C.b d_m20_105 (by decide) ?_
        refine ih (k + 1) H locs ls (by omega) hw ?_
        rw [ec]; exact lv_sub hl [0, 1, 2, 3, 4] rfl
      · skip
        have ec : clm (Bm M1) (lst (Bm M1) nn) (k + 1) = clm (Bm M1) (lst (Bm M1) nn) k - 1 := if_neg h8
        refine lv_iinc (k := 1) (v := clm (Bm M1) (lst (Bm M1) nn) k - 1) (lv' := [(2, .int (clm (Bm M1) (lst (Bm M1) nn) k - 1)), (4, .int (nI k)), (3, .int (lst (Bm M1) nn)), (0, .ref (Z + 602)), (1, .int (nI wj))]) C.x C.b d_m20_99 hl rfl (dec1 _) (by decide) rfl (fun ls hl => ?_)
        refine lv_iinc (k := 1) (v := (nI (k + 1))) (lv' := [(4, .int (nI (k + 1))), (2, .int (clm (Bm M1) (lst (Bm M1) nn) k - 1)), (3, .int (lst (Bm M1) nn)), (0, .ref (Z + 602)), (1, .int (nI wj))]) C.x C.b d_m20_102 hl rfl (nI_1 _) (by decide) rfl (fun ls hl => ?_)
        refine lv_goto (tgt := 79) C.x C.b d_m20_105 (by decide) ?_
        refine ih (k + 1) H locs ls (by omega) hw ?_
        rw [ec]; exact lv_sub hl [0, 1, 2, 3, 4] rfl
  have loop3 : wj = 3 → ∀ (d k : Nat) (H : Heap) (locs : List Loc) (ls : Array Slot), k + d = nn → WH g Z (σ, (M1, 0, nI nn, nI nn), o) s H locs → lv_has ls 5 [(4, .int (nI k)), (2, .int (cw M1 k)), (3, .int (lst (Bm M1) nn)), (0, .ref (Z + 602)), (1, .int (nI wj))] → W p l e (RM 3) s m [Value.ref (Z + 602), .int (nI wj)].toArray below meth c H locs 0 0 (MQ below (va_Qi (fun r u => MP σ M nn o u (fun M1 => r = cntM M1 nn wj)) (Wd g Z) (zfree Z)) [Value.ref (Z + 602), .int (nI wj)].toArray s 0 0 (zfree Z)) (F0 m 113 ls []) := by
    intro e9 d
    induction d with
    | zero =>
      intro k H locs ls hd hw hl
      obtain rfl : k = nn := by omega
      refine lv_iload C.x C.b d_m20_113 (lv_at hl 0 rfl) ?_
      refine lv_aload_n C.x C.b d_m20_115 rfl (lv_at hl 3 rfl) ?_
      refine q_mmany C hw d_m20_116 ?_
      refine lv_icmp_ge (tgt := 141) C.x C.b d_m20_119 (by decide) (fun h9 => ?_) (fun h9 => absurd (Int32.le_refl _) h9)
      refine lv_iload_n C.x C.b d_m20_141 rfl (lv_at hl 1 rfl) ?_
      exact e_i C hr hlk hw d_m20_142 ⟨M1, hM, hT1, rfl, by rw [e9]; rfl⟩
    | succ d ih =>
      intro k H locs ls hd hw hl
      refine lv_iload C.x C.b d_m20_113 (lv_at hl 0 rfl) ?_
      refine lv_aload_n C.x C.b d_m20_115 rfl (lv_at hl 3 rfl) ?_
      refine q_mmany C hw d_m20_116 ?_
      refine lv_icmp_ge (tgt := 141) C.x C.b d_m20_119 (by decide) (fun h9 => absurd h9 (nI_ge (show k < nn by omega) (by omega))) (fun h9 => ?_)
      refine lv_aload_n C.x C.b d_m20_122 rfl (lv_at hl 3 rfl) ?_
      refine q_m6 C hw d_m20_123 ?_
      refine lv_iload C.x C.b d_m20_126 (lv_at hl 0 rfl) ?_
      refine l_m6 C hw k (show k < 200 by omega) rfl d_m20_128 ?_
      refine lv_if_eq (tgt := 135) C.x C.b d_m20_129 (by decide) (fun h8 => ?_) (fun h8 => ?_)
      · skip
        have ec : cw M1 (k + 1) = cw M1 k := if_pos h8
        refine lv_iinc (k := 0) (v := (nI (k + 1))) (lv' := [(4, .int (nI (k + 1))), (2, .int (cw M1 k)), (3, .int (lst (Bm M1) nn)), (0, .ref (Z + 602)), (1, .int (nI wj))]) C.x C.b d_m20_135 hl rfl (nI_1 _) (by decide) rfl (fun ls hl => ?_)
        refine lv_goto (tgt := 113) C.x C.b d_m20_138 (by decide) ?_
        refine ih (k + 1) H locs ls (by omega) hw ?_
        rw [ec]; exact lv_sub hl [0, 1, 2, 3, 4] rfl
      · skip
        have ec : cw M1 (k + 1) = cw M1 k + 1 := if_neg h8
        refine lv_iinc (k := 1) (v := ((cw M1 k) + 1)) (lv' := [(2, .int ((cw M1 k) + 1)), (4, .int (nI k)), (3, .int (lst (Bm M1) nn)), (0, .ref (Z + 602)), (1, .int (nI wj))]) C.x C.b d_m20_132 hl rfl rfl (by decide) rfl (fun ls hl => ?_)
        refine lv_iinc (k := 1) (v := (nI (k + 1))) (lv' := [(4, .int (nI (k + 1))), (2, .int ((cw M1 k) + 1)), (3, .int (lst (Bm M1) nn)), (0, .ref (Z + 602)), (1, .int (nI wj))]) C.x C.b d_m20_135 hl rfl (nI_1 _) (by decide) rfl (fun ls hl => ?_)
        refine lv_goto (tgt := 113) C.x C.b d_m20_138 (by decide) ?_
        refine ih (k + 1) H locs ls (by omega) hw ?_
        rw [ec]; exact lv_sub hl [0, 1, 2, 3, 4] rfl
  have rest : ∀ (H : Heap) (locs : List Loc) (ls : Array Slot), WH g Z (σ, (M1, 0, nI nn, nI nn), o) s H locs → lv_has ls 5 [(3, .int (lst (Bm M1) nn)), (2, .int 0), (0, .ref (Z + 602)), (1, .int (nI wj))] → W p l e (RM 3) s m [Value.ref (Z + 602), .int (nI wj)].toArray below meth c H locs 0 0 (MQ below (va_Qi (fun r u => MP σ M nn o u (fun M1 => r = cntM M1 nn wj)) (Wd g Z) (zfree Z)) [Value.ref (Z + 602), .int (nI wj)].toArray s 0 0 (zfree Z)) (F0 m 53 ls []) := by
    intro H locs ls hw hl
    refine lv_iload_n C.x C.b d_m20_53 rfl (lv_at hl 3 rfl) ?_
    refine lv_if_ne (tgt := 62) C.x C.b d_m20_54 (by decide) (fun h1 => ?_) (fun h1 => ?_)
    · skip
      refine lv_iload_n C.x C.b d_m20_62 rfl (lv_at hl 3 rfl) ?_
      refine lv_iconst (v := 1) C.x C.b d_m20_63 (by decide) ?_
      refine lv_icmp_ne (tgt := 69) C.x C.b d_m20_64 (by decide) (fun h2 => ?_) (fun h2 => ?_)
      · skip
        refine lv_iload_n C.x C.b d_m20_69 rfl (lv_at hl 3 rfl) ?_
        refine lv_iconst (v := 2) C.x C.b d_m20_70 (by decide) ?_
        refine lv_icmp_ne (tgt := 110) C.x C.b d_m20_71 (by decide) (fun h3 => ?_) (fun h3 => ?_)
        · skip
          have e9 : wj = 3 := by
            rcases (show wj = 0 ∨ wj = 1 ∨ wj = 2 ∨ wj = 3 by omega) with rfl | rfl | rfl | h
            · exact absurd rfl h1
            · exact absurd rfl h2
            · exact absurd rfl h3
            · exact h
          refine lv_iconst (v := 0) C.x C.b d_m20_110 (by decide) ?_
          refine lv_istore (lv' := [(4, .int 0), (3, .int (lst (Bm M1) nn)), (2, .int 0), (0, .ref (Z + 602)), (1, .int (nI wj))]) C.x C.b d_m20_111 hl (by decide) rfl (fun ls hl => ?_)
          exact loop3 e9 nn 0 _ _ _ (Nat.zero_add nn) hw (lv_sub hl [0, 2, 1, 3, 4] rfl)
        · skip
          have e9 : wj = 2 := (nI_eq (b := 2) (by omega) (by decide)).mp h3
          refine lv_iload_n C.x C.b d_m20_74 rfl (lv_at hl 0 rfl) ?_
          refine lv_istore_n (lv' := [(2, .int (lst (Bm M1) nn)), (3, .int (lst (Bm M1) nn)), (0, .ref (Z + 602)), (1, .int (nI wj))]) C.x C.b d_m20_75 rfl hl (by decide) rfl (fun ls hl => ?_)
          refine lv_iconst (v := 0) C.x C.b d_m20_76 (by decide) ?_
          refine lv_istore (lv' := [(4, .int 0), (2, .int (lst (Bm M1) nn)), (3, .int (lst (Bm M1) nn)), (0, .ref (Z + 602)), (1, .int (nI wj))]) C.x C.b d_m20_77 hl (by decide) rfl (fun ls hl => ?_)
          exact loop2 e9 nn 0 _ _ _ (Nat.zero_add nn) hw (lv_sub hl [0, 1, 2, 3, 4] rfl)
      · skip
        have e9 : wj = 1 := (nI_eq (b := 1) (by omega) (by decide)).mp h2
        refine lv_iload_n C.x C.b d_m20_67 rfl (lv_at hl 0 rfl) ?_
        exact e_i C hr hlk hw d_m20_68 ⟨M1, hM, hT1, rfl, by rw [e9]; rfl⟩
    · skip
      have e9 : wj = 0 := (nI_eq (b := 0) (by omega) (by decide)).mp h1
      refine lv_aload_n C.x C.b d_m20_57 rfl (lv_at hl 2 rfl) ?_
      refine q_mmany C hw d_m20_58 ?_
      exact e_i C hr hlk hw d_m20_61 ⟨M1, hM, hT1, rfl, by rw [e9]; rfl⟩
  refine lv_iconst (v := 0) C.x C.b d_m20_28 (by decide) ?_
  refine lv_istore_n (lv' := [(2, .int 0), (0, .ref (Z + 602)), (1, .int (nI wj))]) C.x C.b d_m20_29 rfl hl (by decide) rfl (fun ls hl => ?_)
  refine lv_aload_n C.x C.b d_m20_30 rfl (lv_at hl 1 rfl) ?_
  refine q_mmany C hw d_m20_31 ?_
  refine lv_if_ne (tgt := 41) C.x C.b d_m20_34 (by decide) (fun h1 => ?_) (fun h1 => ?_)
  · skip
    have hn0 : 0 < nn := Nat.pos_of_ne_zero (fun h => h1 (by rw [h]; rfl))
    refine lv_aload_n C.x C.b d_m20_41 rfl (lv_at hl 1 rfl) ?_
    refine q_m11 C hw d_m20_42 ?_
    refine lv_aload_n C.x C.b d_m20_45 rfl (lv_at hl 1 rfl) ?_
    refine q_mmany C hw d_m20_46 ?_
    refine lv_iconst (v := 1) C.x C.b d_m20_49 (by decide) ?_
    refine lv_isub C.x C.b d_m20_50 ?_
    rw [nI_sub1 hn0]
    refine l_m11 C hw (nn - 1) (show nn - 1 < 200 by omega) rfl d_m20_51 ?_
    refine lv_istore_n (lv' := [(3, .int (M1 11 (nn - 1))), (2, .int 0), (0, .ref (Z + 602)), (1, .int (nI wj))]) C.x C.b d_m20_52 rfl hl (by decide) rfl (fun ls hl => ?_)
    refine rest _ _ _ hw ?_
    have el : lst (Bm M1) nn = M1 11 (nn - 1) := if_neg (by omega)
    rw [el]; exact hl
  · skip
    have hn0 : nn = 0 := (nI_eq (b := 0) (by omega) (by decide)).mp h1
    refine lv_iconst (v := 0) C.x C.b d_m20_37 (by decide) ?_
    refine lv_goto (tgt := 52) C.x C.b d_m20_38 (by decide) ?_
    refine lv_istore_n (lv' := [(3, .int 0), (2, .int 0), (0, .ref (Z + 602)), (1, .int (nI wj))]) C.x C.b d_m20_52 rfl hl (by decide) rfl (fun ls hl => ?_)
    refine rest _ _ _ hw ?_
    have el : lst (Bm M1) nn = 0 := if_pos hn0
    rw [el]; exact hl
end
section
/-! THROWS: contracts of methods that throw (and change nothing), 'throw new X()', a call that throws, where nothing catches -/
theorem traces9 {l : Launch} {e : Env} (hf : l.flags = flags0) (ha : l.admits e) : e.platform.stackTraces = false := by
  obtain ⟨-, -, -, -, hp, -⟩ := ha
  rw [hp]
  show l.stackTraces = false
  unfold Launch.stackTraces
  rw [hf]
  decide +kernel
/-- an object of class cls stands at a -/
def ExC (cls : String) (a : Nat) (U : State) (H : Heap) : Prop := ∃ cell : Cell, H[a]? = some cell ∧ cell.vm.isStatics = false ∧ U.vm.findClass cls = some cell.cls
def QX (cls : String) : Array Value → State → Outcome → State → Prop := fun _ st o t => (∃ x, o = .threw x ∧ ExC cls x t t.heap) ∧ st.WarmedH t.vm ∧ st.sameButNew ({ t with vm := st.vm } : State) [] 1 6
def MetX (l : Launch) (y : MethodName) (ws : List Cond) (rm : Room) (Pc : Array Value → State → Prop) (cls : String) : Prop := MetFree l y (headSpec ws rm) Pc (fun _ _ _ _ _ => True) (QX cls)
def XQ (below : List Frame) (cls : String) (a : Array Value) (s : State) : State → Prop := fun t => ∃ o, t.status = .running ∧ Ended t below o ∧ QX cls a s o t
theorem mk_metX {l : Launch} {g : KG} {Z : Nat} {τ : TS} {y : MethodName} {cc : ByteArray} {nL : Nat} {ret : Option FieldType} {rm : Room} {av : List Value} {own cls : String}
    (hy : plainName y.cls = true) (ho : y.cls = own) (hlen : (lg_sl av).length ≤ nL)
    (body : ∀ (p : Program) (e : Env) (s : State) (m : MethodId) (below : List Frame) (meth : Method) (c : Code) (ls : Array Slot), Cx p s m c cc nL own av.toArray g Z → meth.locks = false → c.exceptionTable.isEmpty = true → lv_has ls nL (lv_args 0 av) → WH g Z τ s s.heap [] →
      W p l e rm s m av.toArray below meth c s.heap [] 0 0 (XQ below cls av.toArray s) (F0 m 0 ls [])) : MetX l y [.code y cc nL ret] rm (va_Pc av (Wd g Z τ)) cls := by
  subst ho
  refine MetFree.of_bodyS (code := cc) (maxLocals := nL) (ret := ret) hy ?_ ?_
  · intro args s m h hn
    obtain ⟨meth, c, h1, h2, h3, h4, h5, h6, -, -⟩ := Cond.code_spec hn (atoms_spec (ws := [Cond.code y cc nL ret]) h _ List.mem_cons_self)
    exact ⟨meth, c, h1, h2, h3, h4, h5, h6⟩
  · intro p e s m args below meth c s₁ B hml hv _
    obtain ⟨rfl, hWd⟩ := hv
    have hh0 : s₁.heap = s.heap := by rw [B.state]; rfl
    have hl := lv_entry av (n := nL) hlen
    have hno := BodyLoose.noHandlers B (atoms_spec (ws := [Cond.code y cc nL ret]) B.pre _ List.mem_cons_self)
    rw [lg_entry_eq]
    generalize (lg_sl av ++ List.replicate (nL - (lg_sl av).length) Slot.unset).toArray = ls at hl ⊢
    obtain ⟨t, a1, o, b1, b2, b3⟩ := body p e s m below meth c ls ⟨⟨B.exec, B.bytes, hml, findClass_of_methodNamed B.named, hWd.1.2.1.any _⟩, hWd.1⟩ B.notSynchronized hno hl (WH.start hWd) s₁ hh0 (Stand.of_body B)
    exact ⟨t, o, a1, b1, b2, b3⟩
theorem noH {c : Code} (h : c.exceptionTable.isEmpty = true) (pc : Nat) : ∀ x ∈ c.exceptionTable.toList, covers x pc = false := by
  have h0 : c.exceptionTable.size = 0 := by simpa [Array.isEmpty] using h
  have h1 : c.exceptionTable.toList = [] := List.eq_nil_of_length_eq_zero (by simpa using h0)
  intro x hx
  rw [h1] at hx
  cases hx
def exN : List String := ["java/lang/RuntimeException", "java/lang/Exception"]
def ex_ok (w : Cond) : Bool := decide (w ∈ TB) || decide (w = .laysStatic "java/lang/Throwable" "UNASSIGNED_STACK" "[Ljava/lang/StackTraceElement;") || decide (w = .laysStatic "java/lang/Throwable" "SUPPRESSED_SENTINEL" "Ljava/util/List;") || decide (w = .isRef (.static "java/lang/Throwable" "UNASSIGNED_STACK" "[Ljava/lang/StackTraceElement;")) || decide (w = .isRef (.static "java/lang/Throwable" "SUPPRESSED_SENTINEL" "Ljava/util/List;"))
set_option maxRecDepth 100000 in
theorem ex_1 : (Bundle.ownAtoms0 "StageClock" 18 "java/lang/IllegalArgumentException" exN).all ex_ok = true := by decide +kernel
set_option maxRecDepth 100000 in
theorem ex_2 : (Bundle.ownAtoms0 "StageClock" 99 "java/lang/IllegalStateException" exN).all ex_ok = true := by decide +kernel
set_option maxRecDepth 100000 in
theorem ex_3 : (Bundle.ownAtoms0 "StageClock" 29 "java/lang/IndexOutOfBoundsException" exN).all ex_ok = true := by decide +kernel
theorem ex_use {l : List Cond} (h : l.all ex_ok = true) {g : KG} {Z : Nat} {s : State} (k : KK g Z s) (A : Array Value) : ∀ w ∈ l, w.before A s = true := by
  intro w hw
  have h1 := List.all_eq_true.mp h w hw
  simp only [ex_ok, Bool.or_eq_true, decide_eq_true_eq] at h1
  rcases h1 with (((h1 | rfl) | rfl) | rfl) | rfl
  · exact k.2.1.any A w h1
  · exact k.2.2.1.lays A
  · exact k.2.2.2.1.lays A
  · exact k.2.2.1.isRef A
  · exact k.2.2.2.1.isRef A
section Thr
variable {p : Program} {l : Launch} {e : Env} {R : Room} {s : State} {m : MethodId} {args : Array Value} {below : List Frame} {meth : Method} {c : Code} {H : Heap}
variable {cc : ByteArray} {nL pc : Nat} {ls : Array Slot} {rest : List Value} {own : String} {g : KG} {Z : Nat} {τ : TS}
/-- new X; dup; X.<init>(); athrow -/
theorem x_new {cls : String} {ik ic : Nat} (hfl : l.flags = flags0) (C : Cx p s m c cc nL "StageClock" args g Z) (hlk : meth.locks = false) (hno : c.exceptionTable.isEmpty = true) (hw : WH g Z τ s H []) (hls : ls.size = nL)
    (hfit : Bundle.fit cls = true) (hat : (Bundle.ownAtoms0 "StageClock" ic cls exN).all ex_ok = true) (hcl : Cond.classLink "StageClock" ik cls ∈ TB) (hin : Cond.instantiable cls 6 ∈ TB) (hini : Cond.initialized cls ∈ TB)
    (hR : 1 ≤ R.cells ∧ 6 ≤ R.slots ∧ 5 < R.frames ∧ 81 ≤ R.locals) (hd0 : decode cc pc = .ok (.new ik, 3)) (hd3 : decode cc (pc + 3) = .ok (.dup, 1)) (hd4 : decode cc (pc + 3 + 1) = .ok (.invokespecial ic, 3)) (hd7 : decode cc (pc + 3 + 1 + 3) = .ok (.athrow, 1)) :
    W p l e R s m args below meth c H [] 0 0 (XQ below cls args s) (F0 m pc ls []) := by
  refine W.newc C.x C.b C.1.2.2.2.1 (C.1.2.2.2.2 _ hcl) (C.1.2.2.2.2 _ hin) (C.1.2.2.2.2 _ hini) rfl hd0 (by omega) (by omega) (fun cC kC h1 h2 h3 h4 => ?_)
  refine W.eq (g2 := F0 m (pc + 3) ls [.ref H.size]) rfl ?_
  refine lv_dup C.x C.b hd3 rfl ?_
  intro T hT X
  have hcell : T.heap[H.size]? = some (freshCell cC kC) := by rw [hT, Array.getElem?_push_size]
  obtain ⟨U, hsteps, hrun, hend, hW, hsame, ce, hce, hown⟩ := Stand.ctorThrow0 X C.x (traces9 hfl X.admits) (own := "StageClock") (cls := cls) (names := exN) (ic := ic) C.1.2.2.2.1 hfit (by decide +kernel) (ex_use hat C.2 args) (fun x h => by cases h) h1 h2 hcell hw.2.1
    (g := F0 m (pc + 3 + 1) ls [.ref H.size, .ref H.size]) rfl (hls.trans C.1.2.2.1.symm) rfl rfl (rest := []) rfl (by rw [C.b]; exact hd4) (by rw [C.b]; exact hd7) (noH hno _) hR.2.2.1 (by show 2 * 0 + 1 + 80 ≤ R.locals; omega) hlk
  refine ⟨U, hsteps, .threw H.size, hrun, hend, ⟨_, rfl, ce, hce, ?_, ?_⟩, hW, ?_⟩
  · rw [hown.vm]; rfl
  · rw [hW.alike.findClass]; exact hown.cls
  · have := hsame
    simpa using this
/-- the state in which a callee has thrown -/
theorem bt_free {y : MethodName} {S : Spec} {P : Array Value → State → Prop} {Q : Array Value → State → Outcome → State → Prop} {bytes : ByteArray} {maxL : Nat} {ret : Option FieldType} {T : State} {locs : List Loc} {cells slots k n : Nat} {gf : JFrame} {ig : Instr} {mk : MethodId} {a : Array Value} {len W9 : Nat}
    (hM : MetFree l y S P (fun _ _ _ _ _ => True) Q) (hframes : S.room.frames + 1 ≤ R.frames) (hlocals : W9 + (maxL + 11) + S.room.locals ≤ R.locals)
    (X : Stand p l e R s m args below meth c T locs cells slots) (h1 : S.pre.before a T = true) (h2 : (Cond.code y bytes maxL ret).before a T = true) (h3 : (Cond.initialized y.cls).before a T = true) (h4 : cells + S.room.cells ≤ R.cells) (h5 : slots + S.room.slots ≤ R.slots)
    (hP : P a (T.calling gf mk a)) (hQ : ∀ first o t, Q a first o t → (∃ x, o = .threw x) ∧ first.WarmedH t.vm ∧ first.sameButNew ({ t with vm := first.vm } : State) [] k n)
    (hg : gf.method = m) (hsize : gf.locals.size = c.maxLocals) (hdg : decode c.code gf.pc = .ok (ig, len)) (hW : 2 * gf.monitorRoom + (gf.stack.map fun v => v.category).sum ≤ W9) (hn : T.methodNamed? y = some mk) :
    ∃ (x : Addr) (t T' : State), Stand p l e R s m args below meth c T' locs (cells + k) (slots + n) ∧ T'.heap = t.heap ∧ T'.vm = t.vm ∧ Q a (T.calling gf mk a) (.threw x) t ∧ Steps p.tables e below (doInvoke e (T.setTop gf) [] mk a).1 ((T'.setTop gf).pushFrame (.throwing x)) := by
  obtain ⟨methY, cY, hmY, hcY, -, hlY, -, -, -, -⟩ := Cond.code_spec hn h2
  obtain ⟨kY, hkY, -⟩ := className_of_methodNamed hn
  have hinitY : kY.init = .initialized := Cond.initialized_spec (findClass_of_methodNamed hn) hkY h3
  have h : At T gf.method c below := by rw [hg]; exact X.here
  have happ : S.appliesLoose y e.platform (T.calling gf mk a) = true :=
    Spec.appliesLoose_calling (g := gf) h hdg hn hkY hinitY
      (X.room_calling (g := gf) (R' := S.room) hsize hmY hcY hframes (by rw [hlY]; omega) h4 h5) h1
  obtain ⟨mid, hmid⟩ := h.above
  have hfr : (T.setTop gf).frames = (.java gf :: mid) ++ below := by rw [State.frames_setTop' gf h.top, hmid]; rfl
  obtain ⟨o, s₂, hsteps, -, hend, hq⟩ := Steps.callFree hM p X.admits X.cas X.clock (acts := []) hfr happ hP trivial
  have hq' : Q a (T.calling gf mk a) o s₂ := hq
  rw [State.frames_setTop' gf h.top] at hend
  obtain ⟨⟨v, rfl⟩, hW₂, e2, q2, q3, q4, q5, q6⟩ := hQ _ _ _ hq'
  have e3 : s₂ = ({ (T.calling gf mk a).setFrames s₂.frames with heap := s₂.heap, slotsUsed := s₂.slotsUsed } : State).setVm s₂.vm := by
    have : s₂ = ({ s₂ with vm := (T.calling gf mk a).vm } : State).setVm s₂.vm := rfl
    rw [e2] at this
    exact this
  have hf₂ : s₂.frames = .throwing v :: .java gf :: T.frames.tail := hend
  have hW' : T.WarmedH s₂.vm := hW₂
  obtain ⟨g₀, hg0⟩ := Option.isSome_iff_exists.mp h.top
  obtain ⟨r, hr⟩ := State.topJava?_eq_some.mp hg0
  have hs₂ : s₂ = ((({ T with heap := s₂.heap, slotsUsed := s₂.slotsUsed } : State).setVm s₂.vm).setTop gf).pushFrame (.throwing v) := by
    have hr' : (({ T with heap := s₂.heap, slotsUsed := s₂.slotsUsed } : State).setVm s₂.vm).frames = .java g₀ :: r := hr
    refine e3.trans ?_
    rw [hf₂, State.calling_eq h.top, State.setFrames_setFrames, State.pushFrame, State.frames_setTop _ hr', State.setTop_of_frames _ hr', State.setFrames_setFrames, hr]
    rfl
  have hsame : T.sameButNew ({ T with heap := s₂.heap, slotsUsed := s₂.slotsUsed } : State) [] k n := by
    refine ⟨?_, q2, q3, q4, q5, q6⟩
    obtain ⟨t, ht, -⟩ := State.frames_cons hr
    show ({ T with heap := s₂.heap, slotsUsed := s₂.slotsUsed } : State) = { T.setFrames T.frames with heap := s₂.heap, slotsUsed := s₂.slotsUsed }
    rw [State.setFrames_self ht]
  subst hg
  have hst := X.same.trans (hsame.setVm s.vm)
  rw [List.append_nil] at hst
  refine ⟨v, s₂, (({ T with heap := s₂.heap, slotsUsed := s₂.slotsUsed } : State).setVm s₂.vm),
    ⟨X.admits, X.cas, X.clock, X.frames, X.room, X.hears, X.method, X.code, (X.here.setHeapUsed s₂.heap s₂.slotsUsed).setVm hW'.alike, X.tail, State.WarmedH.trans X.warmed hW', X.limits, X.bytes, hst⟩, rfl, rfl, hq', ?_⟩
  rw [← hs₂]
  exact hsteps
end Thr
end
section
/-! a call that throws: where nothing catches it, where it is caught -/
section XC
variable {p : Program} {l : Launch} {e : Env} {R : Room} {s : State} {m : MethodId} {args : Array Value} {below : List Frame} {meth : Method} {c : Code} {H : Heap}
variable {cc : ByteArray} {nL pc : Nat} {ls : Array Slot} {rest : List Value} {own : String} {g : KG} {Z : Nat} {τ : TS} {locs : List Loc} {cells slots : Nat}
/-- what stands behind a call that threw: the note over the caller's frame -/
def XRun (p : Program) (l : Launch) (e : Env) (R : Room) (s : State) (m : MethodId) (args : Array Value) (below : List Frame) (meth : Method) (c : Code) (H : Heap) (locs : List Loc) (cells slots : Nat) (gf : JFrame) (rest : List Value) (cls : String) : Prop :=
  ∀ T : State, T.heap = H → Stand p l e R s m args below meth c T locs cells slots → ∃ (x : Addr) (T' : State), Stand p l e R s m args below meth c T' locs (cells + 1) (slots + 6) ∧ ExC cls x T' T'.heap ∧ (∀ q : Nat, q < H.size → T'.heap[q]? = H[q]?) ∧ H.size ≤ T'.heap.size ∧
    ∀ tg, Steps p.tables e below ((T'.setTop { gf with stack := rest }).pushFrame (.throwing x)) tg → Steps p.tables e below (T.setTop gf) tg
theorem same_heap {s t : State} {k n : Nat} (h : s.sameButNew t [] k n) : ∀ q : Nat, q < s.heap.size → t.heap[q]? = s.heap[q]? := by
  intro q hq
  obtain ⟨-, -, -, -, -, h6⟩ := h
  have hc : s.heap[q]? = some s.heap[q] := Array.getElem?_eq_getElem hq
  obtain ⟨c', h1, h2, h3, h4⟩ := h6 q _ hc
  rw [h1, hc]
  have hs : c'.slots = (s.heap[q]).slots := by
    apply Array.ext_getElem?
    intro i
    exact h4 i (by simp)
  rw [h2, hs]
theorem x_of {y : MethodName} {b : ByteArray} {mL n : Nat} {ret : Option FieldType} {rm : Room} {cls : String} {As : List Value} {T₁ : State} {gf : JFrame} {ig : Instr} {mk : MethodId} (C : Cx p s m c cc nL own args g Z) (hw : WH g Z τ s H locs) (hM : MetX l y [.code y b mL ret] rm (va_Pc As (Wd g Z τ)) cls) (hY : YOK y b mL ret n) (hrm : rm.cells = 1 ∧ rm.slots = 6) (hR : rm.frames + 1 ≤ R.frames ∧ 8 + (mL + 11) + rm.locals ≤ R.locals) (hcs : cells + 1 ≤ R.cells ∧ slots + 6 ≤ R.slots)
    (hT : T₁.heap = H) (X₁ : Stand p l e R s m args below meth c T₁ locs cells slots) (hg : gf.method = m) (hsize : gf.locals.size = c.maxLocals) (hdg : decode c.code gf.pc = .ok (ig, 3)) (hW : 2 * gf.monitorRoom + (gf.stack.map fun v => v.category).sum ≤ 8) (hn : T₁.methodNamed? y = some mk) :
    ∃ (x : Addr) (T' : State), Stand p l e R s m args below meth c T' locs (cells + 1) (slots + 6) ∧ ExC cls x T' T'.heap ∧ (∀ q : Nat, q < H.size → T'.heap[q]? = H[q]?) ∧ H.size ≤ T'.heap.size ∧ Steps p.tables e below (doInvoke e (T₁.setTop gf) [] mk As.toArray).1 ((T'.setTop gf).pushFrame (.throwing x)) := by
  have hWd : Wd g Z τ T₁ := hw.wd C.2 hT X₁.warmed
  obtain ⟨x, t, T', X', e1, e2, hq, hst⟩ := bt_free (S := headSpec [.code y b mL ret] rm) (P := va_Pc As (Wd g Z τ)) (Q := QX cls) (k := 1) (n := 6) (bytes := b) (maxL := mL) (ret := ret) (W9 := 8) hM hR.1 hR.2 X₁
    (atoms_intro (fun w hw2 => by rw [List.mem_singleton] at hw2; subst hw2; exact hWd.1.2.1.any _ _ hY.1)) (hWd.1.2.1.any _ _ hY.1) (hWd.1.2.1.any _ _ hY.2.1) (by rw [show (headSpec [Cond.code y b mL ret] rm).room.cells = 1 from hrm.1]; exact hcs.1) (by rw [show (headSpec [Cond.code y b mL ret] rm).room.slots = 6 from hrm.2]; exact hcs.2)
    (gf := gf) (mk := mk) (a := As.toArray) ⟨rfl, Wd.blind _ _ _ _ hWd⟩ (fun first o t hq => ⟨by obtain ⟨⟨x, hx, -⟩, -⟩ := hq; exact ⟨x, hx⟩, hq.2.1, hq.2.2⟩) hg hsize hdg hW hn
  obtain ⟨⟨x', hx', cell, c1, c2, c3⟩, -, hsm⟩ := hq
  cases hx'
  have hk := same_heap hsm
  have hk2 : ∀ q : Nat, q < H.size → t.heap[q]? = H[q]? := fun q hq => by
    have := hk q (show q < T₁.heap.size by rw [hT]; exact hq)
    exact this.trans (by show T₁.heap[q]? = _; rw [hT])
  have hz : H.size ≤ t.heap.size := by
    have := hsm.2.1
    rw [← hT]; exact this
  exact ⟨x, T', X', ⟨cell, by rw [e1]; exact c1, c2, by rw [e2]; exact c3⟩, fun q hq => by rw [e1]; exact hk2 q hq, by rw [e1]; exact hz, hst⟩
theorem xrun_S {y : MethodName} {b : ByteArray} {mL n : Nat} {ret : Option FieldType} {rm : Room} {idx : Nat} {cls : String} {As st : List Value} (C : Cx p s m c cc nL own args g Z) (hw : WH g Z τ s H locs) (hM : MetX l y [.code y b mL ret] rm (va_Pc As (Wd g Z τ)) cls) (hY : YOK y b mL ret n) (hlink : Cond.methodLink own idx y ∈ TB) (hstat : Cond.static y ∈ TB) (hrm : rm.cells = 1 ∧ rm.slots = 6) (hR : rm.frames + 1 ≤ R.frames ∧ 8 + (mL + 11) + rm.locals ≤ R.locals) (hcs : cells + 1 ≤ R.cells ∧ slots + 6 ≤ R.slots) (hn : As.length = n) (hls : ls.size = nL) (hst : st = As.reverse ++ rest) (hrest : (rest.map fun v => v.category).sum ≤ 8) (hd : decode cc pc = .ok (.invokestatic idx, 3)) :
    XRun p l e R s m args below meth c H locs cells slots (F0 m pc ls st) rest cls := by
  intro T hT X
  have hcode : (Cond.code y b mL ret).before args s = true := C.1.2.2.2.2 _ hY.1
  obtain ⟨mk, hnamed⟩ := Cond.code_named hcode
  obtain ⟨methM, cM, hmethM, -, -, -, -, -, -, hsigM⟩ := Cond.code_spec hnamed hcode
  have hstatic : methM.isStatic = true := Cond.static_spec hnamed hmethM (C.1.2.2.2.2 _ hstat)
  obtain ⟨kP, hkP, -⟩ := className_of_methodNamed hnamed
  have hinitP : kP.init = .initialized := Cond.initialized_spec (findClass_of_methodNamed hnamed) hkP (C.1.2.2.2.2 _ hY.2.1)
  have hlen : ∀ sig, parseMethodDescriptor y.desc = some sig → As.length = sig.parameters.length := fun sig h => by
    have h2 := hY.2.2.2
    rw [h] at h2
    exact hn.trans (Option.some.inj h2).symm
  obtain ⟨vm₁, X₁, hstep₁⟩ := X.invokestatic C.x C.1.2.2.2.1 (C.1.2.2.2.2 _ hlink) hnamed hmethM hstatic hkP hinitP hY.2.2.1 (g := F0 m pc ls st) rfl (argsL := As) (rest := rest) (hlen _ hsigM) hst (by rw [C.b]; exact hd)
  obtain ⟨x, T', X', hex, hk, hz, hs⟩ := x_of (T₁ := T.setVm vm₁) (gf := { F0 m pc ls st with stack := rest }) (ig := .invokestatic idx) C hw hM hY hrm hR hcs hT X₁ rfl (hls.trans C.1.2.2.1.symm) (by rw [C.b]; exact hd) (lv_room (m := m) (pc := pc) (ls := ls) (rest := rest) hrest) (X₁.named hnamed)
  exact ⟨x, T', X', hex, hk, hz, fun tg h => hstep₁ _ fun acts => by rw [doInvoke_state]; exact hs.trans h⟩
theorem xrun_V {y : MethodName} {b : ByteArray} {mL n : Nat} {ret : Option FieldType} {rm : Room} {idx i ci : Nat} {fs : List Value} {T9 : u_T} {N : Nat} {cls : String} {As st : List Value} (C : Cx p s m c cc nL own args g Z) (hw : WH g Z τ s H locs) (hM : MetX l y [.code y b mL ret] rm (va_Pc (.ref (Z + i) :: As) (Wd g Z τ)) cls) (hi : i < 616) (he : cont g Z τ i = .inr (ci, fs)) (hc : cls3[ci]? = some (y.cls, T9, N)) (hY : YOK y b mL ret n) (hlink : Cond.methodLink own idx y ∈ TB) (hinst : Cond.instanceMethod y ∈ TB) (hsel : Cond.selects y.cls y y ∈ TB) (hrm : rm.cells = 1 ∧ rm.slots = 6) (hR : rm.frames + 1 ≤ R.frames ∧ 8 + (mL + 11) + rm.locals ≤ R.locals) (hcs : cells + 1 ≤ R.cells ∧ slots + 6 ≤ R.slots) (hn : As.length = n) (hls : ls.size = nL) (hst : st = As.reverse ++ .ref (Z + i) :: rest) (hrest : (rest.map fun v => v.category).sum ≤ 8) (hd : decode cc pc = .ok (.invokevirtual idx, 3)) :
    XRun p l e R s m args below meth c H locs cells slots (F0 m pc ls st) rest cls := by
  intro T hT X
  have hcode : (Cond.code y b mL ret).before args s = true := C.1.2.2.2.2 _ hY.1
  obtain ⟨cellB, hcB, hoB, hclB⟩ := va_recv C.2.1 hw.1 hc (show (fam Z 616 (cont g Z τ))[i]? = some (Z + i, .inr (ci, fs)) by rw [fam_get Z _ hi, he])
  obtain ⟨mk, methM, hnamed, hmethM, hstM, habM⟩ := Cond.instanceMethod_spec (C.1.2.2.2.2 _ hinst)
  obtain ⟨methM', cM, hmethM', -, -, -, -, -, -, hsigM⟩ := Cond.code_spec hnamed hcode
  cases hmethM.symm.trans hmethM'
  obtain ⟨c2, r2, m2, q1, q2, q3, q4, kP, hkP, hkPi⟩ := Cond.selects_spec (C.1.2.2.2.2 _ hsel)
  cases hclB.symm.trans q1
  cases (State.methodFound?_of_named hnamed hY.2.2.1).symm.trans q2
  cases hnamed.symm.trans q3
  have hselP : selectMethod e.platform s.vm cellB.cls mk = .method mk := by rw [Launch.admits_selectMethod X.admits]; exact q4
  have hlen : ∀ sig, parseMethodDescriptor y.desc = some sig → As.length = sig.parameters.length := fun sig h => by
    have h2 := hY.2.2.2
    rw [h] at h2
    exact hn.trans (Option.some.inj h2).symm
  obtain ⟨vm₁, X₁, hstep₁⟩ := X.invokevirtual C.x C.1.2.2.2.1 (C.1.2.2.2.2 _ hlink) hnamed hmethM hstM hkP hkPi hY.2.2.1 (a := Z + i) (cell := cellB) (by rw [hT]; exact hcB)
    (fun z h => by rw [h] at hoB; cases hoB) hselP hmethM habM hkP hkPi (g := F0 m pc ls st) rfl (argsL := As) (rest := rest) (hlen _ hsigM) hst (by rw [C.b]; exact hd)
  obtain ⟨x, T', X', hex, hk, hz, hs⟩ := x_of (T₁ := T.setVm vm₁) (gf := { F0 m pc ls st with stack := rest }) (ig := .invokevirtual idx) C hw hM hY hrm hR hcs hT X₁ rfl (hls.trans C.1.2.2.1.symm) (by rw [C.b]; exact hd) (lv_room (m := m) (pc := pc) (ls := ls) (rest := rest) hrest) (X₁.named hnamed)
  exact ⟨x, T', X', hex, hk, hz, fun tg h => hstep₁ _ fun acts => by rw [doInvoke_state]; exact hs.trans h⟩
/-- nothing catches it: the method throws too -/
theorem x_out {cls : String} {st : List Value} (hlk : meth.locks = false) (hno : c.exceptionTable.isEmpty = true) (hr : XRun p l e R s m args below meth c H [] 0 0 (F0 m pc ls st) rest cls) : W p l e R s m args below meth c H [] 0 0 (XQ below cls args s) (F0 m pc ls st) := by
  intro T hT X
  obtain ⟨x, T', X', hex, hk, hz, hs⟩ := hr T hT X
  obtain ⟨h1, h2, h3, h4, h5⟩ := X'.leaveThrown x (g := { F0 m pc ls st with stack := rest }) rfl rfl rfl (noH hno _) hlk
  exact ⟨T'.setFrames (.throwing x :: below), hs _ h1, .threw x, h2, h3, ⟨x, rfl, hex⟩, h4, h5⟩
/-- what a handler's row asks: the k-th row of the method's table (start, end, handler, type) -/
def Hd (c : Code) (hh : List (Nat × Nat × Nat × Nat)) : Prop := c.exceptionTable.toList.map (fun h => (h.startPc, h.endPc, h.handlerPc, h.catchType)) = hh
/-- the first row whose type takes it: c1 .. are passed over -/
theorem x_caught {cls : String} {st : List Value} {Q : State → Prop} {hpc : Nat} (hr : XRun p l e R s m args below meth c H locs cells slots (F0 m pc ls st) rest cls)
    (hfind : ∀ (T' : State) (x : Addr), Stand p l e R s m args below meth c T' locs (cells + 1) (slots + 6) → ExC cls x T' T'.heap → ∃ T2 : State, T2.heap = T'.heap ∧ Stand p l e R s m args below meth c T2 locs (cells + 1) (slots + 6) ∧ ∀ tg, Steps p.tables e below (T2.setTop (F0 m hpc ls [.ref x])) tg → Steps p.tables e below ((T'.setTop (F0 m pc ls rest)).pushFrame (.throwing x)) tg)
    (kk : ∀ (x : Addr) (H1 : Heap), (∀ q : Nat, q < H.size → H1[q]? = H[q]?) → H.size ≤ H1.size → W p l e R s m args below meth c H1 locs (cells + 1) (slots + 6) Q (F0 m hpc ls [.ref x])) : W p l e R s m args below meth c H locs cells slots Q (F0 m pc ls st) := by
  intro T hT X
  obtain ⟨x, T', X', hex, hk, hz, hs⟩ := hr T hT X
  obtain ⟨T2, e2, X2, hf⟩ := hfind T' x X' hex
  obtain ⟨t, a1, b1⟩ := kk x T'.heap hk hz T2 e2 X2
  exact ⟨t, hs t (hf t a1), b1⟩
end XC
end
section
/-! CATCH: a handler's row whose class is linked, cold or warm; methods with a table of handlers; calls of them -/
section Fh
variable {e : Env} {s : State} {f : JFrame} {a : Addr}
def FTo (e : Env) (s : State) (f : JFrame) (a : Addr) (h : Handler) (vm' : Vm) : Prop :=
  ∀ (Q : Handler → Pre) (E : CtlPost) (d : Bool) (acts : List Action), wp (findHandler f a) Q E e d acts s ↔ Q h d acts (s.setVm vm')
theorem fh_yes {Q : Handler → Pre} {E : CtlPost} {d : Bool} {acts : List Action} {x : ExceptionTableEntry} {t : List ExceptionTableEntry} {c : ClassId} {cell : Cell} (hx : covers x f.pc = true) (h0 : x.catchType ≠ 0)
    (hl : s.vm.ClassLinks e.platform f.method.cls x.catchType c) (hcell : s.heap[a]? = some cell) (hobj : ∀ k, cell.vm ≠ .statics k)
    (hk : ∃ k, s.vm.classes[cell.cls]? = some k) (hc : ∃ k, s.vm.classes[c]? = some k) (hfit : s.vm.assignable cell.cls c = true) :
    wp (findHandler.go f a (x :: t)) Q E e d acts s ↔ Q (.found x.handlerPc) d acts (s.setVm (s.vm.noted f.method.cls x.catchType (.cls c))) := by
  simp only [covers] at hx
  obtain ⟨ha, ht⟩ := (resolveClass_links e.toSetting hl).op (op := VmOp.resolveClass f.method.cls x.catchType) rfl
  have hal : s.vm.Alike (s.vm.noted f.method.cls x.catchType (.cls c)) := (Vm.Alike.refl s.vm).noted _ _ _
  obtain ⟨k1, hk1⟩ := hk
  obtain ⟨k2, hk2⟩ := hc
  obtain ⟨k1', hk1', -⟩ := hal.2.2 _ _ hk1
  obtain ⟨k2', hk2', -⟩ := hal.2.2 _ _ hk2
  have hfit' : (s.vm.noted f.method.cls x.catchType (.cls c)).assignable cell.cls c = true := by rw [hal.assignable]; exact hfit
  simp [findHandler.go, hx, h0, ha, ht, hcell, hobj, hk1', hk2', hfit', VmOp.dirties, VmOp.acts]
theorem fh_no {Q : Handler → Pre} {E : CtlPost} {d : Bool} {acts : List Action} {x : ExceptionTableEntry} {t : List ExceptionTableEntry} {c : ClassId} {cell : Cell} (hx : covers x f.pc = true) (h0 : x.catchType ≠ 0)
    (hl : s.vm.ClassLinks e.platform f.method.cls x.catchType c) (hcell : s.heap[a]? = some cell) (hobj : ∀ k, cell.vm ≠ .statics k)
    (hk : ∃ k, s.vm.classes[cell.cls]? = some k) (hc : ∃ k, s.vm.classes[c]? = some k) (hno : s.vm.assignable cell.cls c = false) :
    wp (findHandler.go f a (x :: t)) Q E e d acts s ↔ wp (findHandler.go f a t) Q E e d acts (s.setVm (s.vm.noted f.method.cls x.catchType (.cls c))) := by
  simp only [covers] at hx
  obtain ⟨ha, ht⟩ := (resolveClass_links e.toSetting hl).op (op := VmOp.resolveClass f.method.cls x.catchType) rfl
  have hal : s.vm.Alike (s.vm.noted f.method.cls x.catchType (.cls c)) := (Vm.Alike.refl s.vm).noted _ _ _
  obtain ⟨k1, hk1⟩ := hk
  obtain ⟨k2, hk2⟩ := hc
  obtain ⟨k1', hk1', -⟩ := hal.2.2 _ _ hk1
  obtain ⟨k2', hk2', -⟩ := hal.2.2 _ _ hk2
  have hno' : (s.vm.noted f.method.cls x.catchType (.cls c)).assignable cell.cls c = false := by rw [hal.assignable]; exact hno
  simp [findHandler.go, hx, h0, ha, ht, hcell, hobj, hk1', hk2', hno', VmOp.dirties, VmOp.acts]
theorem step_caught {r : List Frame} {pc : Nat} {vm' : Vm} (hfind : FTo e s f a (.found pc) vm') :
    (stepThrowing e s a (.java f :: r)).Is ((s.setVm vm').setFrames (.java { f with pc := pc, stack := [.ref a] } :: r)) [] := by
  simp only [stepThrowing, searchFrame, vmDo]
  generalize hr : Sem.go _ e false [] s = res
  obtain ⟨as, rfl, ha⟩ := Sem.eq_ok_of hr (a := Handler.found pc) (s' := s.setVm vm') (acts' := []) (by simp [hfind _ _ _ _])
  exact ⟨rfl, ha⟩
theorem fr_vm (u : State) (vm' : Vm) (F G : List Frame) : ((u.setFrames F).setVm vm').setFrames G = (u.setVm vm').setFrames G := by
  have h1 : (u.setFrames F).setVm vm' = (u.setVm vm').setFrames F := rfl
  rw [h1, State.setFrames_setFrames]
theorem steps_caught {tb : Tables} {target : State} {g : JFrame} {c : Code} {below : List Frame} (h : At s g.method c below) {pc : Nat} {vm' : Vm}
    (hfind : FTo e ((s.setTop g).pushFrame (.throwing a)) g a (.found pc) vm') (hrest : Steps tb e below ((s.setVm vm').setTop { g with pc := pc, stack := [.ref a] }) target) :
    Steps tb e below ((s.setTop g).pushFrame (.throwing a)) target := by
  obtain ⟨hgo, hw⟩ := h.throwing a
  refine Steps.head hgo hw ?_
  rw [stepThread_throwing (frames_entered h.top _), (step_caught (s := (s.setTop g).pushFrame (.throwing a)) hfind).1]
  obtain ⟨g₀, hg⟩ := Option.isSome_iff_exists.mp h.top
  obtain ⟨r, hr⟩ := State.topJava?_eq_some.mp hg
  have hr' : (s.setVm vm').frames = .java g₀ :: r := hr
  rw [State.setTop_of_frames _ hr'] at hrest
  rw [hr, List.tail_cons, State.pushFrame, fr_vm, State.setTop_of_frames _ hr, fr_vm]
  exact hrest
end Fh
section Ca
variable {p : Program} {l : Launch} {e : Env} {R : Room} {s : State} {m : MethodId} {args : Array Value} {below : List Frame} {meth : Method} {c : Code} {H : Heap}
variable {cc : ByteArray} {nL pc : Nat} {ls : Array Slot} {rest : List Value} {own : String} {g : KG} {Z : Nat} {τ : TS} {locs : List Loc} {cells slots : Nat} {T : State} {x : Addr} {cls : String}
/-- the first row catches -/
theorem find_1 {a1 b1 h1 t1 : Nat} {hh : List (Nat × Nat × Nat × Nat)} {nm : String} (C : Cx p s m c cc nL own args g Z) (X : Stand p l e R s m args below meth c T locs cells slots) (hex : ExC cls x T T.heap) (hH : Hd c ((a1, b1, h1, t1) :: hh)) (hc1 : a1 ≤ pc ∧ pc < b1) (ht : t1 ≠ 0) (hlink : Cond.classLink own t1 nm ∈ TB) (hcast : Cond.castable cls nm ∈ TB) :
    ∃ T2 : State, T2.heap = T.heap ∧ Stand p l e R s m args below meth c T2 locs cells slots ∧ ∀ tg, Steps p.tables e below (T2.setTop (F0 m h1 ls [.ref x])) tg → Steps p.tables e below ((T.setTop (F0 m pc ls rest)).pushFrame (.throwing x)) tg := by
  obtain ⟨y, ys, hy, e1, e2⟩ := List.map_eq_cons_iff.mp hH
  cases e1
  obtain ⟨cell, hcell, hobj, hcl0⟩ := hex
  have hpl : e.platform.magicAccessors = ({} : Platform).magicAccessors := by rw [X.admits.platform]
  obtain ⟨cT, hcT, hcl⟩ := Cond.classLink_spec C.1.2.2.2.1 (C.1.2.2.2.2 _ hlink) e.platform hpl
  obtain ⟨dk, _, _, kt, hd, _, _, _, _, hkt, _, hopen⟩ := hcl.here
  have hcl₀ := X.warmed.classLinks hcl
  have hW' : s.WarmedH (T.vm.noted m.cls y.catchType (.cls cT)) := X.warmed.noted hd hopen (State.rightAt_cls hcl)
  have hal := X.warmed.alike
  obtain ⟨kt', hkt', -⟩ := hal.2.2 _ _ hkt
  obtain ⟨c3, c4, hc3, hc4, hasg⟩ := Cond.castable_spec (C.1.2.2.2.2 _ hcast)
  have hfit' : T.vm.assignable cell.cls cT = true := by
    rw [hal.findClass] at hcl0
    cases hc3.symm.trans hcl0
    cases hc4.symm.trans hcT
    rw [hal.assignable]; exact hasg
  refine ⟨T.setVm (T.vm.noted m.cls y.catchType (.cls cT)), rfl, X.noted hW', fun tg hrest => ?_⟩
  refine steps_caught (g := F0 m pc ls rest) X.here (vm' := T.vm.noted m.cls y.catchType (.cls cT)) (fun Q E d acts => ?_) hrest
  rw [Jvm.W.findHandler_eq (f := F0 m pc ls rest) (s := (T.setTop (F0 m pc ls rest)).pushFrame (.throwing x)) (meth := meth) (code := c) X.method' X.code, hy]
  exact fh_yes (f := F0 m pc ls rest) (s := (T.setTop (F0 m pc ls rest)).pushFrame (.throwing x)) (by simp only [covers]; simp; exact hc1) ht hcl₀ hcell (VmData.ne_statics_of hobj) (Vm.classAt_of_assignable hfit' ⟨kt', hkt'⟩) ⟨kt', hkt'⟩ hfit'
/-- the first row passes it over, the second catches -/
theorem find_2 {a1 b1 h1 t1 a2 b2 h2 t2 : Nat} {hh : List (Nat × Nat × Nat × Nat)} {n1 nm : String} (C : Cx p s m c cc nL own args g Z) (X : Stand p l e R s m args below meth c T locs cells slots) (hex : ExC cls x T T.heap) (hH : Hd c ((a1, b1, h1, t1) :: (a2, b2, h2, t2) :: hh)) (hc1 : a1 ≤ pc ∧ pc < b1) (hc2 : a2 ≤ pc ∧ pc < b2) (ht1 : t1 ≠ 0) (ht2 : t2 ≠ 0) (hlink1 : Cond.classLink own t1 n1 ∈ TB) (hno : va_Nc cls n1 s) (hlink : Cond.classLink own t2 nm ∈ TB) (hcast : Cond.castable cls nm ∈ TB) :
    ∃ T2 : State, T2.heap = T.heap ∧ Stand p l e R s m args below meth c T2 locs cells slots ∧ ∀ tg, Steps p.tables e below (T2.setTop (F0 m h2 ls [.ref x])) tg → Steps p.tables e below ((T.setTop (F0 m pc ls rest)).pushFrame (.throwing x)) tg := by
  obtain ⟨y, ys, hy, e1, e2⟩ := List.map_eq_cons_iff.mp hH
  cases e1
  obtain ⟨z, zs, hz, e1, e2⟩ := List.map_eq_cons_iff.mp e2
  cases e1
  subst hz
  obtain ⟨cell, hcell, hobj, hcl0⟩ := hex
  have hpl : e.platform.magicAccessors = ({} : Platform).magicAccessors := by rw [X.admits.platform]
  have hal := X.warmed.alike
  have hcl0' := hcl0
  rw [hal.findClass] at hcl0'
  obtain ⟨cA, hcA, hclA⟩ := Cond.classLink_spec C.1.2.2.2.1 (C.1.2.2.2.2 _ hlink1) e.platform hpl
  obtain ⟨dk, _, _, kA, hd, _, _, _, _, hkA, _, hopen⟩ := hclA.here
  have hclA₀ := X.warmed.classLinks hclA
  have hWA : s.WarmedH (T.vm.noted m.cls y.catchType (.cls cA)) := X.warmed.noted hd hopen (State.rightAt_cls hclA)
  obtain ⟨kA', hkA', -⟩ := hal.2.2 _ _ hkA
  obtain ⟨cq, tq, hq1, hq2, hq3⟩ := hno
  cases hq1.symm.trans hcl0'
  cases hq2.symm.trans hcA
  have hnoT : T.vm.assignable cell.cls cA = false := by rw [hal.assignable]; exact hq3
  have X₁ := X.noted hWA
  have hal₁ := hWA.alike
  obtain ⟨cT, hcT, hcl⟩ := Cond.classLink_spec C.1.2.2.2.1 (C.1.2.2.2.2 _ hlink) e.platform hpl
  obtain ⟨dk2, _, _, kt, hd2, _, _, _, _, hkt, _, hopen2⟩ := hcl.here
  have hcl₀ := X₁.warmed.classLinks hcl
  have hW' : s.WarmedH ((T.vm.noted m.cls y.catchType (.cls cA)).noted m.cls z.catchType (.cls cT)) := X₁.warmed.noted hd2 hopen2 (State.rightAt_cls hcl)
  obtain ⟨kt', hkt', -⟩ := hal₁.2.2 _ _ hkt
  obtain ⟨c3, c4, hc3, hc4, hasg⟩ := Cond.castable_spec (C.1.2.2.2.2 _ hcast)
  cases hc3.symm.trans hcl0'
  cases hc4.symm.trans hcT
  have hfitS : s.vm.assignable cell.cls cT = true := hasg
  have hfit' : (T.vm.noted m.cls y.catchType (.cls cA)).assignable cell.cls cT = true := by rw [hal₁.assignable]; exact hfitS
  obtain ⟨k0, hk0⟩ := Vm.classAt_of_assignable hfitS ⟨kt, hkt⟩
  obtain ⟨k0', hk0', -⟩ := hal.2.2 _ _ hk0
  refine ⟨T.setVm ((T.vm.noted m.cls y.catchType (.cls cA)).noted m.cls z.catchType (.cls cT)), rfl, X.noted hW', fun tg hrest => ?_⟩
  refine steps_caught (g := F0 m pc ls rest) X.here (vm' := (T.vm.noted m.cls y.catchType (.cls cA)).noted m.cls z.catchType (.cls cT)) (fun Q E d acts => ?_) hrest
  rw [Jvm.W.findHandler_eq (f := F0 m pc ls rest) (s := (T.setTop (F0 m pc ls rest)).pushFrame (.throwing x)) (meth := meth) (code := c) X.method' X.code, hy]
  refine (fh_no (f := F0 m pc ls rest) (s := (T.setTop (F0 m pc ls rest)).pushFrame (.throwing x)) (by simp only [covers]; simp; exact hc1) ht1 hclA₀ hcell (VmData.ne_statics_of hobj) ⟨k0', hk0'⟩ ⟨kA', hkA'⟩ hnoT).trans ?_
  exact fh_yes (f := F0 m pc ls rest) (s := ((T.setTop (F0 m pc ls rest)).pushFrame (.throwing x)).setVm (T.vm.noted m.cls y.catchType (.cls cA))) (by simp only [covers]; simp; exact hc2) ht2 hcl₀ hcell (VmData.ne_statics_of hobj) (Vm.classAt_of_assignable hfit' ⟨kt', hkt'⟩) ⟨kt', hkt'⟩ hfit'
end Ca
/-- a contract's head for a method with handlers -/
theorem mk_metH {l : Launch} {g : KG} {Z : Nat} {τ : TS} {y : MethodName} {cc : ByteArray} {nL : Nat} {ret : Option FieldType} {hh : List (Nat × Nat × Nat × Nat)} {rm : Room} {av : List Value} {own : String} {Qc : Array Value → State → Outcome → State → Prop} {mc ms : Nat} {free : Addr → Prop}
    (hy : plainName y.cls = true) (ho : y.cls = own) (hlen : (lg_sl av).length ≤ nL)
    (body : ∀ (p : Program) (e : Env) (s : State) (m : MethodId) (below : List Frame) (meth : Method) (c : Code) (ls : Array Slot), Cx p s m c cc nL own av.toArray g Z → meth.sig.returnType = ret → meth.locks = false → Hd c hh → lv_has ls nL (lv_args 0 av) → WH g Z τ s s.heap [] →
      W p l e rm s m av.toArray below meth c s.heap [] 0 0 (MQ below Qc av.toArray s mc ms free) (F0 m 0 ls [])) : Met l y [.codeWith y cc nL ret hh] rm (va_Pc av (Wd g Z τ)) Qc mc ms free := by
  subst ho
  refine va_MetW (cc := cc) (maxL := nL) (ret := ret) (hh := hh) hy rfl ?_
  intro p e s m args below meth c s₁ B hml hv
  obtain ⟨rfl, hWd⟩ := hv
  have hl := lv_entry av (n := nL) hlen
  have hH : Hd c hh := by
    obtain ⟨m9, meth9, c9, hn9, h1, h2, -, -, h5, -⟩ := Cond.codeWith_spec (atoms_spec (ws := [Cond.codeWith y cc nL ret hh]) B.pre _ List.mem_cons_self)
    cases B.named.symm.trans hn9
    cases B.method.symm.trans h1
    cases (Stand.of_body B).code.symm.trans h2
    exact h5
  rw [lg_entry_eq]
  generalize (lg_sl av ++ List.replicate (nL - (lg_sl av).length) Slot.unset).toArray = ls at hl ⊢
  exact body p e s m below meth c ls ⟨⟨B.exec, B.bytes, hml, findClass_of_methodNamed B.named, hWd.1.2.1.any _⟩, hWd.1⟩ B.returns B.notSynchronized hH hl (WH.start hWd)
section RunH
variable {p : Program} {l : Launch} {e : Env} {R : Room} {s : State} {m : MethodId} {args : Array Value} {below : List Frame} {meth : Method} {c : Code} {H : Heap} {locs : List Loc} {cells slots : Nat}
variable {cc : ByteArray} {nL pc : Nat} {ls : Array Slot} {rest : List Value} {own : String} {g : KG} {Z : Nat} {τ : TS}
def YOH (y : MethodName) (b : ByteArray) (mL : Nat) (ret : Option FieldType) (hh : List (Nat × Nat × Nat × Nat)) (n : Nat) : Prop := Cond.codeWith y b mL ret hh ∈ TB ∧ Cond.initialized y.cls ∈ TB ∧ (y.cls ≠ "java/lang/invoke/MethodHandle" ∧ y.cls ≠ "java/lang/invoke/VarHandle") ∧ (parseMethodDescriptor y.desc).map (fun d => d.parameters.length) = some n
/-- invokestatic of a method with handlers -/
theorem run_SH {y : MethodName} {b : ByteArray} {mL n mc ms : Nat} {ret : Option FieldType} {hh : List (Nat × Nat × Nat × Nat)} {rm : Room} {idx : Nat} {As st : List Value} {Qc : Array Value → State → Outcome → State → Prop} (C : Cx p s m c cc nL own args g Z) (hw : WH g Z τ s H locs) (hM : Met l y [.codeWith y b mL ret hh] rm (va_Pc As (Wd g Z τ)) Qc mc ms (zfree Z)) (hY : YOH y b mL ret hh n) (hlink : Cond.methodLink own idx y ∈ TB) (hstat : Cond.static y ∈ TB) (hrm : rm.cells = mc ∧ rm.slots = ms) (hR : rm.frames + 1 ≤ R.frames ∧ 8 + (mL + 11) + rm.locals ≤ R.locals) (hcs : cells + mc ≤ R.cells ∧ slots + ms ≤ R.slots) (hn : As.length = n) (hls : ls.size = nL) (hst : st = As.reverse ++ rest) (hrest : (rest.map fun v => v.category).sum ≤ 8) (hd : decode cc pc = .ok (.invokestatic idx, 3)) :
    va_Run p l e R s m args below meth c H locs cells slots mc ms (F0 m pc ls st) rest (Qc As.toArray) (zfree Z) := by
  have hp : PreS s H (va_Pc As (Wd g Z τ)) As := pre9 C hw
  have hK : Back l R p e below s args y 3 8 (PreOf R mc ms (va_Pc As (Wd g Z τ))) (PostOf Qc mc ms (zfree Z)) := va_backW (hh := hh) (bytes := b) (maxL := mL) (ret := ret) hM hp.1 hrm.1 hrm.2 hR.1 hR.2
    (fun w hw2 a' U hW => by rw [List.mem_singleton] at hw2; subst hw2; exact TK.any (TK.moved hW C.2.2.1) a' _ hY.1) (List.mem_singleton.mpr rfl) (fun a' U hW => TK.any (TK.moved hW C.2.2.1) a' _ hY.2.1)
  intro T hT X
  obtain ⟨mk, methM, cM, hnamed, hmethM, -, -, -, -, -, -, hsigM⟩ := Cond.codeWith_spec (C.1.2.2.2.2 _ hY.1)
  have hstatic : methM.isStatic = true := Cond.static_spec hnamed hmethM (C.1.2.2.2.2 _ hstat)
  obtain ⟨kP, hkP, -⟩ := className_of_methodNamed hnamed
  have hinitP : kP.init = .initialized := Cond.initialized_spec (findClass_of_methodNamed hnamed) hkP (C.1.2.2.2.2 _ hY.2.1)
  have hlen : ∀ sig, parseMethodDescriptor y.desc = some sig → As.length = sig.parameters.length := fun sig h => by
    have h2 := hY.2.2.2
    rw [h] at h2
    exact hn.trans (Option.some.inj h2).symm
  obtain ⟨vm₁, X₁, hstep₁⟩ := X.invokestatic C.x C.1.2.2.2.1 (C.1.2.2.2.2 _ hlink) hnamed hmethM hstatic hkP hinitP hY.2.2.1 (g := F0 m pc ls st) rfl (argsL := As) (rest := rest) (hlen _ hsigM) hst (by rw [C.b]; exact hd)
  obtain ⟨v, ⟨U', l2, c2, s2⟩, X', ⟨g', mk', t, L, e1, e2, hq, h1, hL, h2, h3⟩, hsteps⟩ := hK m meth c ⟨T.setVm vm₁, locs, cells, slots⟩ { F0 m pc ls st with stack := rest } (.invokestatic idx) mk As.toArray X₁ rfl (hls.trans C.1.2.2.1.symm) (by rw [C.b]; exact hd) (lv_room (m := m) (pc := pc) (ls := ls) (rest := rest) hrest) (X₁.named hnamed)
    ⟨hcs.1, hcs.2, hp.2 (T.setVm vm₁) hT X₁.warmed⟩
  dsimp only [Pt.U, Pt.locs, Pt.cells, Pt.slots] at X' e1 e2 h1 h2 h3 hsteps
  subst h1; subst h2; subst h3
  exact ⟨v, (T.setVm vm₁).calling g' mk' As.toArray, t, U', L, hT, X', hL, e1, e2, hq, fun tg h => hstep₁ _ fun acts => by rw [doInvoke_state]; exact hsteps.trans h⟩
end RunH
end
section
/-! the component's throws -/
section PS
variable {p : Program} {l : Launch} {e : Env} {R : Room} {s : State} {m : MethodId} {args : Array Value} {below : List Frame} {meth : Method} {c : Code} {H : Heap} {locs : List Loc} {cells slots : Nat} {Q : State → Prop}
variable {cc : ByteArray} {nL pc : Nat} {ls : Array Slot} {rest : List Value} {own : String} {g : KG} {Z : Nat} {τ : TS}
theorem ep_z {post : Int32 → Prop} {v : Int32} (C : Cx p s m c cc nL own args g Z) (hr : meth.sig.returnType = some .boolean) (hlk : meth.locks = false) (hd : decode cc pc = .ok (.ireturn, 1)) (hv : v = 0 ∨ v = 1) (hp : post v) :
    W p l e R s m args below meth c s.heap [] cells slots (MQ below (vp_Si post) args s cells slots (fun _ => False)) (F0 m pc ls [.int v]) :=
  W.zret C.x C.b hr (by rcases hv with rfl | rfl <;> rfl) (fun t ht hW => ⟨v, rfl, hp, ht⟩) (fun q h => by cases h) hd hlk
theorem ep_v {post : Unit → Prop} (C : Cx p s m c cc nL own args g Z) (hr : meth.sig.returnType = none) (hlk : meth.locks = false) (hd : decode cc pc = .ok (.return_, 1)) (hp : post ()) :
    W p l e R s m args below meth c s.heap [] cells slots (MQ below (va_Sv post) args s cells slots (fun _ => False)) (F0 m pc ls []) :=
  W.vret C.x C.b hr (fun t ht hW => ⟨rfl, hp, ht⟩) (fun q h => by cases h) hd hlk
theorem pS_i {y : MethodName} {b : ByteArray} {mL n : Nat} {ret : Option FieldType} {rm : Room} {idx : Nat} {As st : List Value} {post : Int32 → Prop} (C : Cx p s m c cc nL own args g Z) (hw : WH g Z τ s H locs) (hM : Met l y [.code y b mL ret] rm (va_Pc As (Wd g Z τ)) (vp_Si post) 0 0 (fun _ => False)) (hY : YOK y b mL ret n) (hlink : Cond.methodLink own idx y ∈ TB) (hstat : Cond.static y ∈ TB) (hrm : rm.cells = 0 ∧ rm.slots = 0) (hR : rm.frames + 1 ≤ R.frames ∧ 8 + (mL + 11) + rm.locals ≤ R.locals) (hcs : cells ≤ R.cells ∧ slots ≤ R.slots) (hn : As.length = n) (hls : ls.size = nL) (hst : st = As.reverse ++ rest) (hrest : (rest.map fun v => v.category).sum ≤ 8) (hd : decode cc pc = .ok (.invokestatic idx, 3))
    (kk : ∀ r : Int32, post r → W p l e R s m args below meth c H locs cells slots Q (F0 m (pc + 3) ls (.int r :: rest))) : W p l e R s m args below meth c H locs cells slots Q (F0 m pc ls st) :=
  vp_callSi (W.runS (g := F0 m pc ls st) (rest := rest) C.1 hM ⟨callB9 C hY hlink hrm hR, C.1.2.2.2.2 _ hstat⟩ (pre9 C hw) rfl hn hls hst (lv_room hrest) hd hcs) kk
theorem pS_v {y : MethodName} {b : ByteArray} {mL n : Nat} {ret : Option FieldType} {rm : Room} {idx : Nat} {As st : List Value} {post : Unit → Prop} (C : Cx p s m c cc nL own args g Z) (hw : WH g Z τ s H locs) (hM : Met l y [.code y b mL ret] rm (va_Pc As (Wd g Z τ)) (va_Sv post) 0 0 (fun _ => False)) (hY : YOK y b mL ret n) (hlink : Cond.methodLink own idx y ∈ TB) (hstat : Cond.static y ∈ TB) (hrm : rm.cells = 0 ∧ rm.slots = 0) (hR : rm.frames + 1 ≤ R.frames ∧ 8 + (mL + 11) + rm.locals ≤ R.locals) (hcs : cells ≤ R.cells ∧ slots ≤ R.slots) (hn : As.length = n) (hls : ls.size = nL) (hst : st = As.reverse ++ rest) (hrest : (rest.map fun v => v.category).sum ≤ 8) (hd : decode cc pc = .ok (.invokestatic idx, 3))
    (kk : W p l e R s m args below meth c H locs cells slots Q (F0 m (pc + 3) ls rest)) : W p l e R s m args below meth c H locs cells slots Q (F0 m pc ls st) :=
  va_csv (W.runS (g := F0 m pc ls st) (rest := rest) C.1 hM ⟨callB9 C hY hlink hrm hR, C.1.2.2.2.2 _ hstat⟩ (pre9 C hw) rfl hn hls hst (lv_room hrest) hd hcs) (fun _ => kk)
end PS
theorem p_in3 (l : Launch) {g : KG} {Z : Nat} {τ : TS} {v a b : Int32} : Met l y_s2 [.code y_s2 prog_1_method_2_code 3 (some .boolean)] (RM 0) (va_Pc [.int v, .int a, .int b] (Wd g Z τ)) (vp_Si (fun r => r = (if a ≤ v ∧ v ≤ b then 1 else 0))) 0 0 (fun _ => False) := by
  refine mk_met (own := "StageClock") (by decide) rfl (Nat.le_of_ble_eq_true rfl) fun p e s m below meth c ls C hr hlk hl hw => ?_
  have hl : lv_has ls 3 [(0, .int v), (1, .int a), (2, .int b)] := hl
  refine lv_iload_n C.x C.b d_s2_0 rfl (lv_at hl 0 rfl) ?_
  refine lv_iload_n C.x C.b d_s2_1 rfl (lv_at hl 1 rfl) ?_
  refine lv_icmp_lt (tgt := 14) C.x C.b d_s2_2 (by decide) (fun h1 => ?_) (fun h1 => ?_)
  · skip
    refine lv_iconst (v := 0) C.x C.b d_s2_14 (by decide) ?_
    exact ep_z C hr hlk d_s2_15 (Or.inl rfl) (if_neg (fun q => Int32.not_le.mpr h1 q.1)).symm
  · skip
    refine lv_iload_n C.x C.b d_s2_5 rfl (lv_at hl 0 rfl) ?_
    refine lv_iload_n C.x C.b d_s2_6 rfl (lv_at hl 2 rfl) ?_
    refine lv_icmp_gt (tgt := 14) C.x C.b d_s2_7 (by decide) (fun h2 => ?_) (fun h2 => ?_)
    · skip
      refine lv_iconst (v := 0) C.x C.b d_s2_14 (by decide) ?_
      exact ep_z C hr hlk d_s2_15 (Or.inl rfl) (if_neg (fun q => Int32.not_le.mpr h2 q.2)).symm
    · skip
      refine lv_iconst (v := 1) C.x C.b d_s2_10 (by decide) ?_
      refine lv_goto (tgt := 15) C.x C.b d_s2_11 (by decide) ?_
      exact ep_z C hr hlk d_s2_15 (Or.inr rfl) (if_pos ⟨Int32.not_lt.mp h1, Int32.not_lt.mp h2⟩).symm
theorem p_legal (l : Launch) {g : KG} {Z : Nat} {τ : TS} : Met l y_s3 [.code y_s3 prog_1_method_3_code 1 none] (RM 0) (va_Pc [.int 1] (Wd g Z τ)) (va_Sv (fun _ => True)) 0 0 (fun _ => False) := by
  refine mk_met (own := "StageClock") (by decide) rfl (Nat.le_of_ble_eq_true rfl) fun p e s m below meth c ls C hr hlk hl hw => ?_
  have hl : lv_has ls 1 [(0, .int 1)] := hl
  refine lv_iload_n C.x C.b d_s3_0 rfl (lv_at hl 0 rfl) ?_
  refine lv_if_ne (tgt := 12) C.x C.b d_s3_1 (by decide) (fun h1 => ?_) (fun h1 => absurd h1 (by decide))
  exact ep_v C hr hlk d_s3_12 trivial
theorem p_asSaid (l : Launch) {g : KG} {Z : Nat} {τ : TS} {t gg ll q : Int32} (h : okd t gg ll q) : Met l y_s7 [.code y_s7 prog_1_method_7_code 4 none] (RM 1) (va_Pc [.int t, .int gg, .int ll, .int q] (Wd g Z τ)) (va_Sv (fun _ => True)) 0 0 (fun _ => False) := by
  refine mk_met (own := "StageClock") (by decide) rfl (Nat.le_of_ble_eq_true rfl) fun p e s m below meth c ls C hr hlk hl hw => ?_
  have hl : lv_has ls 4 [(0, .int t), (1, .int gg), (2, .int ll), (3, .int q)] := hl
  refine lv_iload_n C.x C.b d_s7_0 rfl (lv_at hl 0 rfl) ?_
  refine lv_iconst (v := 1) C.x C.b d_s7_1 (by decide) ?_
  refine lv_bipush (v := 12) C.x C.b d_s7_2 (by decide) ?_
  refine pS_i C hw (p_in3 l) Y_s2 k_82 k_83 ⟨rfl, rfl⟩ (by decide) ⟨Nat.zero_le _, Nat.zero_le _⟩ rfl hl.1 rfl (Nat.le_of_ble_eq_true rfl) d_s7_4 (fun r9 hp => ?_)
  rw [if_pos h.1] at hp
  subst hp
  refine lv_if_eq (tgt := 44) C.x C.b d_s7_7 (by decide) (fun h9 => absurd h9 (by decide)) (fun h9 => ?_)
  refine lv_iload_n C.x C.b d_s7_10 rfl (lv_at hl 1 rfl) ?_
  refine lv_iconst (v := 0) C.x C.b d_s7_11 (by decide) ?_
  refine lv_bipush (v := 15) C.x C.b d_s7_12 (by decide) ?_
  refine pS_i C hw (p_in3 l) Y_s2 k_82 k_83 ⟨rfl, rfl⟩ (by decide) ⟨Nat.zero_le _, Nat.zero_le _⟩ rfl hl.1 rfl (Nat.le_of_ble_eq_true rfl) d_s7_14 (fun r9 hp => ?_)
  rw [if_pos h.2.1] at hp
  subst hp
  refine lv_if_eq (tgt := 44) C.x C.b d_s7_17 (by decide) (fun h9 => absurd h9 (by decide)) (fun h9 => ?_)
  refine lv_iload_n C.x C.b d_s7_20 rfl (lv_at hl 2 rfl) ?_
  refine lv_iconst (v := 0) C.x C.b d_s7_21 (by decide) ?_
  refine lv_bipush (v := 15) C.x C.b d_s7_22 (by decide) ?_
  refine pS_i C hw (p_in3 l) Y_s2 k_82 k_83 ⟨rfl, rfl⟩ (by decide) ⟨Nat.zero_le _, Nat.zero_le _⟩ rfl hl.1 rfl (Nat.le_of_ble_eq_true rfl) d_s7_24 (fun r9 hp => ?_)
  rw [if_pos h.2.2.1] at hp
  subst hp
  refine lv_if_eq (tgt := 44) C.x C.b d_s7_27 (by decide) (fun h9 => absurd h9 (by decide)) (fun h9 => ?_)
  refine lv_iload_n C.x C.b d_s7_30 rfl (lv_at hl 3 rfl) ?_
  refine lv_iconst (v := 0) C.x C.b d_s7_31 (by decide) ?_
  refine lv_bipush (v := 8) C.x C.b d_s7_32 (by decide) ?_
  refine pS_i C hw (p_in3 l) Y_s2 k_82 k_83 ⟨rfl, rfl⟩ (by decide) ⟨Nat.zero_le _, Nat.zero_le _⟩ rfl hl.1 rfl (Nat.le_of_ble_eq_true rfl) d_s7_34 (fun r9 hp => ?_)
  rw [if_pos h.2.2.2] at hp
  subst hp
  refine lv_if_eq (tgt := 44) C.x C.b d_s7_37 (by decide) (fun h9 => absurd h9 (by decide)) (fun h9 => ?_)
  refine lv_iconst (v := 1) C.x C.b d_s7_40 (by decide) ?_
  refine lv_goto (tgt := 45) C.x C.b d_s7_41 (by decide) ?_
  refine pS_v C hw (p_legal l) Y_s3 k_85 k_86 ⟨rfl, rfl⟩ (by decide) ⟨Nat.zero_le _, Nat.zero_le _⟩ rfl hl.1 rfl (Nat.le_of_ble_eq_true rfl) d_s7_45 ?_
  exact ep_v C hr hlk d_s7_48 trivial
theorem x_legal {l : Launch} (hfl : l.flags = flags0) {g : KG} {Z : Nat} {τ : TS} : MetX l y_s3 [.code y_s3 prog_1_method_3_code 1 none] (RX 6) (va_Pc [.int 0] (Wd g Z τ)) "java/lang/IllegalArgumentException" := by
  refine mk_metX (own := "StageClock") (by decide) rfl (Nat.le_of_ble_eq_true rfl) fun p e s m below meth c ls C hlk hno hl hw => ?_
  have hl : lv_has ls 1 [(0, .int 0)] := hl
  refine lv_iload_n C.x C.b d_s3_0 rfl (lv_at hl 0 rfl) ?_
  refine lv_if_ne (tgt := 12) C.x C.b d_s3_1 (by decide) (fun h1 => absurd rfl h1) (fun h1 => ?_)
  exact x_new hfl C hlk hno hw hl.1 (by decide +kernel) ex_1 k_88 k_89 k_7 (by decide) d_s3_4 d_s3_7 d_s3_8 d_s3_11
theorem x_asSaid {l : Launch} (hfl : l.flags = flags0) {g : KG} {Z : Nat} {τ : TS} {t gg ll q : Int32} (h : ¬ okd t gg ll q) : MetX l y_s7 [.code y_s7 prog_1_method_7_code 4 none] (RX 7) (va_Pc [.int t, .int gg, .int ll, .int q] (Wd g Z τ)) "java/lang/IllegalArgumentException" := by
  refine mk_metX (own := "StageClock") (by decide) rfl (Nat.le_of_ble_eq_true rfl) fun p e s m below meth c ls C hlk hno hl hw => ?_
  have hl : lv_has ls 4 [(0, .int t), (1, .int gg), (2, .int ll), (3, .int q)] := hl
  refine lv_iload_n C.x C.b d_s7_0 rfl (lv_at hl 0 rfl) ?_
  refine lv_iconst (v := 1) C.x C.b d_s7_1 (by decide) ?_
  refine lv_bipush (v := 12) C.x C.b d_s7_2 (by decide) ?_
  refine pS_i C hw (p_in3 l) Y_s2 k_82 k_83 ⟨rfl, rfl⟩ (by decide) ⟨Nat.zero_le _, Nat.zero_le _⟩ rfl hl.1 rfl (Nat.le_of_ble_eq_true rfl) d_s7_4 (fun r9 hp => ?_)
  by_cases hc0 : 1 ≤ t ∧ t ≤ 12
  · skip
    rw [if_pos hc0] at hp
    subst hp
    refine lv_if_eq (tgt := 44) C.x C.b d_s7_7 (by decide) (fun h9 => absurd h9 (by decide)) (fun h9 => ?_)
    refine lv_iload_n C.x C.b d_s7_10 rfl (lv_at hl 1 rfl) ?_
    refine lv_iconst (v := 0) C.x C.b d_s7_11 (by decide) ?_
    refine lv_bipush (v := 15) C.x C.b d_s7_12 (by decide) ?_
    refine pS_i C hw (p_in3 l) Y_s2 k_82 k_83 ⟨rfl, rfl⟩ (by decide) ⟨Nat.zero_le _, Nat.zero_le _⟩ rfl hl.1 rfl (Nat.le_of_ble_eq_true rfl) d_s7_14 (fun r9 hp => ?_)
    by_cases hc1 : 0 ≤ gg ∧ gg ≤ 15
    · skip
      rw [if_pos hc1] at hp
      subst hp
      refine lv_if_eq (tgt := 44) C.x C.b d_s7_17 (by decide) (fun h9 => absurd h9 (by decide)) (fun h9 => ?_)
      refine lv_iload_n C.x C.b d_s7_20 rfl (lv_at hl 2 rfl) ?_
      refine lv_iconst (v := 0) C.x C.b d_s7_21 (by decide) ?_
      refine lv_bipush (v := 15) C.x C.b d_s7_22 (by decide) ?_
      refine pS_i C hw (p_in3 l) Y_s2 k_82 k_83 ⟨rfl, rfl⟩ (by decide) ⟨Nat.zero_le _, Nat.zero_le _⟩ rfl hl.1 rfl (Nat.le_of_ble_eq_true rfl) d_s7_24 (fun r9 hp => ?_)
      by_cases hc2 : 0 ≤ ll ∧ ll ≤ 15
      · skip
        rw [if_pos hc2] at hp
        subst hp
        refine lv_if_eq (tgt := 44) C.x C.b d_s7_27 (by decide) (fun h9 => absurd h9 (by decide)) (fun h9 => ?_)
        refine lv_iload_n C.x C.b d_s7_30 rfl (lv_at hl 3 rfl) ?_
        refine lv_iconst (v := 0) C.x C.b d_s7_31 (by decide) ?_
        refine lv_bipush (v := 8) C.x C.b d_s7_32 (by decide) ?_
        refine pS_i C hw (p_in3 l) Y_s2 k_82 k_83 ⟨rfl, rfl⟩ (by decide) ⟨Nat.zero_le _, Nat.zero_le _⟩ rfl hl.1 rfl (Nat.le_of_ble_eq_true rfl) d_s7_34 (fun r9 hp => ?_)
        by_cases hc3 : 0 ≤ q ∧ q ≤ 8
        · skip
          exact absurd ⟨hc0, hc1, hc2, hc3⟩ h
        · skip
          rw [if_neg hc3] at hp
          subst hp
          refine lv_if_eq (tgt := 44) C.x C.b d_s7_37 (by decide) (fun h9 => ?_) (fun h9 => absurd rfl h9)
          refine lv_iconst (v := 0) C.x C.b d_s7_44 (by decide) ?_
          exact x_out hlk hno (xrun_S C hw (x_legal hfl) Y_s3 k_85 k_86 ⟨rfl, rfl⟩ (by decide) (by decide) rfl hl.1 rfl (Nat.le_of_ble_eq_true rfl) d_s7_45)
      · skip
        rw [if_neg hc2] at hp
        subst hp
        refine lv_if_eq (tgt := 44) C.x C.b d_s7_27 (by decide) (fun h9 => ?_) (fun h9 => absurd rfl h9)
        refine lv_iconst (v := 0) C.x C.b d_s7_44 (by decide) ?_
        exact x_out hlk hno (xrun_S C hw (x_legal hfl) Y_s3 k_85 k_86 ⟨rfl, rfl⟩ (by decide) (by decide) rfl hl.1 rfl (Nat.le_of_ble_eq_true rfl) d_s7_45)
    · skip
      rw [if_neg hc1] at hp
      subst hp
      refine lv_if_eq (tgt := 44) C.x C.b d_s7_17 (by decide) (fun h9 => ?_) (fun h9 => absurd rfl h9)
      refine lv_iconst (v := 0) C.x C.b d_s7_44 (by decide) ?_
      exact x_out hlk hno (xrun_S C hw (x_legal hfl) Y_s3 k_85 k_86 ⟨rfl, rfl⟩ (by decide) (by decide) rfl hl.1 rfl (Nat.le_of_ble_eq_true rfl) d_s7_45)
  · skip
    rw [if_neg hc0] at hp
    subst hp
    refine lv_if_eq (tgt := 44) C.x C.b d_s7_7 (by decide) (fun h9 => ?_) (fun h9 => absurd rfl h9)
    refine lv_iconst (v := 0) C.x C.b d_s7_44 (by decide) ?_
    exact x_out hlk hno (xrun_S C hw (x_legal hfl) Y_s3 k_85 k_86 ⟨rfl, rfl⟩ (by decide) (by decide) rfl hl.1 rfl (Nat.le_of_ble_eq_true rfl) d_s7_45)
theorem x_step {l : Launch} (hfl : l.flags = flags0) {g : KG} {Z : Nat} {D B G : Fn2} {nn : Nat} {kn : Int32} {μ : MS} {o : Int64} (hn : nn ≤ 200) {x : Int32} (hx : ¬ ∃ k : Nat, k < nn ∧ x = nI k) : MetX l y_s4 [.code y_s4 prog_1_method_4_code 2 (some (.object "StageClock$Step"))] (RX 6) (va_Pc [.ref Z, .int x] (Wd g Z ((D, B, G, nI nn, kn), μ, o))) "java/lang/IndexOutOfBoundsException" := by
  refine mk_metX (own := "StageClock") (by decide) rfl (Nat.le_of_ble_eq_true rfl) fun p e s m below meth c ls C hlk hno hl hw => ?_
  have hl : lv_has ls 2 [(0, .ref Z), (1, .int x)] := hl
  refine lv_iload_n C.x C.b d_s4_0 rfl (lv_at hl 1 rfl) ?_
  refine lv_iconst (v := 0) C.x C.b d_s4_1 (by decide) ?_
  refine lv_aload_n C.x C.b d_s4_2 rfl (lv_at hl 0 rfl) ?_
  refine q_many C hw d_s4_3 ?_
  refine lv_iconst (v := 1) C.x C.b d_s4_6 (by decide) ?_
  refine lv_isub C.x C.b d_s4_7 ?_
  refine pS_i C hw (p_in3 l) Y_s2 k_82 k_83 ⟨rfl, rfl⟩ (by decide) ⟨Nat.zero_le _, Nat.zero_le _⟩ rfl hl.1 rfl (Nat.le_of_ble_eq_true rfl) d_s4_8 (fun r9 hp => ?_)
  rw [if_neg (fun q => hx ((inb hn).mp q))] at hp
  subst hp
  refine lv_if_ne (tgt := 22) C.x C.b d_s4_11 (by decide) (fun h9 => absurd rfl h9) (fun h9 => ?_)
  exact x_new hfl C hlk hno hw hl.1 (by decide +kernel) ex_3 k_181 k_182 k_10 (by decide) d_s4_14 d_s4_17 d_s4_18 d_s4_21
theorem x_add1 {l : Launch} (hfl : l.flags = flags0) {g : KG} {Z : Nat} {D B G : Fn2} {nn : Nat} {kn : Int32} {μ : MS} {o : Int64} (hn : nn ≤ 200) {t gg r ll ld q wr : Int32} (h : ¬ okd t gg ll q) : MetX l y_s9 [.code y_s9 prog_1_method_9_code 8 (some .int)] (RX 8) (va_Pc [.ref Z, .int t, .int gg, .int r, .int ll, .int ld, .int q, .int wr] (Wd g Z ((D, B, G, nI nn, kn), μ, o))) "java/lang/IllegalArgumentException" := by
  refine mk_metX (own := "StageClock") (by decide) rfl (Nat.le_of_ble_eq_true rfl) fun p e s m below meth c ls C hlk hno hl hw => ?_
  have hl : lv_has ls 8 [(0, .ref Z), (1, .int t), (2, .int gg), (3, .int r), (4, .int ll), (5, .int ld), (6, .int q), (7, .int wr)] := hl
  refine lv_iload_n C.x C.b d_s9_0 rfl (lv_at hl 1 rfl) ?_
  refine lv_iload_n C.x C.b d_s9_1 rfl (lv_at hl 2 rfl) ?_
  refine lv_iload C.x C.b d_s9_2 (lv_at hl 4 rfl) ?_
  refine lv_iload C.x C.b d_s9_4 (lv_at hl 6 rfl) ?_
  exact x_out hlk hno (xrun_S C hw (x_asSaid hfl h) Y_s7 k_79 k_80 ⟨rfl, rfl⟩ (by decide) (by decide) rfl hl.1 rfl (Nat.le_of_ble_eq_true rfl) d_s9_6)
theorem x_add2 {l : Launch} (hfl : l.flags = flags0) {g : KG} {Z : Nat} {D B G : Fn2} {nn : Nat} {kn : Int32} {μ : MS} {o : Int64} (hn : nn ≤ 200) (hf : nn = 200) {t gg r ll ld q wr : Int32} (h : okd t gg ll q) : MetX l y_s9 [.code y_s9 prog_1_method_9_code 8 (some .int)] (RX 8) (va_Pc [.ref Z, .int t, .int gg, .int r, .int ll, .int ld, .int q, .int wr] (Wd g Z ((D, B, G, nI nn, kn), μ, o))) "java/lang/IllegalStateException" := by
  refine mk_metX (own := "StageClock") (by decide) rfl (Nat.le_of_ble_eq_true rfl) fun p e s m below meth c ls C hlk hno hl hw => ?_
  have hl : lv_has ls 8 [(0, .ref Z), (1, .int t), (2, .int gg), (3, .int r), (4, .int ll), (5, .int ld), (6, .int q), (7, .int wr)] := hl
  refine lv_iload_n C.x C.b d_s9_0 rfl (lv_at hl 1 rfl) ?_
  refine lv_iload_n C.x C.b d_s9_1 rfl (lv_at hl 2 rfl) ?_
  refine lv_iload C.x C.b d_s9_2 (lv_at hl 4 rfl) ?_
  refine lv_iload C.x C.b d_s9_4 (lv_at hl 6 rfl) ?_
  refine pS_v C hw (p_asSaid l h) Y_s7 k_79 k_80 ⟨rfl, rfl⟩ (by decide) ⟨Nat.zero_le _, Nat.zero_le _⟩ rfl hl.1 rfl (Nat.le_of_ble_eq_true rfl) d_s9_6 ?_
  refine lv_aload_n C.x C.b d_s9_9 rfl (lv_at hl 0 rfl) ?_
  refine q_many C hw d_s9_10 ?_
  refine lv_sipush (v := 200) C.x C.b d_s9_13 (by decide) ?_
  refine lv_icmp_ne (tgt := 27) C.x C.b d_s9_16 (by decide) (fun h9 => absurd (by rw [hf]; rfl) h9) (fun h9 => ?_)
  exact x_new hfl C hlk hno hw hl.1 (by decide +kernel) ex_2 k_151 k_152 k_8 (by decide) d_s9_19 d_s9_22 d_s9_23 d_s9_26
theorem x_change1 {l : Launch} (hfl : l.flags = flags0) {g : KG} {Z : Nat} {D B G : Fn2} {nn : Nat} {kn : Int32} {μ : MS} {o : Int64} (hn : nn ≤ 200) {x : Int32} {t gg r ll ld q wr : Int32} (h : ¬ okd t gg ll q) : MetX l y_s10 [.code y_s10 prog_1_method_10_code 9 none] (RX 8) (va_Pc [.ref Z, .int x, .int t, .int gg, .int r, .int ll, .int ld, .int q, .int wr] (Wd g Z ((D, B, G, nI nn, kn), μ, o))) "java/lang/IllegalArgumentException" := by
  refine mk_metX (own := "StageClock") (by decide) rfl (Nat.le_of_ble_eq_true rfl) fun p e s m below meth c ls C hlk hno hl hw => ?_
  have hl : lv_has ls 9 [(0, .ref Z), (1, .int x), (2, .int t), (3, .int gg), (4, .int r), (5, .int ll), (6, .int ld), (7, .int q), (8, .int wr)] := hl
  refine lv_iload_n C.x C.b d_s10_0 rfl (lv_at hl 2 rfl) ?_
  refine lv_iload_n C.x C.b d_s10_1 rfl (lv_at hl 3 rfl) ?_
  refine lv_iload C.x C.b d_s10_2 (lv_at hl 5 rfl) ?_
  refine lv_iload C.x C.b d_s10_4 (lv_at hl 7 rfl) ?_
  exact x_out hlk hno (xrun_S C hw (x_asSaid hfl h) Y_s7 k_79 k_80 ⟨rfl, rfl⟩ (by decide) (by decide) rfl hl.1 rfl (Nat.le_of_ble_eq_true rfl) d_s10_6)
theorem x_change2 {l : Launch} (hfl : l.flags = flags0) {g : KG} {Z : Nat} {D B G : Fn2} {nn : Nat} {kn : Int32} {μ : MS} {o : Int64} (hn : nn ≤ 200) {x : Int32} (hx : ¬ ∃ k : Nat, k < nn ∧ x = nI k) {t gg r ll ld q wr : Int32} (h : okd t gg ll q) : MetX l y_s10 [.code y_s10 prog_1_method_10_code 9 none] (RX 8) (va_Pc [.ref Z, .int x, .int t, .int gg, .int r, .int ll, .int ld, .int q, .int wr] (Wd g Z ((D, B, G, nI nn, kn), μ, o))) "java/lang/IndexOutOfBoundsException" := by
  refine mk_metX (own := "StageClock") (by decide) rfl (Nat.le_of_ble_eq_true rfl) fun p e s m below meth c ls C hlk hno hl hw => ?_
  have hl : lv_has ls 9 [(0, .ref Z), (1, .int x), (2, .int t), (3, .int gg), (4, .int r), (5, .int ll), (6, .int ld), (7, .int q), (8, .int wr)] := hl
  refine lv_iload_n C.x C.b d_s10_0 rfl (lv_at hl 2 rfl) ?_
  refine lv_iload_n C.x C.b d_s10_1 rfl (lv_at hl 3 rfl) ?_
  refine lv_iload C.x C.b d_s10_2 (lv_at hl 5 rfl) ?_
  refine lv_iload C.x C.b d_s10_4 (lv_at hl 7 rfl) ?_
  refine pS_v C hw (p_asSaid l h) Y_s7 k_79 k_80 ⟨rfl, rfl⟩ (by decide) ⟨Nat.zero_le _, Nat.zero_le _⟩ rfl hl.1 rfl (Nat.le_of_ble_eq_true rfl) d_s10_6 ?_
  refine lv_iload_n C.x C.b d_s10_9 rfl (lv_at hl 1 rfl) ?_
  refine lv_iconst (v := 0) C.x C.b d_s10_10 (by decide) ?_
  refine lv_aload_n C.x C.b d_s10_11 rfl (lv_at hl 0 rfl) ?_
  refine q_many C hw d_s10_12 ?_
  refine lv_iconst (v := 1) C.x C.b d_s10_15 (by decide) ?_
  refine lv_isub C.x C.b d_s10_16 ?_
  refine pS_i C hw (p_in3 l) Y_s2 k_82 k_83 ⟨rfl, rfl⟩ (by decide) ⟨Nat.zero_le _, Nat.zero_le _⟩ rfl hl.1 rfl (Nat.le_of_ble_eq_true rfl) d_s10_17 (fun r9 hp => ?_)
  rw [if_neg (fun q => hx ((inb hn).mp q))] at hp
  subst hp
  refine lv_if_ne (tgt := 31) C.x C.b d_s10_20 (by decide) (fun h9 => absurd rfl h9) (fun h9 => ?_)
  exact x_new hfl C hlk hno hw hl.1 (by decide +kernel) ex_3 k_181 k_182 k_10 (by decide) d_s10_23 d_s10_26 d_s10_27 d_s10_30
theorem x_cut {l : Launch} (hfl : l.flags = flags0) {g : KG} {Z : Nat} {D B G : Fn2} {nn : Nat} {kn : Int32} {μ : MS} {o : Int64} (hn : nn ≤ 200) {x : Int32} (hx : ¬ ∃ k : Nat, k ≤ nn ∧ x = nI k) : MetX l y_s11 [.code y_s11 prog_1_method_11_code 3 (some .int)] (RX 8) (va_Pc [.ref Z, .int x] (Wd g Z ((D, B, G, nI nn, kn), μ, o))) "java/lang/IllegalArgumentException" := by
  refine mk_metX (own := "StageClock") (by decide) rfl (Nat.le_of_ble_eq_true rfl) fun p e s m below meth c ls C hlk hno hl hw => ?_
  have hl : lv_has ls 3 [(0, .ref Z), (1, .int x)] := hl
  refine lv_iload_n C.x C.b d_s11_0 rfl (lv_at hl 1 rfl) ?_
  refine lv_iconst (v := 0) C.x C.b d_s11_1 (by decide) ?_
  refine lv_aload_n C.x C.b d_s11_2 rfl (lv_at hl 0 rfl) ?_
  refine q_many C hw d_s11_3 ?_
  refine pS_i C hw (p_in3 l) Y_s2 k_82 k_83 ⟨rfl, rfl⟩ (by decide) ⟨Nat.zero_le _, Nat.zero_le _⟩ rfl hl.1 rfl (Nat.le_of_ble_eq_true rfl) d_s11_6 (fun r9 hp => ?_)
  rw [if_neg (fun q => hx ((inc hn).mp q))] at hp
  subst hp
  exact x_out hlk hno (xrun_S C hw (x_legal hfl) Y_s3 k_85 k_86 ⟨rfl, rfl⟩ (by decide) (by decide) rfl hl.1 rfl (Nat.le_of_ble_eq_true rfl) d_s11_9)
theorem x_when1 {l : Launch} (hfl : l.flags = flags0) {g : KG} {Z : Nat} {D B G : Fn2} {nn : Nat} {kn : Int32} {μ : MS} {o : Int64} (hn : nn ≤ 200) {y x : Int32} (hx : ¬ (0 ≤ x ∧ x ≤ 6)) : MetX l y_s12 [.code y_s12 prog_1_method_12_code 4 (some .int)] (RX 8) (va_Pc [.ref Z, .int y, .int x] (Wd g Z ((D, B, G, nI nn, kn), μ, o))) "java/lang/IllegalArgumentException" := by
  refine mk_metX (own := "StageClock") (by decide) rfl (Nat.le_of_ble_eq_true rfl) fun p e s m below meth c ls C hlk hno hl hw => ?_
  have hl : lv_has ls 4 [(0, .ref Z), (1, .int y), (2, .int x)] := hl
  refine lv_iload_n C.x C.b d_s12_0 rfl (lv_at hl 2 rfl) ?_
  refine lv_iconst (v := 0) C.x C.b d_s12_1 (by decide) ?_
  refine lv_bipush (v := 6) C.x C.b d_s12_2 (by decide) ?_
  refine pS_i C hw (p_in3 l) Y_s2 k_82 k_83 ⟨rfl, rfl⟩ (by decide) ⟨Nat.zero_le _, Nat.zero_le _⟩ rfl hl.1 rfl (Nat.le_of_ble_eq_true rfl) d_s12_4 (fun r9 hp => ?_)
  rw [if_neg hx] at hp
  subst hp
  exact x_out hlk hno (xrun_S C hw (x_legal hfl) Y_s3 k_85 k_86 ⟨rfl, rfl⟩ (by decide) (by decide) rfl hl.1 rfl (Nat.le_of_ble_eq_true rfl) d_s12_7)
theorem x_when2 {l : Launch} (hfl : l.flags = flags0) {g : KG} {Z : Nat} {D B G : Fn2} {nn : Nat} {kn : Int32} {μ : MS} {o : Int64} (hn : nn ≤ 200) {x : Int32} (hx : ¬ ∃ k : Nat, k < nn ∧ x = nI k) {wj : Nat} (hw6 : wj ≤ 6) : MetX l y_s12 [.code y_s12 prog_1_method_12_code 4 (some .int)] (RX 8) (va_Pc [.ref Z, .int x, .int (nI wj)] (Wd g Z ((D, B, G, nI nn, kn), μ, o))) "java/lang/IndexOutOfBoundsException" := by
  refine mk_metX (own := "StageClock") (by decide) rfl (Nat.le_of_ble_eq_true rfl) fun p e s m below meth c ls C hlk hno hl hw => ?_
  have hl : lv_has ls 4 [(0, .ref Z), (1, .int x), (2, .int (nI wj))] := hl
  refine lv_iload_n C.x C.b d_s12_0 rfl (lv_at hl 2 rfl) ?_
  refine lv_iconst (v := 0) C.x C.b d_s12_1 (by decide) ?_
  refine lv_bipush (v := 6) C.x C.b d_s12_2 (by decide) ?_
  refine pS_i C hw (p_in3 l) Y_s2 k_82 k_83 ⟨rfl, rfl⟩ (by decide) ⟨Nat.zero_le _, Nat.zero_le _⟩ rfl hl.1 rfl (Nat.le_of_ble_eq_true rfl) d_s12_4 (fun r9 hp => ?_)
  rw [if_pos (show 0 ≤ nI wj ∧ nI wj ≤ 6 from (inc (n := 6) (by decide)).mpr ⟨wj, hw6, rfl⟩)] at hp
  subst hp
  refine pS_v C hw (p_legal l) Y_s3 k_85 k_86 ⟨rfl, rfl⟩ (by decide) ⟨Nat.zero_le _, Nat.zero_le _⟩ rfl hl.1 rfl (Nat.le_of_ble_eq_true rfl) d_s12_7 ?_
  refine lv_aload_n C.x C.b d_s12_10 rfl (lv_at hl 0 rfl) ?_
  refine lv_iload_n C.x C.b d_s12_11 rfl (lv_at hl 1 rfl) ?_
  exact x_out hlk hno (xrun_V C hw (x_step hfl hn hx) (i := 0) (by decide) rfl rfl Y_s4 k_210 k_212 kp_2 ⟨rfl, rfl⟩ (by decide) (by decide) rfl hl.1 rfl (Nat.le_of_ble_eq_true rfl) d_s12_12)
theorem x_in {l : Launch} (hfl : l.flags = flags0) {g : KG} {Z : Nat} {D B G : Fn2} {nn : Nat} {kn : Int32} {μ : MS} {o : Int64} (hn : nn ≤ 200) {y x : Int32} (hx : ¬ (0 ≤ x ∧ x ≤ 4)) : MetX l y_s13 [.code y_s13 prog_1_method_13_code 7 (some .int)] (RX 8) (va_Pc [.ref Z, .int x, .int y] (Wd g Z ((D, B, G, nI nn, kn), μ, o))) "java/lang/IllegalArgumentException" := by
  refine mk_metX (own := "StageClock") (by decide) rfl (Nat.le_of_ble_eq_true rfl) fun p e s m below meth c ls C hlk hno hl hw => ?_
  have hl : lv_has ls 7 [(0, .ref Z), (1, .int x), (2, .int y)] := hl
  refine lv_iload_n C.x C.b d_s13_0 rfl (lv_at hl 1 rfl) ?_
  refine lv_iconst (v := 0) C.x C.b d_s13_1 (by decide) ?_
  refine lv_iconst (v := 4) C.x C.b d_s13_2 (by decide) ?_
  refine pS_i C hw (p_in3 l) Y_s2 k_82 k_83 ⟨rfl, rfl⟩ (by decide) ⟨Nat.zero_le _, Nat.zero_le _⟩ rfl hl.1 rfl (Nat.le_of_ble_eq_true rfl) d_s13_3 (fun r9 hp => ?_)
  rw [if_neg hx] at hp
  subst hp
  exact x_out hlk hno (xrun_S C hw (x_legal hfl) Y_s3 k_85 k_86 ⟨rfl, rfl⟩ (by decide) (by decide) rfl hl.1 rfl (Nat.le_of_ble_eq_true rfl) d_s13_6)
theorem x_held {l : Launch} (hfl : l.flags = flags0) {g : KG} {Z : Nat} {D B G : Fn2} {nn : Nat} {kn : Int32} {μ : MS} {o : Int64} (hn : nn ≤ 200) {x : Int32} (hx : ¬ ∃ k : Nat, k < nn ∧ x = nI k) : MetX l y_s14 [.code y_s14 prog_1_method_14_code 3 (some .int)] (RX 8) (va_Pc [.ref Z, .int x] (Wd g Z ((D, B, G, nI nn, kn), μ, o))) "java/lang/IndexOutOfBoundsException" := by
  refine mk_metX (own := "StageClock") (by decide) rfl (Nat.le_of_ble_eq_true rfl) fun p e s m below meth c ls C hlk hno hl hw => ?_
  have hl : lv_has ls 3 [(0, .ref Z), (1, .int x)] := hl
  refine lv_aload_n C.x C.b d_s14_0 rfl (lv_at hl 0 rfl) ?_
  refine lv_iload_n C.x C.b d_s14_1 rfl (lv_at hl 1 rfl) ?_
  exact x_out hlk hno (xrun_V C hw (x_step hfl hn hx) (i := 0) (by decide) rfl rfl Y_s4 k_210 k_212 kp_2 ⟨rfl, rfl⟩ (by decide) (by decide) rfl hl.1 rfl (Nat.le_of_ble_eq_true rfl) d_s14_2)
theorem x_giver1 {l : Launch} (hfl : l.flags = flags0) {g : KG} {Z : Nat} {D B G : Fn2} {nn : Nat} {kn : Int32} {μ : MS} {o : Int64} (hn : nn ≤ 200) {y x : Int32} (hx : ¬ (1 ≤ x ∧ x ≤ 15)) : MetX l y_s15 [.code y_s15 prog_1_method_15_code 3 (some .int)] (RX 8) (va_Pc [.ref Z, .int y, .int x] (Wd g Z ((D, B, G, nI nn, kn), μ, o))) "java/lang/IllegalArgumentException" := by
  refine mk_metX (own := "StageClock") (by decide) rfl (Nat.le_of_ble_eq_true rfl) fun p e s m below meth c ls C hlk hno hl hw => ?_
  have hl : lv_has ls 3 [(0, .ref Z), (1, .int y), (2, .int x)] := hl
  refine lv_iload_n C.x C.b d_s15_0 rfl (lv_at hl 2 rfl) ?_
  refine lv_iconst (v := 1) C.x C.b d_s15_1 (by decide) ?_
  refine lv_bipush (v := 15) C.x C.b d_s15_2 (by decide) ?_
  refine pS_i C hw (p_in3 l) Y_s2 k_82 k_83 ⟨rfl, rfl⟩ (by decide) ⟨Nat.zero_le _, Nat.zero_le _⟩ rfl hl.1 rfl (Nat.le_of_ble_eq_true rfl) d_s15_4 (fun r9 hp => ?_)
  rw [if_neg hx] at hp
  subst hp
  exact x_out hlk hno (xrun_S C hw (x_legal hfl) Y_s3 k_85 k_86 ⟨rfl, rfl⟩ (by decide) (by decide) rfl hl.1 rfl (Nat.le_of_ble_eq_true rfl) d_s15_7)
theorem x_giver2 {l : Launch} (hfl : l.flags = flags0) {g : KG} {Z : Nat} {D B G : Fn2} {nn : Nat} {kn : Int32} {μ : MS} {o : Int64} (hn : nn ≤ 200) {x : Int32} (hx : ¬ ∃ k : Nat, k < nn ∧ x = nI k) {r : Nat} (hr1 : 1 ≤ r) (hr2 : r ≤ 15) : MetX l y_s15 [.code y_s15 prog_1_method_15_code 3 (some .int)] (RX 8) (va_Pc [.ref Z, .int x, .int (nI r)] (Wd g Z ((D, B, G, nI nn, kn), μ, o))) "java/lang/IndexOutOfBoundsException" := by
  refine mk_metX (own := "StageClock") (by decide) rfl (Nat.le_of_ble_eq_true rfl) fun p e s m below meth c ls C hlk hno hl hw => ?_
  have hl : lv_has ls 3 [(0, .ref Z), (1, .int x), (2, .int (nI r))] := hl
  refine lv_iload_n C.x C.b d_s15_0 rfl (lv_at hl 2 rfl) ?_
  refine lv_iconst (v := 1) C.x C.b d_s15_1 (by decide) ?_
  refine lv_bipush (v := 15) C.x C.b d_s15_2 (by decide) ?_
  refine pS_i C hw (p_in3 l) Y_s2 k_82 k_83 ⟨rfl, rfl⟩ (by decide) ⟨Nat.zero_le _, Nat.zero_le _⟩ rfl hl.1 rfl (Nat.le_of_ble_eq_true rfl) d_s15_4 (fun r9 hp => ?_)
  rw [if_pos (show 1 ≤ nI r ∧ nI r ≤ 15 from ⟨nI_le (a := 1) hr1 (by omega), nI_le (b := 15) hr2 (by decide)⟩)] at hp
  subst hp
  refine pS_v C hw (p_legal l) Y_s3 k_85 k_86 ⟨rfl, rfl⟩ (by decide) ⟨Nat.zero_le _, Nat.zero_le _⟩ rfl hl.1 rfl (Nat.le_of_ble_eq_true rfl) d_s15_7 ?_
  refine lv_aload_n C.x C.b d_s15_10 rfl (lv_at hl 0 rfl) ?_
  refine lv_iload_n C.x C.b d_s15_11 rfl (lv_at hl 1 rfl) ?_
  exact x_out hlk hno (xrun_V C hw (x_step hfl hn hx) (i := 0) (by decide) rfl rfl Y_s4 k_210 k_212 kp_2 ⟨rfl, rfl⟩ (by decide) (by decide) rfl hl.1 rfl (Nat.le_of_ble_eq_true rfl) d_s15_12)
theorem x_count {l : Launch} (hfl : l.flags = flags0) {g : KG} {Z : Nat} {D B G : Fn2} {nn : Nat} {kn : Int32} {μ : MS} {o : Int64} (hn : nn ≤ 200) {x : Int32} (hx : ¬ (0 ≤ x ∧ x ≤ 3)) : MetX l y_s16 [.code y_s16 prog_1_method_16_code 5 (some .int)] (RX 8) (va_Pc [.ref Z, .int x] (Wd g Z ((D, B, G, nI nn, kn), μ, o))) "java/lang/IllegalArgumentException" := by
  refine mk_metX (own := "StageClock") (by decide) rfl (Nat.le_of_ble_eq_true rfl) fun p e s m below meth c ls C hlk hno hl hw => ?_
  have hl : lv_has ls 5 [(0, .ref Z), (1, .int x)] := hl
  refine lv_iload_n C.x C.b d_s16_0 rfl (lv_at hl 1 rfl) ?_
  refine lv_iconst (v := 0) C.x C.b d_s16_1 (by decide) ?_
  refine lv_iconst (v := 3) C.x C.b d_s16_2 (by decide) ?_
  refine pS_i C hw (p_in3 l) Y_s2 k_82 k_83 ⟨rfl, rfl⟩ (by decide) ⟨Nat.zero_le _, Nat.zero_le _⟩ rfl hl.1 rfl (Nat.le_of_ble_eq_true rfl) d_s16_3 (fun r9 hp => ?_)
  rw [if_neg hx] at hp
  subst hp
  exact x_out hlk hno (xrun_S C hw (x_legal hfl) Y_s3 k_85 k_86 ⟨rfl, rfl⟩ (by decide) (by decide) rfl hl.1 rfl (Nat.le_of_ble_eq_true rfl) d_s16_6)
end
section
/-! the law's wrappers -/
theorem WH.grow {g : KG} {Z : Nat} {τ : TS} {s : State} {H H1 : Heap} {locs : List Loc} (h : WH g Z τ s H locs) (hk : ∀ q : Nat, q < H.size → H1[q]? = H[q]?) (hz : H.size ≤ H1.size) : WH g Z τ s H1 locs :=
  ⟨h.1.kept (fun k q hq => hk _ ((h.1 k q hq).lt)), Nat.le_trans h.2.1 hz, fun q h1 h2 => (hk q (Nat.lt_of_lt_of_le h1 h.2.1)).trans (h.2.2.1 q h1 h2), h.2.2.2⟩
abbrev CH (l : Launch) (y : MethodName) (b : ByteArray) (mL : Nat) (hh : List (Nat × Nat × Nat × Nat)) (av : List Value) (g : KG) (Z : Nat) (τ : TS) (post : Int32 → TS → Prop) : Prop := Met l y [.codeWith y b mL (some .int) hh] (RX 9) (va_Pc av (Wd g Z τ)) (va_Qi post (Wd g Z) (zfree Z)) 1 6 (zfree Z)
def hh_w3 : List (Nat × Nat × Nat × Nat) := [(0, 20, 23, 13), (0, 20, 27, 15)]
theorem Yh_w3 : YOH y_w3 method_3_code 10 (some .int) hh_w3 9 := ⟨k_72, k_0, by decide, by decide +kernel⟩
def hh_w4 : List (Nat × Nat × Nat × Nat) := [(0, 17, 20, 13), (0, 17, 24, 21)]
theorem Yh_w4 : YOH y_w4 method_4_code 10 (some .int) hh_w4 9 := ⟨k_175, k_0, by decide, by decide +kernel⟩
def hh_w5 : List (Nat × Nat × Nat × Nat) := [(0, 9, 12, 13)]
theorem Yh_w5 : YOH y_w5 method_5_code 4 (some .int) hh_w5 3 := ⟨k_198, k_0, by decide, by decide +kernel⟩
def hh_w6 : List (Nat × Nat × Nat × Nat) := [(0, 10, 13, 13), (0, 10, 17, 21)]
theorem Yh_w6 : YOH y_w6 method_6_code 5 (some .int) hh_w6 4 := ⟨k_205, k_0, by decide, by decide +kernel⟩
def hh_w7 : List (Nat × Nat × Nat × Nat) := [(0, 10, 13, 13)]
theorem Yh_w7 : YOH y_w7 method_7_code 5 (some .int) hh_w7 4 := ⟨k_241, k_0, by decide, by decide +kernel⟩
def hh_w8 : List (Nat × Nat × Nat × Nat) := [(0, 9, 12, 21)]
theorem Yh_w8 : YOH y_w8 method_8_code 4 (some .int) hh_w8 3 := ⟨k_248, k_0, by decide, by decide +kernel⟩
def hh_w9 : List (Nat × Nat × Nat × Nat) := [(0, 10, 13, 13), (0, 10, 17, 21)]
theorem Yh_w9 : YOH y_w9 method_9_code 5 (some .int) hh_w9 4 := ⟨k_255, k_0, by decide, by decide +kernel⟩
def hh_w10 : List (Nat × Nat × Nat × Nat) := [(0, 9, 12, 13)]
theorem Yh_w10 : YOH y_w10 method_10_code 4 (some .int) hh_w10 3 := ⟨k_262, k_0, by decide, by decide +kernel⟩
theorem h_add0 {l : Launch} {g : KG} {Z : Nat} {D B G : Fn2} {nn : Nat} {kn : Int32} {μ : MS} {o : Int64} (hn : nn < 200) {t gg r ll ld q wr : Int32} (h : okd t gg ll q) (hld : ld = 0 ∨ ld = 1) (hwr : wr = 0 ∨ wr = 1) : CH l y_w3 method_3_code 10 hh_w3 [.ref Z, .int t, .int gg, .int r, .int ll, .int ld, .int q, .int wr, .ref (Z + 615)] g Z ((D, B, G, nI nn, kn), μ, o) (fun v u => v = 0 ∧ u = ((gv7 D nn t gg r ll ld q wr, B, G, nI (nn + 1), mi kn (nI nn)), μ, (nI nn).toInt64)) := by
  refine mk_metH (own := "StageClockLaw") (by decide) rfl (Nat.le_of_ble_eq_true rfl) fun p e s m below meth c ls C hr hlk hH hl hw => ?_
  have hl : lv_has ls 10 [(0, .ref Z), (1, .int t), (2, .int gg), (3, .int r), (4, .int ll), (5, .int ld), (6, .int q), (7, .int wr), (8, .ref (Z + 615))] := hl
  refine lv_aload C.x C.b d_w3_0 (lv_at hl 8 rfl) ?_
  refine lv_iconst (v := 0) C.x C.b d_w3_2 (by decide) ?_
  refine lv_aload_n C.x C.b d_w3_3 rfl (lv_at hl 0 rfl) ?_
  refine lv_iload_n C.x C.b d_w3_4 rfl (lv_at hl 1 rfl) ?_
  refine lv_iload_n C.x C.b d_w3_5 rfl (lv_at hl 2 rfl) ?_
  refine lv_iload_n C.x C.b d_w3_6 rfl (lv_at hl 3 rfl) ?_
  refine lv_iload C.x C.b d_w3_7 (lv_at hl 4 rfl) ?_
  refine lv_iload C.x C.b d_w3_9 (lv_at hl 5 rfl) ?_
  refine lv_iload C.x C.b d_w3_11 (lv_at hl 6 rfl) ?_
  refine lv_iload C.x C.b d_w3_13 (lv_at hl 7 rfl) ?_
  refine ret_i hw (run_V C hw (c_add l hn h hld hwr) (i := 0) (by decide) rfl rfl Y_s9 k_75 k_76 k_77 ⟨rfl, rfl⟩ (by decide) ⟨Nat.zero_le _, Nat.zero_le _⟩ rfl hl.1 rfl (Nat.le_of_ble_eq_true rfl) d_w3_15) (fun r9 u9 H locs hp hw => ?_)
  obtain ⟨rfl, rfl⟩ := hp
  refine lv_i2l (v := (nI nn).toInt64) C.x C.b d_w3_18 rfl ?_
  refine s_o C hw d_w3_19 (fun H locs hw => ?_)
  refine lv_goto (tgt := 31) C.x C.b d_w3_20 (by decide) ?_
  refine lv_iconst (v := 0) C.x C.b d_w3_31 (by decide) ?_
  refine W.widen (k := 1) (n := 6) (by decide) (by decide) ?_
  exact e_i C hr hlk hw d_w3_32 ⟨rfl, rfl⟩
theorem h_add1 {l : Launch} (hfl : l.flags = flags0) {g : KG} {Z : Nat} {D B G : Fn2} {nn : Nat} {kn : Int32} {μ : MS} {o : Int64} (hn : nn ≤ 200) {t gg r ll ld q wr : Int32} (h : ¬ okd t gg ll q) : CH l y_w3 method_3_code 10 hh_w3 [.ref Z, .int t, .int gg, .int r, .int ll, .int ld, .int q, .int wr, .ref (Z + 615)] g Z ((D, B, G, nI nn, kn), μ, o) (fun r u => r = 1 ∧ u = ((D, B, G, nI nn, kn), μ, o)) := by
  refine mk_metH (own := "StageClockLaw") (by decide) rfl (Nat.le_of_ble_eq_true rfl) fun p e s m below meth c ls C hr hlk hH hl hw => ?_
  have hl : lv_has ls 10 [(0, .ref Z), (1, .int t), (2, .int gg), (3, .int r), (4, .int ll), (5, .int ld), (6, .int q), (7, .int wr), (8, .ref (Z + 615))] := hl
  refine lv_aload C.x C.b d_w3_0 (lv_at hl 8 rfl) ?_
  refine lv_iconst (v := 0) C.x C.b d_w3_2 (by decide) ?_
  refine lv_aload_n C.x C.b d_w3_3 rfl (lv_at hl 0 rfl) ?_
  refine lv_iload_n C.x C.b d_w3_4 rfl (lv_at hl 1 rfl) ?_
  refine lv_iload_n C.x C.b d_w3_5 rfl (lv_at hl 2 rfl) ?_
  refine lv_iload_n C.x C.b d_w3_6 rfl (lv_at hl 3 rfl) ?_
  refine lv_iload C.x C.b d_w3_7 (lv_at hl 4 rfl) ?_
  refine lv_iload C.x C.b d_w3_9 (lv_at hl 5 rfl) ?_
  refine lv_iload C.x C.b d_w3_11 (lv_at hl 6 rfl) ?_
  refine lv_iload C.x C.b d_w3_13 (lv_at hl 7 rfl) ?_
  refine x_caught (hpc := 23) (xrun_V C hw (x_add1 hfl hn h) (i := 0) (by decide) rfl rfl Y_s9 k_75 k_76 k_77 ⟨rfl, rfl⟩ (by decide) (by decide) rfl hl.1 rfl (Nat.le_of_ble_eq_true rfl) d_w3_15) (fun T9 x9 X9 hex => find_1 C X9 hex hH ⟨Nat.le_of_ble_eq_true rfl, Nat.le_of_ble_eq_true rfl⟩ (by decide) k_73 k_90) (fun x9 H hk hz => ?_)
  have hw := hw.grow hk hz
  refine lv_astore (lv' := [(9, .ref x9), (0, .ref Z), (1, .int t), (2, .int gg), (3, .int r), (4, .int ll), (5, .int ld), (6, .int q), (7, .int wr), (8, .ref (Z + 615))]) C.x C.b d_w3_23 hl (by decide) rfl (fun ls hl => ?_)
  refine lv_iconst (v := 1) C.x C.b d_w3_25 (by decide) ?_
  exact e_i C hr hlk hw d_w3_26 ⟨rfl, rfl⟩
theorem h_add2 {l : Launch} (hfl : l.flags = flags0) {g : KG} {Z : Nat} {D B G : Fn2} {nn : Nat} {kn : Int32} {μ : MS} {o : Int64} (hn : nn ≤ 200) (hf : nn = 200) {t gg r ll ld q wr : Int32} (h : okd t gg ll q) : CH l y_w3 method_3_code 10 hh_w3 [.ref Z, .int t, .int gg, .int r, .int ll, .int ld, .int q, .int wr, .ref (Z + 615)] g Z ((D, B, G, nI nn, kn), μ, o) (fun r u => r = 2 ∧ u = ((D, B, G, nI nn, kn), μ, o)) := by
  refine mk_metH (own := "StageClockLaw") (by decide) rfl (Nat.le_of_ble_eq_true rfl) fun p e s m below meth c ls C hr hlk hH hl hw => ?_
  have hl : lv_has ls 10 [(0, .ref Z), (1, .int t), (2, .int gg), (3, .int r), (4, .int ll), (5, .int ld), (6, .int q), (7, .int wr), (8, .ref (Z + 615))] := hl
  refine lv_aload C.x C.b d_w3_0 (lv_at hl 8 rfl) ?_
  refine lv_iconst (v := 0) C.x C.b d_w3_2 (by decide) ?_
  refine lv_aload_n C.x C.b d_w3_3 rfl (lv_at hl 0 rfl) ?_
  refine lv_iload_n C.x C.b d_w3_4 rfl (lv_at hl 1 rfl) ?_
  refine lv_iload_n C.x C.b d_w3_5 rfl (lv_at hl 2 rfl) ?_
  refine lv_iload_n C.x C.b d_w3_6 rfl (lv_at hl 3 rfl) ?_
  refine lv_iload C.x C.b d_w3_7 (lv_at hl 4 rfl) ?_
  refine lv_iload C.x C.b d_w3_9 (lv_at hl 5 rfl) ?_
  refine lv_iload C.x C.b d_w3_11 (lv_at hl 6 rfl) ?_
  refine lv_iload C.x C.b d_w3_13 (lv_at hl 7 rfl) ?_
  refine x_caught (hpc := 27) (xrun_V C hw (x_add2 hfl hn hf h) (i := 0) (by decide) rfl rfl Y_s9 k_75 k_76 k_77 ⟨rfl, rfl⟩ (by decide) (by decide) rfl hl.1 rfl (Nat.le_of_ble_eq_true rfl) d_w3_15) (fun T9 x9 X9 hex => find_2 C X9 hex hH ⟨Nat.le_of_ble_eq_true rfl, Nat.le_of_ble_eq_true rfl⟩ ⟨Nat.le_of_ble_eq_true rfl, Nat.le_of_ble_eq_true rfl⟩ (by decide) (by decide) k_73 C.2.2.2.2.2.1 k_74 k_153) (fun x9 H hk hz => ?_)
  have hw := hw.grow hk hz
  refine lv_astore (lv' := [(9, .ref x9), (0, .ref Z), (1, .int t), (2, .int gg), (3, .int r), (4, .int ll), (5, .int ld), (6, .int q), (7, .int wr), (8, .ref (Z + 615))]) C.x C.b d_w3_27 hl (by decide) rfl (fun ls hl => ?_)
  refine lv_iconst (v := 2) C.x C.b d_w3_29 (by decide) ?_
  exact e_i C hr hlk hw d_w3_30 ⟨rfl, rfl⟩
theorem h_change0 {l : Launch} {g : KG} {Z : Nat} {D B G : Fn2} {nn : Nat} {kn : Int32} {μ : MS} {o : Int64} (hn : nn ≤ 200) {k : Nat} (hk : k < nn) {t gg r ll ld q wr : Int32} (h : okd t gg ll q) (hld : ld = 0 ∨ ld = 1) (hwr : wr = 0 ∨ wr = 1) : CH l y_w4 method_4_code 10 hh_w4 [.ref Z, .int (nI k), .int t, .int gg, .int r, .int ll, .int ld, .int q, .int wr] g Z ((D, B, G, nI nn, kn), μ, o) (fun v u => v = 0 ∧ u = ((gv7 D k t gg r ll ld q wr, B, G, nI nn, mi kn (nI k)), μ, o)) := by
  refine mk_metH (own := "StageClockLaw") (by decide) rfl (Nat.le_of_ble_eq_true rfl) fun p e s m below meth c ls C hr hlk hH hl hw => ?_
  have hl : lv_has ls 10 [(0, .ref Z), (1, .int (nI k)), (2, .int t), (3, .int gg), (4, .int r), (5, .int ll), (6, .int ld), (7, .int q), (8, .int wr)] := hl
  refine lv_aload_n C.x C.b d_w4_0 rfl (lv_at hl 0 rfl) ?_
  refine lv_iload_n C.x C.b d_w4_1 rfl (lv_at hl 1 rfl) ?_
  refine lv_iload_n C.x C.b d_w4_2 rfl (lv_at hl 2 rfl) ?_
  refine lv_iload_n C.x C.b d_w4_3 rfl (lv_at hl 3 rfl) ?_
  refine lv_iload C.x C.b d_w4_4 (lv_at hl 4 rfl) ?_
  refine lv_iload C.x C.b d_w4_6 (lv_at hl 5 rfl) ?_
  refine lv_iload C.x C.b d_w4_8 (lv_at hl 6 rfl) ?_
  refine lv_iload C.x C.b d_w4_10 (lv_at hl 7 rfl) ?_
  refine lv_iload C.x C.b d_w4_12 (lv_at hl 8 rfl) ?_
  refine ret_v hw (run_V C hw (c_change l hn hk h hld hwr) (i := 0) (by decide) rfl rfl Y_s10 k_177 k_178 k_179 ⟨rfl, rfl⟩ (by decide) ⟨Nat.zero_le _, Nat.zero_le _⟩ rfl hl.1 rfl (Nat.le_of_ble_eq_true rfl) d_w4_14) (fun u9 H locs hp hw => ?_)
  subst hp
  refine lv_goto (tgt := 28) C.x C.b d_w4_17 (by decide) ?_
  refine lv_iconst (v := 0) C.x C.b d_w4_28 (by decide) ?_
  refine W.widen (k := 1) (n := 6) (by decide) (by decide) ?_
  exact e_i C hr hlk hw d_w4_29 ⟨rfl, rfl⟩
theorem h_change1 {l : Launch} (hfl : l.flags = flags0) {g : KG} {Z : Nat} {D B G : Fn2} {nn : Nat} {kn : Int32} {μ : MS} {o : Int64} (hn : nn ≤ 200) {x : Int32} {t gg r ll ld q wr : Int32} (h : ¬ okd t gg ll q) : CH l y_w4 method_4_code 10 hh_w4 [.ref Z, .int x, .int t, .int gg, .int r, .int ll, .int ld, .int q, .int wr] g Z ((D, B, G, nI nn, kn), μ, o) (fun r u => r = 1 ∧ u = ((D, B, G, nI nn, kn), μ, o)) := by
  refine mk_metH (own := "StageClockLaw") (by decide) rfl (Nat.le_of_ble_eq_true rfl) fun p e s m below meth c ls C hr hlk hH hl hw => ?_
  have hl : lv_has ls 10 [(0, .ref Z), (1, .int x), (2, .int t), (3, .int gg), (4, .int r), (5, .int ll), (6, .int ld), (7, .int q), (8, .int wr)] := hl
  refine lv_aload_n C.x C.b d_w4_0 rfl (lv_at hl 0 rfl) ?_
  refine lv_iload_n C.x C.b d_w4_1 rfl (lv_at hl 1 rfl) ?_
  refine lv_iload_n C.x C.b d_w4_2 rfl (lv_at hl 2 rfl) ?_
  refine lv_iload_n C.x C.b d_w4_3 rfl (lv_at hl 3 rfl) ?_
  refine lv_iload C.x C.b d_w4_4 (lv_at hl 4 rfl) ?_
  refine lv_iload C.x C.b d_w4_6 (lv_at hl 5 rfl) ?_
  refine lv_iload C.x C.b d_w4_8 (lv_at hl 6 rfl) ?_
  refine lv_iload C.x C.b d_w4_10 (lv_at hl 7 rfl) ?_
  refine lv_iload C.x C.b d_w4_12 (lv_at hl 8 rfl) ?_
  refine x_caught (hpc := 20) (xrun_V C hw (x_change1 hfl hn h) (i := 0) (by decide) rfl rfl Y_s10 k_177 k_178 k_179 ⟨rfl, rfl⟩ (by decide) (by decide) rfl hl.1 rfl (Nat.le_of_ble_eq_true rfl) d_w4_14) (fun T9 x9 X9 hex => find_1 C X9 hex hH ⟨Nat.le_of_ble_eq_true rfl, Nat.le_of_ble_eq_true rfl⟩ (by decide) k_73 k_90) (fun x9 H hk hz => ?_)
  have hw := hw.grow hk hz
  refine lv_astore (lv' := [(9, .ref x9), (0, .ref Z), (1, .int x), (2, .int t), (3, .int gg), (4, .int r), (5, .int ll), (6, .int ld), (7, .int q), (8, .int wr)]) C.x C.b d_w4_20 hl (by decide) rfl (fun ls hl => ?_)
  refine lv_iconst (v := 1) C.x C.b d_w4_22 (by decide) ?_
  exact e_i C hr hlk hw d_w4_23 ⟨rfl, rfl⟩
theorem h_change2 {l : Launch} (hfl : l.flags = flags0) {g : KG} {Z : Nat} {D B G : Fn2} {nn : Nat} {kn : Int32} {μ : MS} {o : Int64} (hn : nn ≤ 200) {x : Int32} (hx : ¬ ∃ k : Nat, k < nn ∧ x = nI k) {t gg r ll ld q wr : Int32} (h : okd t gg ll q) : CH l y_w4 method_4_code 10 hh_w4 [.ref Z, .int x, .int t, .int gg, .int r, .int ll, .int ld, .int q, .int wr] g Z ((D, B, G, nI nn, kn), μ, o) (fun r u => r = 2 ∧ u = ((D, B, G, nI nn, kn), μ, o)) := by
  refine mk_metH (own := "StageClockLaw") (by decide) rfl (Nat.le_of_ble_eq_true rfl) fun p e s m below meth c ls C hr hlk hH hl hw => ?_
  have hl : lv_has ls 10 [(0, .ref Z), (1, .int x), (2, .int t), (3, .int gg), (4, .int r), (5, .int ll), (6, .int ld), (7, .int q), (8, .int wr)] := hl
  refine lv_aload_n C.x C.b d_w4_0 rfl (lv_at hl 0 rfl) ?_
  refine lv_iload_n C.x C.b d_w4_1 rfl (lv_at hl 1 rfl) ?_
  refine lv_iload_n C.x C.b d_w4_2 rfl (lv_at hl 2 rfl) ?_
  refine lv_iload_n C.x C.b d_w4_3 rfl (lv_at hl 3 rfl) ?_
  refine lv_iload C.x C.b d_w4_4 (lv_at hl 4 rfl) ?_
  refine lv_iload C.x C.b d_w4_6 (lv_at hl 5 rfl) ?_
  refine lv_iload C.x C.b d_w4_8 (lv_at hl 6 rfl) ?_
  refine lv_iload C.x C.b d_w4_10 (lv_at hl 7 rfl) ?_
  refine lv_iload C.x C.b d_w4_12 (lv_at hl 8 rfl) ?_
  refine x_caught (hpc := 24) (xrun_V C hw (x_change2 hfl hn hx h) (i := 0) (by decide) rfl rfl Y_s10 k_177 k_178 k_179 ⟨rfl, rfl⟩ (by decide) (by decide) rfl hl.1 rfl (Nat.le_of_ble_eq_true rfl) d_w4_14) (fun T9 x9 X9 hex => find_2 C X9 hex hH ⟨Nat.le_of_ble_eq_true rfl, Nat.le_of_ble_eq_true rfl⟩ ⟨Nat.le_of_ble_eq_true rfl, Nat.le_of_ble_eq_true rfl⟩ (by decide) (by decide) k_73 C.2.2.2.2.2.2 k_176 k_183) (fun x9 H hk hz => ?_)
  have hw := hw.grow hk hz
  refine lv_astore (lv' := [(9, .ref x9), (0, .ref Z), (1, .int x), (2, .int t), (3, .int gg), (4, .int r), (5, .int ll), (6, .int ld), (7, .int q), (8, .int wr)]) C.x C.b d_w4_24 hl (by decide) rfl (fun ls hl => ?_)
  refine lv_iconst (v := 2) C.x C.b d_w4_26 (by decide) ?_
  exact e_i C hr hlk hw d_w4_27 ⟨rfl, rfl⟩
theorem h_cut0 {l : Launch} {g : KG} {Z : Nat} {D B G : Fn2} {nn : Nat} {kn : Int32} {μ : MS} {o : Int64} (hn : nn ≤ 200) {k : Nat} (hk : k ≤ nn) : CH l y_w5 method_5_code 4 hh_w5 [.ref Z, .int (nI k), .ref (Z + 615)] g Z ((D, B, G, nI nn, kn), μ, o) (fun v u => v = 0 ∧ u = ((D, B, G, nI k, mi kn (nI k)), μ, (nI nn).toInt64)) := by
  refine mk_metH (own := "StageClockLaw") (by decide) rfl (Nat.le_of_ble_eq_true rfl) fun p e s m below meth c ls C hr hlk hH hl hw => ?_
  have hl : lv_has ls 4 [(0, .ref Z), (1, .int (nI k)), (2, .ref (Z + 615))] := hl
  refine lv_aload_n C.x C.b d_w5_0 rfl (lv_at hl 2 rfl) ?_
  refine lv_iconst (v := 0) C.x C.b d_w5_1 (by decide) ?_
  refine lv_aload_n C.x C.b d_w5_2 rfl (lv_at hl 0 rfl) ?_
  refine lv_iload_n C.x C.b d_w5_3 rfl (lv_at hl 1 rfl) ?_
  refine ret_i hw (run_V C hw (c_cut l hn hk) (i := 0) (by decide) rfl rfl Y_s11 k_199 k_200 k_201 ⟨rfl, rfl⟩ (by decide) ⟨Nat.zero_le _, Nat.zero_le _⟩ rfl hl.1 rfl (Nat.le_of_ble_eq_true rfl) d_w5_4) (fun r9 u9 H locs hp hw => ?_)
  obtain ⟨rfl, rfl⟩ := hp
  refine lv_i2l (v := (nI nn).toInt64) C.x C.b d_w5_7 rfl ?_
  refine s_o C hw d_w5_8 (fun H locs hw => ?_)
  refine lv_goto (tgt := 15) C.x C.b d_w5_9 (by decide) ?_
  refine lv_iconst (v := 0) C.x C.b d_w5_15 (by decide) ?_
  refine W.widen (k := 1) (n := 6) (by decide) (by decide) ?_
  exact e_i C hr hlk hw d_w5_16 ⟨rfl, rfl⟩
theorem h_cut1 {l : Launch} (hfl : l.flags = flags0) {g : KG} {Z : Nat} {D B G : Fn2} {nn : Nat} {kn : Int32} {μ : MS} {o : Int64} (hn : nn ≤ 200) {x : Int32} (hx : ¬ ∃ k : Nat, k ≤ nn ∧ x = nI k) : CH l y_w5 method_5_code 4 hh_w5 [.ref Z, .int x, .ref (Z + 615)] g Z ((D, B, G, nI nn, kn), μ, o) (fun r u => r = 1 ∧ u = ((D, B, G, nI nn, kn), μ, o)) := by
  refine mk_metH (own := "StageClockLaw") (by decide) rfl (Nat.le_of_ble_eq_true rfl) fun p e s m below meth c ls C hr hlk hH hl hw => ?_
  have hl : lv_has ls 4 [(0, .ref Z), (1, .int x), (2, .ref (Z + 615))] := hl
  refine lv_aload_n C.x C.b d_w5_0 rfl (lv_at hl 2 rfl) ?_
  refine lv_iconst (v := 0) C.x C.b d_w5_1 (by decide) ?_
  refine lv_aload_n C.x C.b d_w5_2 rfl (lv_at hl 0 rfl) ?_
  refine lv_iload_n C.x C.b d_w5_3 rfl (lv_at hl 1 rfl) ?_
  refine x_caught (hpc := 12) (xrun_V C hw (x_cut hfl hn hx) (i := 0) (by decide) rfl rfl Y_s11 k_199 k_200 k_201 ⟨rfl, rfl⟩ (by decide) (by decide) rfl hl.1 rfl (Nat.le_of_ble_eq_true rfl) d_w5_4) (fun T9 x9 X9 hex => find_1 C X9 hex hH ⟨Nat.le_of_ble_eq_true rfl, Nat.le_of_ble_eq_true rfl⟩ (by decide) k_73 k_90) (fun x9 H hk hz => ?_)
  have hw := hw.grow hk hz
  refine lv_astore_n (lv' := [(3, .ref x9), (0, .ref Z), (1, .int x), (2, .ref (Z + 615))]) C.x C.b d_w5_12 rfl hl (by decide) rfl (fun ls hl => ?_)
  refine lv_iconst (v := 1) C.x C.b d_w5_13 (by decide) ?_
  exact e_i C hr hlk hw d_w5_14 ⟨rfl, rfl⟩
theorem h_when0 {l : Launch} {g : KG} {Z : Nat} {D B G : Fn2} {nn kk : Nat} {μ : MS} {o : Int64} (hn : nn ≤ 200) (hkk : kk ≤ nn) (hT : tgood D B kk) (hG : ggood D G kk) (hL : lateOK D nn) {k : Nat} (hk : k < nn) {wj : Nat} (hw6 : wj ≤ 6) : CH l y_w6 method_6_code 5 hh_w6 [.ref Z, .int (nI k), .int (nI wj), .ref (Z + 615)] g Z ((D, B, G, nI nn, nI kk), μ, o) (fun v u => v = 0 ∧ ∃ r : Int32, QP D nn μ r.toInt64 u (fun B _ kk => k < kk ∧ r = whn D B k wj)) := by
  refine mk_metH (own := "StageClockLaw") (by decide) rfl (Nat.le_of_ble_eq_true rfl) fun p e s m below meth c ls C hr hlk hH hl hw => ?_
  have hl : lv_has ls 5 [(0, .ref Z), (1, .int (nI k)), (2, .int (nI wj)), (3, .ref (Z + 615))] := hl
  refine lv_aload_n C.x C.b d_w6_0 rfl (lv_at hl 3 rfl) ?_
  refine lv_iconst (v := 0) C.x C.b d_w6_1 (by decide) ?_
  refine lv_aload_n C.x C.b d_w6_2 rfl (lv_at hl 0 rfl) ?_
  refine lv_iload_n C.x C.b d_w6_3 rfl (lv_at hl 1 rfl) ?_
  refine lv_iload_n C.x C.b d_w6_4 rfl (lv_at hl 2 rfl) ?_
  refine ret_i hw (run_V C hw (c_when l hn hkk hT hG hL hk hw6) (i := 0) (by decide) rfl rfl Y_s12 k_206 k_207 k_208 ⟨rfl, rfl⟩ (by decide) ⟨Nat.zero_le _, Nat.zero_le _⟩ rfl hl.1 rfl (Nat.le_of_ble_eq_true rfl) d_w6_5) (fun r9 u9 H locs hp hw => ?_)
  obtain ⟨B, G, kk, hT, hG, hkk, rfl, hF⟩ := hp
  refine lv_i2l (v := r9.toInt64) C.x C.b d_w6_8 rfl ?_
  refine s_o C hw d_w6_9 (fun H locs hw => ?_)
  refine lv_goto (tgt := 21) C.x C.b d_w6_10 (by decide) ?_
  refine lv_iconst (v := 0) C.x C.b d_w6_21 (by decide) ?_
  refine W.widen (k := 1) (n := 6) (by decide) (by decide) ?_
  exact e_i C hr hlk hw d_w6_22 ⟨rfl, r9, B, G, kk, hT, hG, hkk, rfl, hF⟩
theorem h_when1 {l : Launch} (hfl : l.flags = flags0) {g : KG} {Z : Nat} {D B G : Fn2} {nn : Nat} {kn : Int32} {μ : MS} {o : Int64} (hn : nn ≤ 200) {y x : Int32} (hx : ¬ (0 ≤ x ∧ x ≤ 6)) : CH l y_w6 method_6_code 5 hh_w6 [.ref Z, .int y, .int x, .ref (Z + 615)] g Z ((D, B, G, nI nn, kn), μ, o) (fun r u => r = 1 ∧ u = ((D, B, G, nI nn, kn), μ, o)) := by
  refine mk_metH (own := "StageClockLaw") (by decide) rfl (Nat.le_of_ble_eq_true rfl) fun p e s m below meth c ls C hr hlk hH hl hw => ?_
  have hl : lv_has ls 5 [(0, .ref Z), (1, .int y), (2, .int x), (3, .ref (Z + 615))] := hl
  refine lv_aload_n C.x C.b d_w6_0 rfl (lv_at hl 3 rfl) ?_
  refine lv_iconst (v := 0) C.x C.b d_w6_1 (by decide) ?_
  refine lv_aload_n C.x C.b d_w6_2 rfl (lv_at hl 0 rfl) ?_
  refine lv_iload_n C.x C.b d_w6_3 rfl (lv_at hl 1 rfl) ?_
  refine lv_iload_n C.x C.b d_w6_4 rfl (lv_at hl 2 rfl) ?_
  refine x_caught (hpc := 13) (xrun_V C hw (x_when1 hfl hn hx) (i := 0) (by decide) rfl rfl Y_s12 k_206 k_207 k_208 ⟨rfl, rfl⟩ (by decide) (by decide) rfl hl.1 rfl (Nat.le_of_ble_eq_true rfl) d_w6_5) (fun T9 x9 X9 hex => find_1 C X9 hex hH ⟨Nat.le_of_ble_eq_true rfl, Nat.le_of_ble_eq_true rfl⟩ (by decide) k_73 k_90) (fun x9 H hk hz => ?_)
  have hw := hw.grow hk hz
  refine lv_astore (lv' := [(4, .ref x9), (0, .ref Z), (1, .int y), (2, .int x), (3, .ref (Z + 615))]) C.x C.b d_w6_13 hl (by decide) rfl (fun ls hl => ?_)
  refine lv_iconst (v := 1) C.x C.b d_w6_15 (by decide) ?_
  exact e_i C hr hlk hw d_w6_16 ⟨rfl, rfl⟩
theorem h_when2 {l : Launch} (hfl : l.flags = flags0) {g : KG} {Z : Nat} {D B G : Fn2} {nn : Nat} {kn : Int32} {μ : MS} {o : Int64} (hn : nn ≤ 200) {x : Int32} (hx : ¬ ∃ k : Nat, k < nn ∧ x = nI k) {wj : Nat} (hw6 : wj ≤ 6) : CH l y_w6 method_6_code 5 hh_w6 [.ref Z, .int x, .int (nI wj), .ref (Z + 615)] g Z ((D, B, G, nI nn, kn), μ, o) (fun r u => r = 2 ∧ u = ((D, B, G, nI nn, kn), μ, o)) := by
  refine mk_metH (own := "StageClockLaw") (by decide) rfl (Nat.le_of_ble_eq_true rfl) fun p e s m below meth c ls C hr hlk hH hl hw => ?_
  have hl : lv_has ls 5 [(0, .ref Z), (1, .int x), (2, .int (nI wj)), (3, .ref (Z + 615))] := hl
  refine lv_aload_n C.x C.b d_w6_0 rfl (lv_at hl 3 rfl) ?_
  refine lv_iconst (v := 0) C.x C.b d_w6_1 (by decide) ?_
  refine lv_aload_n C.x C.b d_w6_2 rfl (lv_at hl 0 rfl) ?_
  refine lv_iload_n C.x C.b d_w6_3 rfl (lv_at hl 1 rfl) ?_
  refine lv_iload_n C.x C.b d_w6_4 rfl (lv_at hl 2 rfl) ?_
  refine x_caught (hpc := 17) (xrun_V C hw (x_when2 hfl hn hx hw6) (i := 0) (by decide) rfl rfl Y_s12 k_206 k_207 k_208 ⟨rfl, rfl⟩ (by decide) (by decide) rfl hl.1 rfl (Nat.le_of_ble_eq_true rfl) d_w6_5) (fun T9 x9 X9 hex => find_2 C X9 hex hH ⟨Nat.le_of_ble_eq_true rfl, Nat.le_of_ble_eq_true rfl⟩ ⟨Nat.le_of_ble_eq_true rfl, Nat.le_of_ble_eq_true rfl⟩ (by decide) (by decide) k_73 C.2.2.2.2.2.2 k_176 k_183) (fun x9 H hk hz => ?_)
  have hw := hw.grow hk hz
  refine lv_astore (lv' := [(4, .ref x9), (0, .ref Z), (1, .int x), (2, .int (nI wj)), (3, .ref (Z + 615))]) C.x C.b d_w6_17 hl (by decide) rfl (fun ls hl => ?_)
  refine lv_iconst (v := 2) C.x C.b d_w6_19 (by decide) ?_
  exact e_i C hr hlk hw d_w6_20 ⟨rfl, rfl⟩
theorem h_in0 {l : Launch} {g : KG} {Z : Nat} {D B G : Fn2} {nn kk : Nat} {μ : MS} {o : Int64} (hn : nn ≤ 200) (hkk : kk ≤ nn) (hT : tgood D B kk) (hG : ggood D G kk) (hL : lateOK D nn) {stg : Nat} (hs4 : stg ≤ 4) {cyc : Int32} : CH l y_w7 method_7_code 5 hh_w7 [.ref Z, .int (nI stg), .int cyc, .ref (Z + 615)] g Z ((D, B, G, nI nn, nI kk), μ, o) (fun v u => v = 0 ∧ ∃ r : Int32, QP D nn μ r.toInt64 u (fun B _ _ => tgood D B nn ∧ inP B nn stg cyc r)) := by
  refine mk_metH (own := "StageClockLaw") (by decide) rfl (Nat.le_of_ble_eq_true rfl) fun p e s m below meth c ls C hr hlk hH hl hw => ?_
  have hl : lv_has ls 5 [(0, .ref Z), (1, .int (nI stg)), (2, .int cyc), (3, .ref (Z + 615))] := hl
  refine lv_aload_n C.x C.b d_w7_0 rfl (lv_at hl 3 rfl) ?_
  refine lv_iconst (v := 0) C.x C.b d_w7_1 (by decide) ?_
  refine lv_aload_n C.x C.b d_w7_2 rfl (lv_at hl 0 rfl) ?_
  refine lv_iload_n C.x C.b d_w7_3 rfl (lv_at hl 1 rfl) ?_
  refine lv_iload_n C.x C.b d_w7_4 rfl (lv_at hl 2 rfl) ?_
  refine ret_i hw (run_V C hw (c_in l hn hkk hT hG hL hs4) (i := 0) (by decide) rfl rfl Y_s13 k_242 k_243 k_244 ⟨rfl, rfl⟩ (by decide) ⟨Nat.zero_le _, Nat.zero_le _⟩ rfl hl.1 rfl (Nat.le_of_ble_eq_true rfl) d_w7_5) (fun r9 u9 H locs hp hw => ?_)
  obtain ⟨B, G, kk, hT, hG, hkk, rfl, hF⟩ := hp
  refine lv_i2l (v := r9.toInt64) C.x C.b d_w7_8 rfl ?_
  refine s_o C hw d_w7_9 (fun H locs hw => ?_)
  refine lv_goto (tgt := 17) C.x C.b d_w7_10 (by decide) ?_
  refine lv_iconst (v := 0) C.x C.b d_w7_17 (by decide) ?_
  refine W.widen (k := 1) (n := 6) (by decide) (by decide) ?_
  exact e_i C hr hlk hw d_w7_18 ⟨rfl, r9, B, G, kk, hT, hG, hkk, rfl, hF⟩
theorem h_in1 {l : Launch} (hfl : l.flags = flags0) {g : KG} {Z : Nat} {D B G : Fn2} {nn : Nat} {kn : Int32} {μ : MS} {o : Int64} (hn : nn ≤ 200) {y x : Int32} (hx : ¬ (0 ≤ x ∧ x ≤ 4)) : CH l y_w7 method_7_code 5 hh_w7 [.ref Z, .int x, .int y, .ref (Z + 615)] g Z ((D, B, G, nI nn, kn), μ, o) (fun r u => r = 1 ∧ u = ((D, B, G, nI nn, kn), μ, o)) := by
  refine mk_metH (own := "StageClockLaw") (by decide) rfl (Nat.le_of_ble_eq_true rfl) fun p e s m below meth c ls C hr hlk hH hl hw => ?_
  have hl : lv_has ls 5 [(0, .ref Z), (1, .int x), (2, .int y), (3, .ref (Z + 615))] := hl
  refine lv_aload_n C.x C.b d_w7_0 rfl (lv_at hl 3 rfl) ?_
  refine lv_iconst (v := 0) C.x C.b d_w7_1 (by decide) ?_
  refine lv_aload_n C.x C.b d_w7_2 rfl (lv_at hl 0 rfl) ?_
  refine lv_iload_n C.x C.b d_w7_3 rfl (lv_at hl 1 rfl) ?_
  refine lv_iload_n C.x C.b d_w7_4 rfl (lv_at hl 2 rfl) ?_
  refine x_caught (hpc := 13) (xrun_V C hw (x_in hfl hn hx) (i := 0) (by decide) rfl rfl Y_s13 k_242 k_243 k_244 ⟨rfl, rfl⟩ (by decide) (by decide) rfl hl.1 rfl (Nat.le_of_ble_eq_true rfl) d_w7_5) (fun T9 x9 X9 hex => find_1 C X9 hex hH ⟨Nat.le_of_ble_eq_true rfl, Nat.le_of_ble_eq_true rfl⟩ (by decide) k_73 k_90) (fun x9 H hk hz => ?_)
  have hw := hw.grow hk hz
  refine lv_astore (lv' := [(4, .ref x9), (0, .ref Z), (1, .int x), (2, .int y), (3, .ref (Z + 615))]) C.x C.b d_w7_13 hl (by decide) rfl (fun ls hl => ?_)
  refine lv_iconst (v := 1) C.x C.b d_w7_15 (by decide) ?_
  exact e_i C hr hlk hw d_w7_16 ⟨rfl, rfl⟩
theorem h_held0 {l : Launch} {g : KG} {Z : Nat} {D B G : Fn2} {nn kk : Nat} {μ : MS} {o : Int64} (hn : nn ≤ 200) (hkk : kk ≤ nn) (hT : tgood D B kk) (hG : ggood D G kk) (hL : lateOK D nn) {k : Nat} (hk : k < nn) : CH l y_w8 method_8_code 4 hh_w8 [.ref Z, .int (nI k), .ref (Z + 615)] g Z ((D, B, G, nI nn, nI kk), μ, o) (fun v u => v = 0 ∧ ∃ r : Int32, QP D nn μ r.toInt64 u (fun B _ kk => k < kk ∧ r = B k 2 - B k 1 - 1)) := by
  refine mk_metH (own := "StageClockLaw") (by decide) rfl (Nat.le_of_ble_eq_true rfl) fun p e s m below meth c ls C hr hlk hH hl hw => ?_
  have hl : lv_has ls 4 [(0, .ref Z), (1, .int (nI k)), (2, .ref (Z + 615))] := hl
  refine lv_aload_n C.x C.b d_w8_0 rfl (lv_at hl 2 rfl) ?_
  refine lv_iconst (v := 0) C.x C.b d_w8_1 (by decide) ?_
  refine lv_aload_n C.x C.b d_w8_2 rfl (lv_at hl 0 rfl) ?_
  refine lv_iload_n C.x C.b d_w8_3 rfl (lv_at hl 1 rfl) ?_
  refine ret_i hw (run_V C hw (c_held l hn hkk hT hG hL hk) (i := 0) (by decide) rfl rfl Y_s14 k_249 k_250 k_251 ⟨rfl, rfl⟩ (by decide) ⟨Nat.zero_le _, Nat.zero_le _⟩ rfl hl.1 rfl (Nat.le_of_ble_eq_true rfl) d_w8_4) (fun r9 u9 H locs hp hw => ?_)
  obtain ⟨B, G, kk, hT, hG, hkk, rfl, hF⟩ := hp
  refine lv_i2l (v := r9.toInt64) C.x C.b d_w8_7 rfl ?_
  refine s_o C hw d_w8_8 (fun H locs hw => ?_)
  refine lv_goto (tgt := 15) C.x C.b d_w8_9 (by decide) ?_
  refine lv_iconst (v := 0) C.x C.b d_w8_15 (by decide) ?_
  refine W.widen (k := 1) (n := 6) (by decide) (by decide) ?_
  exact e_i C hr hlk hw d_w8_16 ⟨rfl, r9, B, G, kk, hT, hG, hkk, rfl, hF⟩
theorem h_held1 {l : Launch} (hfl : l.flags = flags0) {g : KG} {Z : Nat} {D B G : Fn2} {nn : Nat} {kn : Int32} {μ : MS} {o : Int64} (hn : nn ≤ 200) {x : Int32} (hx : ¬ ∃ k : Nat, k < nn ∧ x = nI k) : CH l y_w8 method_8_code 4 hh_w8 [.ref Z, .int x, .ref (Z + 615)] g Z ((D, B, G, nI nn, kn), μ, o) (fun r u => r = 1 ∧ u = ((D, B, G, nI nn, kn), μ, o)) := by
  refine mk_metH (own := "StageClockLaw") (by decide) rfl (Nat.le_of_ble_eq_true rfl) fun p e s m below meth c ls C hr hlk hH hl hw => ?_
  have hl : lv_has ls 4 [(0, .ref Z), (1, .int x), (2, .ref (Z + 615))] := hl
  refine lv_aload_n C.x C.b d_w8_0 rfl (lv_at hl 2 rfl) ?_
  refine lv_iconst (v := 0) C.x C.b d_w8_1 (by decide) ?_
  refine lv_aload_n C.x C.b d_w8_2 rfl (lv_at hl 0 rfl) ?_
  refine lv_iload_n C.x C.b d_w8_3 rfl (lv_at hl 1 rfl) ?_
  refine x_caught (hpc := 12) (xrun_V C hw (x_held hfl hn hx) (i := 0) (by decide) rfl rfl Y_s14 k_249 k_250 k_251 ⟨rfl, rfl⟩ (by decide) (by decide) rfl hl.1 rfl (Nat.le_of_ble_eq_true rfl) d_w8_4) (fun T9 x9 X9 hex => find_1 C X9 hex hH ⟨Nat.le_of_ble_eq_true rfl, Nat.le_of_ble_eq_true rfl⟩ (by decide) k_176 k_183) (fun x9 H hk hz => ?_)
  have hw := hw.grow hk hz
  refine lv_astore_n (lv' := [(3, .ref x9), (0, .ref Z), (1, .int x), (2, .ref (Z + 615))]) C.x C.b d_w8_12 rfl hl (by decide) rfl (fun ls hl => ?_)
  refine lv_iconst (v := 1) C.x C.b d_w8_13 (by decide) ?_
  exact e_i C hr hlk hw d_w8_14 ⟨rfl, rfl⟩
theorem h_giver0 {l : Launch} {g : KG} {Z : Nat} {D B G : Fn2} {nn kk : Nat} {μ : MS} {o : Int64} (hn : nn ≤ 200) (hkk : kk ≤ nn) (hT : tgood D B kk) (hG : ggood D G kk) (hL : lateOK D nn) {k : Nat} (hk : k < nn) {rg : Nat} (hr1 : 1 ≤ rg) (hr2 : rg ≤ 15) : CH l y_w9 method_9_code 5 hh_w9 [.ref Z, .int (nI k), .int (nI rg), .ref (Z + 615)] g Z ((D, B, G, nI nn, nI kk), μ, o) (fun v u => v = 0 ∧ ∃ r : Int32, QP D nn μ r.toInt64 u (fun _ G kk => k < kk ∧ r = G k rg)) := by
  refine mk_metH (own := "StageClockLaw") (by decide) rfl (Nat.le_of_ble_eq_true rfl) fun p e s m below meth c ls C hr hlk hH hl hw => ?_
  have hl : lv_has ls 5 [(0, .ref Z), (1, .int (nI k)), (2, .int (nI rg)), (3, .ref (Z + 615))] := hl
  refine lv_aload_n C.x C.b d_w9_0 rfl (lv_at hl 3 rfl) ?_
  refine lv_iconst (v := 0) C.x C.b d_w9_1 (by decide) ?_
  refine lv_aload_n C.x C.b d_w9_2 rfl (lv_at hl 0 rfl) ?_
  refine lv_iload_n C.x C.b d_w9_3 rfl (lv_at hl 1 rfl) ?_
  refine lv_iload_n C.x C.b d_w9_4 rfl (lv_at hl 2 rfl) ?_
  refine ret_i hw (run_V C hw (c_giver l hn hkk hT hG hL hk hr1 hr2) (i := 0) (by decide) rfl rfl Y_s15 k_256 k_257 k_258 ⟨rfl, rfl⟩ (by decide) ⟨Nat.zero_le _, Nat.zero_le _⟩ rfl hl.1 rfl (Nat.le_of_ble_eq_true rfl) d_w9_5) (fun r9 u9 H locs hp hw => ?_)
  obtain ⟨B, G, kk, hT, hG, hkk, rfl, hF⟩ := hp
  refine lv_i2l (v := r9.toInt64) C.x C.b d_w9_8 rfl ?_
  refine s_o C hw d_w9_9 (fun H locs hw => ?_)
  refine lv_goto (tgt := 21) C.x C.b d_w9_10 (by decide) ?_
  refine lv_iconst (v := 0) C.x C.b d_w9_21 (by decide) ?_
  refine W.widen (k := 1) (n := 6) (by decide) (by decide) ?_
  exact e_i C hr hlk hw d_w9_22 ⟨rfl, r9, B, G, kk, hT, hG, hkk, rfl, hF⟩
theorem h_giver1 {l : Launch} (hfl : l.flags = flags0) {g : KG} {Z : Nat} {D B G : Fn2} {nn : Nat} {kn : Int32} {μ : MS} {o : Int64} (hn : nn ≤ 200) {y x : Int32} (hx : ¬ (1 ≤ x ∧ x ≤ 15)) : CH l y_w9 method_9_code 5 hh_w9 [.ref Z, .int y, .int x, .ref (Z + 615)] g Z ((D, B, G, nI nn, kn), μ, o) (fun r u => r = 1 ∧ u = ((D, B, G, nI nn, kn), μ, o)) := by
  refine mk_metH (own := "StageClockLaw") (by decide) rfl (Nat.le_of_ble_eq_true rfl) fun p e s m below meth c ls C hr hlk hH hl hw => ?_
  have hl : lv_has ls 5 [(0, .ref Z), (1, .int y), (2, .int x), (3, .ref (Z + 615))] := hl
  refine lv_aload_n C.x C.b d_w9_0 rfl (lv_at hl 3 rfl) ?_
  refine lv_iconst (v := 0) C.x C.b d_w9_1 (by decide) ?_
  refine lv_aload_n C.x C.b d_w9_2 rfl (lv_at hl 0 rfl) ?_
  refine lv_iload_n C.x C.b d_w9_3 rfl (lv_at hl 1 rfl) ?_
  refine lv_iload_n C.x C.b d_w9_4 rfl (lv_at hl 2 rfl) ?_
  refine x_caught (hpc := 13) (xrun_V C hw (x_giver1 hfl hn hx) (i := 0) (by decide) rfl rfl Y_s15 k_256 k_257 k_258 ⟨rfl, rfl⟩ (by decide) (by decide) rfl hl.1 rfl (Nat.le_of_ble_eq_true rfl) d_w9_5) (fun T9 x9 X9 hex => find_1 C X9 hex hH ⟨Nat.le_of_ble_eq_true rfl, Nat.le_of_ble_eq_true rfl⟩ (by decide) k_73 k_90) (fun x9 H hk hz => ?_)
  have hw := hw.grow hk hz
  refine lv_astore (lv' := [(4, .ref x9), (0, .ref Z), (1, .int y), (2, .int x), (3, .ref (Z + 615))]) C.x C.b d_w9_13 hl (by decide) rfl (fun ls hl => ?_)
  refine lv_iconst (v := 1) C.x C.b d_w9_15 (by decide) ?_
  exact e_i C hr hlk hw d_w9_16 ⟨rfl, rfl⟩
theorem h_giver2 {l : Launch} (hfl : l.flags = flags0) {g : KG} {Z : Nat} {D B G : Fn2} {nn : Nat} {kn : Int32} {μ : MS} {o : Int64} (hn : nn ≤ 200) {x : Int32} (hx : ¬ ∃ k : Nat, k < nn ∧ x = nI k) {rg : Nat} (hr1 : 1 ≤ rg) (hr2 : rg ≤ 15) : CH l y_w9 method_9_code 5 hh_w9 [.ref Z, .int x, .int (nI rg), .ref (Z + 615)] g Z ((D, B, G, nI nn, kn), μ, o) (fun r u => r = 2 ∧ u = ((D, B, G, nI nn, kn), μ, o)) := by
  refine mk_metH (own := "StageClockLaw") (by decide) rfl (Nat.le_of_ble_eq_true rfl) fun p e s m below meth c ls C hr hlk hH hl hw => ?_
  have hl : lv_has ls 5 [(0, .ref Z), (1, .int x), (2, .int (nI rg)), (3, .ref (Z + 615))] := hl
  refine lv_aload_n C.x C.b d_w9_0 rfl (lv_at hl 3 rfl) ?_
  refine lv_iconst (v := 0) C.x C.b d_w9_1 (by decide) ?_
  refine lv_aload_n C.x C.b d_w9_2 rfl (lv_at hl 0 rfl) ?_
  refine lv_iload_n C.x C.b d_w9_3 rfl (lv_at hl 1 rfl) ?_
  refine lv_iload_n C.x C.b d_w9_4 rfl (lv_at hl 2 rfl) ?_
  refine x_caught (hpc := 17) (xrun_V C hw (x_giver2 hfl hn hx hr1 hr2) (i := 0) (by decide) rfl rfl Y_s15 k_256 k_257 k_258 ⟨rfl, rfl⟩ (by decide) (by decide) rfl hl.1 rfl (Nat.le_of_ble_eq_true rfl) d_w9_5) (fun T9 x9 X9 hex => find_2 C X9 hex hH ⟨Nat.le_of_ble_eq_true rfl, Nat.le_of_ble_eq_true rfl⟩ ⟨Nat.le_of_ble_eq_true rfl, Nat.le_of_ble_eq_true rfl⟩ (by decide) (by decide) k_73 C.2.2.2.2.2.2 k_176 k_183) (fun x9 H hk hz => ?_)
  have hw := hw.grow hk hz
  refine lv_astore (lv' := [(4, .ref x9), (0, .ref Z), (1, .int x), (2, .int (nI rg)), (3, .ref (Z + 615))]) C.x C.b d_w9_17 hl (by decide) rfl (fun ls hl => ?_)
  refine lv_iconst (v := 2) C.x C.b d_w9_19 (by decide) ?_
  exact e_i C hr hlk hw d_w9_20 ⟨rfl, rfl⟩
theorem h_count0 {l : Launch} {g : KG} {Z : Nat} {D B G : Fn2} {nn kk : Nat} {μ : MS} {o : Int64} (hn : nn ≤ 200) (hkk : kk ≤ nn) (hT : tgood D B kk) (hG : ggood D G kk) (hL : lateOK D nn) {wj : Nat} (hw3 : wj ≤ 3) : CH l y_w10 method_10_code 4 hh_w10 [.ref Z, .int (nI wj), .ref (Z + 615)] g Z ((D, B, G, nI nn, nI kk), μ, o) (fun v u => v = 0 ∧ ∃ r : Int32, QP D nn μ r.toInt64 u (fun B _ _ => tgood D B nn ∧ r = cntV D B nn wj)) := by
  refine mk_metH (own := "StageClockLaw") (by decide) rfl (Nat.le_of_ble_eq_true rfl) fun p e s m below meth c ls C hr hlk hH hl hw => ?_
  have hl : lv_has ls 4 [(0, .ref Z), (1, .int (nI wj)), (2, .ref (Z + 615))] := hl
  refine lv_aload_n C.x C.b d_w10_0 rfl (lv_at hl 2 rfl) ?_
  refine lv_iconst (v := 0) C.x C.b d_w10_1 (by decide) ?_
  refine lv_aload_n C.x C.b d_w10_2 rfl (lv_at hl 0 rfl) ?_
  refine lv_iload_n C.x C.b d_w10_3 rfl (lv_at hl 1 rfl) ?_
  refine ret_i hw (run_V C hw (c_count l hn hkk hT hG hL hw3) (i := 0) (by decide) rfl rfl Y_s16 k_263 k_264 k_265 ⟨rfl, rfl⟩ (by decide) ⟨Nat.zero_le _, Nat.zero_le _⟩ rfl hl.1 rfl (Nat.le_of_ble_eq_true rfl) d_w10_4) (fun r9 u9 H locs hp hw => ?_)
  obtain ⟨B, G, kk, hT, hG, hkk, rfl, hF⟩ := hp
  refine lv_i2l (v := r9.toInt64) C.x C.b d_w10_7 rfl ?_
  refine s_o C hw d_w10_8 (fun H locs hw => ?_)
  refine lv_goto (tgt := 15) C.x C.b d_w10_9 (by decide) ?_
  refine lv_iconst (v := 0) C.x C.b d_w10_15 (by decide) ?_
  refine W.widen (k := 1) (n := 6) (by decide) (by decide) ?_
  exact e_i C hr hlk hw d_w10_16 ⟨rfl, r9, B, G, kk, hT, hG, hkk, rfl, hF⟩
theorem h_count1 {l : Launch} (hfl : l.flags = flags0) {g : KG} {Z : Nat} {D B G : Fn2} {nn : Nat} {kn : Int32} {μ : MS} {o : Int64} (hn : nn ≤ 200) {x : Int32} (hx : ¬ (0 ≤ x ∧ x ≤ 3)) : CH l y_w10 method_10_code 4 hh_w10 [.ref Z, .int x, .ref (Z + 615)] g Z ((D, B, G, nI nn, kn), μ, o) (fun r u => r = 1 ∧ u = ((D, B, G, nI nn, kn), μ, o)) := by
  refine mk_metH (own := "StageClockLaw") (by decide) rfl (Nat.le_of_ble_eq_true rfl) fun p e s m below meth c ls C hr hlk hH hl hw => ?_
  have hl : lv_has ls 4 [(0, .ref Z), (1, .int x), (2, .ref (Z + 615))] := hl
  refine lv_aload_n C.x C.b d_w10_0 rfl (lv_at hl 2 rfl) ?_
  refine lv_iconst (v := 0) C.x C.b d_w10_1 (by decide) ?_
  refine lv_aload_n C.x C.b d_w10_2 rfl (lv_at hl 0 rfl) ?_
  refine lv_iload_n C.x C.b d_w10_3 rfl (lv_at hl 1 rfl) ?_
  refine x_caught (hpc := 12) (xrun_V C hw (x_count hfl hn hx) (i := 0) (by decide) rfl rfl Y_s16 k_263 k_264 k_265 ⟨rfl, rfl⟩ (by decide) (by decide) rfl hl.1 rfl (Nat.le_of_ble_eq_true rfl) d_w10_4) (fun T9 x9 X9 hex => find_1 C X9 hex hH ⟨Nat.le_of_ble_eq_true rfl, Nat.le_of_ble_eq_true rfl⟩ (by decide) k_73 k_90) (fun x9 H hk hz => ?_)
  have hw := hw.grow hk hz
  refine lv_astore_n (lv' := [(3, .ref x9), (0, .ref Z), (1, .int x), (2, .ref (Z + 615))]) C.x C.b d_w10_12 rfl hl (by decide) rfl (fun ls hl => ?_)
  refine lv_iconst (v := 1) C.x C.b d_w10_13 (by decide) ?_
  exact e_i C hr hlk hw d_w10_14 ⟨rfl, rfl⟩
end
section
/-! CONSTRUCTORS: the family grows, cell by cell; a new cell's address is Z + its number -/
theorem fam_congr {Z N : Nat} {ct ct' : Nat → va_E} (h : ∀ i, i < N → ct i = ct' i) : fam Z N ct = fam Z N ct' := by
  unfold fam
  apply List.map_congr_left
  intro i hi
  rw [h i (List.mem_range.mp hi)]
theorem fam_ge {g : KG} {Z N : Nat} {ct : Nat → va_E} {H : Heap} (h : va_P g.1 cls3 (fam Z (N + 1) ct) H) : Z + (N + 1) ≤ H.size := by
  have := (h N _ (fam_get Z ct (Nat.lt_succ_self N))).lt
  simp only at this
  omega
theorem fam_push {g : KG} {Z N : Nat} {ct : Nat → va_E} {e : va_E} {H H1 : Heap} (h : va_P g.1 cls3 (fam Z N ct) H) (hk : ∀ q : Nat, q < Z + N → H1[q]? = H[q]?) (he : va_at g.1 cls3 (Z + N, e) H1) : va_P g.1 cls3 (fam Z (N + 1) (va_up ct N e)) H1 := by
  intro k q hq
  obtain ⟨hl, rfl⟩ := fam_inv hq
  by_cases hN : k = N
  · subst hN
    rw [va_up_self]
    exact he
  · rw [va_up_ne _ _ hN]
    exact (h k _ (fam_get Z ct (show k < N by omega))).kept (hk _ (by show Z + k < Z + N; omega))
def WdC (g : KG) (Z N : Nat) (ct : Nat → va_E) (U : State) : Prop := KK g Z U ∧ va_P g.1 cls3 (fam Z N ct) U.heap ∧ U.heap.size = Z + N
def WC (g : KG) (Z N : Nat) (ct : Nat → va_E) (s : State) (H : Heap) (locs : List Loc) : Prop := va_P g.1 cls3 (fam Z N ct) H ∧ va_S (zfree Z) s.heap H locs
section Ctor
variable {p : Program} {l : Launch} {e : Env} {R : Room} {s : State} {m : MethodId} {args : Array Value} {below : List Frame} {meth : Method} {c : Code} {H : Heap} {locs : List Loc} {cells slots : Nat} {Q : State → Prop}
variable {cc : ByteArray} {nL pc : Nat} {ls : Array Slot} {rest : List Value} {own : String} {g : KG} {Z N : Nat} {ct : Nat → va_E}
theorem n_sz {gf : JFrame} (hsz : s.heap.size + cells = Z + N) (hge : Z + N ≤ H.size) (kk : H.size = Z + N → W p l e R s m args below meth c H locs cells slots Q gf) : W p l e R s m args below meth c H locs cells slots Q gf := fun T hT X => kk (by
  have := X.heapSize
  rw [hT] at this
  omega) T hT X
theorem n_S1 {H1 : Heap} (hS : va_S (zfree Z) s.heap H locs) (hH : H.size = Z + N) (z1 : H1.size = Z + N + 1) (o1 : ∀ q : Nat, q < Z + N → H1[q]? = H[q]?) : va_S (zfree Z) s.heap H1 locs :=
  ⟨Nat.le_trans hS.1 (by omega), fun q h1 h2 => (o1 q (by have := hS.1; omega)).trans (hS.2.1 q h1 h2), hS.2.2⟩
theorem n_obj (C : Cx p s m c cc nL own args g Z) (hw : WC g Z N ct s H locs) (hsz : s.heap.size + cells = Z + N) (hge : Z + N ≤ H.size) (ci : Nat) {idx nf : Nat} {Cn : String} {T : u_T} {ty : Nat → FieldType} {fs : List Value} (hc : cls3[ci]? = some (Cn, T, nf)) (hin : ∀ w ∈ u_ws Cn T nf, w ∈ TB) (hty : ∀ k, k < nf → parseFieldDescriptor (T k).2.2.1 = some (ty k)) (hcl : Cond.classLink own idx Cn ∈ TB) (hinst : Cond.instantiable Cn nf ∈ TB) (hini : Cond.initialized Cn ∈ TB) (hfs : ∀ j, j < nf → defaultValue (ty j) = vp_V fs j) (hcells : cells + 1 ≤ R.cells) (hslots : slots + nf ≤ R.slots) (hd : decode cc pc = .ok (.new idx, 3))
    (kk : ∀ H1 : Heap, WC g Z (N + 1) (va_up ct N (.inr (ci, fs))) s H1 locs → W p l e R s m args below meth c H1 locs (cells + 1) (slots + nf) Q (F0 m (pc + 3) ls (.ref (Z + N) :: rest))) : W p l e R s m args below meth c H locs cells slots Q (F0 m pc ls rest) := by
  refine n_sz hsz hge (fun hH => ?_)
  have hKn := C.2.1.1 ci _ hc
  refine W.newcK C.x C.b C.1.2.2.2.1 (C.1.2.2.2.2 _ hcl) (C.1.2.2.2.2 _ hinst) (C.1.2.2.2.2 _ hini) rfl hd hcells hslots hKn.2.1 hH fun H1 kC hkC e1 z1 o1 => ?_
  exact kk H1 ⟨fam_push hw.1 o1 ⟨_, hc, (u_born ty C.1.2.2.2.2 hin hKn hkC e1 hty).to hfs⟩, n_S1 hw.2 hH z1 o1⟩
theorem n_arr (C : Cx p s m c cc nL own args g Z) (hw : WC g Z N ct s H locs) (hsz : s.heap.size + cells = Z + N) (hge : Z + N ≤ H.size) (t0 : Nat) {atype : ArrayType} {ty : FieldType} {cA : ClassId} {n : Int32} {L : Nat} {a0 : vp_A} (hty : newarray.typeOf atype = ty) (ht : (tysG g)[t0]? = some (cA, ty)) (hnm : ∀ cB, s.vm.findClass ("[" ++ ty.toString) = some cB → cB = cA) (hac : Cond.arrayClass ty ∈ TB) (ha : vp_cell cA a0 = arrV cA L (fun _ => defaultValue ty)) (hn : ¬ n < 0) (hN : n.toNatClampNeg = L) (hbytes : L * componentBytes ty ≤ 536870912) (hcells : cells + 1 ≤ R.cells) (hslots : slots + L ≤ R.slots) (hd : decode cc pc = .ok (.newarray atype, 2))
    (kk : ∀ H1 : Heap, WC g Z (N + 1) (va_up ct N (.inl (cA, a0))) s H1 locs → W p l e R s m args below meth c H1 locs (cells + 1) (slots + L) Q (F0 m (pc + 2) ls (.ref (Z + N) :: rest))) : W p l e R s m args below meth c H locs cells slots Q (F0 m pc ls (.int n :: rest)) := by
  refine n_sz hsz hge (fun hH => ?_)
  subst hty
  refine va_newaK C.x C.b (C.1.2.2.2.2 _ hac) rfl hd rfl hn hN hbytes hcells hslots hH fun H1 cB e1 z1 o1 hAr hNm => ?_
  have hcB := hnm cB hNm
  subst hcB
  refine kk H1 ⟨fam_push hw.1 o1 ?_, n_S1 hw.2 hH z1 o1⟩
  show H1[Z + N]? = some (vp_cell _ _)
  rw [ha]
  exact e1
theorem n_arrq (C : Cx p s m c cc nL own args g Z) (hw : WC g Z N ct s H locs) (hsz : s.heap.size + cells = Z + N) (hge : Z + N ≤ H.size) {idx : Nat} (hcl : Cond.classLink own idx "StageClock$Step" ∈ TB) (hcells : cells + 1 ≤ R.cells) (hslots : slots + 200 ≤ R.slots) (hd : decode cc pc = .ok (.anewarray idx, 3))
    (kk : ∀ H1 : Heap, WC g Z (N + 1) (va_up ct N (.inl (g.2.2.2.2, 200, .inr (.inr (.inr (.inr (fun _ => none))))))) s H1 locs → W p l e R s m args below meth c H1 locs (cells + 1) (slots + 200) Q (F0 m (pc + 3) ls (.ref (Z + N) :: rest))) : W p l e R s m args below meth c H locs cells slots Q (F0 m pc ls (.int 200 :: rest)) := by
  refine n_sz hsz hge (fun hH => ?_)
  refine W.anew C.x C.b C.1.2.2.2.1 (C.1.2.2.2.2 _ hcl) (C.1.2.2.2.2 _ k_20) rfl hd rfl (by decide) (by decide) hcells hslots fun cA kA comp f1 f2 f3 f4 => ?_
  have hcA : cA = g.2.2.2.2 := by
    obtain ⟨kB, cB, -, -, -, h4⟩ := (C.2.1.2 3 _ rfl).2
    exact Option.some.inj (f1.symm.trans h4)
  subst hcA
  generalize hH1 : H.push ({ cls := g.2.2.2.2, slots := Array.replicate (200 : Int32).toNatClampNeg .null, vm := .none } : Cell) = H1
  have z1 : H1.size = Z + N + 1 := by rw [← hH1, Array.size_push, hH]
  have e1 : H1[Z + N]? = some (arrV g.2.2.2.2 200 (fun _ => .null)) := by rw [← hH1, ← hH, Array.getElem?_push_size, ← arrV_new]; rfl
  have o1 : ∀ q : Nat, q < Z + N → H1[q]? = H[q]? := fun q hq => by rw [← hH1, Array.getElem?_push, if_neg (by omega)]
  have hgo := kk H1 ⟨fam_push hw.1 o1 (by show H1[Z + N]? = some (vp_cell _ _); rw [vp_cell_q]; exact e1), n_S1 hw.2 hH z1 o1⟩
  rw [hH]
  exact hgo
theorem n_get (C : Cx p s m c cc nL own args g Z) (hw : WC g Z N ct s H locs) (i ci kf idx : Nat) {Cn : String} {T : u_T} {nf : Nat} {fs : List Value} {v : Value} (hi : i < N) (he : ct i = .inr (ci, fs)) (hc : cls3[ci]? = some (Cn, T, nf)) (hk : kf < nf) (hin : ∀ w ∈ u_ws Cn T nf, w ∈ TB) (hdecl : (T kf).1 = Cn) (hlink : Cond.fieldLink own idx Cn (T kf).2.1 (T kf).2.2.1 ∈ TB) (hv : fs[kf]? = some v) (hd : decode cc pc = .ok (.getfield idx, 3))
    (kk : W p l e R s m args below meth c H locs cells slots Q (F0 m (pc + 3) ls (v :: rest))) : W p l e R s m args below meth c H locs cells slots Q (F0 m pc ls (.ref (Z + i) :: rest)) :=
  va_get (D := g.1) (cl := cls3) C.x C.b C.1.2.2.2.2 hin C.1.2.2.2.1 C.2.1 hw.1 i (by rw [fam_get Z _ hi, he]) hc kf hk (C.1.2.2.2.2 _ hlink) (fun x h => by rw [hdecl] at h; exact h) hv hd kk
theorem n_putF (C : Cx p s m c cc nL own args g Z) (hin2 : meth.name = "<init>") (hw : WC g Z N ct s H locs) (i ci kf idx : Nat) {T : u_T} {nf : Nat} {ty0 : Nat → FieldType} {fs : List Value} {v : Value} {ty : FieldType} (hi : i < N) (he : ct i = .inr (ci, fs)) (hc : cls3[ci]? = some (own, T, nf)) (hk : kf < nf) (hin : ∀ w ∈ u_ws own T nf, w ∈ TB) (hty : ∀ k, k < nf → parseFieldDescriptor (T k).2.2.1 = some (ty0 k)) (hnm : ∀ a, a < nf → ∀ b, b < nf → a ≠ b → (T a).2.1 ≠ (T b).2.1) (hdecl : (T kf).1 = own) (hlink : Cond.fieldLink own idx own (T kf).2.1 (T kf).2.2.1 ∈ TB) (hfin : (T kf).2.2.2 = true) (hdt : parseFieldDescriptor (T kf).2.2.1 = some ty) (hn : narrow ty v = v) (hfit : fits ty v = true) (hl : kf < fs.length) (hd : decode cc pc = .ok (.putfield idx, 3))
    (kk : ∀ (H1 : Heap) (locs1 : List Loc), WC g Z N (va_up ct i (.inr (ci, fs.set kf v))) s H1 locs1 → W p l e R s m args below meth c H1 locs1 cells slots Q (F0 m (pc + 3) ls rest)) : W p l e R s m args below meth c H locs cells slots Q (F0 m pc ls (v :: .ref (Z + i) :: rest)) :=
  va_putF (D := g.1) (cl := cls3) (A := zfree Z) C.x C.b C.1.2.2.2.2 hin ty0 hty hnm C.1.2.2.2.1 C.2.1 hw.1 (fam_D Z N _) hw.2 i (by rw [fam_get Z _ hi, he]) hc kf hk (C.1.2.2.2.2 _ hlink) (fun x h => by rw [hdecl] at h; exact h) hfin hin2 hdecl hdt hn hfit hl hd
    (fun H1 locs1 hP _ hS => kk H1 locs1 ⟨by rw [fam_set Z _ hi] at hP; exact hP, hS⟩)
theorem n_astq (C : Cx p s m c cc nL own args g Z) (hw : WC g Z N ct s H locs) (i j : Nat) {f : Nat → Option Nat} {vs : List Value} {x : Int32} (q : Nat) (hi : i < N) (hj : j < N) (he : ct i = .inl (g.2.2.2.2, 200, .inr (.inr (.inr (.inr f))))) (hv : ct j = .inr (1, vs)) (hq : q < 200) (hx : x = nI q) (hd : decode cc pc = .ok (.aastore, 1))
    (kk : ∀ (H1 : Heap) (locs1 : List Loc), WC g Z N (va_up ct i (.inl (g.2.2.2.2, 200, .inr (.inr (.inr (.inr (va_up f q (some (Z + j))))))))) s H1 locs1 → W p l e R s m args below meth c H1 locs1 cells slots Q (F0 m (pc + 1) ls rest)) : W p l e R s m args below meth c H locs cells slots Q (F0 m pc ls (.ref (Z + j) :: .int x :: .ref (Z + i) :: rest)) := by
  subst hx
  refine va_astq (D := g.1) (cl := cls3) (A := zfree Z) (r := ("StageClock$Step", F_T, 9)) C.x C.b C.2.1 hw.1 (fam_D Z N _) hw.2 i 3 j 1 (by rw [fam_get Z _ hi, he]) rfl (by rw [fam_get Z _ hj, hv]) rfl (vp_in_nI hq (by decide)) hd (fun H1 locs1 hP _ hS => kk H1 locs1 ⟨?_, hS⟩)
  rw [nI_clamp (by omega), fam_set Z _ hi] at hP
  exact hP
theorem preC (C : Cx p s m c cc nL own args g Z) (hw : WC g Z N ct s H locs) (hH : H.size = Z + N) {As : List Value} : PreS s H (va_Pc As (WdC g Z N ct)) As :=
  ⟨fun a U gf mk q => ⟨q.1, q.2.1.moved (U := U.calling gf mk a) (warm_of rfl) (fun _ _ _ => rfl), q.2.2.1, q.2.2.2⟩,
   fun U hU hW => ⟨rfl, C.2.moved hW (fun a h1 h2 => by rw [hU]; exact hw.2.2.1 a h1 h2), by rw [hU]; exact hw.1, by rw [hU]; exact hH⟩⟩
/-- a constructor's end -/
theorem e_c {post : (Nat → va_E) → Prop} (C : Cx p s m c cc nL own args g Z) (hr : meth.sig.returnType = none) (hlk : meth.locks = false) (hw : WC g Z N ct s H locs) (hsz : s.heap.size + cells = Z + N) (hge : Z + N ≤ H.size) (hd : decode cc pc = .ok (.return_, 1)) (hp : post ct) :
    W p l e R s m args below meth c H locs cells slots (MQ below (va_Qv post (WdC g Z N) (zfree Z)) args s cells slots (zfree Z)) (F0 m pc ls []) := by
  refine n_sz hsz hge (fun hH => ?_)
  exact W.vret C.x C.b hr (fun t ht hW => ⟨⟨ct, rfl, hp, C.2.moved hW (fun a h1 h2 => by rw [ht]; exact hw.2.2.1 a h1 h2), by rw [ht]; exact hw.1, by rw [ht]; exact hH⟩, hw.2.F ht⟩) hw.2.2.2 hd hlk
theorem ret_c {post : (Nat → va_E) → Prop} {a : Array Value} {N1 mc ms : Nat} {st : List Value} (hw : WC g Z N ct s H locs) (hr : va_Run p l e R s m args below meth c H locs cells slots mc ms (F0 m pc ls st) rest (va_Qv post (WdC g Z N1) (zfree Z) a) (zfree Z))
    (kk : ∀ (ct' : Nat → va_E) (H1 : Heap) (locs1 : List Loc), post ct' → WC g Z N1 ct' s H1 locs1 → W p l e R s m args below meth c H1 locs1 (cells + mc) (slots + ms) Q (F0 m (pc + 3) ls rest)) : W p l e R s m args below meth c H locs cells slots Q (F0 m pc ls st) :=
  va_callv hr hw.2 (fun q _ h => h) (fun q h => h) (fun u t H1 locs1 ht _ hp hB _ _ hS => kk u H1 locs1 hp ⟨by rw [← ht]; exact hB.2.1, hS⟩)
end Ctor
theorem mk_metC {l : Launch} {g : KG} {Z N : Nat} {ct : Nat → va_E} {y : MethodName} {cc : ByteArray} {nL : Nat} {ret : Option FieldType} {rm : Room} {av : List Value} {own : String} {Qc : Array Value → State → Outcome → State → Prop} {mc ms : Nat} {free : Addr → Prop}
    (hy : plainName y.cls = true) (ho : y.cls = own) (hni : y.name = "<init>") (hlen : (lg_sl av).length ≤ nL)
    (body : ∀ (p : Program) (e : Env) (s : State) (m : MethodId) (below : List Frame) (meth : Method) (c : Code) (ls : Array Slot), Cx p s m c cc nL own av.toArray g Z → meth.sig.returnType = ret → meth.locks = false → meth.name = "<init>" → lv_has ls nL (lv_args 0 av) → WC g Z N ct s s.heap [] → s.heap.size = Z + N →
      W p l e rm s m av.toArray below meth c s.heap [] 0 0 (MQ below Qc av.toArray s mc ms free) (F0 m 0 ls [])) : Met l y [.code y cc nL ret] rm (va_Pc av (WdC g Z N ct)) Qc mc ms free := by
  subst ho
  refine Met.ofW (cc := cc) (maxL := nL) (ret := ret) hy rfl ?_
  intro p e s m args below meth c s₁ B hml hv
  obtain ⟨rfl, hWd⟩ := hv
  have hl := lv_entry av (n := nL) hlen
  rw [lg_entry_eq]
  generalize (lg_sl av ++ List.replicate (nL - (lg_sl av).length) Slot.unset).toArray = ls at hl ⊢
  exact body p e s m below meth c ls ⟨⟨B.exec, B.bytes, hml, findClass_of_methodNamed B.named, hWd.1.2.1.any _⟩, hWd.1⟩ B.returns B.notSynchronized (hni ▸ (name_of_methodNamed B.named B.method).1) hl ⟨hWd.2.1, va_S.rf⟩ hWd.2.2
theorem nm_of {g : KG} {Z : Nat} {s : State} (k : KK g Z s) : (∀ cB, s.vm.findClass ("[" ++ FieldType.int.toString) = some cB → cB = g.2.1) ∧ (∀ cB, s.vm.findClass ("[" ++ FieldType.boolean.toString) = some cB → cB = g.2.2.1) ∧ (∀ cB, s.vm.findClass ("[" ++ FieldType.long.toString) = some cB → cB = g.2.2.2.1) :=
  ⟨fun cB h => Option.some.inj (h.symm.trans (k.1.2 0 _ rfl).2), fun cB h => Option.some.inj (h.symm.trans (k.1.2 1 _ rfl).2), fun cB h => Option.some.inj (h.symm.trans (k.1.2 2 _ rfl).2)⟩
end
section
/-! the constructors -/
theorem fam_ge2 {g : KG} {Z N : Nat} {ct : Nat → va_E} {H : Heap} (hN : 0 < N) (h : va_P g.1 cls3 (fam Z N ct) H) : Z + N ≤ H.size := by
  obtain ⟨n, rfl⟩ : ∃ n, N = n + 1 := ⟨N - 1, by omega⟩
  exact fam_ge h
def RC (k cl sl : Nat) : Room := { frames := k, cells := cl, slots := sl, locals := 40 * k }
def zz : Fn2 := fun _ _ => 0
def τ0 : TS := ((zz, zz, zz, 0, 0), (zz, 0, 0, 0), 0)
def dT : List Value := [.int 0, .int 0, .int 0, .int 0, .int 0, .int 0, .int 0, .null, .null]
def dM : List Value := [.int 0, .null, .null, .null, .null, .null, .null, .null, .null, .null, .null, .null, .null, .int 0, .int 0]
theorem dT_ok : ∀ j, j < 9 → defaultValue (t_Tt j) = vp_V dT j := by decide +kernel
theorem dM_ok : ∀ j, j < 15 → defaultValue (t_M j) = vp_V dM j := by decide +kernel
theorem dS_ok : ∀ j, j < 3 → defaultValue (t_S j) = vp_V [.null, .int 0, .int 0] j := by decide +kernel
/-- Step(): two arrays -/
theorem c_Tinit (l : Launch) {g : KG} {Z n : Nat} {ct : Nat → va_E} (hct : ct n = .inr (1, dT)) : Met l y_t1 [.code y_t1 prog_2_method_1_code 1 none] (RC 1 2 21) (va_Pc [.ref (Z + n)] (WdC g Z (n + 1) ct)) (va_Qv (fun ct' => (∀ i, i < n → ct' i = ct i) ∧ ct' n = .inr (1, [.int 0, .int 0, .int 0, .int 0, .int 0, .int 0, .int 0, .ref (Z + (n + 1)), .ref (Z + (n + 1 + 1))]) ∧ ct' (n + 1) = .inl (g.2.1, 5, .inl (fun _ => 0)) ∧ ct' (n + 1 + 1) = .inl (g.2.1, 16, .inl (fun _ => 0))) (WdC g Z (n + 1 + 1 + 1)) (zfree Z)) 2 21 (zfree Z) := by
  refine mk_metC (own := "StageClock$Step") (by decide) rfl rfl (Nat.le_of_ble_eq_true rfl) fun p e s m below meth c ls C hr hlk hin hl hw hsz => ?_
  have hl : lv_has ls 1 [(0, .ref (Z + n))] := hl
  refine lv_aload_n C.x C.b d_t1_0 rfl (lv_at hl 0 rfl) ?_
  refine W.objInit C.x C.b C.1.2.2.2.1 (C.1.2.2.2.2 _ k_25) (C.1.2.2.2.2 _ k_17) (C.1.2.2.2.2 _ k_18) rfl (hl.1.trans C.1.2.2.1.symm) rfl d_t1_1 (by decide) (Nat.le_of_ble_eq_true rfl) ?_
  refine W.eq (g2 := F0 m 4 ls []) rfl ?_
  refine lv_aload_n C.x C.b d_t1_4 rfl (lv_at hl 0 rfl) ?_
  refine lv_iconst (v := 5) C.x C.b d_t1_5 (by decide) ?_
  refine n_arr (atype := .int) (ty := .int) (cA := g.2.1) (L := 5) (a0 := (5, .inl (fun _ => 0))) C hw hsz (fam_ge hw.1) 0 rfl rfl (nm_of C.2).1 k_59 rfl (by decide) (by decide) (by decide) (by decide) (by decide) d_t1_6 (fun H hw => ?_)
  refine n_putF (fs := dT) C hin hw n 1 7 9 (by omega) (by rw [va_up_ne _ _ (by omega)]; exact hct) rfl (by decide) hin_T t_T_ok n_T rfl k_36 rfl (t_T_ok 7 (by decide)) rfl rfl (by decide : 7 < 9) d_t1_8 (fun H locs hw => ?_)
  refine lv_aload_n C.x C.b d_t1_11 rfl (lv_at hl 0 rfl) ?_
  refine lv_bipush (v := 16) C.x C.b d_t1_12 (by decide) ?_
  refine n_arr (atype := .int) (ty := .int) (cA := g.2.1) (L := 16) (a0 := (16, .inl (fun _ => 0))) C hw (by omega) (fam_ge hw.1) 0 rfl rfl (nm_of C.2).1 k_59 rfl (by decide) (by decide) (by decide) (by decide) (by decide) d_t1_14 (fun H hw => ?_)
  refine n_putF (fs := dT.set 7 (.ref (Z + (n + 1)))) C hin hw n 1 8 15 (by omega) (by rw [va_up_ne _ _ (by omega), va_up_self]) rfl (by decide) hin_T t_T_ok n_T rfl k_38 rfl (t_T_ok 8 (by decide)) rfl rfl (by decide : 8 < 9) d_t1_16 (fun H locs hw => ?_)
  refine e_c C hr hlk hw (by omega) (fam_ge hw.1) d_t1_19 ⟨fun i hi => ?_, ?_, ?_, ?_⟩
  · rw [va_up_ne _ _ (by omega), va_up_ne _ _ (by omega), va_up_ne _ _ (by omega), va_up_ne _ _ (by omega)]
  · rw [va_up_self]; rfl
  · rw [va_up_ne _ _ (by omega), va_up_ne _ _ (by omega), va_up_ne _ _ (by omega), va_up_self]
  · rw [va_up_ne _ _ (by omega), va_up_self]
def fst (Z k : Nat) : Nat → Option Nat := fun j => if j < k then some (Z + (2 + 3 * j)) else none
theorem fst_up (Z k : Nat) : va_up (fst Z k) k (some (Z + (2 + 3 * k))) = fst Z (k + 1) := by
  funext j
  unfold va_up fst
  by_cases h : j = k
  · subst h; rw [if_pos rfl, if_pos (by omega)]
  · rw [if_neg h]
    by_cases h2 : j < k
    · rw [if_pos h2, if_pos (by omega)]
    · rw [if_neg h2, if_neg (by omega)]
theorem fst_0 (Z : Nat) : (fun _ => none) = fst Z 0 := by
  funext j
  unfold fst
  rw [if_neg (by omega)]
/-- StageClock(): the array, 200 Steps -/
theorem c_Sinit (l : Launch) {g : KG} {Z : Nat} {ct : Nat → va_E} (hct : ct 0 = .inr (0, [.null, .int 0, .int 0])) : Met l y_s1 [.code y_s1 prog_1_method_1_code 2 none] (RC 2 601 6200) (va_Pc [.ref Z] (WdC g Z 1 ct)) (va_Qv (fun ct' => ∀ i, i < 602 → ct' i = cont g Z τ0 i) (WdC g Z 602) (zfree Z)) 601 6200 (zfree Z) := by
  refine mk_metC (own := "StageClock") (by decide) rfl rfl (Nat.le_of_ble_eq_true rfl) fun p e s m below meth c ls C hr hlk hin hl hw hsz => ?_
  have hl : lv_has ls 2 [(0, .ref Z)] := hl
  have loop : ∀ (d k : Nat) (ct : Nat → va_E) (H : Heap) (locs : List Loc) (ls : Array Slot), k + d = 200 → (∀ i, i < 2 + 3 * k → i ≠ 1 → ct i = cont g Z τ0 i) → ct 1 = .inl (g.2.2.2.2, 200, .inr (.inr (.inr (.inr (fst Z k))))) → WC g Z (2 + 3 * k) ct s H locs → lv_has ls 2 [(1, .int (nI k)), (0, .ref Z)] → W p l e (RC 2 601 6200) s m [Value.ref Z].toArray below meth c H locs (1 + 3 * k) (200 + 30 * k) (MQ below (va_Qv (fun ct' => ∀ i, i < 602 → ct' i = cont g Z τ0 i) (WdC g Z 602) (zfree Z)) [Value.ref Z].toArray s 601 6200 (zfree Z)) (F0 m 16 ls []) := by
    intro d
    induction d with
    | zero =>
      intro k ct H locs ls hd hE h1 hw hl
      obtain rfl : k = 200 := by omega
      refine lv_iload_n C.x C.b d_s1_16 rfl (lv_at hl 0 rfl) ?_
      refine lv_sipush (v := 200) C.x C.b d_s1_17 (by decide) ?_
      refine lv_icmp_ge (tgt := 42) C.x C.b d_s1_20 (by decide) (fun h9 => ?_) (fun h9 => absurd (by decide) h9)
      refine e_c C hr hlk hw (by omega) (fam_ge2 (by decide) hw.1) d_s1_42 (fun i hi => ?_)
      by_cases e1 : i = 1
      · subst e1; exact h1
      · exact hE i (by omega) e1
    | succ d ih =>
      intro k ct H locs ls hd hE h1 hw hl
      refine lv_iload_n C.x C.b d_s1_16 rfl (lv_at hl 0 rfl) ?_
      refine lv_sipush (v := 200) C.x C.b d_s1_17 (by decide) ?_
      refine lv_icmp_ge (tgt := 42) C.x C.b d_s1_20 (by decide) (fun h9 => absurd h9 (nI_ge (show k < 200 by omega) (by decide))) (fun h9 => ?_)
      refine lv_aload_n C.x C.b d_s1_23 rfl (lv_at hl 1 rfl) ?_
      refine n_get C hw 0 0 0 11 (by omega) (hE 0 (by omega) (by decide)) rfl (by decide) hin_S rfl k_60 rfl d_s1_24 ?_
      refine lv_iload_n C.x C.b d_s1_27 rfl (lv_at hl 0 rfl) ?_
      refine n_obj (fs := dT) C hw (by omega) (fam_ge2 (by omega) hw.1) 1 rfl hin_T t_T_ok k_19 k_21 k_2 dT_ok (by show 1 + 3 * k + 1 ≤ 601; omega) (by show 200 + 30 * k + 9 ≤ 6200; omega) d_s1_28 (fun H hw => ?_)
      refine lv_dup C.x C.b d_s1_31 rfl ?_
      refine n_sz (Z := Z) (N := 2 + 3 * k + 1) (by omega) (fam_ge hw.1) (fun hH => ?_)
      refine ret_c hw (va_runIN (As := []) (host := "StageClock") (bytes := prog_2_method_1_code) (maxL := 1) (n := 0) (rest := [.ref (Z + (2 + 3 * k)), .int (nI k), .ref (Z + 1)]) C.1 (c_Tinit l (g := g) (Z := Z) (n := 2 + 3 * k) (va_up_self _ _ _)) ⟨⟨⟨rfl, rfl, by decide, by decide, fun w hw2 a' U hW => by rw [List.mem_singleton] at hw2; subst hw2; exact TK.any (TK.moved hW C.2.2.1) a' _ Y_t1.1, List.mem_singleton.mpr rfl⟩, C.1.2.2.2.2 _ Y_t1.1, C.1.2.2.2.2 _ Y_t1.2.1, Y_t1.2.2.1, fun sig h => (by have h2 := Y_t1.2.2.2; rw [h] at h2; exact (Option.some.inj h2).symm), C.1.2.2.2.2 _ k_22⟩, rfl, C.1.2.2.2.2 _ k_23⟩ (preC C hw hH) rfl rfl hl.1 rfl (lv_room (Nat.le_of_ble_eq_true rfl)) d_s1_32 ⟨by show 1 + 3 * k + 1 + 2 ≤ 601; omega, by show 200 + 30 * k + 9 + 21 ≤ 6200; omega⟩) (fun ct1 H locs hp hw => ?_)
      obtain ⟨p1, p2, p3, p4⟩ := hp
      refine n_astq C hw 1 (2 + 3 * k) k (by omega) (by omega) (by rw [p1 1 (by omega), va_up_ne _ _ (by omega)]; exact h1) p2 (by omega) rfl d_s1_35 (fun H locs hw => ?_)
      rw [fst_up] at hw
      refine lv_iinc (k := 0) (v := nI (k + 1)) (lv' := [(1, .int (nI (k + 1))), (0, .ref Z)]) C.x C.b d_s1_36 hl rfl (nI_1 _) (by decide) rfl (fun ls hl => ?_)
      refine lv_goto (tgt := 16) C.x C.b d_s1_39 (by decide) ?_
      refine W.widen (k := 1 + 3 * (k + 1)) (n := 200 + 30 * (k + 1)) (by omega) (by omega) ?_
      refine ih (k + 1) _ H locs ls (by omega) (fun i hi h1i => ?_) (va_up_self _ _ _) (by rw [show 2 + 3 * (k + 1) = 2 + 3 * k + 1 + 1 + 1 by omega]; exact hw) hl
      rw [va_up_ne _ _ h1i]
      rcases (show i < 2 + 3 * k ∨ i = 2 + 3 * k ∨ i = 2 + 3 * k + 1 ∨ i = 2 + 3 * k + 1 + 1 by omega) with h | h | h | h
      · rw [p1 i h, va_up_ne _ _ (by omega)]; exact hE i h h1i
      · subst h; rw [p2, cont_T g Z τ0 (show k < 200 by omega)]
        show _ = Sum.inr (1, _)
        rw [show 2 + 3 * k + 1 = 3 + 3 * k by omega, show 3 + 3 * k + 1 = 4 + 3 * k by omega]; rfl
      · subst h; rw [p3, show 2 + 3 * k + 1 = 3 + 3 * k by omega, cont_B g Z τ0 (show k < 200 by omega)]; rfl
      · subst h; rw [p4, show 2 + 3 * k + 1 + 1 = 4 + 3 * k by omega, cont_G g Z τ0 (show k < 200 by omega)]; rfl
  refine lv_aload_n C.x C.b d_s1_0 rfl (lv_at hl 0 rfl) ?_
  refine W.objInit C.x C.b C.1.2.2.2.1 (C.1.2.2.2.2 _ k_16) (C.1.2.2.2.2 _ k_17) (C.1.2.2.2.2 _ k_18) rfl (hl.1.trans C.1.2.2.1.symm) rfl d_s1_1 (by decide) (Nat.le_of_ble_eq_true rfl) ?_
  refine W.eq (g2 := F0 m 4 ls []) rfl ?_
  refine lv_aload_n C.x C.b d_s1_4 rfl (lv_at hl 0 rfl) ?_
  refine lv_sipush (v := 200) C.x C.b d_s1_5 (by decide) ?_
  refine n_arrq C hw hsz (fam_ge hw.1) k_19 (by decide) (by decide) d_s1_8 (fun H hw => ?_)
  refine n_putF (fs := [.null, .int 0, .int 0]) C hin hw 0 0 0 11 (by decide) (by rw [va_up_ne _ _ (by decide)]; exact hct) rfl (by decide) hin_S t_S_ok n_S rfl k_60 rfl (t_S_ok 0 (by decide)) rfl rfl (by decide : 0 < 3) d_s1_11 (fun H locs hw => ?_)
  refine lv_iconst (v := 0) C.x C.b d_s1_14 (by decide) ?_
  refine lv_istore_n (lv' := [(1, .int 0), (0, .ref Z)]) C.x C.b d_s1_15 rfl hl (by decide) rfl (fun ls hl => ?_)
  refine loop 200 0 _ H locs ls rfl (fun i hi h1 => ?_) ?_ hw hl
  · obtain rfl : i = 0 := by omega
    rw [va_up_self]; rfl
  · rw [va_up_ne _ _ (by decide), va_up_self, fst_0 Z]
section MI
variable {p : Program} {l : Launch} {e : Env} {R : Room} {s : State} {m : MethodId} {args : Array Value} {below : List Frame} {meth : Method} {c : Code} {H : Heap} {locs : List Loc} {cells slots : Nat} {Q : State → Prop}
variable {cc : ByteArray} {nL pc : Nat} {ls : Array Slot} {g : KG} {Z a : Nat} {ct : Nat → va_E} {fs : List Value}
/-- one array of the model: aload_0; sipush 200; newarray; putfield -/
theorem mi_step (C : Cx p s m c cc nL "StageClockModel" args g Z) (hin : meth.name = "<init>") (hl : lv_has ls nL [(0, .ref (Z + 602))]) (hw : WC g Z (603 + a) ct s H locs) (hsz : s.heap.size + cells = Z + (603 + a)) (ha : a < 12) (hE : ∀ i, i < 603 + a → i ≠ 602 → ct i = cont g Z τ0 i) (h6 : ct 602 = .inr (2, fs)) (hfs : fs.length = 15) {idx t0 : Nat} {atype : ArrayType} {ty : FieldType} {cA : ClassId} (hty : newarray.typeOf atype = ty) (ht : (tysG g)[t0]? = some (cA, ty)) (hnm : ∀ cB, s.vm.findClass ("[" ++ ty.toString) = some cB → cB = cA) (hac : Cond.arrayClass ty ∈ TB) (hv : vp_cell cA (200, .inl (fun _ => 0)) = arrV cA 200 (fun _ => defaultValue ty)) (hby : 200 * componentBytes ty ≤ 536870912) (hcA : cA = if a = 5 ∨ a = 6 then g.2.2.1 else g.2.1)
    (hlink : Cond.fieldLink "StageClockModel" idx "StageClockModel" (F_M (a + 1)).2.1 (F_M (a + 1)).2.2.1 ∈ TB) (hdecl : (F_M (a + 1)).1 = "StageClockModel") (hfin : (F_M (a + 1)).2.2.2 = true) (hn : narrow (t_M (a + 1)) (.ref (Z + (603 + a))) = .ref (Z + (603 + a))) (hfit : fits (t_M (a + 1)) (.ref (Z + (603 + a))) = true) (hcells : cells + 1 ≤ R.cells) (hslots : slots + 200 ≤ R.slots)
    (hd0 : decode cc pc = .ok (.aload_n 0, 1)) (hd1 : decode cc (pc + 1) = .ok (.sipush 200, 3)) (hd4 : decode cc (pc + 1 + 3) = .ok (.newarray atype, 2)) (hd6 : decode cc (pc + 1 + 3 + 2) = .ok (.putfield idx, 3))
    (kk : ∀ (ct' : Nat → va_E) (H : Heap) (locs : List Loc), (∀ i, i < 603 + a + 1 → i ≠ 602 → ct' i = cont g Z τ0 i) → ct' 602 = .inr (2, fs.set (a + 1) (.ref (Z + (603 + a)))) → WC g Z (603 + a + 1) ct' s H locs → W p l e R s m args below meth c H locs (cells + 1) (slots + 200) Q (F0 m (pc + 9) ls [])) : W p l e R s m args below meth c H locs cells slots Q (F0 m pc ls []) := by
  refine lv_aload_n C.x C.b hd0 rfl (lv_at hl 0 rfl) ?_
  refine lv_sipush (v := 200) C.x C.b hd1 (by decide) ?_
  refine n_arr (cA := cA) (L := 200) (a0 := (200, .inl (fun _ => 0))) C hw hsz (fam_ge2 (by omega) hw.1) t0 hty ht hnm hac hv (by decide) (by decide) hby hcells hslots hd4 (fun H hw => ?_)
  refine n_putF (fs := fs) C hin hw 602 2 (a + 1) idx (by omega) (by rw [va_up_ne _ _ (by omega)]; exact h6) rfl (by omega) hin_M t_M_ok n_M hdecl hlink hfin (t_M_ok (a + 1) (by omega)) hn hfit (by rw [hfs]; omega) hd6 (fun H locs hw => ?_)
  refine kk _ H locs (fun i hi h2 => ?_) (va_up_self _ _ _) hw
  rw [va_up_ne _ _ h2]
  by_cases e1 : i = 603 + a
  · subst e1; rw [va_up_self, cont_M g Z τ0 ha, hcA]; rfl
  · rw [va_up_ne _ _ e1]; exact hE i (by omega) h2
end MI
/-- StageClockModel(): twelve arrays -/
theorem c_Minit (l : Launch) {g : KG} {Z : Nat} {ct : Nat → va_E} (hE : ∀ i, i < 602 → ct i = cont g Z τ0 i) (h6 : ct 602 = .inr (2, dM)) : Met l y_m1 [.code y_m1 prog_4_method_1_code 1 none] (RC 1 12 2400) (va_Pc [.ref (Z + 602)] (WdC g Z 603 ct)) (va_Qv (fun ct' => ∀ i, i < 615 → ct' i = cont g Z τ0 i) (WdC g Z 615) (zfree Z)) 12 2400 (zfree Z) := by
  refine mk_metC (own := "StageClockModel") (by decide) rfl rfl (Nat.le_of_ble_eq_true rfl) fun p e s m below meth c ls C hr hlk hin hl hw hsz => ?_
  have hl : lv_has ls 1 [(0, .ref (Z + 602))] := hl
  refine lv_aload_n C.x C.b d_m1_0 rfl (lv_at hl 0 rfl) ?_
  refine W.objInit C.x C.b C.1.2.2.2.1 (C.1.2.2.2.2 _ k_272) (C.1.2.2.2.2 _ k_17) (C.1.2.2.2.2 _ k_18) rfl (hl.1.trans C.1.2.2.1.symm) rfl d_m1_1 (by decide) (Nat.le_of_ble_eq_true rfl) ?_
  refine W.eq (g2 := F0 m 4 ls []) rfl ?_
  have hE : ∀ i, i < 603 → i ≠ 602 → ct i = cont g Z τ0 i := fun i hi h2 => hE i (by omega)
  refine mi_step (a := 0) (idx := 7) (t0 := 0) (ty := .int) C hin hl hw (by omega) (by decide) hE h6 rfl rfl rfl (nm_of C.2).1 k_59 rfl (by decide) rfl k_274 rfl rfl rfl rfl (by decide) (by decide) d_m1_4 d_m1_5 d_m1_8 d_m1_10 (fun ct H locs hE h6 hw => ?_)
  refine mi_step (a := 1) (idx := 13) (t0 := 0) (ty := .int) C hin hl hw (by omega) (by decide) hE h6 rfl rfl rfl (nm_of C.2).1 k_59 rfl (by decide) rfl k_275 rfl rfl rfl rfl (by decide) (by decide) d_m1_13 d_m1_14 d_m1_17 d_m1_19 (fun ct H locs hE h6 hw => ?_)
  refine mi_step (a := 2) (idx := 16) (t0 := 0) (ty := .int) C hin hl hw (by omega) (by decide) hE h6 rfl rfl rfl (nm_of C.2).1 k_59 rfl (by decide) rfl k_276 rfl rfl rfl rfl (by decide) (by decide) d_m1_22 d_m1_23 d_m1_26 d_m1_28 (fun ct H locs hE h6 hw => ?_)
  refine mi_step (a := 3) (idx := 19) (t0 := 0) (ty := .int) C hin hl hw (by omega) (by decide) hE h6 rfl rfl rfl (nm_of C.2).1 k_59 rfl (by decide) rfl k_277 rfl rfl rfl rfl (by decide) (by decide) d_m1_31 d_m1_32 d_m1_35 d_m1_37 (fun ct H locs hE h6 hw => ?_)
  refine mi_step (a := 4) (idx := 22) (t0 := 0) (ty := .int) C hin hl hw (by omega) (by decide) hE h6 rfl rfl rfl (nm_of C.2).1 k_59 rfl (by decide) rfl k_278 rfl rfl rfl rfl (by decide) (by decide) d_m1_40 d_m1_41 d_m1_44 d_m1_46 (fun ct H locs hE h6 hw => ?_)
  refine mi_step (a := 5) (idx := 25) (t0 := 1) (ty := .boolean) C hin hl hw (by omega) (by decide) hE h6 rfl rfl rfl (nm_of C.2).2.1 k_319 rfl (by decide) rfl k_279 rfl rfl rfl rfl (by decide) (by decide) d_m1_49 d_m1_50 d_m1_53 d_m1_55 (fun ct H locs hE h6 hw => ?_)
  refine mi_step (a := 6) (idx := 29) (t0 := 1) (ty := .boolean) C hin hl hw (by omega) (by decide) hE h6 rfl rfl rfl (nm_of C.2).2.1 k_319 rfl (by decide) rfl k_280 rfl rfl rfl rfl (by decide) (by decide) d_m1_58 d_m1_59 d_m1_62 d_m1_64 (fun ct H locs hE h6 hw => ?_)
  refine mi_step (a := 7) (idx := 32) (t0 := 0) (ty := .int) C hin hl hw (by omega) (by decide) hE h6 rfl rfl rfl (nm_of C.2).1 k_59 rfl (by decide) rfl k_281 rfl rfl rfl rfl (by decide) (by decide) d_m1_67 d_m1_68 d_m1_71 d_m1_73 (fun ct H locs hE h6 hw => ?_)
  refine mi_step (a := 8) (idx := 35) (t0 := 0) (ty := .int) C hin hl hw (by omega) (by decide) hE h6 rfl rfl rfl (nm_of C.2).1 k_59 rfl (by decide) rfl k_282 rfl rfl rfl rfl (by decide) (by decide) d_m1_76 d_m1_77 d_m1_80 d_m1_82 (fun ct H locs hE h6 hw => ?_)
  refine mi_step (a := 9) (idx := 38) (t0 := 0) (ty := .int) C hin hl hw (by omega) (by decide) hE h6 rfl rfl rfl (nm_of C.2).1 k_59 rfl (by decide) rfl k_283 rfl rfl rfl rfl (by decide) (by decide) d_m1_85 d_m1_86 d_m1_89 d_m1_91 (fun ct H locs hE h6 hw => ?_)
  refine mi_step (a := 10) (idx := 41) (t0 := 0) (ty := .int) C hin hl hw (by omega) (by decide) hE h6 rfl rfl rfl (nm_of C.2).1 k_59 rfl (by decide) rfl k_284 rfl rfl rfl rfl (by decide) (by decide) d_m1_94 d_m1_95 d_m1_98 d_m1_100 (fun ct H locs hE h6 hw => ?_)
  refine mi_step (a := 11) (idx := 44) (t0 := 0) (ty := .int) C hin hl hw (by omega) (by decide) hE h6 rfl rfl rfl (nm_of C.2).1 k_59 rfl (by decide) rfl k_285 rfl rfl rfl rfl (by decide) (by decide) d_m1_103 d_m1_104 d_m1_107 d_m1_109 (fun ct H locs hE h6 hw => ?_)
  refine e_c C hr hlk hw (by omega) (fam_ge2 (by decide) hw.1) d_m1_112 (fun i hi => ?_)
  by_cases e1 : i = 602
  · subst e1; exact h6
  · exact hE i hi e1
end
section
/-! PURE: the step depends on earlier columns of the data alone; the times rise and stay small; both searches answer alike -/
section Col
variable {D D' B : Fn2}
theorem bfr_col (reg : Int32) : ∀ i : Nat, (∀ k, k < i → D 1 k = D' 1 k) → bfr D i reg = bfr D' i reg
  | 0, _ => rfl
  | i + 1, h => by
    unfold bfr
    rw [h i (Nat.lt_succ_self i), bfr_col reg i (fun k hk => h k (by omega))]
theorem bh_col {i : Nat} (hi : i ≤ 200) (h : ∀ j k, k < i → D j k = D' j k) (reg : Int32) : bh D B (bfr D i reg) = bh D' B (bfr D' i reg) := by
  rw [bfr_col reg i (fun k hk => h 1 k hk)]
  unfold bh
  by_cases h0 : 0 ≤ bfr D' i reg
  · obtain ⟨j, hj, e⟩ := bfr_in D' reg i h0
    rw [if_pos h0, if_pos h0, e, nI_clamp (by omega)]
    unfold rdy xeD meD
    rw [h 5 j hj, h 0 j hj, h 4 j hj]
  · rw [if_neg h0, if_neg h0]
theorem stp_col {i : Nat} (hi : i ≤ 200) (h : ∀ j k, k ≤ i → D j k = D' j k) (j : Nat) : stp D B i j = stp D' B i j := by
  have h0 : st0 D B i = st0 D' B i := by
    unfold st0 xeD
    by_cases e : i = 0
    · rw [if_pos e, if_pos e]
    · rw [if_neg e, if_neg e, h 6 (i - 1) (by omega), h 0 (i - 1) (by omega)]
  have h1 : st1 D B i = st1 D' B i := by unfold st1; rw [h0]
  have h2 : st2 D B i = st2 D' B i := by
    unfold st2 st2a
    rw [h1, h 2 i (Nat.le_refl i)]
    exact lpx_congr 15 (fun r _ _ => bh_col hi (fun j k hk => h j k (by omega)) _)
  have h3 : st3 D B i = st3 D' B i := by
    unfold st3 st3a
    rw [h2, h 0 i (Nat.le_refl i), h 3 i (Nat.le_refl i), bh_col hi (fun j k hk => h j k (by omega))]
  unfold stp
  split
  · exact h0
  · exact h1
  · exact h2
  · exact h3
  · unfold st4; rw [h3, h 4 i (Nat.le_refl i)]
theorem tgood_col {n : Nat} (hn : n ≤ 200) (h : ∀ j k, k < n → D j k = D' j k) (hT : tgood D B n) : tgood D' B n := fun i hi j hj => (hT i hi j hj).trans (stp_col (by omega) (fun j k hk => h j k (by omega)) j)
theorem ggood_col {G : Fn2} {n : Nat} (h : ∀ j k, k < n → D j k = D' j k) (hG : ggood D G n) : ggood D' G n := fun i hi r hr => (hG i hi r hr).trans (by
  unfold Gv
  rw [bfr_col (D := D) (D' := D') _ i (fun k hk => h 1 k (by omega))])
theorem tgood_le {n k : Nat} (hk : k ≤ n) (hT : tgood D B n) : tgood D B k := fun i hi => hT i (by omega)
theorem ggood_le {G : Fn2} {n k : Nat} (hk : k ≤ n) (hG : ggood D G n) : ggood D G k := fun i hi => hG i (by omega)
end Col
theorem gv7_ne (D : Fn2) {k : Nat} {t g r l ld q wr : Int32} {j c : Nat} (h : c ≠ k) : gv7 D k t g r l ld q wr j c = D j c := by
  unfold gv7
  simp only [up2_ne (Or.inr h)]
theorem up2_same {M D : Fn2} {f k : Nat} {x : Int32} (hf : f < 7) (h : ∀ i, i < 7 → M i = D i) : ∀ i, i < 7 → up2 M f k x i = up2 D f k x i := by
  intro i hi
  unfold up2 va_up
  by_cases e : i = f
  · rw [if_pos e, if_pos e, h f hf]
  · rw [if_neg e, if_neg e, h i hi]
theorem gv7_same {M D : Fn2} {k : Nat} {t g r l ld q wr : Int32} (h : ∀ i, i < 7 → M i = D i) : ∀ i, i < 7 → gv7 M k t g r l ld q wr i = gv7 D k t g r l ld q wr i := by
  unfold gv7
  exact up2_same (by decide) (up2_same (by decide) (up2_same (by decide) (up2_same (by decide) (up2_same (by decide) (up2_same (by decide) (up2_same (by decide) h))))))
theorem gv7_at (D : Fn2) (k : Nat) (t g r l ld q wr : Int32) : gv7 D k t g r l ld q wr 0 k = t ∧ gv7 D k t g r l ld q wr 1 k = g ∧ gv7 D k t g r l ld q wr 3 k = l ∧ gv7 D k t g r l ld q wr 4 k = q := by
  unfold gv7
  refine ⟨?_, ?_, ?_, ?_⟩
  · rw [up2_ne (Or.inl (by decide)), up2_ne (Or.inl (by decide)), up2_ne (Or.inl (by decide)), up2_ne (Or.inl (by decide)), up2_ne (Or.inl (by decide)), up2_ne (Or.inl (by decide)), up2_self]
  · rw [up2_ne (Or.inl (by decide)), up2_ne (Or.inl (by decide)), up2_ne (Or.inl (by decide)), up2_ne (Or.inl (by decide)), up2_ne (Or.inl (by decide)), up2_self]
  · rw [up2_ne (Or.inl (by decide)), up2_ne (Or.inl (by decide)), up2_ne (Or.inl (by decide)), up2_self]
  · rw [up2_ne (Or.inl (by decide)), up2_self]
/-- the data of the first nn places are as said -/
def dOK (D : Fn2) (nn : Nat) : Prop := ∀ i, i < nn → okd (D 0 i) (D 1 i) (D 3 i) (D 4 i)
theorem rng {x : Int32} {m : Nat} (hm : m ≤ 200) (h : 0 ≤ x ∧ x ≤ nI m) : ∃ k : Nat, k ≤ m ∧ x = nI k := (inc hm).mp h
theorem dOK.late {D : Fn2} {nn : Nat} (h : dOK D nn) : lateOK D nn := fun i hi => by
  obtain ⟨k, hk, e⟩ := rng (m := 15) (by decide) (h i hi).2.2.1
  exact ⟨k, by omega, e⟩
theorem dOK_up {D : Fn2} {nn k m : Nat} {t g r l ld q wr : Int32} (h : dOK D nn) (ho : okd t g l q) (hm : ∀ i, i < m → i ≠ k → i < nn) : dOK (gv7 D k t g r l ld q wr) m := fun i hi => by
  by_cases e : i = k
  · subst e
    obtain ⟨e0, e1, e3, e4⟩ := gv7_at D i t g r l ld q wr
    rw [e0, e1, e3, e4]; exact ho
  · rw [gv7_ne D e, gv7_ne D e, gv7_ne D e, gv7_ne D e]
    exact h i (hm i hi e)
theorem mi_nI {a b : Nat} (ha : a < 2 ^ 31) (hb : b < 2 ^ 31) : mi (nI a) (nI b) = nI (min a b) := by
  unfold mi
  by_cases h : b < a
  · rw [if_pos (nI_lt h ha), Nat.min_eq_right (Nat.le_of_lt h)]
  · rw [if_neg (nI_nlt (by omega) hb), Nat.min_eq_left (by omega)]
theorem mx_nI {a b : Nat} (ha : a < 2 ^ 31) (hb : b < 2 ^ 31) : mx (nI a) (nI b) = nI (max a b) := by
  unfold mx
  by_cases h : a < b
  · rw [if_pos (nI_lt h hb), Nat.max_eq_right (Nat.le_of_lt h)]
  · rw [if_neg (nI_nlt (by omega) ha), Nat.max_eq_left (by omega)]
theorem lpx_nI {f : Nat → Int32} {rd : Int32} {a X : Nat} (ha : a < 2 ^ 30) (hX : X < 2 ^ 30) : ∀ n : Nat, (∀ r, 1 ≤ r → r ≤ n → ∃ v : Nat, v ≤ X ∧ f r = nI v) → ∃ y : Nat, a ≤ y ∧ y ≤ max a X ∧ lpx f rd (nI a) n = nI y
  | 0, _ => ⟨a, Nat.le_refl a, Nat.le_max_left a X, rfl⟩
  | n + 1, h => by
    obtain ⟨y, h1, h2, e⟩ := lpx_nI (rd := rd) ha hX n (fun r h3 h4 => h r h3 (by omega))
    unfold lpx
    rw [e]
    by_cases hb : (rd >>> (nI (n + 1) &&& 31)) &&& 1 = 1
    · obtain ⟨v, hv, ev⟩ := h (n + 1) (by omega) (Nat.le_refl _)
      rw [if_pos hb, ev, mx_nI (by omega) (by omega)]
      exact ⟨max y v, by omega, by omega, rfl⟩
    · rw [if_neg hb]
      exact ⟨y, h1, h2, rfl⟩
/-- the times as numbers -/
def bn (B : Fn2) (k j : Nat) : Nat := (B k j).toNatClampNeg
theorem bn_of {B : Fn2} {k j v : Nat} (h : B k j = nI v) (hv : v < 2 ^ 31) : bn B k j = v := by
  unfold bn
  rw [h, nI_clamp hv]
def tn (D : Fn2) (f k : Nat) : Nat := (D f k).toNatClampNeg
def Rise (D B : Fn2) (k : Nat) : Prop := (∀ j, j < 5 → B k j = nI (bn B k j)) ∧ 1 ≤ bn B k 0 ∧ bn B k 0 + 1 ≤ bn B k 1 ∧ bn B k 1 + 1 ≤ bn B k 2 ∧ bn B k 2 + tn D 0 k ≤ bn B k 3 ∧ bn B k 4 = bn B k 3 + tn D 4 k + 1 ∧ bn B k 4 ≤ 24 * (k + 1) ∧ ∀ j, k = j + 1 → bn B j 1 ≤ bn B k 0 ∧ bn B j 2 ≤ bn B k 1 ∧ bn B j 3 ≤ bn B k 2 ∧ bn B j 4 ≤ bn B k 3
theorem data_of {D : Fn2} {nn k : Nat} (h : dOK D nn) (hk : k < nn) : (D 0 k = nI (tn D 0 k) ∧ 1 ≤ tn D 0 k ∧ tn D 0 k ≤ 12) ∧ (D 4 k = nI (tn D 4 k) ∧ tn D 4 k ≤ 8) := by
  obtain ⟨⟨h1, h2⟩, -, -, h4⟩ := h k hk
  obtain ⟨a, ha, ea⟩ := rng (x := D 0 k) (m := 12) (by decide) ⟨Int32.le_trans (by decide) h1, h2⟩
  obtain ⟨b, hb, eb⟩ := rng (m := 8) (by decide) h4
  have e1 : tn D 0 k = a := by unfold tn; rw [ea, nI_clamp (by omega)]
  have e2 : tn D 4 k = b := by unfold tn; rw [eb, nI_clamp (by omega)]
  rw [e1, e2]
  refine ⟨⟨ea, ?_, ha⟩, eb, hb⟩
  rcases Nat.eq_zero_or_pos a with h0 | h0
  · rw [ea, h0] at h1; exact absurd h1 (by decide)
  · exact h0
theorem rdy_nI {D B : Fn2} {nn k : Nat} (h : dOK D nn) (hk : k < nn) (hn : nn ≤ 200) (hr : Rise D B k) : ∃ v : Nat, v ≤ bn B k 4 ∧ rdy D B k + 1 = nI v := by
  obtain ⟨⟨e0, h0, h0'⟩, e4, h4⟩ := data_of h hk
  obtain ⟨hb, r0, r1, r2, r3, r4, r5, -⟩ := hr
  unfold rdy xeD meD
  by_cases hl : D 5 k = 0
  · rw [if_pos hl, hb 2 (by decide), e0, nI_add, nI_sub1 (by omega), nI_1]
    exact ⟨_, by omega, rfl⟩
  · rw [if_neg hl, hb 3 (by decide), e4, nI_add, nI_1]
    exact ⟨_, by omega, rfl⟩
theorem bh_nI {D B : Fn2} {nn k : Nat} (h : dOK D nn) (hk : k ≤ nn) (hn : nn ≤ 200) (hr : ∀ q, q < k → Rise D B q) (reg : Int32) : ∃ v : Nat, v ≤ 24 * k ∧ bh D B (bfr D k reg) = nI v := by
  unfold bh
  by_cases h0 : 0 ≤ bfr D k reg
  · obtain ⟨j, hj, e⟩ := bfr_in D reg k h0
    obtain ⟨v, hv, ev⟩ := rdy_nI h (show j < nn by omega) hn (hr j hj)
    have := (hr j hj).2.2.2.2.2.2.1
    rw [if_pos h0, e, nI_clamp (by omega), ev]
    exact ⟨v, by omega, rfl⟩
  · rw [if_neg h0]
    exact ⟨0, by omega, rfl⟩
theorem rise {D B : Fn2} {nn : Nat} (hn : nn ≤ 200) (hd : dOK D nn) (hT : tgood D B nn) : ∀ k, k < nn → Rise D B k := by
  intro k
  induction k using Nat.strongRecOn with
  | ind k ih =>
    intro hk
    obtain ⟨⟨e0, t0, t0'⟩, e4, t4⟩ := data_of hd hk
    have hr : ∀ q, q < k → Rise D B q := fun q hq => ih q hq (by omega)
    have hbh := bh_nI hd (show k ≤ nn by omega) hn hr
    have hT0 := hT k hk 0 (by decide)
    have hT1 := hT k hk 1 (by decide)
    have hT2 := hT k hk 2 (by decide)
    have hT3 := hT k hk 3 (by decide)
    have hT4 := hT k hk 4 (by decide)
    simp only [stp] at hT0 hT1 hT2 hT3 hT4
    -- the earlier row
    obtain ⟨p0, p1, p2, p3, p4, hp, hpb, e0', e1', e2', e3', hpj⟩ : ∃ p0 p1 p2 p3 p4 : Nat, (p0 ≤ 24 * k + 1 ∧ 1 ≤ p0) ∧ (p1 ≤ p0 ∧ p2 ≤ 24 * k ∧ p3 ≤ 24 * k ∧ p4 ≤ 24 * k) ∧ st0 D B k = nI p0 ∧ (if k = 0 then (0 : Int32) else B (k - 1) 2) = nI p2 ∧ (if k = 0 then (0 : Int32) else B (k - 1) 3) = nI p3 ∧ (if k = 0 then (0 : Int32) else B (k - 1) 4) = nI p4 ∧ ∀ j, k = j + 1 → bn B j 1 = p1 ∧ bn B j 2 = p2 ∧ bn B j 3 = p3 ∧ bn B j 4 = p4 := by
      rcases Nat.eq_zero_or_pos k with h0 | h0
      · subst h0
        exact ⟨1, 0, 0, 0, 0, ⟨by omega, by omega⟩, ⟨by omega, by omega, by omega, by omega⟩, rfl, rfl, rfl, rfl, fun j h => absurd h (by omega)⟩
      · obtain ⟨j, rfl⟩ : ∃ j, k = j + 1 := ⟨k - 1, by omega⟩
        obtain ⟨hb, r0, r1, r2, r3, r4, r5, -⟩ := hr j (by omega)
        obtain ⟨⟨f0, u0, u0'⟩, f4, u4⟩ := data_of hd (show j < nn by omega)
        have hs : ∃ p0 : Nat, bn B j 1 ≤ p0 ∧ p0 ≤ bn B j 4 ∧ st0 D B (j + 1) = nI p0 := by
          unfold st0 xeD
          rw [if_neg (Nat.succ_ne_zero j), show j + 1 - 1 = j from rfl]
          by_cases hl : D 6 j = 0
          · rw [if_pos hl]; exact ⟨_, Nat.le_refl _, by omega, hb 1 (by decide)⟩
          · rw [if_neg hl, hb 2 (by decide), f0, nI_add, nI_sub1 (by omega), nI_1]
            exact ⟨_, by omega, by omega, rfl⟩
        obtain ⟨p0, q1, q2, q3⟩ := hs
        refine ⟨p0, bn B j 1, bn B j 2, bn B j 3, bn B j 4, ⟨by omega, by omega⟩, ⟨q1, by omega, by omega, by omega⟩, q3, ?_, ?_, ?_, fun j' e => ?_⟩
        · rw [if_neg (Nat.succ_ne_zero j)]; exact hb 2 (by decide)
        · rw [if_neg (Nat.succ_ne_zero j)]; exact hb 3 (by decide)
        · rw [if_neg (Nat.succ_ne_zero j)]; exact hb 4 (by decide)
        · obtain rfl : j = j' := by omega
          exact ⟨rfl, rfl, rfl, rfl⟩
    have s1 : st1 D B k = nI (max (p0 + 1) p2) := by unfold st1; rw [e0', e1', nI_1, mx_nI (by omega) (by omega)]
    have s2a : st2a D B k = nI (max (max (p0 + 1) p2 + 1) p3) := by unfold st2a; rw [s1, e2', nI_1, mx_nI (by omega) (by omega)]
    obtain ⟨y2, y2a, y2b, s2⟩ : ∃ y : Nat, max (max (p0 + 1) p2 + 1) p3 ≤ y ∧ y ≤ max (max (max (p0 + 1) p2 + 1) p3) (24 * k) ∧ st2 D B k = nI y := by
      unfold st2
      rw [s2a]
      exact lpx_nI (X := 24 * k) (by omega) (by omega) 15 (fun r _ _ => hbh (nI r))
    have s3a : st3a D B k = nI (max (y2 + tn D 0 k) p4) := by
      unfold st3a
      rw [s2, e3', e0, nI_add, nI_sub1 (by omega), nI_1, show y2 + tn D 0 k - 1 + 1 = y2 + tn D 0 k by omega, mx_nI (by omega) (by omega)]
    obtain ⟨y3, y3a, y3b, s3⟩ : ∃ y : Nat, max (y2 + tn D 0 k) p4 ≤ y ∧ y ≤ max (max (y2 + tn D 0 k) p4) (24 * k) ∧ st3 D B k = nI y := by
      unfold st3
      rw [s3a]
      by_cases hl : 0 < D 3 k
      · obtain ⟨v, hv, ev⟩ := hbh (D 3 k)
        rw [if_pos hl, ev, mx_nI (by omega) (by omega)]
        exact ⟨_, by omega, by omega, rfl⟩
      · rw [if_neg hl]
        exact ⟨_, Nat.le_refl _, by omega, rfl⟩
    have s4 : st4 D B k = nI (y3 + tn D 4 k + 1) := by unfold st4; rw [s3, e4, nI_add, nI_1]
    rw [e0'] at hT0; rw [s1] at hT1; rw [s2] at hT2; rw [s3] at hT3; rw [s4] at hT4
    have n0 := bn_of hT0 (by omega)
    have n1 := bn_of hT1 (by omega)
    have n2 := bn_of hT2 (by omega)
    have n3 := bn_of hT3 (by omega)
    have n4 := bn_of hT4 (by omega)
    refine ⟨fun j hj => ?_, by omega, by omega, by omega, by omega, by omega, by omega, fun j hj => ?_⟩
    · match j, hj with
      | 0, _ => rw [n0]; exact hT0
      | 1, _ => rw [n1]; exact hT1
      | 2, _ => rw [n2]; exact hT2
      | 3, _ => rw [n3]; exact hT3
      | 4, _ => rw [n4]; exact hT4
    · obtain ⟨g1, g2, g3, g4⟩ := hpj j hj
      rw [g1, g2, g3, g4, n0, n1, n2, n3]
      exact ⟨by omega, by omega, by omega, by omega⟩
/-- when a place comes to a stage, and to that behind the last -/
def fr (B : Fn2) (k j : Nat) : Nat := if j < 5 then bn B k j else bn B k 4 + 1
theorem frB_nI {D B : Fn2} {k j : Nat} (h : Rise D B k) : frB B k j = nI (fr B k j) := by
  unfold frB fr
  by_cases hj : j < 5
  · rw [if_pos hj, if_pos hj]; exact h.1 j hj
  · rw [if_neg hj, if_neg hj, h.1 4 (by decide), nI_1]
theorem fr_lt {D B : Fn2} {nn k j : Nat} (hd : dOK D nn) (hk : k < nn) (h : Rise D B k) (hj : j ≤ 4) : fr B k j < fr B k (j + 1) := by
  obtain ⟨-, r0, r1, r2, r3, r4, r5, -⟩ := h
  obtain ⟨⟨-, t0, -⟩, -, -⟩ := data_of hd hk
  unfold fr
  rcases (show j = 0 ∨ j = 1 ∨ j = 2 ∨ j = 3 ∨ j = 4 by omega) with rfl | rfl | rfl | rfl | rfl
  · rw [if_pos (by decide), if_pos (by decide)]; show bn B k 0 < bn B k 1; omega
  · rw [if_pos (by decide), if_pos (by decide)]; show bn B k 1 < bn B k 2; omega
  · rw [if_pos (by decide), if_pos (by decide)]; show bn B k 2 < bn B k 3; omega
  · rw [if_pos (by decide), if_pos (by decide)]; show bn B k 3 < bn B k 4; omega
  · rw [if_pos (by decide), if_neg (by decide)]; omega
theorem fr_next {D B : Fn2} {nn k j : Nat} (hd : dOK D nn) (hn : nn ≤ 200) (hk : k + 1 < nn) (h : Rise D B k) (h' : Rise D B (k + 1)) (hj : j ≤ 4) : fr B k (j + 1) ≤ fr B (k + 1) j := by
  obtain ⟨r1, r2, r3, r4⟩ := h'.2.2.2.2.2.2.2 k rfl
  have e4 := h'.2.2.2.2.2.1
  unfold fr
  rcases (show j = 0 ∨ j = 1 ∨ j = 2 ∨ j = 3 ∨ j = 4 by omega) with rfl | rfl | rfl | rfl | rfl
  · rw [if_pos (by decide), if_pos (by decide)]; exact r1
  · rw [if_pos (by decide), if_pos (by decide)]; exact r2
  · rw [if_pos (by decide), if_pos (by decide)]; exact r3
  · rw [if_pos (by decide), if_pos (by decide)]; exact r4
  · rw [if_neg (by decide), if_pos (by decide)]; omega
end
section
/-! PURE: the two searches and the two counts agree; the invariant of the law's loop -/
theorem fr_far {D B : Fn2} {nn j : Nat} (hd : dOK D nn) (hn : nn ≤ 200) (hr : ∀ k, k < nn → Rise D B k) (hj : j ≤ 4) {k : Nat} : ∀ d : Nat, k + d + 1 < nn → fr B k (j + 1) ≤ fr B (k + d + 1) j
  | 0, h => fr_next hd hn h (hr k (by omega)) (hr (k + 1) (by omega)) hj
  | d + 1, h => by
    have h1 := fr_far hd hn hr hj d (show k + d + 1 < nn by omega)
    have h2 := fr_lt hd (show k + d + 1 < nn by omega) (hr (k + d + 1) (by omega)) hj
    have h3 := fr_next hd hn (show k + d + 1 + 1 < nn by omega) (hr (k + d + 1) (by omega)) (hr (k + d + 1 + 1) (by omega)) hj
    rw [show k + (d + 1) + 1 = k + d + 1 + 1 by omega]
    omega
theorem fr_apart {D B : Fn2} {nn j : Nat} (hd : dOK D nn) (hn : nn ≤ 200) (hr : ∀ k, k < nn → Rise D B k) (hj : j ≤ 4) {k k' : Nat} (h : k < k') (hk : k' < nn) : fr B k (j + 1) ≤ fr B k' j := by
  obtain ⟨d, rfl⟩ : ∃ d, k' = k + d + 1 := ⟨k' - k - 1, by omega⟩
  exact fr_far hd hn hr hj d hk
theorem fr_small {D B : Fn2} {nn j k : Nat} (hd : dOK D nn) (hn : nn ≤ 200) (hr : Rise D B k) (hk : k < nn) : fr B k j < 2 ^ 31 := by
  obtain ⟨-, r0, r1, r2, r3, r4, r5, -⟩ := hr
  unfold fr
  by_cases hj : j < 5
  · rw [if_pos hj]
    match j, hj with
    | 0, _ => omega
    | 1, _ => omega
    | 2, _ => omega
    | 3, _ => omega
    | 4, _ => omega
  · rw [if_neg hj]; omega
theorem le_tr {a b : Nat} {c : Int32} (ha : a ≤ b) (hb : b < 2 ^ 31) (h : nI b ≤ c) : nI a ≤ c := Int32.le_trans (nI_le ha hb) h
theorem lt_tr {a b : Nat} {c : Int32} (ha : a ≤ b) (hb : b < 2 ^ 31) (h : c < nI a) : c < nI b := Int32.lt_of_lt_of_le h (nI_le ha hb)
/-- the two searches agree -/
theorem in_agree {D B M : Fn2} {nn stg : Nat} {cyc r b : Int32} (hn : nn ≤ 200) (hd : dOK D nn) (hT : tgood D B nn) (hs : stg ≤ 4) (he : ∀ k, k < nn → ∀ j, j < 5 → B k j = Bm M k j) (h1 : inP B nn stg cyc r) (h2 : inM M nn stg cyc b) : r = b := by
  have hr := rise hn hd hT
  have hf : ∀ k j, k < nn → frm M k j = nI (fr B k j) := fun k j hk => by
    rw [← frB_nI (hr k hk)]
    unfold frm frB
    by_cases hj : j < 5
    · rw [if_pos hj, if_pos hj, he k hk j hj]
    · rw [if_neg hj, if_neg hj, he k hk 4 (by decide)]
  have hB : ∀ k, k < nn → B k stg = nI (fr B k stg) := fun k hk => by
    have := frB_nI (j := stg) (hr k hk)
    unfold frB at this
    rw [if_pos (by omega)] at this
    exact this
  obtain ⟨p, hp, ha, hb, rfl⟩ := h1
  rcases h2 with ⟨k, hk, ⟨c1, c2⟩, hno, rfl⟩ | ⟨hno, rfl⟩
  · rw [hf k _ hk] at c1 c2
    have hpk : p = k + 1 := by
      rcases Nat.lt_or_ge p (k + 1) with h | h
      · rcases hb with h' | h'
        · omega
        · rw [hB p (by omega)] at h'
          exfalso
          rcases Nat.lt_or_ge p k with h3 | h3
          · have := fr_apart hd hn hr hs h3 hk
            have h4 := fr_lt hd (show p < nn by omega) (hr p (by omega)) hs
            exact absurd (le_tr (show fr B p stg ≤ fr B k stg by omega) (fr_small hd hn (hr k hk) hk) c1) (Int32.not_le.mpr h')
          · obtain rfl : p = k := by omega
            exact absurd c1 (Int32.not_le.mpr h')
      · rcases Nat.lt_or_ge (k + 1) p with h3 | h3
        · exfalso
          rcases ha with h' | h'
          · omega
          · rw [hB (p - 1) (by omega)] at h'
            have := fr_apart hd hn hr hs (show k < p - 1 by omega) (by omega)
            exact absurd (lt_tr this (fr_small hd hn (hr (p - 1) (by omega)) (by omega)) c2) (Int32.not_lt.mpr h')
        · omega
    subst hpk
    rw [if_neg (Nat.succ_ne_zero k), show k + 1 - 1 = k from rfl, frB_nI (hr k hk), if_pos c2]
  · by_cases h0 : p = 0
    · rw [if_pos h0]
    · rw [if_neg h0, if_neg]
      intro h9
      have h' : B (p - 1) stg ≤ cyc := ha.resolve_left h0
      rw [hB (p - 1) (by omega)] at h'
      rw [frB_nI (hr (p - 1) (by omega))] at h9
      exact hno (p - 1) (by omega) ⟨by rw [hf _ _ (by omega)]; exact h', by rw [hf _ _ (by omega)]; exact h9⟩
theorem clm_eq {B : Fn2} {L : Int32} : ∀ n : Nat, (∀ k, k < n → ¬ L < B k 4) → clm B L n = L - nI n
  | 0, _ => by unfold clm; rw [nI_0, Int32.sub_zero]
  | n + 1, h => by
    unfold clm
    rw [if_neg (h n (Nat.lt_succ_self n)), clm_eq n (fun k hk => h k (by omega)), Int32.sub_sub, nI_1]
theorem cw_same {D M : Fn2} (h : M 6 = D 6) : ∀ n : Nat, cw M n = cw D n
  | 0 => rfl
  | n + 1 => by
    unfold cw
    rw [h, cw_same h n]
theorem count_agree {D B M : Fn2} {nn wj : Nat} (hn : nn ≤ 200) (hd : dOK D nn) (hT : tgood D B nn) (h6 : M 6 = D 6) (he : ∀ k, k < nn → ∀ j, j < 5 → B k j = Bm M k j) : cntV D B nn wj = cntM M nn wj := by
  have hr := rise hn hd hT
  have hl : lst B nn = lst (Bm M) nn := by
    unfold lst
    by_cases h0 : nn = 0
    · rw [if_pos h0, if_pos h0]
    · rw [if_neg h0, if_neg h0, he (nn - 1) (by omega) 4 (by decide)]
  unfold cntV cntM
  rw [hl, cw_same h6]
  by_cases h0 : wj = 0
  · rw [if_pos h0, if_pos h0]
  rw [if_neg h0, if_neg h0]
  by_cases h1 : wj = 1
  · rw [if_pos h1, if_pos h1]
  rw [if_neg h1, if_neg h1]
  by_cases h2 : wj = 2
  · rw [if_pos h2, if_pos h2]
    refine (clm_eq nn (fun k hk => ?_)).symm
    rw [← hl]
    unfold lst
    rw [if_neg (by omega), ← he k hk 4 (by decide), (hr k hk).1 4 (by decide), (hr (nn - 1) (by omega)).1 4 (by decide)]
    have hle : bn B k 4 ≤ bn B (nn - 1) 4 := by
      rcases Nat.lt_or_ge k (nn - 1) with h | h
      · have := fr_apart (j := 4) hd hn hr (by decide) h (by omega)
        unfold fr at this
        rw [if_neg (by decide), if_pos (by decide)] at this
        omega
      · rw [show k = nn - 1 by omega]; exact Nat.le_refl _
    have := (hr (nn - 1) (by omega)).2.2.2.2.2.2.1
    exact nI_nlt hle (by omega)
  · rw [if_neg h2, if_neg h2]
/-- THE LAW'S INVARIANT: the two sides hold the same data, as said; what each knows is right -/
def Inv (τ : TS) : Prop := ∃ (D B G M : Fn2) (nn kk mk : Nat) (er : Int32) (o : Int64), τ = ((D, B, G, nI nn, nI kk), (M, er, nI nn, nI mk), o) ∧ nn ≤ 200 ∧ kk ≤ nn ∧ mk ≤ nn ∧ tgood D B kk ∧ ggood D G kk ∧ tgood M (Bm M) mk ∧ (∀ i, i < 7 → M i = D i) ∧ dOK D nn
theorem Inv.start : Inv τ0 := ⟨zz, zz, zz, zz, 0, 0, 0, 0, 0, rfl, by decide, by decide, by decide, fun i h => absurd h (Nat.not_lt_zero i), fun i h => absurd h (Nat.not_lt_zero i), fun i h => absurd h (Nat.not_lt_zero i), fun _ _ => rfl, fun i h => absurd h (Nat.not_lt_zero i)⟩
/-- what the law asks of the two answers -/
def Agree (r b : Int32) (v : TS) : Prop := Inv v ∧ v.2.1.2.1 = r ∧ (r = 0 → v.2.2 = b.toInt64)
end
section
/-! OPERATIONS: each step of the script, done on both sides, keeps the invariant; the answers agree -/
theorem times_agree {D B M1 : Fn2} {nn k1 : Nat} (hn : nn ≤ 200) (hk1 : k1 ≤ nn) (hT1 : tgood D B k1) (hU1 : tgood M1 (Bm M1) nn) (hE1 : ∀ i, i < 7 → M1 i = D i) : ∀ k, k < k1 → ∀ j, j < 5 → B k j = Bm M1 k j :=
  tgood_uniq (by omega) hT1 (tgood_D hE1 (tgood_le hk1 hU1))
theorem whn_agree {D B M1 : Fn2} {k wj : Nat} (h : ∀ j, j < 5 → B k j = Bm M1 k j) (hE1 : ∀ i, i < 7 → M1 i = D i) : whn D B k wj = whn M1 (Bm M1) k wj := by
  unfold whn xeD meD
  by_cases h5 : wj < 5
  · rw [if_pos h5, if_pos h5, h wj h5]
  · rw [if_neg h5, if_neg h5, h 2 (by decide), h 3 (by decide), hE1 0 (by decide), hE1 4 (by decide)]
theorem tgood_0 (D B : Fn2) : tgood D B 0 := fun i h => absurd h (Nat.not_lt_zero i)
theorem Inv.up {D B G M : Fn2} {nn kk k m : Nat} {o : Int64} {t g r l ld q wr : Int32} (hn : nn ≤ 200) (hkk : kk ≤ nn) (hT : tgood D B kk) (hG : ggood D G kk) (hE : ∀ i, i < 7 → M i = D i) (hd : dOK D nn) (ho : okd t g l q) (hk : k ≤ nn) (hm : m ≤ 200) (hkm : k < m) (hme : ∀ i, i < m → i ≠ k → i < nn) : Inv ((gv7 D k t g r l ld q wr, B, G, nI m, mi (nI kk) (nI k)), (gv7 M k t g r l ld q wr, 0, nI m, 0), o) := by
  refine ⟨gv7 D k t g r l ld q wr, B, G, gv7 M k t g r l ld q wr, m, min kk k, 0, 0, o, ?_, hm, by omega, by omega, ?_, ?_, tgood_0 _ _, gv7_same hE, dOK_up hd ho hme⟩
  · rw [mi_nI (by omega) (by omega)]; rfl
  · exact tgood_col (by omega) (fun j c hc => (gv7_ne D (by omega)).symm) (tgood_le (Nat.min_le_left _ _) hT)
  · exact ggood_col (fun j c hc => (gv7_ne D (by omega)).symm) (ggood_le (Nat.min_le_left _ _) hG)
theorem Inv.er {D B G M : Fn2} {nn kk mk : Nat} {o : Int64} (hn : nn ≤ 200) (hkk : kk ≤ nn) (hmk : mk ≤ nn) (hT : tgood D B kk) (hG : ggood D G kk) (hU : tgood M (Bm M) mk) (hE : ∀ i, i < 7 → M i = D i) (hd : dOK D nn) (er : Int32) : Inv ((D, B, G, nI nn, nI kk), (M, er, nI nn, nI mk), o) := ⟨D, B, G, M, nn, kk, mk, er, o, rfl, hn, hkk, hmk, hT, hG, hU, hE, hd⟩
section Ops
variable {l : Launch} {g : KG} {Z : Nat} {τ : TS}
theorem op_add (hfl : l.flags = flags0) (h : Inv τ) {t gg r ll ld q wr : Int32} (hld : ld = 0 ∨ ld = 1) (hwr : wr = 0 ∨ wr = 1) : ∃ P1 : Int32 → TS → Prop, CH l y_w3 method_3_code 10 hh_w3 [.ref Z, .int t, .int gg, .int r, .int ll, .int ld, .int q, .int wr, .ref (Z + 615)] g Z τ P1 ∧ ∀ x u, P1 x u → ∃ P2 : Int32 → TS → Prop, Ci l y_m6 prog_4_method_6_code 8 1 [.ref (Z + 602), .int t, .int gg, .int r, .int ll, .int ld, .int q, .int wr] g Z u P2 ∧ ∀ b v, P2 b v → Agree x b v := by
  obtain ⟨D, B, G, M, nn, kk, mk, er, o, rfl, hn, hkk, hmk, hT, hG, hU, hE, hd⟩ := h
  by_cases ho : okd t gg ll q
  · rcases Nat.lt_or_eq_of_le hn with h2 | h2
    · refine ⟨_, h_add0 h2 ho hld hwr, ?_⟩
      rintro x u ⟨rfl, rfl⟩
      refine ⟨_, c_madd0 l hn h2 ho hld hwr, ?_⟩
      rintro b v ⟨rfl, rfl⟩
      exact ⟨Inv.up hn hkk hT hG hE hd ho (Nat.le_refl nn) (by omega) (by omega) (fun i hi h => by omega), rfl, fun _ => rfl⟩
    · refine ⟨_, h_add2 hfl hn h2 ho, ?_⟩
      rintro x u ⟨rfl, rfl⟩
      refine ⟨_, c_madd2 l hn h2 ho, ?_⟩
      rintro b v ⟨rfl, rfl⟩
      exact ⟨Inv.er hn hkk hmk hT hG hU hE hd 2, rfl, fun h => absurd h (by decide)⟩
  · skip
    refine ⟨_, h_add1 hfl hn ho, ?_⟩
    rintro x u ⟨rfl, rfl⟩
    refine ⟨_, c_madd1 l hn ho, ?_⟩
    rintro b v ⟨rfl, rfl⟩
    exact ⟨Inv.er hn hkk hmk hT hG hU hE hd 1, rfl, fun h => absurd h (by decide)⟩
theorem op_change (hfl : l.flags = flags0) (h : Inv τ) {x0 : Int32} {t gg r ll ld q wr : Int32} (hld : ld = 0 ∨ ld = 1) (hwr : wr = 0 ∨ wr = 1) : ∃ P1 : Int32 → TS → Prop, CH l y_w4 method_4_code 10 hh_w4 [.ref Z, .int x0, .int t, .int gg, .int r, .int ll, .int ld, .int q, .int wr] g Z τ P1 ∧ ∀ x u, P1 x u → ∃ P2 : TS → Prop, Cv l y_m7 prog_4_method_7_code 9 1 [.ref (Z + 602), .int x0, .int t, .int gg, .int r, .int ll, .int ld, .int q, .int wr] g Z u P2 ∧ ∀ v, P2 v → Inv v ∧ v.2.1.2.1 = x := by
  obtain ⟨D, B, G, M, nn, kk, mk, er, o, rfl, hn, hkk, hmk, hT, hG, hU, hE, hd⟩ := h
  by_cases ho : okd t gg ll q
  · by_cases hx : ∃ k : Nat, k < nn ∧ x0 = nI k
    · obtain ⟨k, hk, rfl⟩ := hx
      refine ⟨_, h_change0 hn hk ho hld hwr, ?_⟩
      rintro x u ⟨rfl, rfl⟩
      refine ⟨_, c_mchange0 l hn hk ho hld hwr, ?_⟩
      rintro v rfl
      exact ⟨Inv.up hn hkk hT hG hE hd ho (by omega) hn hk (fun i hi h => hi), rfl⟩
    · skip
      refine ⟨_, h_change2 hfl hn hx ho, ?_⟩
      rintro x u ⟨rfl, rfl⟩
      refine ⟨_, c_mchange2 l hn hx ho, ?_⟩
      rintro v rfl
      exact ⟨Inv.er hn hkk hmk hT hG hU hE hd 2, rfl⟩
  · skip
    refine ⟨_, h_change1 hfl hn ho, ?_⟩
    rintro x u ⟨rfl, rfl⟩
    refine ⟨_, c_mchange1 l hn ho, ?_⟩
    rintro v rfl
    exact ⟨Inv.er hn hkk hmk hT hG hU hE hd 1, rfl⟩
theorem op_cut (hfl : l.flags = flags0) (h : Inv τ) {x0 : Int32} : ∃ P1 : Int32 → TS → Prop, CH l y_w5 method_5_code 4 hh_w5 [.ref Z, .int x0, .ref (Z + 615)] g Z τ P1 ∧ ∀ x u, P1 x u → ∃ P2 : Int32 → TS → Prop, Ci l y_m8 prog_4_method_8_code 3 1 [.ref (Z + 602), .int x0] g Z u P2 ∧ ∀ b v, P2 b v → Agree x b v := by
  obtain ⟨D, B, G, M, nn, kk, mk, er, o, rfl, hn, hkk, hmk, hT, hG, hU, hE, hd⟩ := h
  by_cases hx : ∃ k : Nat, k ≤ nn ∧ x0 = nI k
  · obtain ⟨k, hk, rfl⟩ := hx
    refine ⟨_, h_cut0 hn hk, ?_⟩
    rintro x u ⟨rfl, rfl⟩
    refine ⟨_, c_mcut0 l hn hk, ?_⟩
    rintro b v ⟨rfl, rfl⟩
    refine ⟨⟨D, B, G, M, k, min kk k, 0, 0, (nI nn).toInt64, ?_, by omega, by omega, by omega, tgood_le (Nat.min_le_left _ _) hT, ggood_le (Nat.min_le_left _ _) hG, tgood_0 _ _, hE, fun i hi => hd i (by omega)⟩, rfl, fun _ => rfl⟩
    rw [mi_nI (by omega) (by omega)]; rfl
  · skip
    refine ⟨_, h_cut1 hfl hn hx, ?_⟩
    rintro x u ⟨rfl, rfl⟩
    refine ⟨_, c_mcut1 l hn hx, ?_⟩
    rintro b v ⟨rfl, rfl⟩
    exact ⟨Inv.er hn hkk hmk hT hG hU hE hd 1, rfl, fun h => absurd h (by decide)⟩
theorem op_when (hfl : l.flags = flags0) (h : Inv τ) {x0 x1 : Int32} : ∃ P1 : Int32 → TS → Prop, CH l y_w6 method_6_code 5 hh_w6 [.ref Z, .int x0, .int x1, .ref (Z + 615)] g Z τ P1 ∧ ∀ x u, P1 x u → ∃ P2 : Int32 → TS → Prop, Ci l y_m15 prog_4_method_15_code 3 3 [.ref (Z + 602), .int x0, .int x1] g Z u P2 ∧ ∀ b v, P2 b v → Agree x b v := by
  obtain ⟨D, B, G, M, nn, kk, mk, er, o, rfl, hn, hkk, hmk, hT, hG, hU, hE, hd⟩ := h
  by_cases h6 : 0 ≤ x1 ∧ x1 ≤ 6
  · obtain ⟨wj, hw6, rfl⟩ := rng (m := 6) (by decide) h6
    by_cases hx : ∃ k : Nat, k < nn ∧ x0 = nI k
    · obtain ⟨k, hk, rfl⟩ := hx
      refine ⟨_, h_when0 hn hkk hT hG hd.late hk hw6, ?_⟩
      rintro x u ⟨rfl, rr, B1, G1, k1, hT1, hG1, hk1, rfl, hkk1, hr⟩
      refine ⟨_, c_mwhen0 l hn hmk hU hk hw6, ?_⟩
      rintro b v ⟨M1, hM1, hU1, rfl, hb⟩
      have hE1 : ∀ i, i < 7 → M1 i = D i := fun i hi => (hM1 i hi).trans (hE i hi)
      have ht := times_agree hn hk1 hT1 hU1 hE1
      refine ⟨⟨D, B1, G1, M1, nn, k1, nn, 0, _, rfl, hn, hk1, Nat.le_refl nn, hT1, hG1, hU1, hE1, hd⟩, rfl, fun _ => ?_⟩
      show rr.toInt64 = b.toInt64
      rw [hb, hr, whn_agree (ht k hkk1) hE1]
    · skip
      refine ⟨_, h_when2 hfl hn hx hw6, ?_⟩
      rintro x u ⟨rfl, rfl⟩
      refine ⟨_, c_mwhen2 l hn hx hw6, ?_⟩
      rintro b v ⟨rfl, rfl⟩
      exact ⟨Inv.er hn hkk hmk hT hG hU hE hd 2, rfl, fun h => absurd h (by decide)⟩
  · skip
    refine ⟨_, h_when1 hfl hn h6, ?_⟩
    rintro x u ⟨rfl, rfl⟩
    refine ⟨_, c_mwhen1 l hn h6, ?_⟩
    rintro b v ⟨rfl, rfl⟩
    exact ⟨Inv.er hn hkk hmk hT hG hU hE hd 1, rfl, fun h => absurd h (by decide)⟩
theorem op_in (hfl : l.flags = flags0) (h : Inv τ) {x0 x1 : Int32} : ∃ P1 : Int32 → TS → Prop, CH l y_w7 method_7_code 5 hh_w7 [.ref Z, .int x0, .int x1, .ref (Z + 615)] g Z τ P1 ∧ ∀ x u, P1 x u → ∃ P2 : Int32 → TS → Prop, Ci l y_m17 prog_4_method_17_code 4 3 [.ref (Z + 602), .int x0, .int x1] g Z u P2 ∧ ∀ b v, P2 b v → Agree x b v := by
  obtain ⟨D, B, G, M, nn, kk, mk, er, o, rfl, hn, hkk, hmk, hT, hG, hU, hE, hd⟩ := h
  by_cases h6 : 0 ≤ x0 ∧ x0 ≤ 4
  · obtain ⟨stg, hs4, rfl⟩ := rng (m := 4) (by decide) h6
    refine ⟨_, h_in0 hn hkk hT hG hd.late hs4, ?_⟩
    rintro x u ⟨rfl, rr, B1, G1, k1, hT1, hG1, hk1, rfl, hTn, hr⟩
    refine ⟨_, c_min0 l hn hmk hU hs4, ?_⟩
    rintro b v ⟨M1, hM1, hU1, rfl, hb⟩
    have hE1 : ∀ i, i < 7 → M1 i = D i := fun i hi => (hM1 i hi).trans (hE i hi)
    have ht := times_agree hn hk1 hT1 hU1 hE1
    refine ⟨⟨D, B1, G1, M1, nn, k1, nn, 0, _, rfl, hn, hk1, Nat.le_refl nn, hT1, hG1, hU1, hE1, hd⟩, rfl, fun _ => ?_⟩
    show rr.toInt64 = b.toInt64
    rw [in_agree hn hd hTn hs4 (times_agree hn (Nat.le_refl nn) hTn hU1 hE1) hr hb]
  · skip
    refine ⟨_, h_in1 hfl hn h6, ?_⟩
    rintro x u ⟨rfl, rfl⟩
    refine ⟨_, c_min1 l hn h6, ?_⟩
    rintro b v ⟨rfl, rfl⟩
    exact ⟨Inv.er hn hkk hmk hT hG hU hE hd 1, rfl, fun h => absurd h (by decide)⟩
theorem op_held (hfl : l.flags = flags0) (h : Inv τ) {x0 : Int32} : ∃ P1 : Int32 → TS → Prop, CH l y_w8 method_8_code 4 hh_w8 [.ref Z, .int x0, .ref (Z + 615)] g Z τ P1 ∧ ∀ x u, P1 x u → ∃ P2 : Int32 → TS → Prop, Ci l y_m18 prog_4_method_18_code 2 3 [.ref (Z + 602), .int x0] g Z u P2 ∧ ∀ b v, P2 b v → Agree x b v := by
  obtain ⟨D, B, G, M, nn, kk, mk, er, o, rfl, hn, hkk, hmk, hT, hG, hU, hE, hd⟩ := h
  by_cases hx : ∃ k : Nat, k < nn ∧ x0 = nI k
  · obtain ⟨k, hk, rfl⟩ := hx
    refine ⟨_, h_held0 hn hkk hT hG hd.late hk, ?_⟩
    rintro x u ⟨rfl, rr, B1, G1, k1, hT1, hG1, hk1, rfl, hkk1, hr⟩
    refine ⟨_, c_mheld0 l hn hmk hU hk, ?_⟩
    rintro b v ⟨M1, hM1, hU1, rfl, hb⟩
    have hE1 : ∀ i, i < 7 → M1 i = D i := fun i hi => (hM1 i hi).trans (hE i hi)
    have ht := times_agree hn hk1 hT1 hU1 hE1
    refine ⟨⟨D, B1, G1, M1, nn, k1, nn, 0, _, rfl, hn, hk1, Nat.le_refl nn, hT1, hG1, hU1, hE1, hd⟩, rfl, fun _ => ?_⟩
    show rr.toInt64 = b.toInt64
    rw [hb, hr, ht k hkk1 1 (by decide), ht k hkk1 2 (by decide)]
  · skip
    refine ⟨_, h_held1 hfl hn hx, ?_⟩
    rintro x u ⟨rfl, rfl⟩
    refine ⟨_, c_mheld1 l hn hx, ?_⟩
    rintro b v ⟨rfl, rfl⟩
    exact ⟨Inv.er hn hkk hmk hT hG hU hE hd 1, rfl, fun h => absurd h (by decide)⟩
theorem op_giver (hfl : l.flags = flags0) (h : Inv τ) {x0 x1 : Int32} : ∃ P1 : Int32 → TS → Prop, CH l y_w9 method_9_code 5 hh_w9 [.ref Z, .int x0, .int x1, .ref (Z + 615)] g Z τ P1 ∧ ∀ x u, P1 x u → ∃ P2 : Int32 → TS → Prop, Ci l y_m19 prog_4_method_19_code 3 1 [.ref (Z + 602), .int x0, .int x1] g Z u P2 ∧ ∀ b v, P2 b v → Agree x b v := by
  obtain ⟨D, B, G, M, nn, kk, mk, er, o, rfl, hn, hkk, hmk, hT, hG, hU, hE, hd⟩ := h
  by_cases h6 : 1 ≤ x1 ∧ x1 ≤ 15
  · obtain ⟨rg, hr2, rfl⟩ := rng (m := 15) (by decide) ⟨Int32.le_trans (by decide) h6.1, h6.2⟩
    have hr1 : 1 ≤ rg := by
      rcases Nat.eq_zero_or_pos rg with h0 | h0
      · have h7 := h6.1; rw [h0] at h7; exact absurd h7 (by decide)
      · exact h0
    by_cases hx : ∃ k : Nat, k < nn ∧ x0 = nI k
    · obtain ⟨k, hk, rfl⟩ := hx
      refine ⟨_, h_giver0 hn hkk hT hG hd.late hk hr1 hr2, ?_⟩
      rintro x u ⟨rfl, rr, B1, G1, k1, hT1, hG1, hk1, rfl, hkk1, hr⟩
      refine ⟨_, c_mgiver0 l hn hk hr1 hr2, ?_⟩
      rintro b v ⟨rfl, rfl⟩
      refine ⟨⟨D, B1, G1, M, nn, k1, mk, 0, _, rfl, hn, hk1, hmk, hT1, hG1, hU, hE, hd⟩, rfl, fun _ => ?_⟩
      show rr.toInt64 = _
      rw [hr, hG1 k hkk1 rg (by omega), bfr_D hE (nI rg) k]
      unfold Gv
      rw [if_neg (by omega)]
    · skip
      refine ⟨_, h_giver2 hfl hn hx hr1 hr2, ?_⟩
      rintro x u ⟨rfl, rfl⟩
      refine ⟨_, c_mgiver2 l hn hx hr1 hr2, ?_⟩
      rintro b v ⟨rfl, rfl⟩
      exact ⟨Inv.er hn hkk hmk hT hG hU hE hd 2, rfl, fun h => absurd h (by decide)⟩
  · skip
    refine ⟨_, h_giver1 hfl hn h6, ?_⟩
    rintro x u ⟨rfl, rfl⟩
    refine ⟨_, c_mgiver1 l hn h6, ?_⟩
    rintro b v ⟨rfl, rfl⟩
    exact ⟨Inv.er hn hkk hmk hT hG hU hE hd 1, rfl, fun h => absurd h (by decide)⟩
theorem op_count (hfl : l.flags = flags0) (h : Inv τ) {x0 : Int32} : ∃ P1 : Int32 → TS → Prop, CH l y_w10 method_10_code 4 hh_w10 [.ref Z, .int x0, .ref (Z + 615)] g Z τ P1 ∧ ∀ x u, P1 x u → ∃ P2 : Int32 → TS → Prop, Ci l y_m20 prog_4_method_20_code 5 3 [.ref (Z + 602), .int x0] g Z u P2 ∧ ∀ b v, P2 b v → Agree x b v := by
  obtain ⟨D, B, G, M, nn, kk, mk, er, o, rfl, hn, hkk, hmk, hT, hG, hU, hE, hd⟩ := h
  by_cases h6 : 0 ≤ x0 ∧ x0 ≤ 3
  · obtain ⟨wj, hw3, rfl⟩ := rng (m := 3) (by decide) h6
    refine ⟨_, h_count0 hn hkk hT hG hd.late hw3, ?_⟩
    rintro x u ⟨rfl, rr, B1, G1, k1, hT1, hG1, hk1, rfl, hTn, hr⟩
    refine ⟨_, c_mcount0 l hn hmk hU hw3, ?_⟩
    rintro b v ⟨M1, hM1, hU1, rfl, hb⟩
    have hE1 : ∀ i, i < 7 → M1 i = D i := fun i hi => (hM1 i hi).trans (hE i hi)
    have ht := times_agree hn hk1 hT1 hU1 hE1
    refine ⟨⟨D, B1, G1, M1, nn, k1, nn, 0, _, rfl, hn, hk1, Nat.le_refl nn, hT1, hG1, hU1, hE1, hd⟩, rfl, fun _ => ?_⟩
    show rr.toInt64 = b.toInt64
    rw [hb, hr, count_agree hn hd hTn (hE1 6 (by decide)) (times_agree hn (Nat.le_refl nn) hTn hU1 hE1)]
  · skip
    refine ⟨_, h_count1 hfl hn h6, ?_⟩
    rintro x u ⟨rfl, rfl⟩
    refine ⟨_, c_mcount1 l hn h6, ?_⟩
    rintro b v ⟨rfl, rfl⟩
    exact ⟨Inv.er hn hkk hmk hT hG hU hE hd 1, rfl, fun h => absurd h (by decide)⟩
end Ops
end
section
/-! THE LAW'S CASES: from each case's first instruction to the loop's step at 782 -/
def bz (x : Int32) : Int32 := if x = 0 then 0 else 1
theorem bz01 (x : Int32) : bz x = 0 ∨ bz x = 1 := by
  unfold bz
  by_cases h : x = 0
  · exact Or.inl (if_pos h)
  · exact Or.inr (if_neg h)
/-- the script, far below what the law makes -/
def SX (b L : Nat) (xs : Nat → Int32) (s : State) (Z : Nat) : Prop := va_X b L xs s s.heap ∧ b < s.heap.size ∧ b < Z ∧ L ≤ 4608
abbrev LV (b Z j : Nat) : List (Nat × Value) := [(0, .ref b), (1, .ref Z), (2, .ref (Z + 602)), (3, .ref (Z + 615)), (4, .int (nI (9 * j)))]
section Law
variable {p : Program} {l : Launch} {e : Env} {R : Room} {s : State} {m : MethodId} {args : Array Value} {below : List Frame} {meth : Method} {c : Code} {H : Heap} {locs : List Loc} {cells slots : Nat} {Q : State → Prop}
variable {cc : ByteArray} {nL pc : Nat} {ls : Array Slot} {rest : List Value} {own : String} {g : KG} {Z : Nat} {τ : TS} {b L j : Nat} {xs : Nat → Int32}
theorem r_sld {x : Int32} (C : Cx p s m c cc nL own args g Z) (hX : SX b L xs s Z) (hw : WH g Z τ s H locs) (k : Nat) (hk : k < L) (he : x = nI k) (hd : decode cc pc = .ok (.iaload, 1)) (kk : W p l e R s m args below meth c H locs cells slots Q (F0 m (pc + 1) ls (.int (xs k) :: rest))) : W p l e R s m args below meth c H locs cells slots Q (F0 m pc ls (.int x :: .ref b :: rest)) := by
  subst he
  have hL := hX.2.2.2
  refine va_sld C.x C.b hX.1 hX.2.1 (Nat.not_le.mpr hX.2.2.1) hw.2 (vp_in_nI hk (by omega)) hd ?_
  rw [nI_clamp (by omega)]
  exact kk
theorem r_bz {x : Int32} (C : Cx p s m c cc nL own args g Z) (d0 : decode cc pc = .ok (.ifCond .eq 7, 3)) (d1 : decode cc (pc + 3) = .ok (.iconst 1, 1)) (d2 : decode cc (pc + 4) = .ok (.goto 4, 3)) (d3 : decode cc (pc + 7) = .ok (.iconst 0, 1)) (kk : W p l e R s m args below meth c H locs cells slots Q (F0 m (pc + 8) ls (.int (bz x) :: rest))) : W p l e R s m args below meth c H locs cells slots Q (F0 m pc ls (.int x :: rest)) := by
  refine lv_if_eq (tgt := pc + 7) C.x C.b d0 (by omega) (fun h => ?_) (fun h => ?_)
  · refine lv_iconst (v := 0) C.x C.b d3 (by decide) ?_
    rw [show bz x = 0 from if_pos h] at kk
    exact kk
  · refine lv_iconst (v := 1) C.x C.b d1 (by decide) ?_
    refine lv_goto (tgt := pc + 8) C.x C.b d2 (by omega) ?_
    rw [show bz x = 1 from if_neg h] at kk
    exact kk
theorem ret_iH {post : Int32 → TS → Prop} {a : Array Value} {st : List Value} {mc ms : Nat} (hw : WH g Z τ s H locs) (hr : va_Run p l e R s m args below meth c H locs cells slots mc ms (F0 m pc ls st) rest (va_Qi post (Wd g Z) (zfree Z) a) (zfree Z))
    (kk : ∀ (r : Int32) (τ' : TS) (H1 : Heap) (locs1 : List Loc), post r τ' → WH g Z τ' s H1 locs1 → W p l e R s m args below meth c H1 locs1 (cells + mc) (slots + ms) Q (F0 m (pc + 3) ls (.int r :: rest))) : W p l e R s m args below meth c H locs cells slots Q (F0 m pc ls st) :=
  va_calli hr hw.2 (fun q _ h => h) (fun q h => h) (fun r u t H1 locs1 ht _ hp hB _ _ hS => kk r u H1 locs1 hp ⟨by rw [← ht]; exact hB.2, hS⟩)
theorem l_cadd (hfl : l.flags = flags0) (C : Cx p s m c code 7 "StageClockLaw" args g Z) (hX : SX b L xs s Z) (hj : 9 * j + 9 ≤ L) (hi : Inv τ) (hw : WH g Z τ s H locs) (hl : lv_has ls 7 (LV b Z j)) (hc : cells + 1 ≤ room_1.cells) (hs : slots + 6 ≤ room_1.slots)
    (kk : ∀ (v : TS) (H : Heap) (locs : List Loc) (ls : Array Slot), Inv v → WH g Z v s H locs → lv_has ls 7 (LV b Z j) → W p l e room_1 s m args below meth c H locs (cells + 1) (slots + 6) Q (F0 m 782 ls [])) : W p l e room_1 s m args below meth c H locs cells slots Q (F0 m 88 ls []) := by
  refine lv_aload_n C.x C.b d_l_88 rfl (lv_at hl 1 rfl) ?_
  refine lv_aload_n C.x C.b d_l_89 rfl (lv_at hl 0 rfl) ?_
  refine lv_iload C.x C.b d_l_90 (lv_at hl 4 rfl) ?_
  refine lv_iconst (v := 1) C.x C.b d_l_92 (by decide) ?_
  refine lv_iadd C.x C.b d_l_93 ?_
  refine r_sld C hX hw (9 * j + 1) (by omega) (nI_add (9 * j) 1) d_l_94 ?_
  refine lv_aload_n C.x C.b d_l_95 rfl (lv_at hl 0 rfl) ?_
  refine lv_iload C.x C.b d_l_96 (lv_at hl 4 rfl) ?_
  refine lv_iconst (v := 2) C.x C.b d_l_98 (by decide) ?_
  refine lv_iadd C.x C.b d_l_99 ?_
  refine r_sld C hX hw (9 * j + 2) (by omega) (nI_add (9 * j) 2) d_l_100 ?_
  refine lv_aload_n C.x C.b d_l_101 rfl (lv_at hl 0 rfl) ?_
  refine lv_iload C.x C.b d_l_102 (lv_at hl 4 rfl) ?_
  refine lv_iconst (v := 3) C.x C.b d_l_104 (by decide) ?_
  refine lv_iadd C.x C.b d_l_105 ?_
  refine r_sld C hX hw (9 * j + 3) (by omega) (nI_add (9 * j) 3) d_l_106 ?_
  refine lv_aload_n C.x C.b d_l_107 rfl (lv_at hl 0 rfl) ?_
  refine lv_iload C.x C.b d_l_108 (lv_at hl 4 rfl) ?_
  refine lv_iconst (v := 4) C.x C.b d_l_110 (by decide) ?_
  refine lv_iadd C.x C.b d_l_111 ?_
  refine r_sld C hX hw (9 * j + 4) (by omega) (nI_add (9 * j) 4) d_l_112 ?_
  refine lv_aload_n C.x C.b d_l_113 rfl (lv_at hl 0 rfl) ?_
  refine lv_iload C.x C.b d_l_114 (lv_at hl 4 rfl) ?_
  refine lv_iconst (v := 5) C.x C.b d_l_116 (by decide) ?_
  refine lv_iadd C.x C.b d_l_117 ?_
  refine r_sld C hX hw (9 * j + 5) (by omega) (nI_add (9 * j) 5) d_l_118 ?_
  refine r_bz C d_l_119 d_l_122 d_l_123 d_l_126 ?_
  refine lv_aload_n C.x C.b d_l_127 rfl (lv_at hl 0 rfl) ?_
  refine lv_iload C.x C.b d_l_128 (lv_at hl 4 rfl) ?_
  refine lv_bipush (v := 6) C.x C.b d_l_130 (by decide) ?_
  refine lv_iadd C.x C.b d_l_132 ?_
  refine r_sld C hX hw (9 * j + 6) (by omega) (nI_add (9 * j) 6) d_l_133 ?_
  refine lv_aload_n C.x C.b d_l_134 rfl (lv_at hl 0 rfl) ?_
  refine lv_iload C.x C.b d_l_135 (lv_at hl 4 rfl) ?_
  refine lv_bipush (v := 7) C.x C.b d_l_137 (by decide) ?_
  refine lv_iadd C.x C.b d_l_139 ?_
  refine r_sld C hX hw (9 * j + 7) (by omega) (nI_add (9 * j) 7) d_l_140 ?_
  refine r_bz C d_l_141 d_l_144 d_l_145 d_l_148 ?_
  refine lv_aload_n C.x C.b d_l_149 rfl (lv_at hl 3 rfl) ?_
  obtain ⟨P1, h1, h2⟩ := op_add (l := l) (g := g) (Z := Z) hfl hi (t := (xs (9 * j + 1))) (gg := (xs (9 * j + 2))) (r := (xs (9 * j + 3))) (ll := (xs (9 * j + 4))) (q := (xs (9 * j + 6))) (bz01 (xs (9 * j + 5))) (bz01 (xs (9 * j + 7)))
  refine ret_iH hw (run_SH C hw h1 Yh_w3 k_70 k_71 ⟨rfl, rfl⟩ (by decide) ⟨hc, hs⟩ rfl hl.1 rfl (Nat.le_of_ble_eq_true rfl) d_l_150) (fun r9 u9 H locs hp hw => ?_)
  obtain ⟨P2, h3, h4⟩ := h2 r9 u9 hp
  refine lv_istore (lv' := [(5, .int r9), (0, .ref b), (1, .ref Z), (2, .ref (Z + 602)), (3, .ref (Z + 615)), (4, .int (nI (9 * j)))]) C.x C.b d_l_153 hl (by decide) rfl (fun ls hl => ?_)
  refine lv_aload_n C.x C.b d_l_155 rfl (lv_at hl 3 rfl) ?_
  refine lv_aload_n C.x C.b d_l_156 rfl (lv_at hl 1 rfl) ?_
  refine lv_iload C.x C.b d_l_157 (lv_at hl 5 rfl) ?_
  refine lv_iconst (v := 1) C.x C.b d_l_159 (by decide) ?_
  refine lv_iadd C.x C.b d_l_160 ?_
  refine r_sld C hX hw (9 * j + 1) (by omega) (nI_add (9 * j) 1) d_l_161 ?_
  refine lv_aload_n C.x C.b d_l_162 rfl (lv_at hl 1 rfl) ?_
  refine lv_iload C.x C.b d_l_163 (lv_at hl 5 rfl) ?_
  refine lv_iconst (v := 2) C.x C.b d_l_165 (by decide) ?_
  refine lv_iadd C.x C.b d_l_166 ?_
  refine r_sld C hX hw (9 * j + 2) (by omega) (nI_add (9 * j) 2) d_l_167 ?_
  refine lv_aload_n C.x C.b d_l_168 rfl (lv_at hl 1 rfl) ?_
  refine lv_iload C.x C.b d_l_169 (lv_at hl 5 rfl) ?_
  refine lv_iconst (v := 3) C.x C.b d_l_171 (by decide) ?_
  refine lv_iadd C.x C.b d_l_172 ?_
  refine r_sld C hX hw (9 * j + 3) (by omega) (nI_add (9 * j) 3) d_l_173 ?_
  refine lv_aload_n C.x C.b d_l_174 rfl (lv_at hl 1 rfl) ?_
  refine lv_iload C.x C.b d_l_175 (lv_at hl 5 rfl) ?_
  refine lv_iconst (v := 4) C.x C.b d_l_177 (by decide) ?_
  refine lv_iadd C.x C.b d_l_178 ?_
  refine r_sld C hX hw (9 * j + 4) (by omega) (nI_add (9 * j) 4) d_l_179 ?_
  refine lv_aload_n C.x C.b d_l_180 rfl (lv_at hl 1 rfl) ?_
  refine lv_iload C.x C.b d_l_181 (lv_at hl 5 rfl) ?_
  refine lv_iconst (v := 5) C.x C.b d_l_183 (by decide) ?_
  refine lv_iadd C.x C.b d_l_184 ?_
  refine r_sld C hX hw (9 * j + 5) (by omega) (nI_add (9 * j) 5) d_l_185 ?_
  refine r_bz C d_l_186 d_l_189 d_l_190 d_l_193 ?_
  refine lv_aload_n C.x C.b d_l_194 rfl (lv_at hl 1 rfl) ?_
  refine lv_iload C.x C.b d_l_195 (lv_at hl 5 rfl) ?_
  refine lv_bipush (v := 6) C.x C.b d_l_197 (by decide) ?_
  refine lv_iadd C.x C.b d_l_199 ?_
  refine r_sld C hX hw (9 * j + 6) (by omega) (nI_add (9 * j) 6) d_l_200 ?_
  refine lv_aload_n C.x C.b d_l_201 rfl (lv_at hl 1 rfl) ?_
  refine lv_iload C.x C.b d_l_202 (lv_at hl 5 rfl) ?_
  refine lv_bipush (v := 7) C.x C.b d_l_204 (by decide) ?_
  refine lv_iadd C.x C.b d_l_206 ?_
  refine r_sld C hX hw (9 * j + 7) (by omega) (nI_add (9 * j) 7) d_l_207 ?_
  refine r_bz C d_l_208 d_l_211 d_l_212 d_l_215 ?_
  refine ret_i hw (run_V C hw h3 (i := 602) (by decide) rfl rfl Y_m6 k_324 k_325 k_326 ⟨rfl, rfl⟩ (by decide) ⟨hc, hs⟩ rfl hl.1 rfl (Nat.le_of_ble_eq_true rfl) d_l_216) (fun bb v9 H locs hp hw => ?_)
  obtain ⟨σ, ⟨M, er, mn, mk⟩, o⟩ := v9
  obtain ⟨hi, he, ho⟩ := h4 bb _ hp
  have he : er = r9 := he
  have ho : r9 = 0 → o = bb.toInt64 := ho
  refine lv_istore (lv' := [(6, .int bb), (5, .int r9), (0, .ref b), (1, .ref Z), (2, .ref (Z + 602)), (3, .ref (Z + 615)), (4, .int (nI (9 * j)))]) C.x C.b d_l_219 hl (by decide) rfl (fun ls hl => ?_)
  refine lv_aload_n C.x C.b d_l_221 rfl (lv_at hl 4 rfl) ?_
  refine ret_i hw (run_V C hw (c_thrown l) (i := 602) (by decide) rfl rfl Y_m2 k_320 k_321 k_322 ⟨rfl, rfl⟩ (by decide) ⟨hc, hs⟩ rfl hl.1 rfl (Nat.le_of_ble_eq_true rfl) d_l_222) (fun q9 u9 H locs hp hw => ?_)
  obtain ⟨e9, rfl⟩ := hp
  refine lv_iload C.x C.b d_l_225 (lv_at hl 1 rfl) ?_
  refine lv_icmp_eq (tgt := 232) C.x C.b d_l_227 (by decide) (fun h5 => ?_) (fun h5 => absurd (e9.trans he) h5)
  refine lv_iload C.x C.b d_l_232 (lv_at hl 1 rfl) ?_
  refine lv_if_ne (tgt := 249) C.x C.b d_l_234 (by decide) (fun h6 => ?_) (fun h6 => ?_)
  · skip
    refine lv_goto (tgt := 782) C.x C.b d_l_249 (by decide) ?_
    exact kk _ H locs ls hi hw (lv_sub hl [2, 3, 4, 5, 6] rfl)
  · skip
    refine lv_aload_n C.x C.b d_l_237 rfl (lv_at hl 5 rfl) ?_
    refine lv_iconst (v := 0) C.x C.b d_l_238 (by decide) ?_
    refine l_o C hw d_l_239 ?_
    refine lv_iload C.x C.b d_l_240 (lv_at hl 0 rfl) ?_
    refine lv_i2l (v := bb.toInt64) C.x C.b d_l_242 rfl ?_
    refine W.lcmp C.x C.b d_l_243 ?_
    refine lv_if_eq (tgt := 249) C.x C.b d_l_244 (by decide) (fun h7 => ?_) (fun h7 => absurd ((lg_cmp_eq _ _).mpr (ho h6)) h7)
    refine lv_goto (tgt := 782) C.x C.b d_l_249 (by decide) ?_
    exact kk _ H locs ls hi hw (lv_sub hl [2, 3, 4, 5, 6] rfl)
theorem l_cchange (hfl : l.flags = flags0) (C : Cx p s m c code 7 "StageClockLaw" args g Z) (hX : SX b L xs s Z) (hj : 9 * j + 9 ≤ L) (hi : Inv τ) (hw : WH g Z τ s H locs) (hl : lv_has ls 7 (LV b Z j)) (hc : cells + 1 ≤ room_1.cells) (hs : slots + 6 ≤ room_1.slots)
    (kk : ∀ (v : TS) (H : Heap) (locs : List Loc) (ls : Array Slot), Inv v → WH g Z v s H locs → lv_has ls 7 (LV b Z j) → W p l e room_1 s m args below meth c H locs (cells + 1) (slots + 6) Q (F0 m 782 ls [])) : W p l e room_1 s m args below meth c H locs cells slots Q (F0 m 252 ls []) := by
  refine lv_aload_n C.x C.b d_l_252 rfl (lv_at hl 1 rfl) ?_
  refine lv_aload_n C.x C.b d_l_253 rfl (lv_at hl 0 rfl) ?_
  refine lv_iload C.x C.b d_l_254 (lv_at hl 4 rfl) ?_
  refine lv_iconst (v := 1) C.x C.b d_l_256 (by decide) ?_
  refine lv_iadd C.x C.b d_l_257 ?_
  refine r_sld C hX hw (9 * j + 1) (by omega) (nI_add (9 * j) 1) d_l_258 ?_
  refine lv_aload_n C.x C.b d_l_259 rfl (lv_at hl 0 rfl) ?_
  refine lv_iload C.x C.b d_l_260 (lv_at hl 4 rfl) ?_
  refine lv_iconst (v := 2) C.x C.b d_l_262 (by decide) ?_
  refine lv_iadd C.x C.b d_l_263 ?_
  refine r_sld C hX hw (9 * j + 2) (by omega) (nI_add (9 * j) 2) d_l_264 ?_
  refine lv_aload_n C.x C.b d_l_265 rfl (lv_at hl 0 rfl) ?_
  refine lv_iload C.x C.b d_l_266 (lv_at hl 4 rfl) ?_
  refine lv_iconst (v := 3) C.x C.b d_l_268 (by decide) ?_
  refine lv_iadd C.x C.b d_l_269 ?_
  refine r_sld C hX hw (9 * j + 3) (by omega) (nI_add (9 * j) 3) d_l_270 ?_
  refine lv_aload_n C.x C.b d_l_271 rfl (lv_at hl 0 rfl) ?_
  refine lv_iload C.x C.b d_l_272 (lv_at hl 4 rfl) ?_
  refine lv_iconst (v := 4) C.x C.b d_l_274 (by decide) ?_
  refine lv_iadd C.x C.b d_l_275 ?_
  refine r_sld C hX hw (9 * j + 4) (by omega) (nI_add (9 * j) 4) d_l_276 ?_
  refine lv_aload_n C.x C.b d_l_277 rfl (lv_at hl 0 rfl) ?_
  refine lv_iload C.x C.b d_l_278 (lv_at hl 4 rfl) ?_
  refine lv_iconst (v := 5) C.x C.b d_l_280 (by decide) ?_
  refine lv_iadd C.x C.b d_l_281 ?_
  refine r_sld C hX hw (9 * j + 5) (by omega) (nI_add (9 * j) 5) d_l_282 ?_
  refine lv_aload_n C.x C.b d_l_283 rfl (lv_at hl 0 rfl) ?_
  refine lv_iload C.x C.b d_l_284 (lv_at hl 4 rfl) ?_
  refine lv_bipush (v := 6) C.x C.b d_l_286 (by decide) ?_
  refine lv_iadd C.x C.b d_l_288 ?_
  refine r_sld C hX hw (9 * j + 6) (by omega) (nI_add (9 * j) 6) d_l_289 ?_
  refine r_bz C d_l_290 d_l_293 d_l_294 d_l_297 ?_
  refine lv_aload_n C.x C.b d_l_298 rfl (lv_at hl 0 rfl) ?_
  refine lv_iload C.x C.b d_l_299 (lv_at hl 4 rfl) ?_
  refine lv_bipush (v := 7) C.x C.b d_l_301 (by decide) ?_
  refine lv_iadd C.x C.b d_l_303 ?_
  refine r_sld C hX hw (9 * j + 7) (by omega) (nI_add (9 * j) 7) d_l_304 ?_
  refine lv_aload_n C.x C.b d_l_305 rfl (lv_at hl 0 rfl) ?_
  refine lv_iload C.x C.b d_l_306 (lv_at hl 4 rfl) ?_
  refine lv_bipush (v := 8) C.x C.b d_l_308 (by decide) ?_
  refine lv_iadd C.x C.b d_l_310 ?_
  refine r_sld C hX hw (9 * j + 8) (by omega) (nI_add (9 * j) 8) d_l_311 ?_
  refine r_bz C d_l_312 d_l_315 d_l_316 d_l_319 ?_
  obtain ⟨P1, h1, h2⟩ := op_change (l := l) (g := g) (Z := Z) hfl hi (x0 := (xs (9 * j + 1))) (t := (xs (9 * j + 2))) (gg := (xs (9 * j + 3))) (r := (xs (9 * j + 4))) (ll := (xs (9 * j + 5))) (q := (xs (9 * j + 7))) (bz01 (xs (9 * j + 6))) (bz01 (xs (9 * j + 8)))
  refine ret_iH hw (run_SH C hw h1 Yh_w4 k_173 k_174 ⟨rfl, rfl⟩ (by decide) ⟨hc, hs⟩ rfl hl.1 rfl (Nat.le_of_ble_eq_true rfl) d_l_320) (fun r9 u9 H locs hp hw => ?_)
  obtain ⟨P2, h3, h4⟩ := h2 r9 u9 hp
  refine lv_istore (lv' := [(5, .int r9), (0, .ref b), (1, .ref Z), (2, .ref (Z + 602)), (3, .ref (Z + 615)), (4, .int (nI (9 * j)))]) C.x C.b d_l_323 hl (by decide) rfl (fun ls hl => ?_)
  refine lv_aload_n C.x C.b d_l_325 rfl (lv_at hl 3 rfl) ?_
  refine lv_aload_n C.x C.b d_l_326 rfl (lv_at hl 1 rfl) ?_
  refine lv_iload C.x C.b d_l_327 (lv_at hl 5 rfl) ?_
  refine lv_iconst (v := 1) C.x C.b d_l_329 (by decide) ?_
  refine lv_iadd C.x C.b d_l_330 ?_
  refine r_sld C hX hw (9 * j + 1) (by omega) (nI_add (9 * j) 1) d_l_331 ?_
  refine lv_aload_n C.x C.b d_l_332 rfl (lv_at hl 1 rfl) ?_
  refine lv_iload C.x C.b d_l_333 (lv_at hl 5 rfl) ?_
  refine lv_iconst (v := 2) C.x C.b d_l_335 (by decide) ?_
  refine lv_iadd C.x C.b d_l_336 ?_
  refine r_sld C hX hw (9 * j + 2) (by omega) (nI_add (9 * j) 2) d_l_337 ?_
  refine lv_aload_n C.x C.b d_l_338 rfl (lv_at hl 1 rfl) ?_
  refine lv_iload C.x C.b d_l_339 (lv_at hl 5 rfl) ?_
  refine lv_iconst (v := 3) C.x C.b d_l_341 (by decide) ?_
  refine lv_iadd C.x C.b d_l_342 ?_
  refine r_sld C hX hw (9 * j + 3) (by omega) (nI_add (9 * j) 3) d_l_343 ?_
  refine lv_aload_n C.x C.b d_l_344 rfl (lv_at hl 1 rfl) ?_
  refine lv_iload C.x C.b d_l_345 (lv_at hl 5 rfl) ?_
  refine lv_iconst (v := 4) C.x C.b d_l_347 (by decide) ?_
  refine lv_iadd C.x C.b d_l_348 ?_
  refine r_sld C hX hw (9 * j + 4) (by omega) (nI_add (9 * j) 4) d_l_349 ?_
  refine lv_aload_n C.x C.b d_l_350 rfl (lv_at hl 1 rfl) ?_
  refine lv_iload C.x C.b d_l_351 (lv_at hl 5 rfl) ?_
  refine lv_iconst (v := 5) C.x C.b d_l_353 (by decide) ?_
  refine lv_iadd C.x C.b d_l_354 ?_
  refine r_sld C hX hw (9 * j + 5) (by omega) (nI_add (9 * j) 5) d_l_355 ?_
  refine lv_aload_n C.x C.b d_l_356 rfl (lv_at hl 1 rfl) ?_
  refine lv_iload C.x C.b d_l_357 (lv_at hl 5 rfl) ?_
  refine lv_bipush (v := 6) C.x C.b d_l_359 (by decide) ?_
  refine lv_iadd C.x C.b d_l_361 ?_
  refine r_sld C hX hw (9 * j + 6) (by omega) (nI_add (9 * j) 6) d_l_362 ?_
  refine r_bz C d_l_363 d_l_366 d_l_367 d_l_370 ?_
  refine lv_aload_n C.x C.b d_l_371 rfl (lv_at hl 1 rfl) ?_
  refine lv_iload C.x C.b d_l_372 (lv_at hl 5 rfl) ?_
  refine lv_bipush (v := 7) C.x C.b d_l_374 (by decide) ?_
  refine lv_iadd C.x C.b d_l_376 ?_
  refine r_sld C hX hw (9 * j + 7) (by omega) (nI_add (9 * j) 7) d_l_377 ?_
  refine lv_aload_n C.x C.b d_l_378 rfl (lv_at hl 1 rfl) ?_
  refine lv_iload C.x C.b d_l_379 (lv_at hl 5 rfl) ?_
  refine lv_bipush (v := 8) C.x C.b d_l_381 (by decide) ?_
  refine lv_iadd C.x C.b d_l_383 ?_
  refine r_sld C hX hw (9 * j + 8) (by omega) (nI_add (9 * j) 8) d_l_384 ?_
  refine r_bz C d_l_385 d_l_388 d_l_389 d_l_392 ?_
  refine ret_v hw (run_V C hw h3 (i := 602) (by decide) rfl rfl Y_m7 k_339 k_340 k_341 ⟨rfl, rfl⟩ (by decide) ⟨hc, hs⟩ rfl hl.1 rfl (Nat.le_of_ble_eq_true rfl) d_l_393) (fun v9 H locs hp hw => ?_)
  obtain ⟨σ, ⟨M, er, mn, mk⟩, o⟩ := v9
  obtain ⟨hi, he⟩ := h4 _ hp
  have he : er = r9 := he
  refine lv_aload_n C.x C.b d_l_396 rfl (lv_at hl 3 rfl) ?_
  refine ret_i hw (run_V C hw (c_thrown l) (i := 602) (by decide) rfl rfl Y_m2 k_320 k_321 k_322 ⟨rfl, rfl⟩ (by decide) ⟨hc, hs⟩ rfl hl.1 rfl (Nat.le_of_ble_eq_true rfl) d_l_397) (fun q9 u9 H locs hp hw => ?_)
  obtain ⟨e9, rfl⟩ := hp
  refine lv_iload C.x C.b d_l_400 (lv_at hl 0 rfl) ?_
  refine lv_icmp_eq (tgt := 407) C.x C.b d_l_402 (by decide) (fun h5 => ?_) (fun h5 => absurd (e9.trans he) h5)
  refine lv_goto (tgt := 782) C.x C.b d_l_407 (by decide) ?_
  exact kk _ H locs ls hi hw (lv_sub hl [1, 2, 3, 4, 5] rfl)
theorem l_ccut (hfl : l.flags = flags0) (C : Cx p s m c code 7 "StageClockLaw" args g Z) (hX : SX b L xs s Z) (hj : 9 * j + 9 ≤ L) (hi : Inv τ) (hw : WH g Z τ s H locs) (hl : lv_has ls 7 (LV b Z j)) (hc : cells + 1 ≤ room_1.cells) (hs : slots + 6 ≤ room_1.slots)
    (kk : ∀ (v : TS) (H : Heap) (locs : List Loc) (ls : Array Slot), Inv v → WH g Z v s H locs → lv_has ls 7 (LV b Z j) → W p l e room_1 s m args below meth c H locs (cells + 1) (slots + 6) Q (F0 m 782 ls [])) : W p l e room_1 s m args below meth c H locs cells slots Q (F0 m 410 ls []) := by
  refine lv_aload_n C.x C.b d_l_410 rfl (lv_at hl 1 rfl) ?_
  refine lv_aload_n C.x C.b d_l_411 rfl (lv_at hl 0 rfl) ?_
  refine lv_iload C.x C.b d_l_412 (lv_at hl 4 rfl) ?_
  refine lv_iconst (v := 1) C.x C.b d_l_414 (by decide) ?_
  refine lv_iadd C.x C.b d_l_415 ?_
  refine r_sld C hX hw (9 * j + 1) (by omega) (nI_add (9 * j) 1) d_l_416 ?_
  refine lv_aload_n C.x C.b d_l_417 rfl (lv_at hl 3 rfl) ?_
  obtain ⟨P1, h1, h2⟩ := op_cut (l := l) (g := g) (Z := Z) hfl hi (x0 := (xs (9 * j + 1)))
  refine ret_iH hw (run_SH C hw h1 Yh_w5 k_196 k_197 ⟨rfl, rfl⟩ (by decide) ⟨hc, hs⟩ rfl hl.1 rfl (Nat.le_of_ble_eq_true rfl) d_l_418) (fun r9 u9 H locs hp hw => ?_)
  obtain ⟨P2, h3, h4⟩ := h2 r9 u9 hp
  refine lv_istore (lv' := [(5, .int r9), (0, .ref b), (1, .ref Z), (2, .ref (Z + 602)), (3, .ref (Z + 615)), (4, .int (nI (9 * j)))]) C.x C.b d_l_421 hl (by decide) rfl (fun ls hl => ?_)
  refine lv_aload_n C.x C.b d_l_423 rfl (lv_at hl 3 rfl) ?_
  refine lv_aload_n C.x C.b d_l_424 rfl (lv_at hl 1 rfl) ?_
  refine lv_iload C.x C.b d_l_425 (lv_at hl 5 rfl) ?_
  refine lv_iconst (v := 1) C.x C.b d_l_427 (by decide) ?_
  refine lv_iadd C.x C.b d_l_428 ?_
  refine r_sld C hX hw (9 * j + 1) (by omega) (nI_add (9 * j) 1) d_l_429 ?_
  refine ret_i hw (run_V C hw h3 (i := 602) (by decide) rfl rfl Y_m8 k_343 k_344 k_345 ⟨rfl, rfl⟩ (by decide) ⟨hc, hs⟩ rfl hl.1 rfl (Nat.le_of_ble_eq_true rfl) d_l_430) (fun bb v9 H locs hp hw => ?_)
  obtain ⟨σ, ⟨M, er, mn, mk⟩, o⟩ := v9
  obtain ⟨hi, he, ho⟩ := h4 bb _ hp
  have he : er = r9 := he
  have ho : r9 = 0 → o = bb.toInt64 := ho
  refine lv_istore (lv' := [(6, .int bb), (5, .int r9), (0, .ref b), (1, .ref Z), (2, .ref (Z + 602)), (3, .ref (Z + 615)), (4, .int (nI (9 * j)))]) C.x C.b d_l_433 hl (by decide) rfl (fun ls hl => ?_)
  refine lv_aload_n C.x C.b d_l_435 rfl (lv_at hl 4 rfl) ?_
  refine ret_i hw (run_V C hw (c_thrown l) (i := 602) (by decide) rfl rfl Y_m2 k_320 k_321 k_322 ⟨rfl, rfl⟩ (by decide) ⟨hc, hs⟩ rfl hl.1 rfl (Nat.le_of_ble_eq_true rfl) d_l_436) (fun q9 u9 H locs hp hw => ?_)
  obtain ⟨e9, rfl⟩ := hp
  refine lv_iload C.x C.b d_l_439 (lv_at hl 1 rfl) ?_
  refine lv_icmp_eq (tgt := 446) C.x C.b d_l_441 (by decide) (fun h5 => ?_) (fun h5 => absurd (e9.trans he) h5)
  refine lv_iload C.x C.b d_l_446 (lv_at hl 1 rfl) ?_
  refine lv_if_ne (tgt := 463) C.x C.b d_l_448 (by decide) (fun h6 => ?_) (fun h6 => ?_)
  · skip
    refine lv_goto (tgt := 782) C.x C.b d_l_463 (by decide) ?_
    exact kk _ H locs ls hi hw (lv_sub hl [2, 3, 4, 5, 6] rfl)
  · skip
    refine lv_aload_n C.x C.b d_l_451 rfl (lv_at hl 5 rfl) ?_
    refine lv_iconst (v := 0) C.x C.b d_l_452 (by decide) ?_
    refine l_o C hw d_l_453 ?_
    refine lv_iload C.x C.b d_l_454 (lv_at hl 0 rfl) ?_
    refine lv_i2l (v := bb.toInt64) C.x C.b d_l_456 rfl ?_
    refine W.lcmp C.x C.b d_l_457 ?_
    refine lv_if_eq (tgt := 463) C.x C.b d_l_458 (by decide) (fun h7 => ?_) (fun h7 => absurd ((lg_cmp_eq _ _).mpr (ho h6)) h7)
    refine lv_goto (tgt := 782) C.x C.b d_l_463 (by decide) ?_
    exact kk _ H locs ls hi hw (lv_sub hl [2, 3, 4, 5, 6] rfl)
theorem l_cwhen (hfl : l.flags = flags0) (C : Cx p s m c code 7 "StageClockLaw" args g Z) (hX : SX b L xs s Z) (hj : 9 * j + 9 ≤ L) (hi : Inv τ) (hw : WH g Z τ s H locs) (hl : lv_has ls 7 (LV b Z j)) (hc : cells + 1 ≤ room_1.cells) (hs : slots + 6 ≤ room_1.slots)
    (kk : ∀ (v : TS) (H : Heap) (locs : List Loc) (ls : Array Slot), Inv v → WH g Z v s H locs → lv_has ls 7 (LV b Z j) → W p l e room_1 s m args below meth c H locs (cells + 1) (slots + 6) Q (F0 m 782 ls [])) : W p l e room_1 s m args below meth c H locs cells slots Q (F0 m 466 ls []) := by
  refine lv_aload_n C.x C.b d_l_466 rfl (lv_at hl 1 rfl) ?_
  refine lv_aload_n C.x C.b d_l_467 rfl (lv_at hl 0 rfl) ?_
  refine lv_iload C.x C.b d_l_468 (lv_at hl 4 rfl) ?_
  refine lv_iconst (v := 1) C.x C.b d_l_470 (by decide) ?_
  refine lv_iadd C.x C.b d_l_471 ?_
  refine r_sld C hX hw (9 * j + 1) (by omega) (nI_add (9 * j) 1) d_l_472 ?_
  refine lv_aload_n C.x C.b d_l_473 rfl (lv_at hl 0 rfl) ?_
  refine lv_iload C.x C.b d_l_474 (lv_at hl 4 rfl) ?_
  refine lv_iconst (v := 2) C.x C.b d_l_476 (by decide) ?_
  refine lv_iadd C.x C.b d_l_477 ?_
  refine r_sld C hX hw (9 * j + 2) (by omega) (nI_add (9 * j) 2) d_l_478 ?_
  refine lv_aload_n C.x C.b d_l_479 rfl (lv_at hl 3 rfl) ?_
  obtain ⟨P1, h1, h2⟩ := op_when (l := l) (g := g) (Z := Z) hfl hi (x0 := (xs (9 * j + 1))) (x1 := (xs (9 * j + 2)))
  refine ret_iH hw (run_SH C hw h1 Yh_w6 k_203 k_204 ⟨rfl, rfl⟩ (by decide) ⟨hc, hs⟩ rfl hl.1 rfl (Nat.le_of_ble_eq_true rfl) d_l_480) (fun r9 u9 H locs hp hw => ?_)
  obtain ⟨P2, h3, h4⟩ := h2 r9 u9 hp
  refine lv_istore (lv' := [(5, .int r9), (0, .ref b), (1, .ref Z), (2, .ref (Z + 602)), (3, .ref (Z + 615)), (4, .int (nI (9 * j)))]) C.x C.b d_l_483 hl (by decide) rfl (fun ls hl => ?_)
  refine lv_aload_n C.x C.b d_l_485 rfl (lv_at hl 3 rfl) ?_
  refine lv_aload_n C.x C.b d_l_486 rfl (lv_at hl 1 rfl) ?_
  refine lv_iload C.x C.b d_l_487 (lv_at hl 5 rfl) ?_
  refine lv_iconst (v := 1) C.x C.b d_l_489 (by decide) ?_
  refine lv_iadd C.x C.b d_l_490 ?_
  refine r_sld C hX hw (9 * j + 1) (by omega) (nI_add (9 * j) 1) d_l_491 ?_
  refine lv_aload_n C.x C.b d_l_492 rfl (lv_at hl 1 rfl) ?_
  refine lv_iload C.x C.b d_l_493 (lv_at hl 5 rfl) ?_
  refine lv_iconst (v := 2) C.x C.b d_l_495 (by decide) ?_
  refine lv_iadd C.x C.b d_l_496 ?_
  refine r_sld C hX hw (9 * j + 2) (by omega) (nI_add (9 * j) 2) d_l_497 ?_
  refine ret_i hw (run_V C hw h3 (i := 602) (by decide) rfl rfl Y_m15 k_347 k_348 k_349 ⟨rfl, rfl⟩ (by decide) ⟨hc, hs⟩ rfl hl.1 rfl (Nat.le_of_ble_eq_true rfl) d_l_498) (fun bb v9 H locs hp hw => ?_)
  obtain ⟨σ, ⟨M, er, mn, mk⟩, o⟩ := v9
  obtain ⟨hi, he, ho⟩ := h4 bb _ hp
  have he : er = r9 := he
  have ho : r9 = 0 → o = bb.toInt64 := ho
  refine lv_istore (lv' := [(6, .int bb), (5, .int r9), (0, .ref b), (1, .ref Z), (2, .ref (Z + 602)), (3, .ref (Z + 615)), (4, .int (nI (9 * j)))]) C.x C.b d_l_501 hl (by decide) rfl (fun ls hl => ?_)
  refine lv_aload_n C.x C.b d_l_503 rfl (lv_at hl 4 rfl) ?_
  refine ret_i hw (run_V C hw (c_thrown l) (i := 602) (by decide) rfl rfl Y_m2 k_320 k_321 k_322 ⟨rfl, rfl⟩ (by decide) ⟨hc, hs⟩ rfl hl.1 rfl (Nat.le_of_ble_eq_true rfl) d_l_504) (fun q9 u9 H locs hp hw => ?_)
  obtain ⟨e9, rfl⟩ := hp
  refine lv_iload C.x C.b d_l_507 (lv_at hl 1 rfl) ?_
  refine lv_icmp_eq (tgt := 514) C.x C.b d_l_509 (by decide) (fun h5 => ?_) (fun h5 => absurd (e9.trans he) h5)
  refine lv_iload C.x C.b d_l_514 (lv_at hl 1 rfl) ?_
  refine lv_if_ne (tgt := 531) C.x C.b d_l_516 (by decide) (fun h6 => ?_) (fun h6 => ?_)
  · skip
    refine lv_goto (tgt := 782) C.x C.b d_l_531 (by decide) ?_
    exact kk _ H locs ls hi hw (lv_sub hl [2, 3, 4, 5, 6] rfl)
  · skip
    refine lv_aload_n C.x C.b d_l_519 rfl (lv_at hl 5 rfl) ?_
    refine lv_iconst (v := 0) C.x C.b d_l_520 (by decide) ?_
    refine l_o C hw d_l_521 ?_
    refine lv_iload C.x C.b d_l_522 (lv_at hl 0 rfl) ?_
    refine lv_i2l (v := bb.toInt64) C.x C.b d_l_524 rfl ?_
    refine W.lcmp C.x C.b d_l_525 ?_
    refine lv_if_eq (tgt := 531) C.x C.b d_l_526 (by decide) (fun h7 => ?_) (fun h7 => absurd ((lg_cmp_eq _ _).mpr (ho h6)) h7)
    refine lv_goto (tgt := 782) C.x C.b d_l_531 (by decide) ?_
    exact kk _ H locs ls hi hw (lv_sub hl [2, 3, 4, 5, 6] rfl)
theorem l_cin (hfl : l.flags = flags0) (C : Cx p s m c code 7 "StageClockLaw" args g Z) (hX : SX b L xs s Z) (hj : 9 * j + 9 ≤ L) (hi : Inv τ) (hw : WH g Z τ s H locs) (hl : lv_has ls 7 (LV b Z j)) (hc : cells + 1 ≤ room_1.cells) (hs : slots + 6 ≤ room_1.slots)
    (kk : ∀ (v : TS) (H : Heap) (locs : List Loc) (ls : Array Slot), Inv v → WH g Z v s H locs → lv_has ls 7 (LV b Z j) → W p l e room_1 s m args below meth c H locs (cells + 1) (slots + 6) Q (F0 m 782 ls [])) : W p l e room_1 s m args below meth c H locs cells slots Q (F0 m 534 ls []) := by
  refine lv_aload_n C.x C.b d_l_534 rfl (lv_at hl 1 rfl) ?_
  refine lv_aload_n C.x C.b d_l_535 rfl (lv_at hl 0 rfl) ?_
  refine lv_iload C.x C.b d_l_536 (lv_at hl 4 rfl) ?_
  refine lv_iconst (v := 1) C.x C.b d_l_538 (by decide) ?_
  refine lv_iadd C.x C.b d_l_539 ?_
  refine r_sld C hX hw (9 * j + 1) (by omega) (nI_add (9 * j) 1) d_l_540 ?_
  refine lv_aload_n C.x C.b d_l_541 rfl (lv_at hl 0 rfl) ?_
  refine lv_iload C.x C.b d_l_542 (lv_at hl 4 rfl) ?_
  refine lv_iconst (v := 2) C.x C.b d_l_544 (by decide) ?_
  refine lv_iadd C.x C.b d_l_545 ?_
  refine r_sld C hX hw (9 * j + 2) (by omega) (nI_add (9 * j) 2) d_l_546 ?_
  refine lv_aload_n C.x C.b d_l_547 rfl (lv_at hl 3 rfl) ?_
  obtain ⟨P1, h1, h2⟩ := op_in (l := l) (g := g) (Z := Z) hfl hi (x0 := (xs (9 * j + 1))) (x1 := (xs (9 * j + 2)))
  refine ret_iH hw (run_SH C hw h1 Yh_w7 k_239 k_240 ⟨rfl, rfl⟩ (by decide) ⟨hc, hs⟩ rfl hl.1 rfl (Nat.le_of_ble_eq_true rfl) d_l_548) (fun r9 u9 H locs hp hw => ?_)
  obtain ⟨P2, h3, h4⟩ := h2 r9 u9 hp
  refine lv_istore (lv' := [(5, .int r9), (0, .ref b), (1, .ref Z), (2, .ref (Z + 602)), (3, .ref (Z + 615)), (4, .int (nI (9 * j)))]) C.x C.b d_l_551 hl (by decide) rfl (fun ls hl => ?_)
  refine lv_aload_n C.x C.b d_l_553 rfl (lv_at hl 3 rfl) ?_
  refine lv_aload_n C.x C.b d_l_554 rfl (lv_at hl 1 rfl) ?_
  refine lv_iload C.x C.b d_l_555 (lv_at hl 5 rfl) ?_
  refine lv_iconst (v := 1) C.x C.b d_l_557 (by decide) ?_
  refine lv_iadd C.x C.b d_l_558 ?_
  refine r_sld C hX hw (9 * j + 1) (by omega) (nI_add (9 * j) 1) d_l_559 ?_
  refine lv_aload_n C.x C.b d_l_560 rfl (lv_at hl 1 rfl) ?_
  refine lv_iload C.x C.b d_l_561 (lv_at hl 5 rfl) ?_
  refine lv_iconst (v := 2) C.x C.b d_l_563 (by decide) ?_
  refine lv_iadd C.x C.b d_l_564 ?_
  refine r_sld C hX hw (9 * j + 2) (by omega) (nI_add (9 * j) 2) d_l_565 ?_
  refine ret_i hw (run_V C hw h3 (i := 602) (by decide) rfl rfl Y_m17 k_374 k_375 k_376 ⟨rfl, rfl⟩ (by decide) ⟨hc, hs⟩ rfl hl.1 rfl (Nat.le_of_ble_eq_true rfl) d_l_566) (fun bb v9 H locs hp hw => ?_)
  obtain ⟨σ, ⟨M, er, mn, mk⟩, o⟩ := v9
  obtain ⟨hi, he, ho⟩ := h4 bb _ hp
  have he : er = r9 := he
  have ho : r9 = 0 → o = bb.toInt64 := ho
  refine lv_istore (lv' := [(6, .int bb), (5, .int r9), (0, .ref b), (1, .ref Z), (2, .ref (Z + 602)), (3, .ref (Z + 615)), (4, .int (nI (9 * j)))]) C.x C.b d_l_569 hl (by decide) rfl (fun ls hl => ?_)
  refine lv_aload_n C.x C.b d_l_571 rfl (lv_at hl 4 rfl) ?_
  refine ret_i hw (run_V C hw (c_thrown l) (i := 602) (by decide) rfl rfl Y_m2 k_320 k_321 k_322 ⟨rfl, rfl⟩ (by decide) ⟨hc, hs⟩ rfl hl.1 rfl (Nat.le_of_ble_eq_true rfl) d_l_572) (fun q9 u9 H locs hp hw => ?_)
  obtain ⟨e9, rfl⟩ := hp
  refine lv_iload C.x C.b d_l_575 (lv_at hl 1 rfl) ?_
  refine lv_icmp_eq (tgt := 582) C.x C.b d_l_577 (by decide) (fun h5 => ?_) (fun h5 => absurd (e9.trans he) h5)
  refine lv_iload C.x C.b d_l_582 (lv_at hl 1 rfl) ?_
  refine lv_if_ne (tgt := 599) C.x C.b d_l_584 (by decide) (fun h6 => ?_) (fun h6 => ?_)
  · skip
    refine lv_goto (tgt := 782) C.x C.b d_l_599 (by decide) ?_
    exact kk _ H locs ls hi hw (lv_sub hl [2, 3, 4, 5, 6] rfl)
  · skip
    refine lv_aload_n C.x C.b d_l_587 rfl (lv_at hl 5 rfl) ?_
    refine lv_iconst (v := 0) C.x C.b d_l_588 (by decide) ?_
    refine l_o C hw d_l_589 ?_
    refine lv_iload C.x C.b d_l_590 (lv_at hl 0 rfl) ?_
    refine lv_i2l (v := bb.toInt64) C.x C.b d_l_592 rfl ?_
    refine W.lcmp C.x C.b d_l_593 ?_
    refine lv_if_eq (tgt := 599) C.x C.b d_l_594 (by decide) (fun h7 => ?_) (fun h7 => absurd ((lg_cmp_eq _ _).mpr (ho h6)) h7)
    refine lv_goto (tgt := 782) C.x C.b d_l_599 (by decide) ?_
    exact kk _ H locs ls hi hw (lv_sub hl [2, 3, 4, 5, 6] rfl)
theorem l_cheld (hfl : l.flags = flags0) (C : Cx p s m c code 7 "StageClockLaw" args g Z) (hX : SX b L xs s Z) (hj : 9 * j + 9 ≤ L) (hi : Inv τ) (hw : WH g Z τ s H locs) (hl : lv_has ls 7 (LV b Z j)) (hc : cells + 1 ≤ room_1.cells) (hs : slots + 6 ≤ room_1.slots)
    (kk : ∀ (v : TS) (H : Heap) (locs : List Loc) (ls : Array Slot), Inv v → WH g Z v s H locs → lv_has ls 7 (LV b Z j) → W p l e room_1 s m args below meth c H locs (cells + 1) (slots + 6) Q (F0 m 782 ls [])) : W p l e room_1 s m args below meth c H locs cells slots Q (F0 m 602 ls []) := by
  refine lv_aload_n C.x C.b d_l_602 rfl (lv_at hl 1 rfl) ?_
  refine lv_aload_n C.x C.b d_l_603 rfl (lv_at hl 0 rfl) ?_
  refine lv_iload C.x C.b d_l_604 (lv_at hl 4 rfl) ?_
  refine lv_iconst (v := 1) C.x C.b d_l_606 (by decide) ?_
  refine lv_iadd C.x C.b d_l_607 ?_
  refine r_sld C hX hw (9 * j + 1) (by omega) (nI_add (9 * j) 1) d_l_608 ?_
  refine lv_aload_n C.x C.b d_l_609 rfl (lv_at hl 3 rfl) ?_
  obtain ⟨P1, h1, h2⟩ := op_held (l := l) (g := g) (Z := Z) hfl hi (x0 := (xs (9 * j + 1)))
  refine ret_iH hw (run_SH C hw h1 Yh_w8 k_246 k_247 ⟨rfl, rfl⟩ (by decide) ⟨hc, hs⟩ rfl hl.1 rfl (Nat.le_of_ble_eq_true rfl) d_l_610) (fun r9 u9 H locs hp hw => ?_)
  obtain ⟨P2, h3, h4⟩ := h2 r9 u9 hp
  refine lv_istore (lv' := [(5, .int r9), (0, .ref b), (1, .ref Z), (2, .ref (Z + 602)), (3, .ref (Z + 615)), (4, .int (nI (9 * j)))]) C.x C.b d_l_613 hl (by decide) rfl (fun ls hl => ?_)
  refine lv_aload_n C.x C.b d_l_615 rfl (lv_at hl 3 rfl) ?_
  refine lv_aload_n C.x C.b d_l_616 rfl (lv_at hl 1 rfl) ?_
  refine lv_iload C.x C.b d_l_617 (lv_at hl 5 rfl) ?_
  refine lv_iconst (v := 1) C.x C.b d_l_619 (by decide) ?_
  refine lv_iadd C.x C.b d_l_620 ?_
  refine r_sld C hX hw (9 * j + 1) (by omega) (nI_add (9 * j) 1) d_l_621 ?_
  refine ret_i hw (run_V C hw h3 (i := 602) (by decide) rfl rfl Y_m18 k_382 k_383 k_384 ⟨rfl, rfl⟩ (by decide) ⟨hc, hs⟩ rfl hl.1 rfl (Nat.le_of_ble_eq_true rfl) d_l_622) (fun bb v9 H locs hp hw => ?_)
  obtain ⟨σ, ⟨M, er, mn, mk⟩, o⟩ := v9
  obtain ⟨hi, he, ho⟩ := h4 bb _ hp
  have he : er = r9 := he
  have ho : r9 = 0 → o = bb.toInt64 := ho
  refine lv_istore (lv' := [(6, .int bb), (5, .int r9), (0, .ref b), (1, .ref Z), (2, .ref (Z + 602)), (3, .ref (Z + 615)), (4, .int (nI (9 * j)))]) C.x C.b d_l_625 hl (by decide) rfl (fun ls hl => ?_)
  refine lv_aload_n C.x C.b d_l_627 rfl (lv_at hl 4 rfl) ?_
  refine ret_i hw (run_V C hw (c_thrown l) (i := 602) (by decide) rfl rfl Y_m2 k_320 k_321 k_322 ⟨rfl, rfl⟩ (by decide) ⟨hc, hs⟩ rfl hl.1 rfl (Nat.le_of_ble_eq_true rfl) d_l_628) (fun q9 u9 H locs hp hw => ?_)
  obtain ⟨e9, rfl⟩ := hp
  refine lv_iload C.x C.b d_l_631 (lv_at hl 1 rfl) ?_
  refine lv_icmp_eq (tgt := 638) C.x C.b d_l_633 (by decide) (fun h5 => ?_) (fun h5 => absurd (e9.trans he) h5)
  refine lv_iload C.x C.b d_l_638 (lv_at hl 1 rfl) ?_
  refine lv_if_ne (tgt := 655) C.x C.b d_l_640 (by decide) (fun h6 => ?_) (fun h6 => ?_)
  · skip
    refine lv_goto (tgt := 782) C.x C.b d_l_655 (by decide) ?_
    exact kk _ H locs ls hi hw (lv_sub hl [2, 3, 4, 5, 6] rfl)
  · skip
    refine lv_aload_n C.x C.b d_l_643 rfl (lv_at hl 5 rfl) ?_
    refine lv_iconst (v := 0) C.x C.b d_l_644 (by decide) ?_
    refine l_o C hw d_l_645 ?_
    refine lv_iload C.x C.b d_l_646 (lv_at hl 0 rfl) ?_
    refine lv_i2l (v := bb.toInt64) C.x C.b d_l_648 rfl ?_
    refine W.lcmp C.x C.b d_l_649 ?_
    refine lv_if_eq (tgt := 655) C.x C.b d_l_650 (by decide) (fun h7 => ?_) (fun h7 => absurd ((lg_cmp_eq _ _).mpr (ho h6)) h7)
    refine lv_goto (tgt := 782) C.x C.b d_l_655 (by decide) ?_
    exact kk _ H locs ls hi hw (lv_sub hl [2, 3, 4, 5, 6] rfl)
theorem l_cgiver (hfl : l.flags = flags0) (C : Cx p s m c code 7 "StageClockLaw" args g Z) (hX : SX b L xs s Z) (hj : 9 * j + 9 ≤ L) (hi : Inv τ) (hw : WH g Z τ s H locs) (hl : lv_has ls 7 (LV b Z j)) (hc : cells + 1 ≤ room_1.cells) (hs : slots + 6 ≤ room_1.slots)
    (kk : ∀ (v : TS) (H : Heap) (locs : List Loc) (ls : Array Slot), Inv v → WH g Z v s H locs → lv_has ls 7 (LV b Z j) → W p l e room_1 s m args below meth c H locs (cells + 1) (slots + 6) Q (F0 m 782 ls [])) : W p l e room_1 s m args below meth c H locs cells slots Q (F0 m 658 ls []) := by
  refine lv_aload_n C.x C.b d_l_658 rfl (lv_at hl 1 rfl) ?_
  refine lv_aload_n C.x C.b d_l_659 rfl (lv_at hl 0 rfl) ?_
  refine lv_iload C.x C.b d_l_660 (lv_at hl 4 rfl) ?_
  refine lv_iconst (v := 1) C.x C.b d_l_662 (by decide) ?_
  refine lv_iadd C.x C.b d_l_663 ?_
  refine r_sld C hX hw (9 * j + 1) (by omega) (nI_add (9 * j) 1) d_l_664 ?_
  refine lv_aload_n C.x C.b d_l_665 rfl (lv_at hl 0 rfl) ?_
  refine lv_iload C.x C.b d_l_666 (lv_at hl 4 rfl) ?_
  refine lv_iconst (v := 2) C.x C.b d_l_668 (by decide) ?_
  refine lv_iadd C.x C.b d_l_669 ?_
  refine r_sld C hX hw (9 * j + 2) (by omega) (nI_add (9 * j) 2) d_l_670 ?_
  refine lv_aload_n C.x C.b d_l_671 rfl (lv_at hl 3 rfl) ?_
  obtain ⟨P1, h1, h2⟩ := op_giver (l := l) (g := g) (Z := Z) hfl hi (x0 := (xs (9 * j + 1))) (x1 := (xs (9 * j + 2)))
  refine ret_iH hw (run_SH C hw h1 Yh_w9 k_253 k_254 ⟨rfl, rfl⟩ (by decide) ⟨hc, hs⟩ rfl hl.1 rfl (Nat.le_of_ble_eq_true rfl) d_l_672) (fun r9 u9 H locs hp hw => ?_)
  obtain ⟨P2, h3, h4⟩ := h2 r9 u9 hp
  refine lv_istore (lv' := [(5, .int r9), (0, .ref b), (1, .ref Z), (2, .ref (Z + 602)), (3, .ref (Z + 615)), (4, .int (nI (9 * j)))]) C.x C.b d_l_675 hl (by decide) rfl (fun ls hl => ?_)
  refine lv_aload_n C.x C.b d_l_677 rfl (lv_at hl 3 rfl) ?_
  refine lv_aload_n C.x C.b d_l_678 rfl (lv_at hl 1 rfl) ?_
  refine lv_iload C.x C.b d_l_679 (lv_at hl 5 rfl) ?_
  refine lv_iconst (v := 1) C.x C.b d_l_681 (by decide) ?_
  refine lv_iadd C.x C.b d_l_682 ?_
  refine r_sld C hX hw (9 * j + 1) (by omega) (nI_add (9 * j) 1) d_l_683 ?_
  refine lv_aload_n C.x C.b d_l_684 rfl (lv_at hl 1 rfl) ?_
  refine lv_iload C.x C.b d_l_685 (lv_at hl 5 rfl) ?_
  refine lv_iconst (v := 2) C.x C.b d_l_687 (by decide) ?_
  refine lv_iadd C.x C.b d_l_688 ?_
  refine r_sld C hX hw (9 * j + 2) (by omega) (nI_add (9 * j) 2) d_l_689 ?_
  refine ret_i hw (run_V C hw h3 (i := 602) (by decide) rfl rfl Y_m19 k_386 k_387 k_388 ⟨rfl, rfl⟩ (by decide) ⟨hc, hs⟩ rfl hl.1 rfl (Nat.le_of_ble_eq_true rfl) d_l_690) (fun bb v9 H locs hp hw => ?_)
  obtain ⟨σ, ⟨M, er, mn, mk⟩, o⟩ := v9
  obtain ⟨hi, he, ho⟩ := h4 bb _ hp
  have he : er = r9 := he
  have ho : r9 = 0 → o = bb.toInt64 := ho
  refine lv_istore (lv' := [(6, .int bb), (5, .int r9), (0, .ref b), (1, .ref Z), (2, .ref (Z + 602)), (3, .ref (Z + 615)), (4, .int (nI (9 * j)))]) C.x C.b d_l_693 hl (by decide) rfl (fun ls hl => ?_)
  refine lv_aload_n C.x C.b d_l_695 rfl (lv_at hl 4 rfl) ?_
  refine ret_i hw (run_V C hw (c_thrown l) (i := 602) (by decide) rfl rfl Y_m2 k_320 k_321 k_322 ⟨rfl, rfl⟩ (by decide) ⟨hc, hs⟩ rfl hl.1 rfl (Nat.le_of_ble_eq_true rfl) d_l_696) (fun q9 u9 H locs hp hw => ?_)
  obtain ⟨e9, rfl⟩ := hp
  refine lv_iload C.x C.b d_l_699 (lv_at hl 1 rfl) ?_
  refine lv_icmp_eq (tgt := 706) C.x C.b d_l_701 (by decide) (fun h5 => ?_) (fun h5 => absurd (e9.trans he) h5)
  refine lv_iload C.x C.b d_l_706 (lv_at hl 1 rfl) ?_
  refine lv_if_ne (tgt := 723) C.x C.b d_l_708 (by decide) (fun h6 => ?_) (fun h6 => ?_)
  · skip
    refine lv_goto (tgt := 782) C.x C.b d_l_723 (by decide) ?_
    exact kk _ H locs ls hi hw (lv_sub hl [2, 3, 4, 5, 6] rfl)
  · skip
    refine lv_aload_n C.x C.b d_l_711 rfl (lv_at hl 5 rfl) ?_
    refine lv_iconst (v := 0) C.x C.b d_l_712 (by decide) ?_
    refine l_o C hw d_l_713 ?_
    refine lv_iload C.x C.b d_l_714 (lv_at hl 0 rfl) ?_
    refine lv_i2l (v := bb.toInt64) C.x C.b d_l_716 rfl ?_
    refine W.lcmp C.x C.b d_l_717 ?_
    refine lv_if_eq (tgt := 723) C.x C.b d_l_718 (by decide) (fun h7 => ?_) (fun h7 => absurd ((lg_cmp_eq _ _).mpr (ho h6)) h7)
    refine lv_goto (tgt := 782) C.x C.b d_l_723 (by decide) ?_
    exact kk _ H locs ls hi hw (lv_sub hl [2, 3, 4, 5, 6] rfl)
theorem l_ccount (hfl : l.flags = flags0) (C : Cx p s m c code 7 "StageClockLaw" args g Z) (hX : SX b L xs s Z) (hj : 9 * j + 9 ≤ L) (hi : Inv τ) (hw : WH g Z τ s H locs) (hl : lv_has ls 7 (LV b Z j)) (hc : cells + 1 ≤ room_1.cells) (hs : slots + 6 ≤ room_1.slots)
    (kk : ∀ (v : TS) (H : Heap) (locs : List Loc) (ls : Array Slot), Inv v → WH g Z v s H locs → lv_has ls 7 (LV b Z j) → W p l e room_1 s m args below meth c H locs (cells + 1) (slots + 6) Q (F0 m 782 ls [])) : W p l e room_1 s m args below meth c H locs cells slots Q (F0 m 726 ls []) := by
  refine lv_aload_n C.x C.b d_l_726 rfl (lv_at hl 1 rfl) ?_
  refine lv_aload_n C.x C.b d_l_727 rfl (lv_at hl 0 rfl) ?_
  refine lv_iload C.x C.b d_l_728 (lv_at hl 4 rfl) ?_
  refine lv_iconst (v := 1) C.x C.b d_l_730 (by decide) ?_
  refine lv_iadd C.x C.b d_l_731 ?_
  refine r_sld C hX hw (9 * j + 1) (by omega) (nI_add (9 * j) 1) d_l_732 ?_
  refine lv_aload_n C.x C.b d_l_733 rfl (lv_at hl 3 rfl) ?_
  obtain ⟨P1, h1, h2⟩ := op_count (l := l) (g := g) (Z := Z) hfl hi (x0 := (xs (9 * j + 1)))
  refine ret_iH hw (run_SH C hw h1 Yh_w10 k_260 k_261 ⟨rfl, rfl⟩ (by decide) ⟨hc, hs⟩ rfl hl.1 rfl (Nat.le_of_ble_eq_true rfl) d_l_734) (fun r9 u9 H locs hp hw => ?_)
  obtain ⟨P2, h3, h4⟩ := h2 r9 u9 hp
  refine lv_istore (lv' := [(5, .int r9), (0, .ref b), (1, .ref Z), (2, .ref (Z + 602)), (3, .ref (Z + 615)), (4, .int (nI (9 * j)))]) C.x C.b d_l_737 hl (by decide) rfl (fun ls hl => ?_)
  refine lv_aload_n C.x C.b d_l_739 rfl (lv_at hl 3 rfl) ?_
  refine lv_aload_n C.x C.b d_l_740 rfl (lv_at hl 1 rfl) ?_
  refine lv_iload C.x C.b d_l_741 (lv_at hl 5 rfl) ?_
  refine lv_iconst (v := 1) C.x C.b d_l_743 (by decide) ?_
  refine lv_iadd C.x C.b d_l_744 ?_
  refine r_sld C hX hw (9 * j + 1) (by omega) (nI_add (9 * j) 1) d_l_745 ?_
  refine ret_i hw (run_V C hw h3 (i := 602) (by decide) rfl rfl Y_m20 k_390 k_391 k_392 ⟨rfl, rfl⟩ (by decide) ⟨hc, hs⟩ rfl hl.1 rfl (Nat.le_of_ble_eq_true rfl) d_l_746) (fun bb v9 H locs hp hw => ?_)
  obtain ⟨σ, ⟨M, er, mn, mk⟩, o⟩ := v9
  obtain ⟨hi, he, ho⟩ := h4 bb _ hp
  have he : er = r9 := he
  have ho : r9 = 0 → o = bb.toInt64 := ho
  refine lv_istore (lv' := [(6, .int bb), (5, .int r9), (0, .ref b), (1, .ref Z), (2, .ref (Z + 602)), (3, .ref (Z + 615)), (4, .int (nI (9 * j)))]) C.x C.b d_l_749 hl (by decide) rfl (fun ls hl => ?_)
  refine lv_aload_n C.x C.b d_l_751 rfl (lv_at hl 4 rfl) ?_
  refine ret_i hw (run_V C hw (c_thrown l) (i := 602) (by decide) rfl rfl Y_m2 k_320 k_321 k_322 ⟨rfl, rfl⟩ (by decide) ⟨hc, hs⟩ rfl hl.1 rfl (Nat.le_of_ble_eq_true rfl) d_l_752) (fun q9 u9 H locs hp hw => ?_)
  obtain ⟨e9, rfl⟩ := hp
  refine lv_iload C.x C.b d_l_755 (lv_at hl 1 rfl) ?_
  refine lv_icmp_eq (tgt := 762) C.x C.b d_l_757 (by decide) (fun h5 => ?_) (fun h5 => absurd (e9.trans he) h5)
  refine lv_iload C.x C.b d_l_762 (lv_at hl 1 rfl) ?_
  refine lv_if_ne (tgt := 779) C.x C.b d_l_764 (by decide) (fun h6 => ?_) (fun h6 => ?_)
  · skip
    refine lv_goto (tgt := 782) C.x C.b d_l_779 (by decide) ?_
    exact kk _ H locs ls hi hw (lv_sub hl [2, 3, 4, 5, 6] rfl)
  · skip
    refine lv_aload_n C.x C.b d_l_767 rfl (lv_at hl 5 rfl) ?_
    refine lv_iconst (v := 0) C.x C.b d_l_768 (by decide) ?_
    refine l_o C hw d_l_769 ?_
    refine lv_iload C.x C.b d_l_770 (lv_at hl 0 rfl) ?_
    refine lv_i2l (v := bb.toInt64) C.x C.b d_l_772 rfl ?_
    refine W.lcmp C.x C.b d_l_773 ?_
    refine lv_if_eq (tgt := 779) C.x C.b d_l_774 (by decide) (fun h7 => ?_) (fun h7 => absurd ((lg_cmp_eq _ _).mpr (ho h6)) h7)
    refine lv_goto (tgt := 782) C.x C.b d_l_779 (by decide) ?_
    exact kk _ H locs ls hi hw (lv_sub hl [2, 3, 4, 5, 6] rfl)
end Law
end
section
/-! THE LAW'S LOOP AND ITS START -/
section Loop
variable {p : Program} {l : Launch} {e : Env} {s : State} {m : MethodId} {args : Array Value} {below : List Frame} {meth : Method} {c : Code} {Q : State → Prop} {g : KG} {Z b L : Nat} {xs : Nat → Int32}
theorem more_or_not {L j : Nat} (hL : L ≤ 4608) (hj : j ≤ 513) : (Int32.ofNat L - 9 < nI (9 * j)) ↔ ¬ 9 * j + 9 ≤ L := by
  have h1 : (Int32.ofNat L - 9).toInt = (L : Int) - 9 := pk_sub_toInt (a := L) (b := 9) (by omega) (by decide)
  rw [Int32.lt_iff_toInt_lt, h1, nI_toInt (by omega)]
  omega
theorem l_loop (hfl : l.flags = flags0) (C : Cx p s m c code 7 "StageClockLaw" args g Z) (hX : SX b L xs s Z)
    (kend : ∀ (H : Heap) (locs : List Loc) (ls : Array Slot), va_S (zfree Z) s.heap H locs → W p l e room_1 s m args below meth c H locs 619936 7236297 Q (F0 m 788 ls [])) :
    ∀ (d j : Nat) (τ : TS) (H : Heap) (locs : List Loc) (ls : Array Slot), j + d = 513 → Inv τ → WH g Z τ s H locs → lv_has ls 7 (LV b Z j) → W p l e room_1 s m args below meth c H locs (616 + j) (8619 + 6 * j) Q (F0 m 23 ls []) := by
  intro d
  induction d with
  | zero =>
    intro j τ H locs ls hd hi hw hl
    have hL := hX.2.2.2
    refine lv_iload C.x C.b d_l_23 (lv_at hl 4 rfl) ?_
    refine lv_aload_n C.x C.b d_l_25 rfl (lv_at hl 0 rfl) ?_
    refine va_slen C.x C.b hX.1 hX.2.1 (Nat.not_le.mpr hX.2.2.1) hw.2 d_l_26 ?_
    refine lv_bipush (v := 9) C.x C.b d_l_27 (by decide) ?_
    refine lv_isub C.x C.b d_l_29 ?_
    refine lv_icmp_gt (tgt := 788) C.x C.b d_l_30 (by decide) (fun h => ?_) (fun h => absurd ((more_or_not hL (by omega)).mpr (by omega)) h)
    refine W.widen (k := 619936) (n := 7236297) (by omega) (by omega) ?_
    exact kend H locs ls hw.2
  | succ d ih =>
    intro j τ H locs ls hd hi hw hl
    have hL := hX.2.2.2
    refine lv_iload C.x C.b d_l_23 (lv_at hl 4 rfl) ?_
    refine lv_aload_n C.x C.b d_l_25 rfl (lv_at hl 0 rfl) ?_
    refine va_slen C.x C.b hX.1 hX.2.1 (Nat.not_le.mpr hX.2.2.1) hw.2 d_l_26 ?_
    refine lv_bipush (v := 9) C.x C.b d_l_27 (by decide) ?_
    refine lv_isub C.x C.b d_l_29 ?_
    refine lv_icmp_gt (tgt := 788) C.x C.b d_l_30 (by decide) (fun h => ?_) (fun h => ?_)
    · refine W.widen (k := 619936) (n := 7236297) (by omega) (by omega) ?_
      exact kend H locs ls hw.2
    · have hj : 9 * j + 9 ≤ L := Decidable.byContradiction fun q => h ((more_or_not hL (by omega)).mpr q)
      refine lv_aload_n C.x C.b d_l_33 rfl (lv_at hl 0 rfl) ?_
      refine lv_iload C.x C.b d_l_34 (lv_at hl 4 rfl) ?_
      refine r_sld C hX hw (9 * j) (by omega) rfl d_l_36 ?_
      refine lv_bipush (v := 7) C.x C.b d_l_37 (by decide) ?_
      refine lv_iand C.x C.b d_l_39 ?_
      obtain ⟨q, hq, eq⟩ := pk_andE (xs (9 * j)) (m := 7) 3 (by decide)
      rw [eq]
      have hc : 616 + j + 1 ≤ room_1.cells := by show 616 + j + 1 ≤ 619936; omega
      have hs : 8619 + 6 * j + 6 ≤ room_1.slots := by show 8619 + 6 * j + 6 ≤ 7236297; omega
      have kk : ∀ (v : TS) (H : Heap) (locs : List Loc) (ls : Array Slot), Inv v → WH g Z v s H locs → lv_has ls 7 (LV b Z j) → W p l e room_1 s m args below meth c H locs (616 + j + 1) (8619 + 6 * j + 6) Q (F0 m 782 ls []) := by
        intro v H locs ls hi hw hl
        refine lv_iinc (k := 4) (v := nI (9 * (j + 1))) (lv' := [(4, .int (nI (9 * (j + 1)))), (0, .ref b), (1, .ref Z), (2, .ref (Z + 602)), (3, .ref (Z + 615))]) C.x C.b d_l_782 hl rfl (by rw [Nat.mul_succ]; exact nI_add (9 * j) 9) (by decide) rfl (fun ls hl => ?_)
        refine lv_goto (tgt := 23) C.x C.b d_l_785 (by decide) ?_
        exact ih (j + 1) v H locs ls (by omega) hi hw (lv_sub hl [1, 2, 3, 4, 0] rfl)
      rcases (show q = 0 ∨ q = 1 ∨ q = 2 ∨ q = 3 ∨ q = 4 ∨ q = 5 ∨ q = 6 ∨ q = 7 by omega) with rfl | rfl | rfl | rfl | rfl | rfl | rfl | rfl
      · exact lv_tableIn (off := 48) (tgt := 88) C.x C.b d_l_40 (by decide) (by decide) (by decide) (by decide) (l_cadd hfl C hX hj hi hw hl hc hs kk)
      · exact lv_tableIn (off := 212) (tgt := 252) C.x C.b d_l_40 (by decide) (by decide) (by decide) (by decide) (l_cchange hfl C hX hj hi hw hl hc hs kk)
      · exact lv_tableIn (off := 370) (tgt := 410) C.x C.b d_l_40 (by decide) (by decide) (by decide) (by decide) (l_ccut hfl C hX hj hi hw hl hc hs kk)
      · exact lv_tableIn (off := 426) (tgt := 466) C.x C.b d_l_40 (by decide) (by decide) (by decide) (by decide) (l_cwhen hfl C hX hj hi hw hl hc hs kk)
      · exact lv_tableIn (off := 494) (tgt := 534) C.x C.b d_l_40 (by decide) (by decide) (by decide) (by decide) (l_cin hfl C hX hj hi hw hl hc hs kk)
      · exact lv_tableIn (off := 562) (tgt := 602) C.x C.b d_l_40 (by decide) (by decide) (by decide) (by decide) (l_cheld hfl C hX hj hi hw hl hc hs kk)
      · exact lv_tableIn (off := 618) (tgt := 658) C.x C.b d_l_40 (by decide) (by decide) (by decide) (by decide) (l_cgiver hfl C hX hj hi hw hl hc hs kk)
      · exact lv_tableIn (off := 686) (tgt := 726) C.x C.b d_l_40 (by decide) (by decide) (by decide) (by decide) (l_ccount hfl C hX hj hi hw hl hc hs kk)
theorem dC_ok : ∀ k : Nat, (if k = 0 then (0 : Int64) else 0) = 0 := fun k => by split <;> rfl
/-- from the law's entry to its end -/
theorem l_start {ls : Array Slot} (hfl : l.flags = flags0) (C : Cx p s m c code 7 "StageClockLaw" args g s.heap.size) (hX : SX b L xs s s.heap.size)
    (kend : ∀ (H : Heap) (locs : List Loc) (ls : Array Slot), va_S (zfree s.heap.size) s.heap H locs → W p l e room_1 s m args below meth c H locs 619936 7236297 Q (F0 m 788 ls []))
    (hl : lv_has ls 7 [(0, .ref b)]) : W p l e room_1 s m args below meth c s.heap [] 0 0 Q (F0 m 0 ls []) := by
  obtain ⟨Z, hZ⟩ : ∃ Z, Z = s.heap.size := ⟨_, rfl⟩
  rw [← hZ] at C hX kend
  have hw : WC g Z 0 (cont g Z τ0) s s.heap [] := ⟨fun k q h => by simp [fam] at h, va_S.rf⟩
  refine n_obj C hw (by omega) (by omega) 0 rfl hin_S t_S_ok k_11 k_12 k_1 dS_ok (by decide) (by decide) d_l_0 (fun H hw => ?_)
  refine lv_dup C.x C.b d_l_3 rfl ?_
  refine n_sz (Z := Z) (N := 1) (by omega) (fam_ge hw.1) (fun hH => ?_)
  refine ret_c hw (va_runI (As := []) (b := Z) (rest := [.ref Z]) C.1 (c_Sinit l (g := g) (Z := Z) (va_up_self _ _ _)) ⟨callB9 C Y_s1 k_13 ⟨rfl, rfl⟩ (by decide), rfl, C.1.2.2.2.2 _ k_14⟩ (preC C hw hH) rfl rfl hl.1 rfl (lv_room (Nat.le_of_ble_eq_true rfl)) d_l_4 (by decide)) (fun ct H locs hE hw => ?_)
  refine lv_astore_n (lv' := [(1, .ref Z), (0, .ref b)]) C.x C.b d_l_7 rfl hl (by decide) rfl (fun ls hl => ?_)
  refine n_obj C hw (by omega) (fam_ge2 (by decide) hw.1) 2 rfl hin_M t_M_ok k_267 k_268 k_3 dM_ok (by decide) (by decide) d_l_8 (fun H hw => ?_)
  refine lv_dup C.x C.b d_l_11 rfl ?_
  refine n_sz (Z := Z) (N := 603) (by omega) (fam_ge2 (by decide) hw.1) (fun hH => ?_)
  refine ret_c hw (va_runI (As := []) (b := Z + 602) (rest := [.ref (Z + 602)]) C.1 (c_Minit l (g := g) (Z := Z) (fun i hi => (va_up_ne _ _ (by omega)).trans (hE i hi)) (va_up_self _ _ _)) ⟨callB9 C Y_m1 k_269 ⟨rfl, rfl⟩ (by decide), rfl, C.1.2.2.2.2 _ k_270⟩ (preC C hw hH) rfl rfl hl.1 rfl (lv_room (Nat.le_of_ble_eq_true rfl)) d_l_12 (by decide)) (fun ct H locs hE hw => ?_)
  refine lv_astore_n (lv' := [(2, .ref (Z + 602)), (1, .ref Z), (0, .ref b)]) C.x C.b d_l_15 rfl hl (by decide) rfl (fun ls hl => ?_)
  refine lv_iconst (v := 1) C.x C.b d_l_16 (by decide) ?_
  refine n_arr C hw (by omega) (fam_ge2 (by decide) hw.1) 2 (ty := .long) (L := 1) (a0 := (1, .inr (.inl (fun _ => 0)))) rfl rfl (nm_of C.2).2.2 k_394 rfl (by decide) (by decide) (by decide) (by decide) (by decide) d_l_17 (fun H hw => ?_)
  refine lv_astore_n (lv' := [(3, .ref (Z + 615)), (2, .ref (Z + 602)), (1, .ref Z), (0, .ref b)]) C.x C.b d_l_19 rfl hl (by decide) rfl (fun ls hl => ?_)
  refine lv_iconst (v := 0) C.x C.b d_l_20 (by decide) ?_
  refine lv_istore (lv' := [(4, .int 0), (3, .ref (Z + 615)), (2, .ref (Z + 602)), (1, .ref Z), (0, .ref b)]) C.x C.b d_l_21 hl (by decide) rfl (fun ls hl => ?_)
  have hw9 : WH g Z τ0 s H locs := by
    refine ⟨?_, hw.2⟩
    rw [← fam_congr (ct := va_up ct 615 (.inl (g.2.2.2.1, 1, .inr (.inl (fun _ => 0))))) (fun i hi => ?_)]
    · exact hw.1
    · by_cases h5 : i = 615
      · subst h5
        rw [va_up_self]
        have e1 : cont g Z τ0 615 = .inl (g.2.2.2.1, 1, .inr (.inl (fun j : Nat => if j = 0 then (0 : Int64) else 0))) := rfl
        rw [e1, show (fun j : Nat => if j = 0 then (0 : Int64) else 0) = (fun _ => 0) from funext dC_ok]
      · rw [va_up_ne _ _ h5]
        exact hE i (by omega)
  exact l_loop hfl C hX kend 513 0 τ0 H locs ls rfl Inv.start hw9 (lv_sub hl [4, 3, 2, 1, 0] rfl)
end Loop
end
section
/-! THE CLAIM OUT OF ONE WALK OF THE LAW'S BODY. Your part is whole_start (and what it stands on); all else here is the same for every law, but numbers. -/
def R_law : String := "StageClockLaw"
def lw_P (b : Addr) (xs : List Int32) (args : Array Value) (s : State) : Prop := args = #[.ref b] ∧ s.IntsAt b xs ∧ xs.length ≤ 4608 ∧ (Jvm.Cond.and given_1 narrow_1).before args s = true
def lw_Q (_ : Array Value) (s : State) (o : Outcome) (t : State) : Prop := o = .returned (some (.int 1)) ∧ Framed s o t [] 619936 7236297
def lw_Z (below : List Frame) (a : Array Value) (s : State) : State → Prop := fun t => ∃ o, t.status = .running ∧ Ended t below o ∧ lw_Q a s o t
/-- the law's own end, with 1 on the stack, nothing written that was there before, its room as the claim has it -/
theorem lw_ret {p : Program} {l : Launch} {e : Env} {s : State} {m : MethodId} {below : List Frame} {meth : Method} {c : Code} {b : Nat} (hx : p.tables.exec = Jvm.exec) (hb : c.code = code) (hr : meth.sig.returnType = ret) (hlocks : meth.locks = false) {pc : Nat} {H : Heap} {ls : Array Slot} (hdg : decode code pc = .ok (.ireturn, 1)) : W p l e room_1 s m #[Value.ref b] below meth c H [] 619936 7236297 (lw_Z below #[Value.ref b] s) (F0 m pc ls [.int 1]) := by
  intro T hT X
  obtain ⟨fs, hret, hrun, hended, hW, hframe⟩ := X.leave (v := some (.int 1)) (hlocks := hlocks) (fun h => by rw [hr] at h; cases h)
  have hmeth' : T.vm.method? m = some meth := X.method'
  refine ⟨T.setFrames fs, ?_, .returned (some (.int 1)), hrun, hended, rfl, ⟨_, rfl⟩, hW, hframe⟩
  jvm_step X.here [X.here.top, hx, hb, hdg, hmeth', hr, ret, narrow_b1]
  (try refine ⟨rfl, ?_⟩); (try refine ⟨rfl, ?_⟩)
  first | (intro acts; rw [hret _ acts rfl rfl rfl]) | rw [hret _ _ rfl rfl rfl]
  exact Steps.refl _
/-- what holds at the law's entry: the machine, the code, the tables' words (any of lw_tbl by 'hts w (by decide +kernel)'), the script of L ints xs at the cell b, what the Statement gives of the start (any of its parts by flat_of_before) -/
def lw_At (p : Program) (s : State) (m : MethodId) (meth : Method) (c : Code) (b L : Nat) (xs : Nat → Int32) : Prop :=
  p.tables.exec = Jvm.exec ∧ c.code = code ∧ meth.sig.returnType = ret ∧ c.maxLocals = 7 ∧ s.vm.findClass R_law = some m.cls ∧ (∀ w ∈ lw_tbl, w.before #[Value.ref b] s = true) ∧ va_X b L xs s s.heap ∧ b < s.heap.size ∧ meth.locks = false ∧ (Jvm.Cond.and given_1 narrow_1).before #[Value.ref b] s = true
-- ===== YOUR PART BEGINS =====
/-- YOUR PART: from the entry, for every script of at most 4608 ints, the law comes to its end with true -/
theorem whole_start {p : Program} {e : Env} {s : State} {m : MethodId} {below : List Frame} {meth : Method} {c : Code} (l : Launch) (hfl : l.flags = flags0) {b L : Nat} {xs : Nat → Int32} (hL : L ≤ 4608) (C0 : lw_At p s m meth c b L xs) : W p l e room_1 s m #[Value.ref b] below meth c s.heap [] 0 0 (lw_Z below #[Value.ref b] s) (entryFrame m ([Value.ref b] : List Value).toArray 7) := by
  obtain ⟨hx, hb, hr, hml, hown, hts, hX, hbl, hlk, hgv⟩ := C0
  have hTK : TK s := TK.of hts
  have hTB : ∀ w ∈ TB, w.before #[Value.ref b] s = true := hTK.any _
  have hf := flat_of_before _ hgv
  have hz : ZS s.heap.size s s.heap := ⟨ZS1.of (hts _ tw_115) (hf _ (by decide +kernel)) (Nat.le_refl _), ZS1.of (hts _ tw_117) (hf _ (by decide +kernel)) (Nat.le_refl _), va_Nc.of (hf _ (by decide +kernel)), va_Nc.of (hf _ (by decide +kernel))⟩
  obtain ⟨cS, iS, kS⟩ := u_known hTB hin_S (hTB _ k_12)
  obtain ⟨cT, iT, kT⟩ := u_known hTB hin_T (hTB _ k_21)
  obtain ⟨cM, iM, kM⟩ := u_known hTB hin_M (hTB _ k_268)
  obtain ⟨aI, kI, compI, f1, f2, f3⟩ := Cond.arrayClass_spec (hTB _ k_59)
  obtain ⟨aZ, kZ, compZ, z1, z2, z3⟩ := Cond.arrayClass_spec (hTB _ k_319)
  obtain ⟨aJ, kJ, compJ, j1, j2, j3⟩ := Cond.arrayClass_spec (hTB _ k_394)
  obtain ⟨compR, aR, kR, r1, -, r3, r4, r5⟩ := Cond.arrayOver_spec (hTB _ k_20)
  have hK : ∃ g : KG, va_K g.1 cls3 (tysG g) s := by
    refine ⟨((fun c => if c = 0 then cS else if c = 1 then cT else cM, fun c => if c = 0 then iS else if c = 1 then iT else iM), aI, aZ, aJ, aR), fun c q hq => ?_, fun k q hq => ?_⟩
    · match c, hq with
      | 0, hq => cases hq; exact kS
      | 1, hq => cases hq; exact kT
      | 2, hq => cases hq; exact kM
      | n + 3, hq => cases hq
    · match k, hq with
      | 0, hq => cases hq; exact ⟨fun n z => ⟨fun k h => by simp [arrV] at h, kI, f2, compI, f3⟩, f1⟩
      | 1, hq => cases hq; exact ⟨fun n z => ⟨fun k h => by simp [arrV] at h, kZ, z2, compZ, z3⟩, z1⟩
      | 2, hq => cases hq; exact ⟨fun n z => ⟨fun k h => by simp [arrV] at h, kJ, j2, compJ, j3⟩, j1⟩
      | 3, hq => cases hq; exact ⟨fun n z => ⟨fun k h => by simp [arrV] at h, kR, r3, compR, r4⟩, kR, compR, r3, r4, r1, r5⟩
      | n + 4, hq => cases hq
  obtain ⟨g, hK⟩ := hK
  have C : Cx p s m c code 7 "StageClockLaw" #[Value.ref b] g s.heap.size := ⟨⟨hx, hb, hml, hown, hTB⟩, hK, hTK, hz⟩
  have hl := lv_entry [Value.ref b] (n := 7) (Nat.le_of_ble_eq_true rfl)
  rw [lg_entry_eq]
  refine l_start hfl C ⟨hX, hbl, hbl, hL⟩ (fun H locs ls hS => ?_) hl
  refine va_forget (fun q hq => hS.2.2 q hq) ?_
  refine lv_iconst (v := 1) hx hb d_l_788 (by decide) ?_
  exact lw_ret hx hb hr hlk d_l_789
-- ===== YOUR PART ENDS =====
set_option maxHeartbeats 4000000 in
theorem lw_walk (l : Launch) (hfl : l.flags = flags0) (b : Addr) (xs : List Int32) : MetFree l x (headSpec (Jvm.Cond.code x code maxLocals ret :: tables_1) room_1) (lw_P b xs) (fun _ _ _ _ _ => True) lw_Q := by
  refine MetFree.of_bodyS (code := code) (maxLocals := maxLocals) (ret := ret) (by decide) ?_ ?_
  · intro args s m h hn
    obtain ⟨meth, c, h1, h2, h3, h4, h5, h6, -, -⟩ := Cond.code_spec hn (atoms_spec (ws := Jvm.Cond.code x code maxLocals ret :: tables_1) h _ List.mem_cons_self)
    exact ⟨meth, c, h1, h2, h3, h4, h5, h6⟩
  · intro p e s m args below meth c s₁ B hml0 hP _
    obtain ⟨rfl, hx, hbd, hgv⟩ := hP
    obtain ⟨scr, harrAt, hlist, hof, hsmall⟩ := hx
    obtain ⟨hcb, hkn, -, -⟩ := State.arrayAt?_spec harrAt
    have hown : s.vm.findClass R_law = some m.cls := findClass_of_methodNamed B.named
    have hts0 : ∀ c ∈ (Jvm.Cond.code x code maxLocals ret :: tables_1), c.before #[Value.ref b] s = true := atoms_spec (ws := Jvm.Cond.code x code maxLocals ret :: tables_1) B.pre
    have hts : ∀ w ∈ lw_tbl, w.before #[Value.ref b] s = true := k2_hts_sels lw_privs (fun w hw => hts0 w (List.mem_cons_of_mem _ hw)) lw_privs_ok
    have hml : c.maxLocals = 7 := B.maxLocals_eq (hts0 _ List.mem_cons_self)
    have X₀ : Stand p l e room_1 s m #[Value.ref b] below meth c s₁ [] 0 0 := Stand.of_body B
    have hh0 : s₁.heap = s.heap := by rw [B.state]; rfl
    have hsz : scr.slots.size = xs.length := by rw [← Array.length_toList, hlist, List.length_map]
    have hval : ∀ j : Nat, j < xs.length → scr.slots[j]? = some (.int (xs.getD j 0)) := fun j hj => by
      rw [← Array.getElem?_toList, hlist]
      simp [hj]
    have hbl : b < s.heap.size := (Array.getElem?_eq_some_iff.mp hcb).1
    have hX : va_X b xs.length (fun j => xs.getD j 0) s s.heap := ⟨scr, hcb, hof, hkn, hsz, hval⟩
    have K : W p l e room_1 s m #[Value.ref b] below meth c s₁.heap [] 0 0 (lw_Z below #[Value.ref b] s) (entryFrame m ([Value.ref b] : List Value).toArray 7) := by
      rw [hh0]
      exact whole_start l hfl hbd ⟨B.exec, B.bytes, B.returns, hml, hown, hts, hX, hbl, B.notSynchronized, hgv⟩
    obtain ⟨t, a1, o, b1, b2, b3⟩ := K s₁ rfl X₀
    exact ⟨t, o, a1, b1, b2, b3⟩
theorem lw_pre_spec {args : Array Value} {s : State} (h : (Jvm.Cond.and given_1 narrow_1).before args s = true) (hr : rest_1_c.before args s = true) : ∃ (b : Addr) (xs : List Int32), lw_P b xs args s := by
  have hs := flat_of_before _ h
  have hq := flat_of_before _ hr
  have hc : (Cond.count 1).before args s = true := hs _ (by decide +kernel)
  have harr : (Cond.arrayOf (.arg 0) .int).before args s = true := hs _ (by decide +kernel)
  have hle : (Cond.le (.length (.arg 0)) (.int 4608)).before args s = true := hs _ (by decide +kernel)
  have hlen : (Cond.isInt (.length (.arg 0))).before args s = true := hq _ (by decide +kernel)
  have hall : (Cond.all (.arg 0) (.isInt (.elem (.arg 0) (.index 0)))).before args s = true := hq _ (by decide +kernel)
  obtain ⟨b, xs, hb, hx⟩ := State.ints_of_pre rfl harr hlen hall
  have hsm : xs.length < 2 ^ 31 := hx.choose_spec.2.2.2
  have hev : (Term.length (.arg 0)).eval args s none [] s = some (.int xs.length.toInt32) := hx.length_eval hb
  have hv := Cond.le_ints hev (show (Term.int 4608).eval args s none [] s = some (.int 4608) from rfl)
  have hd : xs.length.toInt32 ≤ 4608 := by
    simpa [Cond.before, Cond.holds, hv] using hle
  have hN : xs.length ≤ 4608 := (Int32.ofNat_le_ofNat hsm (by decide)).mp (show Int32.ofNat xs.length ≤ Int32.ofNat 4608 from hd)
  exact ⟨b, xs, Cond.one_arg hc (show args[0]? = some (.ref b) from hb), hx, hN, h⟩
theorem lw_comes (l : Launch) (hfl : l.flags = flags0) : Comes l x (Jvm.Cond.code x code maxLocals ret :: tables_1) room_1 (fun tb e args s => Calls_1 tb e args s ∧ rest_1 tb e args s ∧ Pre_1 tb e args s)
    (fun _ _ args s o t => lw_Q args s o t) := by
  intro p e ha hc hk s m args below hf hfit hheap happ hpre
  obtain ⟨b, xs, hP⟩ := lw_pre_spec hpre.2.2 hpre.2.1
  obtain ⟨k, o, h1, h2, h3, hQ⟩ := lw_walk l hfl b xs p e ha hc hk s m args below hf ((Spec.applies_iff_loose hf).mp happ).1 hP trivial
  exact ⟨k, o, h1, h2, h3, hQ⟩
theorem lw_frame {s t : State} {o : Outcome} {args : Array Value} (h : Framed s o t [] 619936 7236297) :
    Framed s o t (fieldLocs frame_1_writes args s ++ arrayLocs frame_1_arrays args s ++ staticLocs frame_1_statics s) 619936 7236297 := h
theorem lw_limb (L : Cond) (hL : ∀ (args : Array Value) (s t : State), L.after args s (.returned (some (.int 1))) t = true) :
    ArmFor flags0 classFile x code maxLocals ret World_1 tables_1 room_1 Calls_1 rest_1 Pre_1
      (fun tb e a s o t => postC L tb e a s o t ∧ Framed s o t (fieldLocs frame_1_writes a s ++ arrayLocs frame_1_arrays a s ++ staticLocs frame_1_statics s) 619936 7236297) := by
  intro l hfl _ _ p e ha hc hk s m args below hf hfit hheap happ hpre
  obtain ⟨k, o, h1, h2, h3, rfl, hF⟩ := lw_comes l hfl p e ha hc hk s m args below hf hfit hheap happ hpre
  exact ⟨k, _, h1, h2, h3, hL args s _, lw_frame hF⟩
theorem i_vc : Claimed_1_1 ∧ Claimed_1_2 := ⟨lw_limb limb_1_1 (fun args s t => by simp [limb_1_1, Cond.after, Cond.holds, Cond.value]), lw_limb limb_1_2 (fun args s t => Cond.after_iff.mpr (by
  first | (rw [show limb_1_2 = Cond.eq .result (.int 1) from rfl, Cond.eq_ints (x := 1) (y := 1) rfl rfl]; simp; done) | (simp [limb_1_2, Cond.value, Term.eval]; done)))⟩
end
