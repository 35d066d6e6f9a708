set_option maxRecDepth 100000
theorem dX2_paper_0 : decode cX2_paper 0 = .ok (.aload_n 0, 1) := by decide +kernel
theorem dX2_paper_1 : decode cX2_paper 1 = .ok (.iload_n 1, 1) := by decide +kernel
theorem dX2_paper_2 : decode cX2_paper 2 = .ok (.invokevirtual 160, 3) := by decide +kernel
theorem dX2_paper_5 : decode cX2_paper 5 = .ok (.ifCond .eq 24, 3) := by decide +kernel
theorem dX2_paper_8 : decode cX2_paper 8 = .ok (.aload_n 0, 1) := by decide +kernel
theorem dX2_paper_9 : decode cX2_paper 9 = .ok (.iload_n 2, 1) := by decide +kernel
theorem dX2_paper_10 : decode cX2_paper 10 = .ok (.i2l, 1) := by decide +kernel
theorem dX2_paper_11 : decode cX2_paper 11 = .ok (.invokestatic 164, 3) := by decide +kernel
theorem dX2_paper_14 : decode cX2_paper 14 = .ok (.ifCond .ne 7, 3) := by decide +kernel
theorem dX2_paper_17 : decode cX2_paper 17 = .ok (.iconst 1, 1) := by decide +kernel
theorem dX2_paper_18 : decode cX2_paper 18 = .ok (.goto 4, 3) := by decide +kernel
theorem dX2_paper_21 : decode cX2_paper 21 = .ok (.iconst 0, 1) := by decide +kernel
theorem dX2_paper_22 : decode cX2_paper 22 = .ok (.iconst 2, 1) := by decide +kernel
theorem dX2_paper_23 : decode cX2_paper 23 = .ok (.invokevirtual 64, 3) := by decide +kernel
theorem dX2_paper_26 : decode cX2_paper 26 = .ok (.ifCond .eq 5, 3) := by decide +kernel
theorem dX2_paper_29 : decode cX2_paper 29 = .ok (.iconst 0, 1) := by decide +kernel
theorem dX2_paper_30 : decode cX2_paper 30 = .ok (.ireturn, 1) := by decide +kernel
theorem dX2_paper_31 : decode cX2_paper 31 = .ok (.aload_n 0, 1) := by decide +kernel
theorem dX2_paper_32 : decode cX2_paper 32 = .ok (.invokevirtual 129, 3) := by decide +kernel
theorem dX2_paper_35 : decode cX2_paper 35 = .ok (.ifCond .ne 5, 3) := by decide +kernel
theorem dX2_paper_38 : decode cX2_paper 38 = .ok (.iconst (-1), 1) := by decide +kernel
theorem dX2_paper_39 : decode cX2_paper 39 = .ok (.ireturn, 1) := by decide +kernel
theorem dX2_paper_40 : decode cX2_paper 40 = .ok (.aload_n 0, 1) := by decide +kernel
theorem dX2_paper_41 : decode cX2_paper 41 = .ok (.invokevirtual 157, 3) := by decide +kernel
theorem dX2_paper_44 : decode cX2_paper 44 = .ok (.ifCond .lt 6, 3) := by decide +kernel
theorem dX2_paper_47 : decode cX2_paper 47 = .ok (.bipush (-2), 2) := by decide +kernel
theorem dX2_paper_49 : decode cX2_paper 49 = .ok (.ireturn, 1) := by decide +kernel
theorem dX2_paper_50 : decode cX2_paper 50 = .ok (.aload_n 0, 1) := by decide +kernel
theorem dX2_paper_51 : decode cX2_paper 51 = .ok (.getfield 154, 3) := by decide +kernel
theorem dX2_paper_54 : decode cX2_paper 54 = .ok (.bipush 100, 2) := by decide +kernel
theorem dX2_paper_56 : decode cX2_paper 56 = .ok (.if_icmp .ne 6, 3) := by decide +kernel
theorem dX2_paper_59 : decode cX2_paper 59 = .ok (.bipush (-3), 2) := by decide +kernel
theorem dX2_paper_61 : decode cX2_paper 61 = .ok (.ireturn, 1) := by decide +kernel
theorem dX2_paper_62 : decode cX2_paper 62 = .ok (.aload_n 0, 1) := by decide +kernel
theorem dX2_paper_63 : decode cX2_paper 63 = .ok (.getfield 43, 3) := by decide +kernel
theorem dX2_paper_66 : decode cX2_paper 66 = .ok (.aload_n 0, 1) := by decide +kernel
theorem dX2_paper_67 : decode cX2_paper 67 = .ok (.getfield 154, 3) := by decide +kernel
theorem dX2_paper_70 : decode cX2_paper 70 = .ok (.iload_n 1, 1) := by decide +kernel
theorem dX2_paper_71 : decode cX2_paper 71 = .ok (.iastore, 1) := by decide +kernel
theorem dX2_paper_72 : decode cX2_paper 72 = .ok (.aload_n 0, 1) := by decide +kernel
theorem dX2_paper_73 : decode cX2_paper 73 = .ok (.getfield 46, 3) := by decide +kernel
theorem dX2_paper_76 : decode cX2_paper 76 = .ok (.aload_n 0, 1) := by decide +kernel
theorem dX2_paper_77 : decode cX2_paper 77 = .ok (.getfield 154, 3) := by decide +kernel
theorem dX2_paper_80 : decode cX2_paper 80 = .ok (.iload_n 2, 1) := by decide +kernel
theorem dX2_paper_81 : decode cX2_paper 81 = .ok (.iastore, 1) := by decide +kernel
theorem dX2_paper_82 : decode cX2_paper 82 = .ok (.aload_n 0, 1) := by decide +kernel
theorem dX2_paper_83 : decode cX2_paper 83 = .ok (.getfield 49, 3) := by decide +kernel
theorem dX2_paper_86 : decode cX2_paper 86 = .ok (.aload_n 0, 1) := by decide +kernel
theorem dX2_paper_87 : decode cX2_paper 87 = .ok (.getfield 154, 3) := by decide +kernel
theorem dX2_paper_90 : decode cX2_paper 90 = .ok (.aload_n 0, 1) := by decide +kernel
theorem dX2_paper_91 : decode cX2_paper 91 = .ok (.iconst 0, 1) := by decide +kernel
theorem dX2_paper_92 : decode cX2_paper 92 = .ok (.invokevirtual 133, 3) := by decide +kernel
theorem dX2_paper_95 : decode cX2_paper 95 = .ok (.iastore, 1) := by decide +kernel
theorem dX2_paper_96 : decode cX2_paper 96 = .ok (.aload_n 0, 1) := by decide +kernel
theorem dX2_paper_97 : decode cX2_paper 97 = .ok (.getfield 52, 3) := by decide +kernel
theorem dX2_paper_100 : decode cX2_paper 100 = .ok (.aload_n 0, 1) := by decide +kernel
theorem dX2_paper_101 : decode cX2_paper 101 = .ok (.getfield 154, 3) := by decide +kernel
theorem dX2_paper_104 : decode cX2_paper 104 = .ok (.aload_n 0, 1) := by decide +kernel
theorem dX2_paper_105 : decode cX2_paper 105 = .ok (.iconst 1, 1) := by decide +kernel
theorem dX2_paper_106 : decode cX2_paper 106 = .ok (.invokevirtual 133, 3) := by decide +kernel
theorem dX2_paper_109 : decode cX2_paper 109 = .ok (.iastore, 1) := by decide +kernel
theorem dX2_paper_110 : decode cX2_paper 110 = .ok (.aload_n 0, 1) := by decide +kernel
theorem dX2_paper_111 : decode cX2_paper 111 = .ok (.getfield 55, 3) := by decide +kernel
theorem dX2_paper_114 : decode cX2_paper 114 = .ok (.aload_n 0, 1) := by decide +kernel
theorem dX2_paper_115 : decode cX2_paper 115 = .ok (.getfield 154, 3) := by decide +kernel
theorem dX2_paper_118 : decode cX2_paper 118 = .ok (.aload_n 0, 1) := by decide +kernel
theorem dX2_paper_119 : decode cX2_paper 119 = .ok (.iconst 2, 1) := by decide +kernel
theorem dX2_paper_120 : decode cX2_paper 120 = .ok (.invokevirtual 133, 3) := by decide +kernel
theorem dX2_paper_123 : decode cX2_paper 123 = .ok (.iastore, 1) := by decide +kernel
theorem dX2_paper_124 : decode cX2_paper 124 = .ok (.aload_n 0, 1) := by decide +kernel
theorem dX2_paper_125 : decode cX2_paper 125 = .ok (.dup, 1) := by decide +kernel
theorem dX2_paper_126 : decode cX2_paper 126 = .ok (.getfield 154, 3) := by decide +kernel
theorem dX2_paper_129 : decode cX2_paper 129 = .ok (.iconst 1, 1) := by decide +kernel
theorem dX2_paper_130 : decode cX2_paper 130 = .ok (.iadd, 1) := by decide +kernel
theorem dX2_paper_131 : decode cX2_paper 131 = .ok (.putfield 154, 3) := by decide +kernel
theorem dX2_paper_134 : decode cX2_paper 134 = .ok (.aload_n 0, 1) := by decide +kernel
theorem dX2_paper_135 : decode cX2_paper 135 = .ok (.iconst 0, 1) := by decide +kernel
theorem dX2_paper_136 : decode cX2_paper 136 = .ok (.putfield 123, 3) := by decide +kernel
theorem dX2_paper_139 : decode cX2_paper 139 = .ok (.aload_n 0, 1) := by decide +kernel
theorem dX2_paper_140 : decode cX2_paper 140 = .ok (.getfield 154, 3) := by decide +kernel
theorem dX2_paper_143 : decode cX2_paper 143 = .ok (.iconst 1, 1) := by decide +kernel
theorem dX2_paper_144 : decode cX2_paper 144 = .ok (.isub, 1) := by decide +kernel
theorem dX2_paper_145 : decode cX2_paper 145 = .ok (.ireturn, 1) := by decide +kernel
theorem dX2_isBatch_0 : decode cX2_isBatch 0 = .ok (.aload_n 0, 1) := by decide +kernel
theorem dX2_isBatch_1 : decode cX2_isBatch 1 = .ok (.iload_n 1, 1) := by decide +kernel
theorem dX2_isBatch_2 : decode cX2_isBatch 2 = .ok (.ifCond .lt 11, 3) := by decide +kernel
theorem dX2_isBatch_5 : decode cX2_isBatch 5 = .ok (.iload_n 1, 1) := by decide +kernel
theorem dX2_isBatch_6 : decode cX2_isBatch 6 = .ok (.aload_n 0, 1) := by decide +kernel
theorem dX2_isBatch_7 : decode cX2_isBatch 7 = .ok (.getfield 149, 3) := by decide +kernel
theorem dX2_isBatch_10 : decode cX2_isBatch 10 = .ok (.if_icmp .lt 7, 3) := by decide +kernel
theorem dX2_isBatch_13 : decode cX2_isBatch 13 = .ok (.iconst 1, 1) := by decide +kernel
theorem dX2_isBatch_14 : decode cX2_isBatch 14 = .ok (.goto 4, 3) := by decide +kernel
theorem dX2_isBatch_17 : decode cX2_isBatch 17 = .ok (.iconst 0, 1) := by decide +kernel
theorem dX2_isBatch_18 : decode cX2_isBatch 18 = .ok (.putfield 58, 3) := by decide +kernel
theorem dX2_isBatch_21 : decode cX2_isBatch 21 = .ok (.aload_n 0, 1) := by decide +kernel
theorem dX2_isBatch_22 : decode cX2_isBatch 22 = .ok (.getfield 58, 3) := by decide +kernel
theorem dX2_isBatch_25 : decode cX2_isBatch 25 = .ok (.ifCond .ne 7, 3) := by decide +kernel
theorem dX2_isBatch_28 : decode cX2_isBatch 28 = .ok (.iconst 1, 1) := by decide +kernel
theorem dX2_isBatch_29 : decode cX2_isBatch 29 = .ok (.goto 4, 3) := by decide +kernel
theorem dX2_isBatch_32 : decode cX2_isBatch 32 = .ok (.iconst 0, 1) := by decide +kernel
theorem dX2_isBatch_33 : decode cX2_isBatch 33 = .ok (.ireturn, 1) := by decide +kernel
theorem dX2_isAmount_0 : decode cX2_isAmount 0 = .ok (.lload_n 0, 1) := by decide +kernel
theorem dX2_isAmount_1 : decode cX2_isAmount 1 = .ok (.lconst 0, 1) := by decide +kernel
theorem dX2_isAmount_2 : decode cX2_isAmount 2 = .ok (.lcmp, 1) := by decide +kernel
theorem dX2_isAmount_3 : decode cX2_isAmount 3 = .ok (.ifCond .lt 15, 3) := by decide +kernel
theorem dX2_isAmount_6 : decode cX2_isAmount 6 = .ok (.lload_n 0, 1) := by decide +kernel
theorem dX2_isAmount_7 : decode cX2_isAmount 7 = .ok (.ldc2_w 152, 3) := by decide +kernel
theorem dX2_isAmount_10 : decode cX2_isAmount 10 = .ok (.lcmp, 1) := by decide +kernel
theorem dX2_isAmount_11 : decode cX2_isAmount 11 = .ok (.ifCond .gt 7, 3) := by decide +kernel
theorem dX2_isAmount_14 : decode cX2_isAmount 14 = .ok (.iconst 1, 1) := by decide +kernel
theorem dX2_isAmount_15 : decode cX2_isAmount 15 = .ok (.goto 4, 3) := by decide +kernel
theorem dX2_isAmount_18 : decode cX2_isAmount 18 = .ok (.iconst 0, 1) := by decide +kernel
theorem dX2_isAmount_19 : decode cX2_isAmount 19 = .ok (.ireturn, 1) := by decide +kernel
theorem dX2_amount_0 : decode cX2_amount 0 = .ok (.aload_n 0, 1) := by decide +kernel
theorem dX2_amount_1 : decode cX2_amount 1 = .ok (.iconst 0, 1) := by decide +kernel
theorem dX2_amount_2 : decode cX2_amount 2 = .ok (.putfield 58, 3) := by decide +kernel
theorem dX2_amount_5 : decode cX2_amount 5 = .ok (.aload_n 0, 1) := by decide +kernel
theorem dX2_amount_6 : decode cX2_amount 6 = .ok (.iload_n 1, 1) := by decide +kernel
theorem dX2_amount_7 : decode cX2_amount 7 = .ok (.ifCond .lt 11, 3) := by decide +kernel
theorem dX2_amount_10 : decode cX2_amount 10 = .ok (.iload_n 1, 1) := by decide +kernel
theorem dX2_amount_11 : decode cX2_amount 11 = .ok (.aload_n 0, 1) := by decide +kernel
theorem dX2_amount_12 : decode cX2_amount 12 = .ok (.getfield 154, 3) := by decide +kernel
theorem dX2_amount_15 : decode cX2_amount 15 = .ok (.if_icmp .lt 7, 3) := by decide +kernel
theorem dX2_amount_18 : decode cX2_amount 18 = .ok (.iconst 1, 1) := by decide +kernel
theorem dX2_amount_19 : decode cX2_amount 19 = .ok (.goto 4, 3) := by decide +kernel
theorem dX2_amount_22 : decode cX2_amount 22 = .ok (.iconst 0, 1) := by decide +kernel
theorem dX2_amount_23 : decode cX2_amount 23 = .ok (.iconst 1, 1) := by decide +kernel
theorem dX2_amount_24 : decode cX2_amount 24 = .ok (.invokevirtual 64, 3) := by decide +kernel
theorem dX2_amount_27 : decode cX2_amount 27 = .ok (.ifCond .ne 24, 3) := by decide +kernel
theorem dX2_amount_30 : decode cX2_amount 30 = .ok (.aload_n 0, 1) := by decide +kernel
theorem dX2_amount_31 : decode cX2_amount 31 = .ok (.iload_n 2, 1) := by decide +kernel
theorem dX2_amount_32 : decode cX2_amount 32 = .ok (.i2l, 1) := by decide +kernel
theorem dX2_amount_33 : decode cX2_amount 33 = .ok (.invokestatic 164, 3) := by decide +kernel
theorem dX2_amount_36 : decode cX2_amount 36 = .ok (.ifCond .ne 7, 3) := by decide +kernel
theorem dX2_amount_39 : decode cX2_amount 39 = .ok (.iconst 1, 1) := by decide +kernel
theorem dX2_amount_40 : decode cX2_amount 40 = .ok (.goto 4, 3) := by decide +kernel
theorem dX2_amount_43 : decode cX2_amount 43 = .ok (.iconst 0, 1) := by decide +kernel
theorem dX2_amount_44 : decode cX2_amount 44 = .ok (.iconst 2, 1) := by decide +kernel
theorem dX2_amount_45 : decode cX2_amount 45 = .ok (.invokevirtual 64, 3) := by decide +kernel
theorem dX2_amount_48 : decode cX2_amount 48 = .ok (.ifCond .eq 5, 3) := by decide +kernel
theorem dX2_amount_51 : decode cX2_amount 51 = .ok (.iconst 0, 1) := by decide +kernel
theorem dX2_amount_52 : decode cX2_amount 52 = .ok (.ireturn, 1) := by decide +kernel
theorem dX2_amount_53 : decode cX2_amount 53 = .ok (.aload_n 0, 1) := by decide +kernel
theorem dX2_amount_54 : decode cX2_amount 54 = .ok (.getfield 46, 3) := by decide +kernel
theorem dX2_amount_57 : decode cX2_amount 57 = .ok (.iload_n 1, 1) := by decide +kernel
theorem dX2_amount_58 : decode cX2_amount 58 = .ok (.iaload, 1) := by decide +kernel
theorem dX2_amount_59 : decode cX2_amount 59 = .ok (.istore_n 3, 1) := by decide +kernel
theorem dX2_amount_60 : decode cX2_amount 60 = .ok (.aload_n 0, 1) := by decide +kernel
theorem dX2_amount_61 : decode cX2_amount 61 = .ok (.getfield 46, 3) := by decide +kernel
theorem dX2_amount_64 : decode cX2_amount 64 = .ok (.iload_n 1, 1) := by decide +kernel
theorem dX2_amount_65 : decode cX2_amount 65 = .ok (.iload_n 2, 1) := by decide +kernel
theorem dX2_amount_66 : decode cX2_amount 66 = .ok (.iastore, 1) := by decide +kernel
theorem dX2_amount_67 : decode cX2_amount 67 = .ok (.iload_n 3, 1) := by decide +kernel
theorem dX2_amount_68 : decode cX2_amount 68 = .ok (.ireturn, 1) := by decide +kernel
theorem dX2_out_0 : decode cX2_out 0 = .ok (.aload_n 0, 1) := by decide +kernel
theorem dX2_out_1 : decode cX2_out 1 = .ok (.iload_n 1, 1) := by decide +kernel
theorem dX2_out_2 : decode cX2_out 2 = .ok (.invokevirtual 160, 3) := by decide +kernel
theorem dX2_out_5 : decode cX2_out 5 = .ok (.ifCond .eq 11, 3) := by decide +kernel
theorem dX2_out_8 : decode cX2_out 8 = .ok (.aload_n 0, 1) := by decide +kernel
theorem dX2_out_9 : decode cX2_out 9 = .ok (.iload_n 1, 1) := by decide +kernel
theorem dX2_out_10 : decode cX2_out 10 = .ok (.invokevirtual 168, 3) := by decide +kernel
theorem dX2_out_13 : decode cX2_out 13 = .ok (.goto 4, 3) := by decide +kernel
theorem dX2_out_16 : decode cX2_out 16 = .ok (.lconst 0, 1) := by decide +kernel
theorem dX2_out_17 : decode cX2_out 17 = .ok (.lreturn, 1) := by decide +kernel
theorem dX2_outOf_0 : decode cX2_outOf 0 = .ok (.aload_n 0, 1) := by decide +kernel
theorem dX2_outOf_1 : decode cX2_outOf 1 = .ok (.getfield 40, 3) := by decide +kernel
theorem dX2_outOf_4 : decode cX2_outOf 4 = .ok (.iload_n 1, 1) := by decide +kernel
theorem dX2_outOf_5 : decode cX2_outOf 5 = .ok (.iaload, 1) := by decide +kernel
theorem dX2_outOf_6 : decode cX2_outOf 6 = .ok (.ineg, 1) := by decide +kernel
theorem dX2_outOf_7 : decode cX2_outOf 7 = .ok (.i2l, 1) := by decide +kernel
theorem dX2_outOf_8 : decode cX2_outOf 8 = .ok (.lstore_n 2, 1) := by decide +kernel
theorem dX2_outOf_9 : decode cX2_outOf 9 = .ok (.iconst 0, 1) := by decide +kernel
theorem dX2_outOf_10 : decode cX2_outOf 10 = .ok (.istore 4, 2) := by decide +kernel
theorem dX2_outOf_12 : decode cX2_outOf 12 = .ok (.iload 4, 2) := by decide +kernel
theorem dX2_outOf_14 : decode cX2_outOf 14 = .ok (.aload_n 0, 1) := by decide +kernel
theorem dX2_outOf_15 : decode cX2_outOf 15 = .ok (.getfield 154, 3) := by decide +kernel
theorem dX2_outOf_18 : decode cX2_outOf 18 = .ok (.if_icmp .ge 35, 3) := by decide +kernel
theorem dX2_outOf_21 : decode cX2_outOf 21 = .ok (.lload_n 2, 1) := by decide +kernel
theorem dX2_outOf_22 : decode cX2_outOf 22 = .ok (.aload_n 0, 1) := by decide +kernel
theorem dX2_outOf_23 : decode cX2_outOf 23 = .ok (.getfield 43, 3) := by decide +kernel
theorem dX2_outOf_26 : decode cX2_outOf 26 = .ok (.iload 4, 2) := by decide +kernel
theorem dX2_outOf_28 : decode cX2_outOf 28 = .ok (.iaload, 1) := by decide +kernel
theorem dX2_outOf_29 : decode cX2_outOf 29 = .ok (.iload_n 1, 1) := by decide +kernel
theorem dX2_outOf_30 : decode cX2_outOf 30 = .ok (.if_icmp .ne 14, 3) := by decide +kernel
theorem dX2_outOf_33 : decode cX2_outOf 33 = .ok (.aload_n 0, 1) := by decide +kernel
theorem dX2_outOf_34 : decode cX2_outOf 34 = .ok (.getfield 46, 3) := by decide +kernel
theorem dX2_outOf_37 : decode cX2_outOf 37 = .ok (.iload 4, 2) := by decide +kernel
theorem dX2_outOf_39 : decode cX2_outOf 39 = .ok (.iaload, 1) := by decide +kernel
theorem dX2_outOf_40 : decode cX2_outOf 40 = .ok (.i2l, 1) := by decide +kernel
theorem dX2_outOf_41 : decode cX2_outOf 41 = .ok (.goto 4, 3) := by decide +kernel
theorem dX2_outOf_44 : decode cX2_outOf 44 = .ok (.lconst 0, 1) := by decide +kernel
theorem dX2_outOf_45 : decode cX2_outOf 45 = .ok (.ladd, 1) := by decide +kernel
theorem dX2_outOf_46 : decode cX2_outOf 46 = .ok (.lstore_n 2, 1) := by decide +kernel
theorem dX2_outOf_47 : decode cX2_outOf 47 = .ok (.iinc 4 1, 3) := by decide +kernel
theorem dX2_outOf_50 : decode cX2_outOf 50 = .ok (.goto (-38), 3) := by decide +kernel
theorem dX2_outOf_53 : decode cX2_outOf 53 = .ok (.lload_n 2, 1) := by decide +kernel
theorem dX2_outOf_54 : decode cX2_outOf 54 = .ok (.lreturn, 1) := by decide +kernel
theorem dX2_slips_0 : decode cX2_slips 0 = .ok (.aload_n 0, 1) := by decide +kernel
theorem dX2_slips_1 : decode cX2_slips 1 = .ok (.iload_n 1, 1) := by decide +kernel
theorem dX2_slips_2 : decode cX2_slips 2 = .ok (.invokevirtual 160, 3) := by decide +kernel
theorem dX2_slips_5 : decode cX2_slips 5 = .ok (.ifCond .eq 13, 3) := by decide +kernel
theorem dX2_slips_8 : decode cX2_slips 8 = .ok (.aload_n 0, 1) := by decide +kernel
theorem dX2_slips_9 : decode cX2_slips 9 = .ok (.iload_n 1, 1) := by decide +kernel
theorem dX2_slips_10 : decode cX2_slips 10 = .ok (.ldc 185, 2) := by decide +kernel
theorem dX2_slips_12 : decode cX2_slips 12 = .ok (.invokevirtual 186, 3) := by decide +kernel
theorem dX2_slips_15 : decode cX2_slips 15 = .ok (.goto 4, 3) := by decide +kernel
theorem dX2_slips_18 : decode cX2_slips 18 = .ok (.iconst 0, 1) := by decide +kernel
theorem dX2_slips_19 : decode cX2_slips 19 = .ok (.ireturn, 1) := by decide +kernel
theorem dX2_looks_0 : decode cX2_looks 0 = .ok (.aload_n 0, 1) := by decide +kernel
theorem dX2_looks_1 : decode cX2_looks 1 = .ok (.iload_n 1, 1) := by decide +kernel
theorem dX2_looks_2 : decode cX2_looks 2 = .ok (.invokevirtual 168, 3) := by decide +kernel
theorem dX2_looks_5 : decode cX2_looks 5 = .ok (.lstore_n 3, 1) := by decide +kernel
theorem dX2_looks_6 : decode cX2_looks 6 = .ok (.iconst 0, 1) := by decide +kernel
theorem dX2_looks_7 : decode cX2_looks 7 = .ok (.istore 5, 2) := by decide +kernel
theorem dX2_looks_9 : decode cX2_looks 9 = .ok (.lload_n 3, 1) := by decide +kernel
theorem dX2_looks_10 : decode cX2_looks 10 = .ok (.lconst 0, 1) := by decide +kernel
theorem dX2_looks_11 : decode cX2_looks 11 = .ok (.lcmp, 1) := by decide +kernel
theorem dX2_looks_12 : decode cX2_looks 12 = .ok (.ifCond .ne 5, 3) := by decide +kernel
theorem dX2_looks_15 : decode cX2_looks 15 = .ok (.iconst 0, 1) := by decide +kernel
theorem dX2_looks_16 : decode cX2_looks 16 = .ok (.ireturn, 1) := by decide +kernel
theorem dX2_looks_17 : decode cX2_looks 17 = .ok (.iconst 0, 1) := by decide +kernel
theorem dX2_looks_18 : decode cX2_looks 18 = .ok (.istore 6, 2) := by decide +kernel
theorem dX2_looks_20 : decode cX2_looks 20 = .ok (.iload 6, 2) := by decide +kernel
theorem dX2_looks_22 : decode cX2_looks 22 = .ok (.aload_n 0, 1) := by decide +kernel
theorem dX2_looks_23 : decode cX2_looks 23 = .ok (.getfield 154, 3) := by decide +kernel
theorem dX2_looks_26 : decode cX2_looks 26 = .ok (.if_icmp .ge 155, 3) := by decide +kernel
theorem dX2_looks_29 : decode cX2_looks 29 = .ok (.aload_n 0, 1) := by decide +kernel
theorem dX2_looks_30 : decode cX2_looks 30 = .ok (.getfield 43, 3) := by decide +kernel
theorem dX2_looks_33 : decode cX2_looks 33 = .ok (.iload 6, 2) := by decide +kernel
theorem dX2_looks_35 : decode cX2_looks 35 = .ok (.iaload, 1) := by decide +kernel
theorem dX2_looks_36 : decode cX2_looks 36 = .ok (.iload_n 1, 1) := by decide +kernel
theorem dX2_looks_37 : decode cX2_looks 37 = .ok (.if_icmp .eq 6, 3) := by decide +kernel
theorem dX2_looks_40 : decode cX2_looks 40 = .ok (.goto 135, 3) := by decide +kernel
theorem dX2_looks_43 : decode cX2_looks 43 = .ok (.iconst 0, 1) := by decide +kernel
theorem dX2_looks_44 : decode cX2_looks 44 = .ok (.istore 7, 2) := by decide +kernel
theorem dX2_looks_46 : decode cX2_looks 46 = .ok (.iload 7, 2) := by decide +kernel
theorem dX2_looks_48 : decode cX2_looks 48 = .ok (.iconst 3, 1) := by decide +kernel
theorem dX2_looks_49 : decode cX2_looks 49 = .ok (.if_icmp .ge 126, 3) := by decide +kernel
theorem dX2_looks_52 : decode cX2_looks 52 = .ok (.aload_n 0, 1) := by decide +kernel
theorem dX2_looks_53 : decode cX2_looks 53 = .ok (.getfield 46, 3) := by decide +kernel
theorem dX2_looks_56 : decode cX2_looks 56 = .ok (.iload 6, 2) := by decide +kernel
theorem dX2_looks_58 : decode cX2_looks 58 = .ok (.iaload, 1) := by decide +kernel
theorem dX2_looks_59 : decode cX2_looks 59 = .ok (.i2l, 1) := by decide +kernel
theorem dX2_looks_60 : decode cX2_looks 60 = .ok (.lload_n 3, 1) := by decide +kernel
theorem dX2_looks_61 : decode cX2_looks 61 = .ok (.lsub, 1) := by decide +kernel
theorem dX2_looks_62 : decode cX2_looks 62 = .ok (.lstore 8, 2) := by decide +kernel
theorem dX2_looks_64 : decode cX2_looks 64 = .ok (.iload 7, 2) := by decide +kernel
theorem dX2_looks_66 : decode cX2_looks 66 = .ok (.iconst 2, 1) := by decide +kernel
theorem dX2_looks_67 : decode cX2_looks 67 = .ok (.if_icmp .ne 18, 3) := by decide +kernel
theorem dX2_looks_70 : decode cX2_looks 70 = .ok (.lload 8, 2) := by decide +kernel
theorem dX2_looks_72 : decode cX2_looks 72 = .ok (.lconst 0, 1) := by decide +kernel
theorem dX2_looks_73 : decode cX2_looks 73 = .ok (.lcmp, 1) := by decide +kernel
theorem dX2_looks_74 : decode cX2_looks 74 = .ok (.ifCond .ne 7, 3) := by decide +kernel
theorem dX2_looks_77 : decode cX2_looks 77 = .ok (.iconst 1, 1) := by decide +kernel
theorem dX2_looks_78 : decode cX2_looks 78 = .ok (.goto 38, 3) := by decide +kernel
theorem dX2_looks_81 : decode cX2_looks 81 = .ok (.iconst 0, 1) := by decide +kernel
theorem dX2_looks_82 : decode cX2_looks 82 = .ok (.goto 34, 3) := by decide +kernel
theorem dX2_looks_85 : decode cX2_looks 85 = .ok (.lload 8, 2) := by decide +kernel
theorem dX2_looks_87 : decode cX2_looks 87 = .ok (.invokestatic 164, 3) := by decide +kernel
theorem dX2_looks_90 : decode cX2_looks 90 = .ok (.ifCond .eq 25, 3) := by decide +kernel
theorem dX2_looks_93 : decode cX2_looks 93 = .ok (.iload 7, 2) := by decide +kernel
theorem dX2_looks_95 : decode cX2_looks 95 = .ok (.aload_n 0, 1) := by decide +kernel
theorem dX2_looks_96 : decode cX2_looks 96 = .ok (.getfield 46, 3) := by decide +kernel
theorem dX2_looks_99 : decode cX2_looks 99 = .ok (.iload 6, 2) := by decide +kernel
theorem dX2_looks_101 : decode cX2_looks 101 = .ok (.iaload, 1) := by decide +kernel
theorem dX2_looks_102 : decode cX2_looks 102 = .ok (.lload 8, 2) := by decide +kernel
theorem dX2_looks_104 : decode cX2_looks 104 = .ok (.l2i, 1) := by decide +kernel
theorem dX2_looks_105 : decode cX2_looks 105 = .ok (.invokestatic 172, 3) := by decide +kernel
theorem dX2_looks_108 : decode cX2_looks 108 = .ok (.ifCond .eq 7, 3) := by decide +kernel
theorem dX2_looks_111 : decode cX2_looks 111 = .ok (.iconst 1, 1) := by decide +kernel
theorem dX2_looks_112 : decode cX2_looks 112 = .ok (.goto 4, 3) := by decide +kernel
theorem dX2_looks_115 : decode cX2_looks 115 = .ok (.iconst 0, 1) := by decide +kernel
theorem dX2_looks_116 : decode cX2_looks 116 = .ok (.istore 10, 2) := by decide +kernel
theorem dX2_looks_118 : decode cX2_looks 118 = .ok (.iload 10, 2) := by decide +kernel
theorem dX2_looks_120 : decode cX2_looks 120 = .ok (.ifCond .ne 6, 3) := by decide +kernel
theorem dX2_looks_123 : decode cX2_looks 123 = .ok (.goto 46, 3) := by decide +kernel
theorem dX2_looks_126 : decode cX2_looks 126 = .ok (.aload_n 0, 1) := by decide +kernel
theorem dX2_looks_127 : decode cX2_looks 127 = .ok (.iload 7, 2) := by decide +kernel
theorem dX2_looks_129 : decode cX2_looks 129 = .ok (.putfield 176, 3) := by decide +kernel
theorem dX2_looks_132 : decode cX2_looks 132 = .ok (.aload_n 0, 1) := by decide +kernel
theorem dX2_looks_133 : decode cX2_looks 133 = .ok (.iload 6, 2) := by decide +kernel
theorem dX2_looks_135 : decode cX2_looks 135 = .ok (.putfield 179, 3) := by decide +kernel
theorem dX2_looks_138 : decode cX2_looks 138 = .ok (.aload_n 0, 1) := by decide +kernel
theorem dX2_looks_139 : decode cX2_looks 139 = .ok (.iload 7, 2) := by decide +kernel
theorem dX2_looks_141 : decode cX2_looks 141 = .ok (.iconst 2, 1) := by decide +kernel
theorem dX2_looks_142 : decode cX2_looks 142 = .ok (.if_icmp .ne 7, 3) := by decide +kernel
theorem dX2_looks_145 : decode cX2_looks 145 = .ok (.iconst 0, 1) := by decide +kernel
theorem dX2_looks_146 : decode cX2_looks 146 = .ok (.goto 6, 3) := by decide +kernel
theorem dX2_looks_149 : decode cX2_looks 149 = .ok (.lload 8, 2) := by decide +kernel
theorem dX2_looks_151 : decode cX2_looks 151 = .ok (.l2i, 1) := by decide +kernel
theorem dX2_looks_152 : decode cX2_looks 152 = .ok (.putfield 182, 3) := by decide +kernel
theorem dX2_looks_155 : decode cX2_looks 155 = .ok (.iinc 5 1, 3) := by decide +kernel
theorem dX2_looks_158 : decode cX2_looks 158 = .ok (.iload 5, 2) := by decide +kernel
theorem dX2_looks_160 : decode cX2_looks 160 = .ok (.iload_n 2, 1) := by decide +kernel
theorem dX2_looks_161 : decode cX2_looks 161 = .ok (.iconst 1, 1) := by decide +kernel
theorem dX2_looks_162 : decode cX2_looks 162 = .ok (.iadd, 1) := by decide +kernel
theorem dX2_looks_163 : decode cX2_looks 163 = .ok (.if_icmp .ne 6, 3) := by decide +kernel
theorem dX2_looks_166 : decode cX2_looks 166 = .ok (.iload 5, 2) := by decide +kernel
theorem dX2_looks_168 : decode cX2_looks 168 = .ok (.ireturn, 1) := by decide +kernel
theorem dX2_looks_169 : decode cX2_looks 169 = .ok (.iinc 7 1, 3) := by decide +kernel
theorem dX2_looks_172 : decode cX2_looks 172 = .ok (.goto (-126), 3) := by decide +kernel
theorem dX2_looks_175 : decode cX2_looks 175 = .ok (.iinc 6 1, 3) := by decide +kernel
theorem dX2_looks_178 : decode cX2_looks 178 = .ok (.goto (-158), 3) := by decide +kernel
theorem dX2_looks_181 : decode cX2_looks 181 = .ok (.lload_n 3, 1) := by decide +kernel
theorem dX2_looks_182 : decode cX2_looks 182 = .ok (.lconst 0, 1) := by decide +kernel
theorem dX2_looks_183 : decode cX2_looks 183 = .ok (.lcmp, 1) := by decide +kernel
theorem dX2_looks_184 : decode cX2_looks 184 = .ok (.ifCond .gt 11, 3) := by decide +kernel
theorem dX2_looks_187 : decode cX2_looks 187 = .ok (.lload_n 3, 1) := by decide +kernel
theorem dX2_looks_188 : decode cX2_looks 188 = .ok (.lneg, 1) := by decide +kernel
theorem dX2_looks_189 : decode cX2_looks 189 = .ok (.invokestatic 164, 3) := by decide +kernel
theorem dX2_looks_192 : decode cX2_looks 192 = .ok (.ifCond .ne 6, 3) := by decide +kernel
theorem dX2_looks_195 : decode cX2_looks 195 = .ok (.iload 5, 2) := by decide +kernel
theorem dX2_looks_197 : decode cX2_looks 197 = .ok (.ireturn, 1) := by decide +kernel
theorem dX2_looks_198 : decode cX2_looks 198 = .ok (.aload_n 0, 1) := by decide +kernel
theorem dX2_looks_199 : decode cX2_looks 199 = .ok (.iconst 3, 1) := by decide +kernel
theorem dX2_looks_200 : decode cX2_looks 200 = .ok (.putfield 176, 3) := by decide +kernel
theorem dX2_looks_203 : decode cX2_looks 203 = .ok (.aload_n 0, 1) := by decide +kernel
theorem dX2_looks_204 : decode cX2_looks 204 = .ok (.iconst (-1), 1) := by decide +kernel
theorem dX2_looks_205 : decode cX2_looks 205 = .ok (.putfield 179, 3) := by decide +kernel
theorem dX2_looks_208 : decode cX2_looks 208 = .ok (.aload_n 0, 1) := by decide +kernel
theorem dX2_looks_209 : decode cX2_looks 209 = .ok (.lload_n 3, 1) := by decide +kernel
theorem dX2_looks_210 : decode cX2_looks 210 = .ok (.lneg, 1) := by decide +kernel
theorem dX2_looks_211 : decode cX2_looks 211 = .ok (.l2i, 1) := by decide +kernel
theorem dX2_looks_212 : decode cX2_looks 212 = .ok (.putfield 182, 3) := by decide +kernel
theorem dX2_looks_215 : decode cX2_looks 215 = .ok (.iload 5, 2) := by decide +kernel
theorem dX2_looks_217 : decode cX2_looks 217 = .ok (.iconst 1, 1) := by decide +kernel
theorem dX2_looks_218 : decode cX2_looks 218 = .ok (.iadd, 1) := by decide +kernel
theorem dX2_looks_219 : decode cX2_looks 219 = .ok (.ireturn, 1) := by decide +kernel
theorem dX2_slip_0 : decode cX2_slip 0 = .ok (.aload_n 0, 1) := by decide +kernel
theorem dX2_slip_1 : decode cX2_slip 1 = .ok (.iload_n 1, 1) := by decide +kernel
theorem dX2_slip_2 : decode cX2_slip 2 = .ok (.invokevirtual 160, 3) := by decide +kernel
theorem dX2_slip_5 : decode cX2_slip 5 = .ok (.ifCond .eq 25, 3) := by decide +kernel
theorem dX2_slip_8 : decode cX2_slip 8 = .ok (.aload_n 0, 1) := by decide +kernel
theorem dX2_slip_9 : decode cX2_slip 9 = .ok (.iload_n 3, 1) := by decide +kernel
theorem dX2_slip_10 : decode cX2_slip 10 = .ok (.ifCond .lt 8, 3) := by decide +kernel
theorem dX2_slip_13 : decode cX2_slip 13 = .ok (.iload_n 3, 1) := by decide +kernel
theorem dX2_slip_14 : decode cX2_slip 14 = .ok (.iconst 2, 1) := by decide +kernel
theorem dX2_slip_15 : decode cX2_slip 15 = .ok (.if_icmp .le 7, 3) := by decide +kernel
theorem dX2_slip_18 : decode cX2_slip 18 = .ok (.iconst 1, 1) := by decide +kernel
theorem dX2_slip_19 : decode cX2_slip 19 = .ok (.goto 4, 3) := by decide +kernel
theorem dX2_slip_22 : decode cX2_slip 22 = .ok (.iconst 0, 1) := by decide +kernel
theorem dX2_slip_23 : decode cX2_slip 23 = .ok (.iconst 2, 1) := by decide +kernel
theorem dX2_slip_24 : decode cX2_slip 24 = .ok (.invokevirtual 64, 3) := by decide +kernel
theorem dX2_slip_27 : decode cX2_slip 27 = .ok (.ifCond .eq 5, 3) := by decide +kernel
theorem dX2_slip_30 : decode cX2_slip 30 = .ok (.iconst 0, 1) := by decide +kernel
theorem dX2_slip_31 : decode cX2_slip 31 = .ok (.ireturn, 1) := by decide +kernel
theorem dX2_slip_32 : decode cX2_slip 32 = .ok (.iload_n 2, 1) := by decide +kernel
theorem dX2_slip_33 : decode cX2_slip 33 = .ok (.ifCond .lt 19, 3) := by decide +kernel
theorem dX2_slip_36 : decode cX2_slip 36 = .ok (.iload_n 2, 1) := by decide +kernel
theorem dX2_slip_37 : decode cX2_slip 37 = .ok (.ldc 185, 2) := by decide +kernel
theorem dX2_slip_39 : decode cX2_slip 39 = .ok (.if_icmp .gt 13, 3) := by decide +kernel
theorem dX2_slip_42 : decode cX2_slip 42 = .ok (.aload_n 0, 1) := by decide +kernel
theorem dX2_slip_43 : decode cX2_slip 43 = .ok (.iload_n 1, 1) := by decide +kernel
theorem dX2_slip_44 : decode cX2_slip 44 = .ok (.iload_n 2, 1) := by decide +kernel
theorem dX2_slip_45 : decode cX2_slip 45 = .ok (.invokevirtual 186, 3) := by decide +kernel
theorem dX2_slip_48 : decode cX2_slip 48 = .ok (.iload_n 2, 1) := by decide +kernel
theorem dX2_slip_49 : decode cX2_slip 49 = .ok (.if_icmp .gt 5, 3) := by decide +kernel
theorem dX2_slip_52 : decode cX2_slip 52 = .ok (.iconst (-1), 1) := by decide +kernel
theorem dX2_slip_53 : decode cX2_slip 53 = .ok (.ireturn, 1) := by decide +kernel
theorem dX2_slip_54 : decode cX2_slip 54 = .ok (.iload_n 3, 1) := by decide +kernel
theorem dX2_slip_55 : decode cX2_slip 55 = .ok (.ifCond .ne 10, 3) := by decide +kernel
theorem dX2_slip_58 : decode cX2_slip 58 = .ok (.aload_n 0, 1) := by decide +kernel
theorem dX2_slip_59 : decode cX2_slip 59 = .ok (.getfield 176, 3) := by decide +kernel
theorem dX2_slip_62 : decode cX2_slip 62 = .ok (.goto 19, 3) := by decide +kernel
theorem dX2_slip_65 : decode cX2_slip 65 = .ok (.iload_n 3, 1) := by decide +kernel
theorem dX2_slip_66 : decode cX2_slip 66 = .ok (.iconst 1, 1) := by decide +kernel
theorem dX2_slip_67 : decode cX2_slip 67 = .ok (.if_icmp .ne 10, 3) := by decide +kernel
theorem dX2_slip_70 : decode cX2_slip 70 = .ok (.aload_n 0, 1) := by decide +kernel
theorem dX2_slip_71 : decode cX2_slip 71 = .ok (.getfield 179, 3) := by decide +kernel
theorem dX2_slip_74 : decode cX2_slip 74 = .ok (.goto 7, 3) := by decide +kernel
theorem dX2_slip_77 : decode cX2_slip 77 = .ok (.aload_n 0, 1) := by decide +kernel
theorem dX2_slip_78 : decode cX2_slip 78 = .ok (.getfield 182, 3) := by decide +kernel
theorem dX2_slip_81 : decode cX2_slip 81 = .ok (.ireturn, 1) := by decide +kernel
theorem dX2_count_0 : decode cX2_count 0 = .ok (.aload_n 0, 1) := by decide +kernel
theorem dX2_count_1 : decode cX2_count 1 = .ok (.iconst 0, 1) := by decide +kernel
theorem dX2_count_2 : decode cX2_count 2 = .ok (.putfield 58, 3) := by decide +kernel
theorem dX2_count_5 : decode cX2_count 5 = .ok (.iload_n 1, 1) := by decide +kernel
theorem dX2_count_6 : decode cX2_count 6 = .ok (.tableswitch 80 0 3 #[30, 65, 70, 75], 30) := by decide +kernel
theorem dX2_count_36 : decode cX2_count 36 = .ok (.iconst 0, 1) := by decide +kernel
theorem dX2_count_37 : decode cX2_count 37 = .ok (.istore_n 2, 1) := by decide +kernel
theorem dX2_count_38 : decode cX2_count 38 = .ok (.iconst 0, 1) := by decide +kernel
theorem dX2_count_39 : decode cX2_count 39 = .ok (.istore_n 3, 1) := by decide +kernel
theorem dX2_count_40 : decode cX2_count 40 = .ok (.iload_n 3, 1) := by decide +kernel
theorem dX2_count_41 : decode cX2_count 41 = .ok (.bipush 12, 2) := by decide +kernel
theorem dX2_count_43 : decode cX2_count 43 = .ok (.if_icmp .ge 26, 3) := by decide +kernel
theorem dX2_count_46 : decode cX2_count 46 = .ok (.iload_n 2, 1) := by decide +kernel
theorem dX2_count_47 : decode cX2_count 47 = .ok (.aload_n 0, 1) := by decide +kernel
theorem dX2_count_48 : decode cX2_count 48 = .ok (.getfield 9, 3) := by decide +kernel
theorem dX2_count_51 : decode cX2_count 51 = .ok (.iload_n 3, 1) := by decide +kernel
theorem dX2_count_52 : decode cX2_count 52 = .ok (.iaload, 1) := by decide +kernel
theorem dX2_count_53 : decode cX2_count 53 = .ok (.ifCond .le 7, 3) := by decide +kernel
theorem dX2_count_56 : decode cX2_count 56 = .ok (.iconst 1, 1) := by decide +kernel
theorem dX2_count_57 : decode cX2_count 57 = .ok (.goto 4, 3) := by decide +kernel
theorem dX2_count_60 : decode cX2_count 60 = .ok (.iconst 0, 1) := by decide +kernel
theorem dX2_count_61 : decode cX2_count 61 = .ok (.iadd, 1) := by decide +kernel
theorem dX2_count_62 : decode cX2_count 62 = .ok (.istore_n 2, 1) := by decide +kernel
theorem dX2_count_63 : decode cX2_count 63 = .ok (.iinc 3 1, 3) := by decide +kernel
theorem dX2_count_66 : decode cX2_count 66 = .ok (.goto (-26), 3) := by decide +kernel
theorem dX2_count_69 : decode cX2_count 69 = .ok (.iload_n 2, 1) := by decide +kernel
theorem dX2_count_70 : decode cX2_count 70 = .ok (.ireturn, 1) := by decide +kernel
theorem dX2_count_71 : decode cX2_count 71 = .ok (.aload_n 0, 1) := by decide +kernel
theorem dX2_count_72 : decode cX2_count 72 = .ok (.getfield 68, 3) := by decide +kernel
theorem dX2_count_75 : decode cX2_count 75 = .ok (.ireturn, 1) := by decide +kernel
theorem dX2_count_76 : decode cX2_count 76 = .ok (.aload_n 0, 1) := by decide +kernel
theorem dX2_count_77 : decode cX2_count 77 = .ok (.getfield 149, 3) := by decide +kernel
theorem dX2_count_80 : decode cX2_count 80 = .ok (.ireturn, 1) := by decide +kernel
theorem dX2_count_81 : decode cX2_count 81 = .ok (.aload_n 0, 1) := by decide +kernel
theorem dX2_count_82 : decode cX2_count 82 = .ok (.getfield 154, 3) := by decide +kernel
theorem dX2_count_85 : decode cX2_count 85 = .ok (.ireturn, 1) := by decide +kernel
theorem dX2_count_86 : decode cX2_count 86 = .ok (.iconst (-1), 1) := by decide +kernel
theorem dX2_count_87 : decode cX2_count 87 = .ok (.ireturn, 1) := by decide +kernel
