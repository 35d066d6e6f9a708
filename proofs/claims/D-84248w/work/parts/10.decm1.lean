set_option maxRecDepth 100000
theorem dX2_init_0 : decode cX2_init 0 = .ok (.aload_n 0, 1) := by decide +kernel
theorem dX2_init_1 : decode cX2_init 1 = .ok (.invokespecial 1, 3) := by decide +kernel
theorem dX2_init_4 : decode cX2_init 4 = .ok (.aload_n 0, 1) := by decide +kernel
theorem dX2_init_5 : decode cX2_init 5 = .ok (.bipush 12, 2) := by decide +kernel
theorem dX2_init_7 : decode cX2_init 7 = .ok (.newarray .int, 2) := by decide +kernel
theorem dX2_init_9 : decode cX2_init 9 = .ok (.putfield 9, 3) := by decide +kernel
theorem dX2_init_12 : decode cX2_init 12 = .ok (.aload_n 0, 1) := by decide +kernel
theorem dX2_init_13 : decode cX2_init 13 = .ok (.bipush 120, 2) := by decide +kernel
theorem dX2_init_15 : decode cX2_init 15 = .ok (.newarray .int, 2) := by decide +kernel
theorem dX2_init_17 : decode cX2_init 17 = .ok (.putfield 13, 3) := by decide +kernel
theorem dX2_init_20 : decode cX2_init 20 = .ok (.aload_n 0, 1) := by decide +kernel
theorem dX2_init_21 : decode cX2_init 21 = .ok (.sipush 2160, 3) := by decide +kernel
theorem dX2_init_24 : decode cX2_init 24 = .ok (.newarray .int, 2) := by decide +kernel
theorem dX2_init_26 : decode cX2_init 26 = .ok (.putfield 16, 3) := by decide +kernel
theorem dX2_init_29 : decode cX2_init 29 = .ok (.aload_n 0, 1) := by decide +kernel
theorem dX2_init_30 : decode cX2_init 30 = .ok (.sipush 2160, 3) := by decide +kernel
theorem dX2_init_33 : decode cX2_init 33 = .ok (.newarray .int, 2) := by decide +kernel
theorem dX2_init_35 : decode cX2_init 35 = .ok (.putfield 19, 3) := by decide +kernel
theorem dX2_init_38 : decode cX2_init 38 = .ok (.aload_n 0, 1) := by decide +kernel
theorem dX2_init_39 : decode cX2_init 39 = .ok (.sipush 189, 3) := by decide +kernel
theorem dX2_init_42 : decode cX2_init 42 = .ok (.newarray .int, 2) := by decide +kernel
theorem dX2_init_44 : decode cX2_init 44 = .ok (.putfield 22, 3) := by decide +kernel
theorem dX2_init_47 : decode cX2_init 47 = .ok (.aload_n 0, 1) := by decide +kernel
theorem dX2_init_48 : decode cX2_init 48 = .ok (.sipush 180, 3) := by decide +kernel
theorem dX2_init_51 : decode cX2_init 51 = .ok (.newarray .int, 2) := by decide +kernel
theorem dX2_init_53 : decode cX2_init 53 = .ok (.putfield 25, 3) := by decide +kernel
theorem dX2_init_56 : decode cX2_init 56 = .ok (.aload_n 0, 1) := by decide +kernel
theorem dX2_init_57 : decode cX2_init 57 = .ok (.bipush 20, 2) := by decide +kernel
theorem dX2_init_59 : decode cX2_init 59 = .ok (.newarray .int, 2) := by decide +kernel
theorem dX2_init_61 : decode cX2_init 61 = .ok (.putfield 28, 3) := by decide +kernel
theorem dX2_init_64 : decode cX2_init 64 = .ok (.aload_n 0, 1) := by decide +kernel
theorem dX2_init_65 : decode cX2_init 65 = .ok (.bipush 20, 2) := by decide +kernel
theorem dX2_init_67 : decode cX2_init 67 = .ok (.newarray .int, 2) := by decide +kernel
theorem dX2_init_69 : decode cX2_init 69 = .ok (.putfield 31, 3) := by decide +kernel
theorem dX2_init_72 : decode cX2_init 72 = .ok (.aload_n 0, 1) := by decide +kernel
theorem dX2_init_73 : decode cX2_init 73 = .ok (.bipush 9, 2) := by decide +kernel
theorem dX2_init_75 : decode cX2_init 75 = .ok (.newarray .int, 2) := by decide +kernel
theorem dX2_init_77 : decode cX2_init 77 = .ok (.putfield 34, 3) := by decide +kernel
theorem dX2_init_80 : decode cX2_init 80 = .ok (.aload_n 0, 1) := by decide +kernel
theorem dX2_init_81 : decode cX2_init 81 = .ok (.bipush 9, 2) := by decide +kernel
theorem dX2_init_83 : decode cX2_init 83 = .ok (.newarray .int, 2) := by decide +kernel
theorem dX2_init_85 : decode cX2_init 85 = .ok (.putfield 37, 3) := by decide +kernel
theorem dX2_init_88 : decode cX2_init 88 = .ok (.aload_n 0, 1) := by decide +kernel
theorem dX2_init_89 : decode cX2_init 89 = .ok (.bipush 20, 2) := by decide +kernel
theorem dX2_init_91 : decode cX2_init 91 = .ok (.newarray .int, 2) := by decide +kernel
theorem dX2_init_93 : decode cX2_init 93 = .ok (.putfield 40, 3) := by decide +kernel
theorem dX2_init_96 : decode cX2_init 96 = .ok (.aload_n 0, 1) := by decide +kernel
theorem dX2_init_97 : decode cX2_init 97 = .ok (.bipush 100, 2) := by decide +kernel
theorem dX2_init_99 : decode cX2_init 99 = .ok (.newarray .int, 2) := by decide +kernel
theorem dX2_init_101 : decode cX2_init 101 = .ok (.putfield 43, 3) := by decide +kernel
theorem dX2_init_104 : decode cX2_init 104 = .ok (.aload_n 0, 1) := by decide +kernel
theorem dX2_init_105 : decode cX2_init 105 = .ok (.bipush 100, 2) := by decide +kernel
theorem dX2_init_107 : decode cX2_init 107 = .ok (.newarray .int, 2) := by decide +kernel
theorem dX2_init_109 : decode cX2_init 109 = .ok (.putfield 46, 3) := by decide +kernel
theorem dX2_init_112 : decode cX2_init 112 = .ok (.aload_n 0, 1) := by decide +kernel
theorem dX2_init_113 : decode cX2_init 113 = .ok (.bipush 100, 2) := by decide +kernel
theorem dX2_init_115 : decode cX2_init 115 = .ok (.newarray .int, 2) := by decide +kernel
theorem dX2_init_117 : decode cX2_init 117 = .ok (.putfield 49, 3) := by decide +kernel
theorem dX2_init_120 : decode cX2_init 120 = .ok (.aload_n 0, 1) := by decide +kernel
theorem dX2_init_121 : decode cX2_init 121 = .ok (.bipush 100, 2) := by decide +kernel
theorem dX2_init_123 : decode cX2_init 123 = .ok (.newarray .int, 2) := by decide +kernel
theorem dX2_init_125 : decode cX2_init 125 = .ok (.putfield 52, 3) := by decide +kernel
theorem dX2_init_128 : decode cX2_init 128 = .ok (.aload_n 0, 1) := by decide +kernel
theorem dX2_init_129 : decode cX2_init 129 = .ok (.bipush 100, 2) := by decide +kernel
theorem dX2_init_131 : decode cX2_init 131 = .ok (.newarray .int, 2) := by decide +kernel
theorem dX2_init_133 : decode cX2_init 133 = .ok (.putfield 55, 3) := by decide +kernel
theorem dX2_init_136 : decode cX2_init 136 = .ok (.return_, 1) := by decide +kernel
theorem dX2_thrown_0 : decode cX2_thrown 0 = .ok (.aload_n 0, 1) := by decide +kernel
theorem dX2_thrown_1 : decode cX2_thrown 1 = .ok (.getfield 58, 3) := by decide +kernel
theorem dX2_thrown_4 : decode cX2_thrown 4 = .ok (.ireturn, 1) := by decide +kernel
theorem dX2_bad_0 : decode cX2_bad 0 = .ok (.iload_n 1, 1) := by decide +kernel
theorem dX2_bad_1 : decode cX2_bad 1 = .ok (.ifCond .eq 8, 3) := by decide +kernel
theorem dX2_bad_4 : decode cX2_bad 4 = .ok (.aload_n 0, 1) := by decide +kernel
theorem dX2_bad_5 : decode cX2_bad 5 = .ok (.iload_n 2, 1) := by decide +kernel
theorem dX2_bad_6 : decode cX2_bad 6 = .ok (.putfield 58, 3) := by decide +kernel
theorem dX2_bad_9 : decode cX2_bad 9 = .ok (.iload_n 1, 1) := by decide +kernel
theorem dX2_bad_10 : decode cX2_bad 10 = .ok (.ireturn, 1) := by decide +kernel
theorem dX2_teach_0 : decode cX2_teach 0 = .ok (.aload_n 0, 1) := by decide +kernel
theorem dX2_teach_1 : decode cX2_teach 1 = .ok (.iconst 0, 1) := by decide +kernel
theorem dX2_teach_2 : decode cX2_teach 2 = .ok (.putfield 58, 3) := by decide +kernel
theorem dX2_teach_5 : decode cX2_teach 5 = .ok (.iload_n 1, 1) := by decide +kernel
theorem dX2_teach_6 : decode cX2_teach 6 = .ok (.ifCond .lt 21, 3) := by decide +kernel
theorem dX2_teach_9 : decode cX2_teach 9 = .ok (.iload_n 1, 1) := by decide +kernel
theorem dX2_teach_10 : decode cX2_teach 10 = .ok (.bipush 12, 2) := by decide +kernel
theorem dX2_teach_12 : decode cX2_teach 12 = .ok (.if_icmp .ge 15, 3) := by decide +kernel
theorem dX2_teach_15 : decode cX2_teach 15 = .ok (.iload_n 2, 1) := by decide +kernel
theorem dX2_teach_16 : decode cX2_teach 16 = .ok (.ldc 62, 2) := by decide +kernel
theorem dX2_teach_18 : decode cX2_teach 18 = .ok (.if_icmp .lt 9, 3) := by decide +kernel
theorem dX2_teach_21 : decode cX2_teach 21 = .ok (.iload_n 2, 1) := by decide +kernel
theorem dX2_teach_22 : decode cX2_teach 22 = .ok (.ldc 63, 2) := by decide +kernel
theorem dX2_teach_24 : decode cX2_teach 24 = .ok (.if_icmp .le 7, 3) := by decide +kernel
theorem dX2_teach_27 : decode cX2_teach 27 = .ok (.iconst 1, 1) := by decide +kernel
theorem dX2_teach_28 : decode cX2_teach 28 = .ok (.goto 4, 3) := by decide +kernel
theorem dX2_teach_31 : decode cX2_teach 31 = .ok (.iconst 0, 1) := by decide +kernel
theorem dX2_teach_32 : decode cX2_teach 32 = .ok (.istore_n 3, 1) := by decide +kernel
theorem dX2_teach_33 : decode cX2_teach 33 = .ok (.iload_n 2, 1) := by decide +kernel
theorem dX2_teach_34 : decode cX2_teach 34 = .ok (.istore 4, 2) := by decide +kernel
theorem dX2_teach_36 : decode cX2_teach 36 = .ok (.iconst 0, 1) := by decide +kernel
theorem dX2_teach_37 : decode cX2_teach 37 = .ok (.istore 5, 2) := by decide +kernel
theorem dX2_teach_39 : decode cX2_teach 39 = .ok (.iload 5, 2) := by decide +kernel
theorem dX2_teach_41 : decode cX2_teach 41 = .ok (.bipush 6, 2) := by decide +kernel
theorem dX2_teach_43 : decode cX2_teach 43 = .ok (.if_icmp .ge 44, 3) := by decide +kernel
theorem dX2_teach_46 : decode cX2_teach 46 = .ok (.iload_n 3, 1) := by decide +kernel
theorem dX2_teach_47 : decode cX2_teach 47 = .ok (.ifCond .ne 40, 3) := by decide +kernel
theorem dX2_teach_50 : decode cX2_teach 50 = .ok (.iload 4, 2) := by decide +kernel
theorem dX2_teach_52 : decode cX2_teach 52 = .ok (.bipush 10, 2) := by decide +kernel
theorem dX2_teach_54 : decode cX2_teach 54 = .ok (.irem, 1) := by decide +kernel
theorem dX2_teach_55 : decode cX2_teach 55 = .ok (.iconst 1, 1) := by decide +kernel
theorem dX2_teach_56 : decode cX2_teach 56 = .ok (.if_icmp .lt 12, 3) := by decide +kernel
theorem dX2_teach_59 : decode cX2_teach 59 = .ok (.iload 4, 2) := by decide +kernel
theorem dX2_teach_61 : decode cX2_teach 61 = .ok (.bipush 10, 2) := by decide +kernel
theorem dX2_teach_63 : decode cX2_teach 63 = .ok (.irem, 1) := by decide +kernel
theorem dX2_teach_64 : decode cX2_teach 64 = .ok (.iconst 3, 1) := by decide +kernel
theorem dX2_teach_65 : decode cX2_teach 65 = .ok (.if_icmp .le 7, 3) := by decide +kernel
theorem dX2_teach_68 : decode cX2_teach 68 = .ok (.iconst 1, 1) := by decide +kernel
theorem dX2_teach_69 : decode cX2_teach 69 = .ok (.goto 4, 3) := by decide +kernel
theorem dX2_teach_72 : decode cX2_teach 72 = .ok (.iconst 0, 1) := by decide +kernel
theorem dX2_teach_73 : decode cX2_teach 73 = .ok (.istore_n 3, 1) := by decide +kernel
theorem dX2_teach_74 : decode cX2_teach 74 = .ok (.iload 4, 2) := by decide +kernel
theorem dX2_teach_76 : decode cX2_teach 76 = .ok (.bipush 10, 2) := by decide +kernel
theorem dX2_teach_78 : decode cX2_teach 78 = .ok (.idiv, 1) := by decide +kernel
theorem dX2_teach_79 : decode cX2_teach 79 = .ok (.istore 4, 2) := by decide +kernel
theorem dX2_teach_81 : decode cX2_teach 81 = .ok (.iinc 5 1, 3) := by decide +kernel
theorem dX2_teach_84 : decode cX2_teach 84 = .ok (.goto (-45), 3) := by decide +kernel
theorem dX2_teach_87 : decode cX2_teach 87 = .ok (.aload_n 0, 1) := by decide +kernel
theorem dX2_teach_88 : decode cX2_teach 88 = .ok (.iload_n 3, 1) := by decide +kernel
theorem dX2_teach_89 : decode cX2_teach 89 = .ok (.iconst 1, 1) := by decide +kernel
theorem dX2_teach_90 : decode cX2_teach 90 = .ok (.invokevirtual 64, 3) := by decide +kernel
theorem dX2_teach_93 : decode cX2_teach 93 = .ok (.ifCond .eq 5, 3) := by decide +kernel
theorem dX2_teach_96 : decode cX2_teach 96 = .ok (.iconst 0, 1) := by decide +kernel
theorem dX2_teach_97 : decode cX2_teach 97 = .ok (.ireturn, 1) := by decide +kernel
theorem dX2_teach_98 : decode cX2_teach 98 = .ok (.aload_n 0, 1) := by decide +kernel
theorem dX2_teach_99 : decode cX2_teach 99 = .ok (.getfield 9, 3) := by decide +kernel
theorem dX2_teach_102 : decode cX2_teach 102 = .ok (.iload_n 1, 1) := by decide +kernel
theorem dX2_teach_103 : decode cX2_teach 103 = .ok (.iaload, 1) := by decide +kernel
theorem dX2_teach_104 : decode cX2_teach 104 = .ok (.iload_n 2, 1) := by decide +kernel
theorem dX2_teach_105 : decode cX2_teach 105 = .ok (.if_icmp .ne 7, 3) := by decide +kernel
theorem dX2_teach_108 : decode cX2_teach 108 = .ok (.iconst 0, 1) := by decide +kernel
theorem dX2_teach_109 : decode cX2_teach 109 = .ok (.goto 4, 3) := by decide +kernel
theorem dX2_teach_112 : decode cX2_teach 112 = .ok (.iconst 1, 1) := by decide +kernel
theorem dX2_teach_113 : decode cX2_teach 113 = .ok (.istore 4, 2) := by decide +kernel
theorem dX2_teach_115 : decode cX2_teach 115 = .ok (.aload_n 0, 1) := by decide +kernel
theorem dX2_teach_116 : decode cX2_teach 116 = .ok (.getfield 9, 3) := by decide +kernel
theorem dX2_teach_119 : decode cX2_teach 119 = .ok (.iload_n 1, 1) := by decide +kernel
theorem dX2_teach_120 : decode cX2_teach 120 = .ok (.iload_n 2, 1) := by decide +kernel
theorem dX2_teach_121 : decode cX2_teach 121 = .ok (.iastore, 1) := by decide +kernel
theorem dX2_teach_122 : decode cX2_teach 122 = .ok (.iload 4, 2) := by decide +kernel
theorem dX2_teach_124 : decode cX2_teach 124 = .ok (.ireturn, 1) := by decide +kernel
theorem dX2_tick_0 : decode cX2_tick 0 = .ok (.aload_n 0, 1) := by decide +kernel
theorem dX2_tick_1 : decode cX2_tick 1 = .ok (.iconst 0, 1) := by decide +kernel
theorem dX2_tick_2 : decode cX2_tick 2 = .ok (.putfield 58, 3) := by decide +kernel
theorem dX2_tick_5 : decode cX2_tick 5 = .ok (.aload_n 0, 1) := by decide +kernel
theorem dX2_tick_6 : decode cX2_tick 6 = .ok (.iload_n 1, 1) := by decide +kernel
theorem dX2_tick_7 : decode cX2_tick 7 = .ok (.iconst 1, 1) := by decide +kernel
theorem dX2_tick_8 : decode cX2_tick 8 = .ok (.if_icmp .lt 9, 3) := by decide +kernel
theorem dX2_tick_11 : decode cX2_tick 11 = .ok (.iload_n 1, 1) := by decide +kernel
theorem dX2_tick_12 : decode cX2_tick 12 = .ok (.bipush 60, 2) := by decide +kernel
theorem dX2_tick_14 : decode cX2_tick 14 = .ok (.if_icmp .le 7, 3) := by decide +kernel
theorem dX2_tick_17 : decode cX2_tick 17 = .ok (.iconst 1, 1) := by decide +kernel
theorem dX2_tick_18 : decode cX2_tick 18 = .ok (.goto 4, 3) := by decide +kernel
theorem dX2_tick_21 : decode cX2_tick 21 = .ok (.iconst 0, 1) := by decide +kernel
theorem dX2_tick_22 : decode cX2_tick 22 = .ok (.iconst 1, 1) := by decide +kernel
theorem dX2_tick_23 : decode cX2_tick 23 = .ok (.invokevirtual 64, 3) := by decide +kernel
theorem dX2_tick_26 : decode cX2_tick 26 = .ok (.ifCond .eq 5, 3) := by decide +kernel
theorem dX2_tick_29 : decode cX2_tick 29 = .ok (.iconst 0, 1) := by decide +kernel
theorem dX2_tick_30 : decode cX2_tick 30 = .ok (.ireturn, 1) := by decide +kernel
theorem dX2_tick_31 : decode cX2_tick 31 = .ok (.aload_n 0, 1) := by decide +kernel
theorem dX2_tick_32 : decode cX2_tick 32 = .ok (.getfield 68, 3) := by decide +kernel
theorem dX2_tick_35 : decode cX2_tick 35 = .ok (.bipush 120, 2) := by decide +kernel
theorem dX2_tick_37 : decode cX2_tick 37 = .ok (.if_icmp .ne 5, 3) := by decide +kernel
theorem dX2_tick_40 : decode cX2_tick 40 = .ok (.iconst (-1), 1) := by decide +kernel
theorem dX2_tick_41 : decode cX2_tick 41 = .ok (.ireturn, 1) := by decide +kernel
theorem dX2_tick_42 : decode cX2_tick 42 = .ok (.aload_n 0, 1) := by decide +kernel
theorem dX2_tick_43 : decode cX2_tick 43 = .ok (.getfield 13, 3) := by decide +kernel
theorem dX2_tick_46 : decode cX2_tick 46 = .ok (.aload_n 0, 1) := by decide +kernel
theorem dX2_tick_47 : decode cX2_tick 47 = .ok (.getfield 68, 3) := by decide +kernel
theorem dX2_tick_50 : decode cX2_tick 50 = .ok (.iload_n 1, 1) := by decide +kernel
theorem dX2_tick_51 : decode cX2_tick 51 = .ok (.iastore, 1) := by decide +kernel
theorem dX2_tick_52 : decode cX2_tick 52 = .ok (.aload_n 0, 1) := by decide +kernel
theorem dX2_tick_53 : decode cX2_tick 53 = .ok (.dup, 1) := by decide +kernel
theorem dX2_tick_54 : decode cX2_tick 54 = .ok (.getfield 68, 3) := by decide +kernel
theorem dX2_tick_57 : decode cX2_tick 57 = .ok (.iconst 1, 1) := by decide +kernel
theorem dX2_tick_58 : decode cX2_tick 58 = .ok (.iadd, 1) := by decide +kernel
theorem dX2_tick_59 : decode cX2_tick 59 = .ok (.putfield 68, 3) := by decide +kernel
theorem dX2_tick_62 : decode cX2_tick 62 = .ok (.aload_n 0, 1) := by decide +kernel
theorem dX2_tick_63 : decode cX2_tick 63 = .ok (.getfield 68, 3) := by decide +kernel
theorem dX2_tick_66 : decode cX2_tick 66 = .ok (.ireturn, 1) := by decide +kernel
theorem dX2_cell_0 : decode cX2_cell 0 = .ok (.bipush 12, 2) := by decide +kernel
theorem dX2_cell_2 : decode cX2_cell 2 = .ok (.iload_n 0, 1) := by decide +kernel
theorem dX2_cell_3 : decode cX2_cell 3 = .ok (.imul, 1) := by decide +kernel
theorem dX2_cell_4 : decode cX2_cell 4 = .ok (.iload_n 1, 1) := by decide +kernel
theorem dX2_cell_5 : decode cX2_cell 5 = .ok (.iadd, 1) := by decide +kernel
theorem dX2_cell_6 : decode cX2_cell 6 = .ok (.bipush 9, 2) := by decide +kernel
theorem dX2_cell_8 : decode cX2_cell 8 = .ok (.imul, 1) := by decide +kernel
theorem dX2_cell_9 : decode cX2_cell 9 = .ok (.iload_n 2, 1) := by decide +kernel
theorem dX2_cell_10 : decode cX2_cell 10 = .ok (.iadd, 1) := by decide +kernel
theorem dX2_cell_11 : decode cX2_cell 11 = .ok (.ireturn, 1) := by decide +kernel
theorem dX2_costOf_0 : decode cX2_costOf 0 = .ok (.iconst 0, 1) := by decide +kernel
theorem dX2_costOf_1 : decode cX2_costOf 1 = .ok (.istore 5, 2) := by decide +kernel
theorem dX2_costOf_3 : decode cX2_costOf 3 = .ok (.aload_n 0, 1) := by decide +kernel
theorem dX2_costOf_4 : decode cX2_costOf 4 = .ok (.getfield 9, 3) := by decide +kernel
theorem dX2_costOf_7 : decode cX2_costOf 7 = .ok (.iload_n 2, 1) := by decide +kernel
theorem dX2_costOf_8 : decode cX2_costOf 8 = .ok (.iaload, 1) := by decide +kernel
theorem dX2_costOf_9 : decode cX2_costOf 9 = .ok (.istore 6, 2) := by decide +kernel
theorem dX2_costOf_11 : decode cX2_costOf 11 = .ok (.iconst 5, 1) := by decide +kernel
theorem dX2_costOf_12 : decode cX2_costOf 12 = .ok (.istore 7, 2) := by decide +kernel
theorem dX2_costOf_14 : decode cX2_costOf 14 = .ok (.iload 7, 2) := by decide +kernel
theorem dX2_costOf_16 : decode cX2_costOf 16 = .ok (.ifCond .lt 79, 3) := by decide +kernel
theorem dX2_costOf_19 : decode cX2_costOf 19 = .ok (.bipush 6, 2) := by decide +kernel
theorem dX2_costOf_21 : decode cX2_costOf 21 = .ok (.iload_n 1, 1) := by decide +kernel
theorem dX2_costOf_22 : decode cX2_costOf 22 = .ok (.imul, 1) := by decide +kernel
theorem dX2_costOf_23 : decode cX2_costOf 23 = .ok (.iload 7, 2) := by decide +kernel
theorem dX2_costOf_25 : decode cX2_costOf 25 = .ok (.iadd, 1) := by decide +kernel
theorem dX2_costOf_26 : decode cX2_costOf 26 = .ok (.istore 8, 2) := by decide +kernel
theorem dX2_costOf_28 : decode cX2_costOf 28 = .ok (.aload_n 0, 1) := by decide +kernel
theorem dX2_costOf_29 : decode cX2_costOf 29 = .ok (.getfield 13, 3) := by decide +kernel
theorem dX2_costOf_32 : decode cX2_costOf 32 = .ok (.iload 4, 2) := by decide +kernel
theorem dX2_costOf_34 : decode cX2_costOf 34 = .ok (.ifCond .eq 15, 3) := by decide +kernel
theorem dX2_costOf_37 : decode cX2_costOf 37 = .ok (.aload_n 0, 1) := by decide +kernel
theorem dX2_costOf_38 : decode cX2_costOf 38 = .ok (.getfield 68, 3) := by decide +kernel
theorem dX2_costOf_41 : decode cX2_costOf 41 = .ok (.iconst 1, 1) := by decide +kernel
theorem dX2_costOf_42 : decode cX2_costOf 42 = .ok (.isub, 1) := by decide +kernel
theorem dX2_costOf_43 : decode cX2_costOf 43 = .ok (.iload 8, 2) := by decide +kernel
theorem dX2_costOf_45 : decode cX2_costOf 45 = .ok (.isub, 1) := by decide +kernel
theorem dX2_costOf_46 : decode cX2_costOf 46 = .ok (.goto 5, 3) := by decide +kernel
theorem dX2_costOf_49 : decode cX2_costOf 49 = .ok (.iload 8, 2) := by decide +kernel
theorem dX2_costOf_51 : decode cX2_costOf 51 = .ok (.iaload, 1) := by decide +kernel
theorem dX2_costOf_52 : decode cX2_costOf 52 = .ok (.iconst 4, 1) := by decide +kernel
theorem dX2_costOf_53 : decode cX2_costOf 53 = .ok (.iload_n 3, 1) := by decide +kernel
theorem dX2_costOf_54 : decode cX2_costOf 54 = .ok (.iadd, 1) := by decide +kernel
theorem dX2_costOf_55 : decode cX2_costOf 55 = .ok (.iload 6, 2) := by decide +kernel
theorem dX2_costOf_57 : decode cX2_costOf 57 = .ok (.bipush 10, 2) := by decide +kernel
theorem dX2_costOf_59 : decode cX2_costOf 59 = .ok (.irem, 1) := by decide +kernel
theorem dX2_costOf_60 : decode cX2_costOf 60 = .ok (.imul, 1) := by decide +kernel
theorem dX2_costOf_61 : decode cX2_costOf 61 = .ok (.isub, 1) := by decide +kernel
theorem dX2_costOf_62 : decode cX2_costOf 62 = .ok (.istore 9, 2) := by decide +kernel
theorem dX2_costOf_64 : decode cX2_costOf 64 = .ok (.iload 5, 2) := by decide +kernel
theorem dX2_costOf_66 : decode cX2_costOf 66 = .ok (.iload 9, 2) := by decide +kernel
theorem dX2_costOf_68 : decode cX2_costOf 68 = .ok (.ifCond .ge 9, 3) := by decide +kernel
theorem dX2_costOf_71 : decode cX2_costOf 71 = .ok (.iload 9, 2) := by decide +kernel
theorem dX2_costOf_73 : decode cX2_costOf 73 = .ok (.ineg, 1) := by decide +kernel
theorem dX2_costOf_74 : decode cX2_costOf 74 = .ok (.goto 5, 3) := by decide +kernel
theorem dX2_costOf_77 : decode cX2_costOf 77 = .ok (.iload 9, 2) := by decide +kernel
theorem dX2_costOf_79 : decode cX2_costOf 79 = .ok (.iadd, 1) := by decide +kernel
theorem dX2_costOf_80 : decode cX2_costOf 80 = .ok (.istore 5, 2) := by decide +kernel
theorem dX2_costOf_82 : decode cX2_costOf 82 = .ok (.iload 6, 2) := by decide +kernel
theorem dX2_costOf_84 : decode cX2_costOf 84 = .ok (.bipush 10, 2) := by decide +kernel
theorem dX2_costOf_86 : decode cX2_costOf 86 = .ok (.idiv, 1) := by decide +kernel
theorem dX2_costOf_87 : decode cX2_costOf 87 = .ok (.istore 6, 2) := by decide +kernel
theorem dX2_costOf_89 : decode cX2_costOf 89 = .ok (.iinc 7 (-1), 3) := by decide +kernel
theorem dX2_costOf_92 : decode cX2_costOf 92 = .ok (.goto (-78), 3) := by decide +kernel
theorem dX2_costOf_95 : decode cX2_costOf 95 = .ok (.iload 5, 2) := by decide +kernel
theorem dX2_costOf_97 : decode cX2_costOf 97 = .ok (.ireturn, 1) := by decide +kernel
theorem dX2_fills_0 : decode cX2_fills 0 = .ok (.iconst 0, 1) := by decide +kernel
theorem dX2_fills_1 : decode cX2_fills 1 = .ok (.istore_n 2, 1) := by decide +kernel
theorem dX2_fills_2 : decode cX2_fills 2 = .ok (.iload_n 2, 1) := by decide +kernel
theorem dX2_fills_3 : decode cX2_fills 3 = .ok (.aload_n 0, 1) := by decide +kernel
theorem dX2_fills_4 : decode cX2_fills 4 = .ok (.getfield 71, 3) := by decide +kernel
theorem dX2_fills_7 : decode cX2_fills 7 = .ok (.if_icmp .ge 60, 3) := by decide +kernel
theorem dX2_fills_10 : decode cX2_fills 10 = .ok (.iconst 0, 1) := by decide +kernel
theorem dX2_fills_11 : decode cX2_fills 11 = .ok (.istore_n 3, 1) := by decide +kernel
theorem dX2_fills_12 : decode cX2_fills 12 = .ok (.iload_n 3, 1) := by decide +kernel
theorem dX2_fills_13 : decode cX2_fills 13 = .ok (.bipush 12, 2) := by decide +kernel
theorem dX2_fills_15 : decode cX2_fills 15 = .ok (.if_icmp .ge 46, 3) := by decide +kernel
theorem dX2_fills_18 : decode cX2_fills 18 = .ok (.iconst 0, 1) := by decide +kernel
theorem dX2_fills_19 : decode cX2_fills 19 = .ok (.istore 4, 2) := by decide +kernel
theorem dX2_fills_21 : decode cX2_fills 21 = .ok (.iload 4, 2) := by decide +kernel
theorem dX2_fills_23 : decode cX2_fills 23 = .ok (.bipush 9, 2) := by decide +kernel
theorem dX2_fills_25 : decode cX2_fills 25 = .ok (.if_icmp .ge 30, 3) := by decide +kernel
theorem dX2_fills_28 : decode cX2_fills 28 = .ok (.aload_n 0, 1) := by decide +kernel
theorem dX2_fills_29 : decode cX2_fills 29 = .ok (.getfield 16, 3) := by decide +kernel
theorem dX2_fills_32 : decode cX2_fills 32 = .ok (.iload_n 2, 1) := by decide +kernel
theorem dX2_fills_33 : decode cX2_fills 33 = .ok (.iload_n 3, 1) := by decide +kernel
theorem dX2_fills_34 : decode cX2_fills 34 = .ok (.iload 4, 2) := by decide +kernel
theorem dX2_fills_36 : decode cX2_fills 36 = .ok (.invokestatic 74, 3) := by decide +kernel
theorem dX2_fills_39 : decode cX2_fills 39 = .ok (.aload_n 0, 1) := by decide +kernel
theorem dX2_fills_40 : decode cX2_fills 40 = .ok (.iload_n 2, 1) := by decide +kernel
theorem dX2_fills_41 : decode cX2_fills 41 = .ok (.iload_n 3, 1) := by decide +kernel
theorem dX2_fills_42 : decode cX2_fills 42 = .ok (.iload 4, 2) := by decide +kernel
theorem dX2_fills_44 : decode cX2_fills 44 = .ok (.iload_n 1, 1) := by decide +kernel
theorem dX2_fills_45 : decode cX2_fills 45 = .ok (.invokevirtual 78, 3) := by decide +kernel
theorem dX2_fills_48 : decode cX2_fills 48 = .ok (.iastore, 1) := by decide +kernel
theorem dX2_fills_49 : decode cX2_fills 49 = .ok (.iinc 4 1, 3) := by decide +kernel
theorem dX2_fills_52 : decode cX2_fills 52 = .ok (.goto (-31), 3) := by decide +kernel
theorem dX2_fills_55 : decode cX2_fills 55 = .ok (.iinc 3 1, 3) := by decide +kernel
theorem dX2_fills_58 : decode cX2_fills 58 = .ok (.goto (-46), 3) := by decide +kernel
theorem dX2_fills_61 : decode cX2_fills 61 = .ok (.iinc 2 1, 3) := by decide +kernel
theorem dX2_fills_64 : decode cX2_fills 64 = .ok (.goto (-62), 3) := by decide +kernel
theorem dX2_fills_67 : decode cX2_fills 67 = .ok (.return_, 1) := by decide +kernel
theorem dX2_near_0 : decode cX2_near 0 = .ok (.aload_n 0, 1) := by decide +kernel
theorem dX2_near_1 : decode cX2_near 1 = .ok (.iload_n 1, 1) := by decide +kernel
theorem dX2_near_2 : decode cX2_near 2 = .ok (.iload_n 2, 1) := by decide +kernel
theorem dX2_near_3 : decode cX2_near 3 = .ok (.iadd, 1) := by decide +kernel
theorem dX2_near_4 : decode cX2_near 4 = .ok (.iaload, 1) := by decide +kernel
theorem dX2_near_5 : decode cX2_near 5 = .ok (.istore_n 3, 1) := by decide +kernel
theorem dX2_near_6 : decode cX2_near 6 = .ok (.iload_n 2, 1) := by decide +kernel
theorem dX2_near_7 : decode cX2_near 7 = .ok (.ifCond .le 22, 3) := by decide +kernel
theorem dX2_near_10 : decode cX2_near 10 = .ok (.aload_n 0, 1) := by decide +kernel
theorem dX2_near_11 : decode cX2_near 11 = .ok (.iload_n 1, 1) := by decide +kernel
theorem dX2_near_12 : decode cX2_near 12 = .ok (.iload_n 2, 1) := by decide +kernel
theorem dX2_near_13 : decode cX2_near 13 = .ok (.iadd, 1) := by decide +kernel
theorem dX2_near_14 : decode cX2_near 14 = .ok (.iconst 1, 1) := by decide +kernel
theorem dX2_near_15 : decode cX2_near 15 = .ok (.isub, 1) := by decide +kernel
theorem dX2_near_16 : decode cX2_near 16 = .ok (.iaload, 1) := by decide +kernel
theorem dX2_near_17 : decode cX2_near 17 = .ok (.iload_n 3, 1) := by decide +kernel
theorem dX2_near_18 : decode cX2_near 18 = .ok (.if_icmp .ge 11, 3) := by decide +kernel
theorem dX2_near_21 : decode cX2_near 21 = .ok (.aload_n 0, 1) := by decide +kernel
theorem dX2_near_22 : decode cX2_near 22 = .ok (.iload_n 1, 1) := by decide +kernel
theorem dX2_near_23 : decode cX2_near 23 = .ok (.iload_n 2, 1) := by decide +kernel
theorem dX2_near_24 : decode cX2_near 24 = .ok (.iadd, 1) := by decide +kernel
theorem dX2_near_25 : decode cX2_near 25 = .ok (.iconst 1, 1) := by decide +kernel
theorem dX2_near_26 : decode cX2_near 26 = .ok (.isub, 1) := by decide +kernel
theorem dX2_near_27 : decode cX2_near 27 = .ok (.iaload, 1) := by decide +kernel
theorem dX2_near_28 : decode cX2_near 28 = .ok (.istore_n 3, 1) := by decide +kernel
theorem dX2_near_29 : decode cX2_near 29 = .ok (.iload_n 2, 1) := by decide +kernel
theorem dX2_near_30 : decode cX2_near 30 = .ok (.bipush 8, 2) := by decide +kernel
theorem dX2_near_32 : decode cX2_near 32 = .ok (.if_icmp .ge 22, 3) := by decide +kernel
theorem dX2_near_35 : decode cX2_near 35 = .ok (.aload_n 0, 1) := by decide +kernel
theorem dX2_near_36 : decode cX2_near 36 = .ok (.iload_n 1, 1) := by decide +kernel
theorem dX2_near_37 : decode cX2_near 37 = .ok (.iload_n 2, 1) := by decide +kernel
theorem dX2_near_38 : decode cX2_near 38 = .ok (.iadd, 1) := by decide +kernel
theorem dX2_near_39 : decode cX2_near 39 = .ok (.iconst 1, 1) := by decide +kernel
theorem dX2_near_40 : decode cX2_near 40 = .ok (.iadd, 1) := by decide +kernel
theorem dX2_near_41 : decode cX2_near 41 = .ok (.iaload, 1) := by decide +kernel
theorem dX2_near_42 : decode cX2_near 42 = .ok (.iload_n 3, 1) := by decide +kernel
theorem dX2_near_43 : decode cX2_near 43 = .ok (.if_icmp .ge 11, 3) := by decide +kernel
theorem dX2_near_46 : decode cX2_near 46 = .ok (.aload_n 0, 1) := by decide +kernel
theorem dX2_near_47 : decode cX2_near 47 = .ok (.iload_n 1, 1) := by decide +kernel
theorem dX2_near_48 : decode cX2_near 48 = .ok (.iload_n 2, 1) := by decide +kernel
theorem dX2_near_49 : decode cX2_near 49 = .ok (.iadd, 1) := by decide +kernel
theorem dX2_near_50 : decode cX2_near 50 = .ok (.iconst 1, 1) := by decide +kernel
theorem dX2_near_51 : decode cX2_near 51 = .ok (.iadd, 1) := by decide +kernel
theorem dX2_near_52 : decode cX2_near 52 = .ok (.iaload, 1) := by decide +kernel
theorem dX2_near_53 : decode cX2_near 53 = .ok (.istore_n 3, 1) := by decide +kernel
theorem dX2_near_54 : decode cX2_near 54 = .ok (.iload_n 3, 1) := by decide +kernel
theorem dX2_near_55 : decode cX2_near 55 = .ok (.ireturn, 1) := by decide +kernel
theorem dX2_cheapest_0 : decode cX2_cheapest 0 = .ok (.ldc 82, 2) := by decide +kernel
theorem dX2_cheapest_2 : decode cX2_cheapest 2 = .ok (.istore_n 3, 1) := by decide +kernel
theorem dX2_cheapest_3 : decode cX2_cheapest 3 = .ok (.iconst 0, 1) := by decide +kernel
theorem dX2_cheapest_4 : decode cX2_cheapest 4 = .ok (.istore 4, 2) := by decide +kernel
theorem dX2_cheapest_6 : decode cX2_cheapest 6 = .ok (.iload 4, 2) := by decide +kernel
theorem dX2_cheapest_8 : decode cX2_cheapest 8 = .ok (.bipush 12, 2) := by decide +kernel
theorem dX2_cheapest_10 : decode cX2_cheapest 10 = .ok (.if_icmp .ge 42, 3) := by decide +kernel
theorem dX2_cheapest_13 : decode cX2_cheapest 13 = .ok (.aload_n 0, 1) := by decide +kernel
theorem dX2_cheapest_14 : decode cX2_cheapest 14 = .ok (.getfield 16, 3) := by decide +kernel
theorem dX2_cheapest_17 : decode cX2_cheapest 17 = .ok (.iload_n 1, 1) := by decide +kernel
theorem dX2_cheapest_18 : decode cX2_cheapest 18 = .ok (.iload 4, 2) := by decide +kernel
theorem dX2_cheapest_20 : decode cX2_cheapest 20 = .ok (.iload_n 2, 1) := by decide +kernel
theorem dX2_cheapest_21 : decode cX2_cheapest 21 = .ok (.invokestatic 74, 3) := by decide +kernel
theorem dX2_cheapest_24 : decode cX2_cheapest 24 = .ok (.iaload, 1) := by decide +kernel
theorem dX2_cheapest_25 : decode cX2_cheapest 25 = .ok (.iload_n 3, 1) := by decide +kernel
theorem dX2_cheapest_26 : decode cX2_cheapest 26 = .ok (.if_icmp .ge 18, 3) := by decide +kernel
theorem dX2_cheapest_29 : decode cX2_cheapest 29 = .ok (.aload_n 0, 1) := by decide +kernel
theorem dX2_cheapest_30 : decode cX2_cheapest 30 = .ok (.getfield 16, 3) := by decide +kernel
theorem dX2_cheapest_33 : decode cX2_cheapest 33 = .ok (.iload_n 1, 1) := by decide +kernel
theorem dX2_cheapest_34 : decode cX2_cheapest 34 = .ok (.iload 4, 2) := by decide +kernel
theorem dX2_cheapest_36 : decode cX2_cheapest 36 = .ok (.iload_n 2, 1) := by decide +kernel
theorem dX2_cheapest_37 : decode cX2_cheapest 37 = .ok (.invokestatic 74, 3) := by decide +kernel
theorem dX2_cheapest_40 : decode cX2_cheapest 40 = .ok (.iaload, 1) := by decide +kernel
theorem dX2_cheapest_41 : decode cX2_cheapest 41 = .ok (.goto 4, 3) := by decide +kernel
theorem dX2_cheapest_44 : decode cX2_cheapest 44 = .ok (.iload_n 3, 1) := by decide +kernel
theorem dX2_cheapest_45 : decode cX2_cheapest 45 = .ok (.istore_n 3, 1) := by decide +kernel
theorem dX2_cheapest_46 : decode cX2_cheapest 46 = .ok (.iinc 4 1, 3) := by decide +kernel
theorem dX2_cheapest_49 : decode cX2_cheapest 49 = .ok (.goto (-43), 3) := by decide +kernel
theorem dX2_cheapest_52 : decode cX2_cheapest 52 = .ok (.iload_n 3, 1) := by decide +kernel
theorem dX2_cheapest_53 : decode cX2_cheapest 53 = .ok (.ireturn, 1) := by decide +kernel
theorem dX2_sums_0 : decode cX2_sums 0 = .ok (.iconst 0, 1) := by decide +kernel
theorem dX2_sums_1 : decode cX2_sums 1 = .ok (.istore_n 1, 1) := by decide +kernel
theorem dX2_sums_2 : decode cX2_sums 2 = .ok (.iload_n 1, 1) := by decide +kernel
theorem dX2_sums_3 : decode cX2_sums 3 = .ok (.bipush 9, 2) := by decide +kernel
theorem dX2_sums_5 : decode cX2_sums 5 = .ok (.if_icmp .ge 24, 3) := by decide +kernel
theorem dX2_sums_8 : decode cX2_sums 8 = .ok (.aload_n 0, 1) := by decide +kernel
theorem dX2_sums_9 : decode cX2_sums 9 = .ok (.getfield 22, 3) := by decide +kernel
theorem dX2_sums_12 : decode cX2_sums 12 = .ok (.bipush 9, 2) := by decide +kernel
theorem dX2_sums_14 : decode cX2_sums 14 = .ok (.aload_n 0, 1) := by decide +kernel
theorem dX2_sums_15 : decode cX2_sums 15 = .ok (.getfield 71, 3) := by decide +kernel
theorem dX2_sums_18 : decode cX2_sums 18 = .ok (.imul, 1) := by decide +kernel
theorem dX2_sums_19 : decode cX2_sums 19 = .ok (.iload_n 1, 1) := by decide +kernel
theorem dX2_sums_20 : decode cX2_sums 20 = .ok (.iadd, 1) := by decide +kernel
theorem dX2_sums_21 : decode cX2_sums 21 = .ok (.iconst 0, 1) := by decide +kernel
theorem dX2_sums_22 : decode cX2_sums 22 = .ok (.iastore, 1) := by decide +kernel
theorem dX2_sums_23 : decode cX2_sums 23 = .ok (.iinc 1 1, 3) := by decide +kernel
theorem dX2_sums_26 : decode cX2_sums 26 = .ok (.goto (-24), 3) := by decide +kernel
theorem dX2_sums_29 : decode cX2_sums 29 = .ok (.aload_n 0, 1) := by decide +kernel
theorem dX2_sums_30 : decode cX2_sums 30 = .ok (.getfield 71, 3) := by decide +kernel
theorem dX2_sums_33 : decode cX2_sums 33 = .ok (.iconst 1, 1) := by decide +kernel
theorem dX2_sums_34 : decode cX2_sums 34 = .ok (.isub, 1) := by decide +kernel
theorem dX2_sums_35 : decode cX2_sums 35 = .ok (.istore_n 1, 1) := by decide +kernel
theorem dX2_sums_36 : decode cX2_sums 36 = .ok (.iload_n 1, 1) := by decide +kernel
theorem dX2_sums_37 : decode cX2_sums 37 = .ok (.ifCond .lt 55, 3) := by decide +kernel
theorem dX2_sums_40 : decode cX2_sums 40 = .ok (.iconst 0, 1) := by decide +kernel
theorem dX2_sums_41 : decode cX2_sums 41 = .ok (.istore_n 2, 1) := by decide +kernel
theorem dX2_sums_42 : decode cX2_sums 42 = .ok (.iload_n 2, 1) := by decide +kernel
theorem dX2_sums_43 : decode cX2_sums 43 = .ok (.bipush 9, 2) := by decide +kernel
theorem dX2_sums_45 : decode cX2_sums 45 = .ok (.if_icmp .ge 41, 3) := by decide +kernel
theorem dX2_sums_48 : decode cX2_sums 48 = .ok (.aload_n 0, 1) := by decide +kernel
theorem dX2_sums_49 : decode cX2_sums 49 = .ok (.getfield 22, 3) := by decide +kernel
theorem dX2_sums_52 : decode cX2_sums 52 = .ok (.bipush 9, 2) := by decide +kernel
theorem dX2_sums_54 : decode cX2_sums 54 = .ok (.iload_n 1, 1) := by decide +kernel
theorem dX2_sums_55 : decode cX2_sums 55 = .ok (.imul, 1) := by decide +kernel
theorem dX2_sums_56 : decode cX2_sums 56 = .ok (.iload_n 2, 1) := by decide +kernel
theorem dX2_sums_57 : decode cX2_sums 57 = .ok (.iadd, 1) := by decide +kernel
theorem dX2_sums_58 : decode cX2_sums 58 = .ok (.aload_n 0, 1) := by decide +kernel
theorem dX2_sums_59 : decode cX2_sums 59 = .ok (.iload_n 1, 1) := by decide +kernel
theorem dX2_sums_60 : decode cX2_sums 60 = .ok (.iload_n 2, 1) := by decide +kernel
theorem dX2_sums_61 : decode cX2_sums 61 = .ok (.invokevirtual 83, 3) := by decide +kernel
theorem dX2_sums_64 : decode cX2_sums 64 = .ok (.aload_n 0, 1) := by decide +kernel
theorem dX2_sums_65 : decode cX2_sums 65 = .ok (.getfield 22, 3) := by decide +kernel
theorem dX2_sums_68 : decode cX2_sums 68 = .ok (.bipush 9, 2) := by decide +kernel
theorem dX2_sums_70 : decode cX2_sums 70 = .ok (.iload_n 1, 1) := by decide +kernel
theorem dX2_sums_71 : decode cX2_sums 71 = .ok (.iconst 1, 1) := by decide +kernel
theorem dX2_sums_72 : decode cX2_sums 72 = .ok (.iadd, 1) := by decide +kernel
theorem dX2_sums_73 : decode cX2_sums 73 = .ok (.imul, 1) := by decide +kernel
theorem dX2_sums_74 : decode cX2_sums 74 = .ok (.iload_n 2, 1) := by decide +kernel
theorem dX2_sums_75 : decode cX2_sums 75 = .ok (.invokestatic 87, 3) := by decide +kernel
theorem dX2_sums_78 : decode cX2_sums 78 = .ok (.iadd, 1) := by decide +kernel
theorem dX2_sums_79 : decode cX2_sums 79 = .ok (.iastore, 1) := by decide +kernel
theorem dX2_sums_80 : decode cX2_sums 80 = .ok (.iinc 2 1, 3) := by decide +kernel
theorem dX2_sums_83 : decode cX2_sums 83 = .ok (.goto (-41), 3) := by decide +kernel
theorem dX2_sums_86 : decode cX2_sums 86 = .ok (.iinc 1 (-1), 3) := by decide +kernel
theorem dX2_sums_89 : decode cX2_sums 89 = .ok (.goto (-53), 3) := by decide +kernel
theorem dX2_sums_92 : decode cX2_sums 92 = .ok (.iconst 0, 1) := by decide +kernel
theorem dX2_sums_93 : decode cX2_sums 93 = .ok (.istore_n 1, 1) := by decide +kernel
theorem dX2_sums_94 : decode cX2_sums 94 = .ok (.iload_n 1, 1) := by decide +kernel
theorem dX2_sums_95 : decode cX2_sums 95 = .ok (.aload_n 0, 1) := by decide +kernel
theorem dX2_sums_96 : decode cX2_sums 96 = .ok (.getfield 71, 3) := by decide +kernel
theorem dX2_sums_99 : decode cX2_sums 99 = .ok (.if_icmp .ge 63, 3) := by decide +kernel
theorem dX2_sums_102 : decode cX2_sums 102 = .ok (.iconst 0, 1) := by decide +kernel
theorem dX2_sums_103 : decode cX2_sums 103 = .ok (.istore_n 2, 1) := by decide +kernel
theorem dX2_sums_104 : decode cX2_sums 104 = .ok (.iload_n 2, 1) := by decide +kernel
theorem dX2_sums_105 : decode cX2_sums 105 = .ok (.bipush 9, 2) := by decide +kernel
theorem dX2_sums_107 : decode cX2_sums 107 = .ok (.if_icmp .ge 49, 3) := by decide +kernel
theorem dX2_sums_110 : decode cX2_sums 110 = .ok (.aload_n 0, 1) := by decide +kernel
theorem dX2_sums_111 : decode cX2_sums 111 = .ok (.getfield 25, 3) := by decide +kernel
theorem dX2_sums_114 : decode cX2_sums 114 = .ok (.bipush 9, 2) := by decide +kernel
theorem dX2_sums_116 : decode cX2_sums 116 = .ok (.iload_n 1, 1) := by decide +kernel
theorem dX2_sums_117 : decode cX2_sums 117 = .ok (.imul, 1) := by decide +kernel
theorem dX2_sums_118 : decode cX2_sums 118 = .ok (.iload_n 2, 1) := by decide +kernel
theorem dX2_sums_119 : decode cX2_sums 119 = .ok (.iadd, 1) := by decide +kernel
theorem dX2_sums_120 : decode cX2_sums 120 = .ok (.aload_n 0, 1) := by decide +kernel
theorem dX2_sums_121 : decode cX2_sums 121 = .ok (.iload_n 1, 1) := by decide +kernel
theorem dX2_sums_122 : decode cX2_sums 122 = .ok (.iload_n 2, 1) := by decide +kernel
theorem dX2_sums_123 : decode cX2_sums 123 = .ok (.invokevirtual 83, 3) := by decide +kernel
theorem dX2_sums_126 : decode cX2_sums 126 = .ok (.iload_n 1, 1) := by decide +kernel
theorem dX2_sums_127 : decode cX2_sums 127 = .ok (.ifCond .ne 7, 3) := by decide +kernel
theorem dX2_sums_130 : decode cX2_sums 130 = .ok (.iconst 0, 1) := by decide +kernel
theorem dX2_sums_131 : decode cX2_sums 131 = .ok (.goto 17, 3) := by decide +kernel
theorem dX2_sums_134 : decode cX2_sums 134 = .ok (.aload_n 0, 1) := by decide +kernel
theorem dX2_sums_135 : decode cX2_sums 135 = .ok (.getfield 25, 3) := by decide +kernel
theorem dX2_sums_138 : decode cX2_sums 138 = .ok (.bipush 9, 2) := by decide +kernel
theorem dX2_sums_140 : decode cX2_sums 140 = .ok (.iload_n 1, 1) := by decide +kernel
theorem dX2_sums_141 : decode cX2_sums 141 = .ok (.iconst 1, 1) := by decide +kernel
theorem dX2_sums_142 : decode cX2_sums 142 = .ok (.isub, 1) := by decide +kernel
theorem dX2_sums_143 : decode cX2_sums 143 = .ok (.imul, 1) := by decide +kernel
theorem dX2_sums_144 : decode cX2_sums 144 = .ok (.iload_n 2, 1) := by decide +kernel
theorem dX2_sums_145 : decode cX2_sums 145 = .ok (.invokestatic 87, 3) := by decide +kernel
theorem dX2_sums_148 : decode cX2_sums 148 = .ok (.iadd, 1) := by decide +kernel
theorem dX2_sums_149 : decode cX2_sums 149 = .ok (.iastore, 1) := by decide +kernel
theorem dX2_sums_150 : decode cX2_sums 150 = .ok (.iinc 2 1, 3) := by decide +kernel
theorem dX2_sums_153 : decode cX2_sums 153 = .ok (.goto (-49), 3) := by decide +kernel
theorem dX2_sums_156 : decode cX2_sums 156 = .ok (.iinc 1 1, 3) := by decide +kernel
theorem dX2_sums_159 : decode cX2_sums 159 = .ok (.goto (-65), 3) := by decide +kernel
theorem dX2_sums_162 : decode cX2_sums 162 = .ok (.ldc 82, 2) := by decide +kernel
theorem dX2_sums_164 : decode cX2_sums 164 = .ok (.istore_n 1, 1) := by decide +kernel
theorem dX2_sums_165 : decode cX2_sums 165 = .ok (.iconst 0, 1) := by decide +kernel
theorem dX2_sums_166 : decode cX2_sums 166 = .ok (.istore_n 2, 1) := by decide +kernel
theorem dX2_sums_167 : decode cX2_sums 167 = .ok (.iload_n 2, 1) := by decide +kernel
theorem dX2_sums_168 : decode cX2_sums 168 = .ok (.bipush 9, 2) := by decide +kernel
theorem dX2_sums_170 : decode cX2_sums 170 = .ok (.if_icmp .ge 30, 3) := by decide +kernel
theorem dX2_sums_173 : decode cX2_sums 173 = .ok (.aload_n 0, 1) := by decide +kernel
theorem dX2_sums_174 : decode cX2_sums 174 = .ok (.getfield 22, 3) := by decide +kernel
theorem dX2_sums_177 : decode cX2_sums 177 = .ok (.iload_n 2, 1) := by decide +kernel
theorem dX2_sums_178 : decode cX2_sums 178 = .ok (.iaload, 1) := by decide +kernel
theorem dX2_sums_179 : decode cX2_sums 179 = .ok (.iload_n 1, 1) := by decide +kernel
theorem dX2_sums_180 : decode cX2_sums 180 = .ok (.if_icmp .ge 12, 3) := by decide +kernel
theorem dX2_sums_183 : decode cX2_sums 183 = .ok (.aload_n 0, 1) := by decide +kernel
theorem dX2_sums_184 : decode cX2_sums 184 = .ok (.getfield 22, 3) := by decide +kernel
theorem dX2_sums_187 : decode cX2_sums 187 = .ok (.iload_n 2, 1) := by decide +kernel
theorem dX2_sums_188 : decode cX2_sums 188 = .ok (.iaload, 1) := by decide +kernel
theorem dX2_sums_189 : decode cX2_sums 189 = .ok (.goto 4, 3) := by decide +kernel
theorem dX2_sums_192 : decode cX2_sums 192 = .ok (.iload_n 1, 1) := by decide +kernel
theorem dX2_sums_193 : decode cX2_sums 193 = .ok (.istore_n 1, 1) := by decide +kernel
theorem dX2_sums_194 : decode cX2_sums 194 = .ok (.iinc 2 1, 3) := by decide +kernel
theorem dX2_sums_197 : decode cX2_sums 197 = .ok (.goto (-30), 3) := by decide +kernel
theorem dX2_sums_200 : decode cX2_sums 200 = .ok (.iload_n 1, 1) := by decide +kernel
theorem dX2_sums_201 : decode cX2_sums 201 = .ok (.ireturn, 1) := by decide +kernel
