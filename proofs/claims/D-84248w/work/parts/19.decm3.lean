set_option maxRecDepth 100000
theorem dX2_about_0 : decode cX2_about 0 = .ok (.aload_n 0, 1) := by decide +kernel
theorem dX2_about_1 : decode cX2_about 1 = .ok (.iconst 0, 1) := by decide +kernel
theorem dX2_about_2 : decode cX2_about 2 = .ok (.putfield 58, 3) := by decide +kernel
theorem dX2_about_5 : decode cX2_about 5 = .ok (.aload_n 0, 1) := by decide +kernel
theorem dX2_about_6 : decode cX2_about 6 = .ok (.iload_n 1, 1) := by decide +kernel
theorem dX2_about_7 : decode cX2_about 7 = .ok (.ifCond .lt 8, 3) := by decide +kernel
theorem dX2_about_10 : decode cX2_about 10 = .ok (.iload_n 1, 1) := by decide +kernel
theorem dX2_about_11 : decode cX2_about 11 = .ok (.iconst 4, 1) := by decide +kernel
theorem dX2_about_12 : decode cX2_about 12 = .ok (.if_icmp .le 7, 3) := by decide +kernel
theorem dX2_about_15 : decode cX2_about 15 = .ok (.iconst 1, 1) := by decide +kernel
theorem dX2_about_16 : decode cX2_about 16 = .ok (.goto 4, 3) := by decide +kernel
theorem dX2_about_19 : decode cX2_about 19 = .ok (.iconst 0, 1) := by decide +kernel
theorem dX2_about_20 : decode cX2_about 20 = .ok (.iconst 1, 1) := by decide +kernel
theorem dX2_about_21 : decode cX2_about 21 = .ok (.invokevirtual 64, 3) := by decide +kernel
theorem dX2_about_24 : decode cX2_about 24 = .ok (.ifCond .eq 5, 3) := by decide +kernel
theorem dX2_about_27 : decode cX2_about 27 = .ok (.iconst 0, 1) := by decide +kernel
theorem dX2_about_28 : decode cX2_about 28 = .ok (.ireturn, 1) := by decide +kernel
theorem dX2_about_29 : decode cX2_about 29 = .ok (.aload_n 0, 1) := by decide +kernel
theorem dX2_about_30 : decode cX2_about 30 = .ok (.getfield 123, 3) := by decide +kernel
theorem dX2_about_33 : decode cX2_about 33 = .ok (.ifCond .ne 5, 3) := by decide +kernel
theorem dX2_about_36 : decode cX2_about 36 = .ok (.iconst (-1), 1) := by decide +kernel
theorem dX2_about_37 : decode cX2_about 37 = .ok (.ireturn, 1) := by decide +kernel
theorem dX2_about_38 : decode cX2_about 38 = .ok (.iload_n 1, 1) := by decide +kernel
theorem dX2_about_39 : decode cX2_about 39 = .ok (.ifCond .ne 10, 3) := by decide +kernel
theorem dX2_about_42 : decode cX2_about 42 = .ok (.aload_n 0, 1) := by decide +kernel
theorem dX2_about_43 : decode cX2_about 43 = .ok (.getfield 120, 3) := by decide +kernel
theorem dX2_about_46 : decode cX2_about 46 = .ok (.goto 59, 3) := by decide +kernel
theorem dX2_about_49 : decode cX2_about 49 = .ok (.iload_n 1, 1) := by decide +kernel
theorem dX2_about_50 : decode cX2_about 50 = .ok (.iconst 1, 1) := by decide +kernel
theorem dX2_about_51 : decode cX2_about 51 = .ok (.if_icmp .ne 10, 3) := by decide +kernel
theorem dX2_about_54 : decode cX2_about 54 = .ok (.aload_n 0, 1) := by decide +kernel
theorem dX2_about_55 : decode cX2_about 55 = .ok (.getfield 106, 3) := by decide +kernel
theorem dX2_about_58 : decode cX2_about 58 = .ok (.goto 47, 3) := by decide +kernel
theorem dX2_about_61 : decode cX2_about 61 = .ok (.iload_n 1, 1) := by decide +kernel
theorem dX2_about_62 : decode cX2_about 62 = .ok (.iconst 2, 1) := by decide +kernel
theorem dX2_about_63 : decode cX2_about 63 = .ok (.if_icmp .ne 10, 3) := by decide +kernel
theorem dX2_about_66 : decode cX2_about 66 = .ok (.aload_n 0, 1) := by decide +kernel
theorem dX2_about_67 : decode cX2_about 67 = .ok (.getfield 117, 3) := by decide +kernel
theorem dX2_about_70 : decode cX2_about 70 = .ok (.goto 35, 3) := by decide +kernel
theorem dX2_about_73 : decode cX2_about 73 = .ok (.iload_n 1, 1) := by decide +kernel
theorem dX2_about_74 : decode cX2_about 74 = .ok (.iconst 3, 1) := by decide +kernel
theorem dX2_about_75 : decode cX2_about 75 = .ok (.if_icmp .ne 18, 3) := by decide +kernel
theorem dX2_about_78 : decode cX2_about 78 = .ok (.aload_n 0, 1) := by decide +kernel
theorem dX2_about_79 : decode cX2_about 79 = .ok (.getfield 102, 3) := by decide +kernel
theorem dX2_about_82 : decode cX2_about 82 = .ok (.ifCond .eq 7, 3) := by decide +kernel
theorem dX2_about_85 : decode cX2_about 85 = .ok (.iconst 1, 1) := by decide +kernel
theorem dX2_about_86 : decode cX2_about 86 = .ok (.goto 19, 3) := by decide +kernel
theorem dX2_about_89 : decode cX2_about 89 = .ok (.iconst 0, 1) := by decide +kernel
theorem dX2_about_90 : decode cX2_about 90 = .ok (.goto 15, 3) := by decide +kernel
theorem dX2_about_93 : decode cX2_about 93 = .ok (.aload_n 0, 1) := by decide +kernel
theorem dX2_about_94 : decode cX2_about 94 = .ok (.invokevirtual 129, 3) := by decide +kernel
theorem dX2_about_97 : decode cX2_about 97 = .ok (.ifCond .eq 7, 3) := by decide +kernel
theorem dX2_about_100 : decode cX2_about 100 = .ok (.iconst 1, 1) := by decide +kernel
theorem dX2_about_101 : decode cX2_about 101 = .ok (.goto 4, 3) := by decide +kernel
theorem dX2_about_104 : decode cX2_about 104 = .ok (.iconst 0, 1) := by decide +kernel
theorem dX2_about_105 : decode cX2_about 105 = .ok (.ireturn, 1) := by decide +kernel
theorem dX2_fits_0 : decode cX2_fits 0 = .ok (.aload_n 0, 1) := by decide +kernel
theorem dX2_fits_1 : decode cX2_fits 1 = .ok (.getfield 123, 3) := by decide +kernel
theorem dX2_fits_4 : decode cX2_fits 4 = .ok (.ifCond .eq 12, 3) := by decide +kernel
theorem dX2_fits_7 : decode cX2_fits 7 = .ok (.aload_n 0, 1) := by decide +kernel
theorem dX2_fits_8 : decode cX2_fits 8 = .ok (.getfield 120, 3) := by decide +kernel
theorem dX2_fits_11 : decode cX2_fits 11 = .ok (.bipush 18, 2) := by decide +kernel
theorem dX2_fits_13 : decode cX2_fits 13 = .ok (.if_icmp .eq 5, 3) := by decide +kernel
theorem dX2_fits_16 : decode cX2_fits 16 = .ok (.iconst 0, 1) := by decide +kernel
theorem dX2_fits_17 : decode cX2_fits 17 = .ok (.ireturn, 1) := by decide +kernel
theorem dX2_fits_18 : decode cX2_fits 18 = .ok (.aload_n 0, 1) := by decide +kernel
theorem dX2_fits_19 : decode cX2_fits 19 = .ok (.getfield 28, 3) := by decide +kernel
theorem dX2_fits_22 : decode cX2_fits 22 = .ok (.iconst 0, 1) := by decide +kernel
theorem dX2_fits_23 : decode cX2_fits 23 = .ok (.iaload, 1) := by decide +kernel
theorem dX2_fits_24 : decode cX2_fits 24 = .ok (.bipush 10, 2) := by decide +kernel
theorem dX2_fits_26 : decode cX2_fits 26 = .ok (.if_icmp .ne 68, 3) := by decide +kernel
theorem dX2_fits_29 : decode cX2_fits 29 = .ok (.aload_n 0, 1) := by decide +kernel
theorem dX2_fits_30 : decode cX2_fits 30 = .ok (.getfield 28, 3) := by decide +kernel
theorem dX2_fits_33 : decode cX2_fits 33 = .ok (.iconst 5, 1) := by decide +kernel
theorem dX2_fits_34 : decode cX2_fits 34 = .ok (.iaload, 1) := by decide +kernel
theorem dX2_fits_35 : decode cX2_fits 35 = .ok (.bipush 11, 2) := by decide +kernel
theorem dX2_fits_37 : decode cX2_fits 37 = .ok (.if_icmp .ne 57, 3) := by decide +kernel
theorem dX2_fits_40 : decode cX2_fits 40 = .ok (.aload_n 0, 1) := by decide +kernel
theorem dX2_fits_41 : decode cX2_fits 41 = .ok (.getfield 28, 3) := by decide +kernel
theorem dX2_fits_44 : decode cX2_fits 44 = .ok (.bipush 12, 2) := by decide +kernel
theorem dX2_fits_46 : decode cX2_fits 46 = .ok (.iaload, 1) := by decide +kernel
theorem dX2_fits_47 : decode cX2_fits 47 = .ok (.bipush 11, 2) := by decide +kernel
theorem dX2_fits_49 : decode cX2_fits 49 = .ok (.if_icmp .ne 45, 3) := by decide +kernel
theorem dX2_fits_52 : decode cX2_fits 52 = .ok (.aload_n 0, 1) := by decide +kernel
theorem dX2_fits_53 : decode cX2_fits 53 = .ok (.getfield 28, 3) := by decide +kernel
theorem dX2_fits_56 : decode cX2_fits 56 = .ok (.bipush 17, 2) := by decide +kernel
theorem dX2_fits_58 : decode cX2_fits 58 = .ok (.iaload, 1) := by decide +kernel
theorem dX2_fits_59 : decode cX2_fits 59 = .ok (.bipush 10, 2) := by decide +kernel
theorem dX2_fits_61 : decode cX2_fits 61 = .ok (.if_icmp .ne 33, 3) := by decide +kernel
theorem dX2_fits_64 : decode cX2_fits 64 = .ok (.aload_n 0, 1) := by decide +kernel
theorem dX2_fits_65 : decode cX2_fits 65 = .ok (.iconst 1, 1) := by decide +kernel
theorem dX2_fits_66 : decode cX2_fits 66 = .ok (.iconst 4, 1) := by decide +kernel
theorem dX2_fits_67 : decode cX2_fits 67 = .ok (.invokevirtual 126, 3) := by decide +kernel
theorem dX2_fits_70 : decode cX2_fits 70 = .ok (.ifCond .lt 24, 3) := by decide +kernel
theorem dX2_fits_73 : decode cX2_fits 73 = .ok (.aload_n 0, 1) := by decide +kernel
theorem dX2_fits_74 : decode cX2_fits 74 = .ok (.bipush 6, 2) := by decide +kernel
theorem dX2_fits_76 : decode cX2_fits 76 = .ok (.bipush 6, 2) := by decide +kernel
theorem dX2_fits_78 : decode cX2_fits 78 = .ok (.invokevirtual 126, 3) := by decide +kernel
theorem dX2_fits_81 : decode cX2_fits 81 = .ok (.ifCond .lt 13, 3) := by decide +kernel
theorem dX2_fits_84 : decode cX2_fits 84 = .ok (.aload_n 0, 1) := by decide +kernel
theorem dX2_fits_85 : decode cX2_fits 85 = .ok (.bipush 13, 2) := by decide +kernel
theorem dX2_fits_87 : decode cX2_fits 87 = .ok (.iconst 4, 1) := by decide +kernel
theorem dX2_fits_88 : decode cX2_fits 88 = .ok (.invokevirtual 126, 3) := by decide +kernel
theorem dX2_fits_91 : decode cX2_fits 91 = .ok (.ifCond .ge 5, 3) := by decide +kernel
theorem dX2_fits_94 : decode cX2_fits 94 = .ok (.iconst 0, 1) := by decide +kernel
theorem dX2_fits_95 : decode cX2_fits 95 = .ok (.ireturn, 1) := by decide +kernel
theorem dX2_fits_96 : decode cX2_fits 96 = .ok (.bipush 7, 2) := by decide +kernel
theorem dX2_fits_98 : decode cX2_fits 98 = .ok (.aload_n 0, 1) := by decide +kernel
theorem dX2_fits_99 : decode cX2_fits 99 = .ok (.getfield 28, 3) := by decide +kernel
theorem dX2_fits_102 : decode cX2_fits 102 = .ok (.bipush 6, 2) := by decide +kernel
theorem dX2_fits_104 : decode cX2_fits 104 = .ok (.iaload, 1) := by decide +kernel
theorem dX2_fits_105 : decode cX2_fits 105 = .ok (.imul, 1) := by decide +kernel
theorem dX2_fits_106 : decode cX2_fits 106 = .ok (.iconst 3, 1) := by decide +kernel
theorem dX2_fits_107 : decode cX2_fits 107 = .ok (.aload_n 0, 1) := by decide +kernel
theorem dX2_fits_108 : decode cX2_fits 108 = .ok (.getfield 28, 3) := by decide +kernel
theorem dX2_fits_111 : decode cX2_fits 111 = .ok (.bipush 7, 2) := by decide +kernel
theorem dX2_fits_113 : decode cX2_fits 113 = .ok (.iaload, 1) := by decide +kernel
theorem dX2_fits_114 : decode cX2_fits 114 = .ok (.imul, 1) := by decide +kernel
theorem dX2_fits_115 : decode cX2_fits 115 = .ok (.iadd, 1) := by decide +kernel
theorem dX2_fits_116 : decode cX2_fits 116 = .ok (.aload_n 0, 1) := by decide +kernel
theorem dX2_fits_117 : decode cX2_fits 117 = .ok (.getfield 28, 3) := by decide +kernel
theorem dX2_fits_120 : decode cX2_fits 120 = .ok (.bipush 8, 2) := by decide +kernel
theorem dX2_fits_122 : decode cX2_fits 122 = .ok (.iaload, 1) := by decide +kernel
theorem dX2_fits_123 : decode cX2_fits 123 = .ok (.iadd, 1) := by decide +kernel
theorem dX2_fits_124 : decode cX2_fits 124 = .ok (.bipush 7, 2) := by decide +kernel
theorem dX2_fits_126 : decode cX2_fits 126 = .ok (.aload_n 0, 1) := by decide +kernel
theorem dX2_fits_127 : decode cX2_fits 127 = .ok (.getfield 28, 3) := by decide +kernel
theorem dX2_fits_130 : decode cX2_fits 130 = .ok (.bipush 9, 2) := by decide +kernel
theorem dX2_fits_132 : decode cX2_fits 132 = .ok (.iaload, 1) := by decide +kernel
theorem dX2_fits_133 : decode cX2_fits 133 = .ok (.imul, 1) := by decide +kernel
theorem dX2_fits_134 : decode cX2_fits 134 = .ok (.iadd, 1) := by decide +kernel
theorem dX2_fits_135 : decode cX2_fits 135 = .ok (.iconst 3, 1) := by decide +kernel
theorem dX2_fits_136 : decode cX2_fits 136 = .ok (.aload_n 0, 1) := by decide +kernel
theorem dX2_fits_137 : decode cX2_fits 137 = .ok (.getfield 28, 3) := by decide +kernel
theorem dX2_fits_140 : decode cX2_fits 140 = .ok (.bipush 10, 2) := by decide +kernel
theorem dX2_fits_142 : decode cX2_fits 142 = .ok (.iaload, 1) := by decide +kernel
theorem dX2_fits_143 : decode cX2_fits 143 = .ok (.imul, 1) := by decide +kernel
theorem dX2_fits_144 : decode cX2_fits 144 = .ok (.iadd, 1) := by decide +kernel
theorem dX2_fits_145 : decode cX2_fits 145 = .ok (.aload_n 0, 1) := by decide +kernel
theorem dX2_fits_146 : decode cX2_fits 146 = .ok (.getfield 28, 3) := by decide +kernel
theorem dX2_fits_149 : decode cX2_fits 149 = .ok (.bipush 11, 2) := by decide +kernel
theorem dX2_fits_151 : decode cX2_fits 151 = .ok (.iaload, 1) := by decide +kernel
theorem dX2_fits_152 : decode cX2_fits 152 = .ok (.iadd, 1) := by decide +kernel
theorem dX2_fits_153 : decode cX2_fits 153 = .ok (.bipush 10, 2) := by decide +kernel
theorem dX2_fits_155 : decode cX2_fits 155 = .ok (.irem, 1) := by decide +kernel
theorem dX2_fits_156 : decode cX2_fits 156 = .ok (.ifCond .ne 7, 3) := by decide +kernel
theorem dX2_fits_159 : decode cX2_fits 159 = .ok (.iconst 1, 1) := by decide +kernel
theorem dX2_fits_160 : decode cX2_fits 160 = .ok (.goto 4, 3) := by decide +kernel
theorem dX2_fits_163 : decode cX2_fits 163 = .ok (.iconst 0, 1) := by decide +kernel
theorem dX2_fits_164 : decode cX2_fits 164 = .ok (.ireturn, 1) := by decide +kernel
theorem dX2_place_0 : decode cX2_place 0 = .ok (.aload_n 0, 1) := by decide +kernel
theorem dX2_place_1 : decode cX2_place 1 = .ok (.iconst 0, 1) := by decide +kernel
theorem dX2_place_2 : decode cX2_place 2 = .ok (.putfield 58, 3) := by decide +kernel
theorem dX2_place_5 : decode cX2_place 5 = .ok (.aload_n 0, 1) := by decide +kernel
theorem dX2_place_6 : decode cX2_place 6 = .ok (.iload_n 2, 1) := by decide +kernel
theorem dX2_place_7 : decode cX2_place 7 = .ok (.ifCond .lt 8, 3) := by decide +kernel
theorem dX2_place_10 : decode cX2_place 10 = .ok (.iload_n 2, 1) := by decide +kernel
theorem dX2_place_11 : decode cX2_place 11 = .ok (.iconst 1, 1) := by decide +kernel
theorem dX2_place_12 : decode cX2_place 12 = .ok (.if_icmp .le 7, 3) := by decide +kernel
theorem dX2_place_15 : decode cX2_place 15 = .ok (.iconst 1, 1) := by decide +kernel
theorem dX2_place_16 : decode cX2_place 16 = .ok (.goto 4, 3) := by decide +kernel
theorem dX2_place_19 : decode cX2_place 19 = .ok (.iconst 0, 1) := by decide +kernel
theorem dX2_place_20 : decode cX2_place 20 = .ok (.iconst 1, 1) := by decide +kernel
theorem dX2_place_21 : decode cX2_place 21 = .ok (.invokevirtual 64, 3) := by decide +kernel
theorem dX2_place_24 : decode cX2_place 24 = .ok (.ifCond .eq 5, 3) := by decide +kernel
theorem dX2_place_27 : decode cX2_place 27 = .ok (.iconst 0, 1) := by decide +kernel
theorem dX2_place_28 : decode cX2_place 28 = .ok (.ireturn, 1) := by decide +kernel
theorem dX2_place_29 : decode cX2_place 29 = .ok (.aload_n 0, 1) := by decide +kernel
theorem dX2_place_30 : decode cX2_place 30 = .ok (.getfield 123, 3) := by decide +kernel
theorem dX2_place_33 : decode cX2_place 33 = .ok (.ifCond .eq 15, 3) := by decide +kernel
theorem dX2_place_36 : decode cX2_place 36 = .ok (.iload_n 1, 1) := by decide +kernel
theorem dX2_place_37 : decode cX2_place 37 = .ok (.ifCond .lt 11, 3) := by decide +kernel
theorem dX2_place_40 : decode cX2_place 40 = .ok (.iload_n 1, 1) := by decide +kernel
theorem dX2_place_41 : decode cX2_place 41 = .ok (.aload_n 0, 1) := by decide +kernel
theorem dX2_place_42 : decode cX2_place 42 = .ok (.getfield 120, 3) := by decide +kernel
theorem dX2_place_45 : decode cX2_place 45 = .ok (.if_icmp .lt 5, 3) := by decide +kernel
theorem dX2_place_48 : decode cX2_place 48 = .ok (.iconst (-1), 1) := by decide +kernel
theorem dX2_place_49 : decode cX2_place 49 = .ok (.ireturn, 1) := by decide +kernel
theorem dX2_place_50 : decode cX2_place 50 = .ok (.iload_n 2, 1) := by decide +kernel
theorem dX2_place_51 : decode cX2_place 51 = .ok (.ifCond .ne 12, 3) := by decide +kernel
theorem dX2_place_54 : decode cX2_place 54 = .ok (.aload_n 0, 1) := by decide +kernel
theorem dX2_place_55 : decode cX2_place 55 = .ok (.getfield 28, 3) := by decide +kernel
theorem dX2_place_58 : decode cX2_place 58 = .ok (.iload_n 1, 1) := by decide +kernel
theorem dX2_place_59 : decode cX2_place 59 = .ok (.iaload, 1) := by decide +kernel
theorem dX2_place_60 : decode cX2_place 60 = .ok (.goto 11, 3) := by decide +kernel
theorem dX2_place_63 : decode cX2_place 63 = .ok (.iconst 4, 1) := by decide +kernel
theorem dX2_place_64 : decode cX2_place 64 = .ok (.aload_n 0, 1) := by decide +kernel
theorem dX2_place_65 : decode cX2_place 65 = .ok (.getfield 31, 3) := by decide +kernel
theorem dX2_place_68 : decode cX2_place 68 = .ok (.iload_n 1, 1) := by decide +kernel
theorem dX2_place_69 : decode cX2_place 69 = .ok (.iaload, 1) := by decide +kernel
theorem dX2_place_70 : decode cX2_place 70 = .ok (.iadd, 1) := by decide +kernel
theorem dX2_place_71 : decode cX2_place 71 = .ok (.ireturn, 1) := by decide +kernel
theorem dX2_field_0 : decode cX2_field 0 = .ok (.aload_n 0, 1) := by decide +kernel
theorem dX2_field_1 : decode cX2_field 1 = .ok (.iconst 0, 1) := by decide +kernel
theorem dX2_field_2 : decode cX2_field 2 = .ok (.putfield 58, 3) := by decide +kernel
theorem dX2_field_5 : decode cX2_field 5 = .ok (.aload_n 0, 1) := by decide +kernel
theorem dX2_field_6 : decode cX2_field 6 = .ok (.iload_n 1, 1) := by decide +kernel
theorem dX2_field_7 : decode cX2_field 7 = .ok (.ifCond .lt 8, 3) := by decide +kernel
theorem dX2_field_10 : decode cX2_field 10 = .ok (.iload_n 1, 1) := by decide +kernel
theorem dX2_field_11 : decode cX2_field 11 = .ok (.iconst 2, 1) := by decide +kernel
theorem dX2_field_12 : decode cX2_field 12 = .ok (.if_icmp .le 7, 3) := by decide +kernel
theorem dX2_field_15 : decode cX2_field 15 = .ok (.iconst 1, 1) := by decide +kernel
theorem dX2_field_16 : decode cX2_field 16 = .ok (.goto 4, 3) := by decide +kernel
theorem dX2_field_19 : decode cX2_field 19 = .ok (.iconst 0, 1) := by decide +kernel
theorem dX2_field_20 : decode cX2_field 20 = .ok (.iconst 1, 1) := by decide +kernel
theorem dX2_field_21 : decode cX2_field 21 = .ok (.invokevirtual 64, 3) := by decide +kernel
theorem dX2_field_24 : decode cX2_field 24 = .ok (.ifCond .eq 5, 3) := by decide +kernel
theorem dX2_field_27 : decode cX2_field 27 = .ok (.iconst 0, 1) := by decide +kernel
theorem dX2_field_28 : decode cX2_field 28 = .ok (.ireturn, 1) := by decide +kernel
theorem dX2_field_29 : decode cX2_field 29 = .ok (.aload_n 0, 1) := by decide +kernel
theorem dX2_field_30 : decode cX2_field 30 = .ok (.invokevirtual 129, 3) := by decide +kernel
theorem dX2_field_33 : decode cX2_field 33 = .ok (.ifCond .eq 11, 3) := by decide +kernel
theorem dX2_field_36 : decode cX2_field 36 = .ok (.aload_n 0, 1) := by decide +kernel
theorem dX2_field_37 : decode cX2_field 37 = .ok (.iload_n 1, 1) := by decide +kernel
theorem dX2_field_38 : decode cX2_field 38 = .ok (.invokevirtual 133, 3) := by decide +kernel
theorem dX2_field_41 : decode cX2_field 41 = .ok (.goto 4, 3) := by decide +kernel
theorem dX2_field_44 : decode cX2_field 44 = .ok (.iconst (-1), 1) := by decide +kernel
theorem dX2_field_45 : decode cX2_field 45 = .ok (.ireturn, 1) := by decide +kernel
theorem dX2_others_0 : decode cX2_others 0 = .ok (.aload_n 0, 1) := by decide +kernel
theorem dX2_others_1 : decode cX2_others 1 = .ok (.iconst 0, 1) := by decide +kernel
theorem dX2_others_2 : decode cX2_others 2 = .ok (.putfield 58, 3) := by decide +kernel
theorem dX2_others_5 : decode cX2_others 5 = .ok (.aload_n 0, 1) := by decide +kernel
theorem dX2_others_6 : decode cX2_others 6 = .ok (.sipush 1000, 3) := by decide +kernel
theorem dX2_others_9 : decode cX2_others 9 = .ok (.invokevirtual 142, 3) := by decide +kernel
theorem dX2_others_12 : decode cX2_others 12 = .ok (.ireturn, 1) := by decide +kernel
theorem dX2_finds_0 : decode cX2_finds 0 = .ok (.iconst 0, 1) := by decide +kernel
theorem dX2_finds_1 : decode cX2_finds 1 = .ok (.istore_n 2, 1) := by decide +kernel
theorem dX2_finds_2 : decode cX2_finds 2 = .ok (.aload_n 0, 1) := by decide +kernel
theorem dX2_finds_3 : decode cX2_finds 3 = .ok (.getfield 123, 3) := by decide +kernel
theorem dX2_finds_6 : decode cX2_finds 6 = .ok (.ifCond .eq 12, 3) := by decide +kernel
theorem dX2_finds_9 : decode cX2_finds 9 = .ok (.aload_n 0, 1) := by decide +kernel
theorem dX2_finds_10 : decode cX2_finds 10 = .ok (.getfield 120, 3) := by decide +kernel
theorem dX2_finds_13 : decode cX2_finds 13 = .ok (.bipush 18, 2) := by decide +kernel
theorem dX2_finds_15 : decode cX2_finds 15 = .ok (.if_icmp .eq 5, 3) := by decide +kernel
theorem dX2_finds_18 : decode cX2_finds 18 = .ok (.iconst 0, 1) := by decide +kernel
theorem dX2_finds_19 : decode cX2_finds 19 = .ok (.ireturn, 1) := by decide +kernel
theorem dX2_finds_20 : decode cX2_finds 20 = .ok (.iconst 0, 1) := by decide +kernel
theorem dX2_finds_21 : decode cX2_finds 21 = .ok (.istore_n 3, 1) := by decide +kernel
theorem dX2_finds_22 : decode cX2_finds 22 = .ok (.iload_n 3, 1) := by decide +kernel
theorem dX2_finds_23 : decode cX2_finds 23 = .ok (.bipush 18, 2) := by decide +kernel
theorem dX2_finds_25 : decode cX2_finds 25 = .ok (.if_icmp .ge 96, 3) := by decide +kernel
theorem dX2_finds_28 : decode cX2_finds 28 = .ok (.aload_n 0, 1) := by decide +kernel
theorem dX2_finds_29 : decode cX2_finds 29 = .ok (.getfield 28, 3) := by decide +kernel
theorem dX2_finds_32 : decode cX2_finds 32 = .ok (.iload_n 3, 1) := by decide +kernel
theorem dX2_finds_33 : decode cX2_finds 33 = .ok (.iaload, 1) := by decide +kernel
theorem dX2_finds_34 : decode cX2_finds 34 = .ok (.istore 4, 2) := by decide +kernel
theorem dX2_finds_36 : decode cX2_finds 36 = .ok (.iconst 0, 1) := by decide +kernel
theorem dX2_finds_37 : decode cX2_finds 37 = .ok (.istore 5, 2) := by decide +kernel
theorem dX2_finds_39 : decode cX2_finds 39 = .ok (.iload 5, 2) := by decide +kernel
theorem dX2_finds_41 : decode cX2_finds 41 = .ok (.bipush 12, 2) := by decide +kernel
theorem dX2_finds_43 : decode cX2_finds 43 = .ok (.if_icmp .ge 72, 3) := by decide +kernel
theorem dX2_finds_46 : decode cX2_finds 46 = .ok (.iload 5, 2) := by decide +kernel
theorem dX2_finds_48 : decode cX2_finds 48 = .ok (.iload 4, 2) := by decide +kernel
theorem dX2_finds_50 : decode cX2_finds 50 = .ok (.if_icmp .ne 6, 3) := by decide +kernel
theorem dX2_finds_53 : decode cX2_finds 53 = .ok (.goto 56, 3) := by decide +kernel
theorem dX2_finds_56 : decode cX2_finds 56 = .ok (.aload_n 0, 1) := by decide +kernel
theorem dX2_finds_57 : decode cX2_finds 57 = .ok (.getfield 28, 3) := by decide +kernel
theorem dX2_finds_60 : decode cX2_finds 60 = .ok (.iload_n 3, 1) := by decide +kernel
theorem dX2_finds_61 : decode cX2_finds 61 = .ok (.iload 5, 2) := by decide +kernel
theorem dX2_finds_63 : decode cX2_finds 63 = .ok (.iastore, 1) := by decide +kernel
theorem dX2_finds_64 : decode cX2_finds 64 = .ok (.aload_n 0, 1) := by decide +kernel
theorem dX2_finds_65 : decode cX2_finds 65 = .ok (.invokevirtual 129, 3) := by decide +kernel
theorem dX2_finds_68 : decode cX2_finds 68 = .ok (.istore 6, 2) := by decide +kernel
theorem dX2_finds_70 : decode cX2_finds 70 = .ok (.aload_n 0, 1) := by decide +kernel
theorem dX2_finds_71 : decode cX2_finds 71 = .ok (.getfield 28, 3) := by decide +kernel
theorem dX2_finds_74 : decode cX2_finds 74 = .ok (.iload_n 3, 1) := by decide +kernel
theorem dX2_finds_75 : decode cX2_finds 75 = .ok (.iload 4, 2) := by decide +kernel
theorem dX2_finds_77 : decode cX2_finds 77 = .ok (.iastore, 1) := by decide +kernel
theorem dX2_finds_78 : decode cX2_finds 78 = .ok (.iload 6, 2) := by decide +kernel
theorem dX2_finds_80 : decode cX2_finds 80 = .ok (.ifCond .ne 6, 3) := by decide +kernel
theorem dX2_finds_83 : decode cX2_finds 83 = .ok (.goto 26, 3) := by decide +kernel
theorem dX2_finds_86 : decode cX2_finds 86 = .ok (.aload_n 0, 1) := by decide +kernel
theorem dX2_finds_87 : decode cX2_finds 87 = .ok (.iload_n 3, 1) := by decide +kernel
theorem dX2_finds_88 : decode cX2_finds 88 = .ok (.putfield 136, 3) := by decide +kernel
theorem dX2_finds_91 : decode cX2_finds 91 = .ok (.aload_n 0, 1) := by decide +kernel
theorem dX2_finds_92 : decode cX2_finds 92 = .ok (.iload 5, 2) := by decide +kernel
theorem dX2_finds_94 : decode cX2_finds 94 = .ok (.putfield 139, 3) := by decide +kernel
theorem dX2_finds_97 : decode cX2_finds 97 = .ok (.iinc 2 1, 3) := by decide +kernel
theorem dX2_finds_100 : decode cX2_finds 100 = .ok (.iload_n 2, 1) := by decide +kernel
theorem dX2_finds_101 : decode cX2_finds 101 = .ok (.iload_n 1, 1) := by decide +kernel
theorem dX2_finds_102 : decode cX2_finds 102 = .ok (.iconst 1, 1) := by decide +kernel
theorem dX2_finds_103 : decode cX2_finds 103 = .ok (.iadd, 1) := by decide +kernel
theorem dX2_finds_104 : decode cX2_finds 104 = .ok (.if_icmp .ne 5, 3) := by decide +kernel
theorem dX2_finds_107 : decode cX2_finds 107 = .ok (.iload_n 2, 1) := by decide +kernel
theorem dX2_finds_108 : decode cX2_finds 108 = .ok (.ireturn, 1) := by decide +kernel
theorem dX2_finds_109 : decode cX2_finds 109 = .ok (.iinc 5 1, 3) := by decide +kernel
theorem dX2_finds_112 : decode cX2_finds 112 = .ok (.goto (-73), 3) := by decide +kernel
theorem dX2_finds_115 : decode cX2_finds 115 = .ok (.iinc 3 1, 3) := by decide +kernel
theorem dX2_finds_118 : decode cX2_finds 118 = .ok (.goto (-96), 3) := by decide +kernel
theorem dX2_finds_121 : decode cX2_finds 121 = .ok (.iload_n 2, 1) := by decide +kernel
theorem dX2_finds_122 : decode cX2_finds 122 = .ok (.ireturn, 1) := by decide +kernel
theorem dX2_other_0 : decode cX2_other 0 = .ok (.aload_n 0, 1) := by decide +kernel
theorem dX2_other_1 : decode cX2_other 1 = .ok (.iconst 0, 1) := by decide +kernel
theorem dX2_other_2 : decode cX2_other 2 = .ok (.putfield 58, 3) := by decide +kernel
theorem dX2_other_5 : decode cX2_other 5 = .ok (.aload_n 0, 1) := by decide +kernel
theorem dX2_other_6 : decode cX2_other 6 = .ok (.iload_n 2, 1) := by decide +kernel
theorem dX2_other_7 : decode cX2_other 7 = .ok (.ifCond .lt 8, 3) := by decide +kernel
theorem dX2_other_10 : decode cX2_other 10 = .ok (.iload_n 2, 1) := by decide +kernel
theorem dX2_other_11 : decode cX2_other 11 = .ok (.iconst 2, 1) := by decide +kernel
theorem dX2_other_12 : decode cX2_other 12 = .ok (.if_icmp .le 7, 3) := by decide +kernel
theorem dX2_other_15 : decode cX2_other 15 = .ok (.iconst 1, 1) := by decide +kernel
theorem dX2_other_16 : decode cX2_other 16 = .ok (.goto 4, 3) := by decide +kernel
theorem dX2_other_19 : decode cX2_other 19 = .ok (.iconst 0, 1) := by decide +kernel
theorem dX2_other_20 : decode cX2_other 20 = .ok (.iconst 1, 1) := by decide +kernel
theorem dX2_other_21 : decode cX2_other 21 = .ok (.invokevirtual 64, 3) := by decide +kernel
theorem dX2_other_24 : decode cX2_other 24 = .ok (.ifCond .eq 5, 3) := by decide +kernel
theorem dX2_other_27 : decode cX2_other 27 = .ok (.iconst 0, 1) := by decide +kernel
theorem dX2_other_28 : decode cX2_other 28 = .ok (.ireturn, 1) := by decide +kernel
theorem dX2_other_29 : decode cX2_other 29 = .ok (.iload_n 1, 1) := by decide +kernel
theorem dX2_other_30 : decode cX2_other 30 = .ok (.ifCond .lt 19, 3) := by decide +kernel
theorem dX2_other_33 : decode cX2_other 33 = .ok (.iload_n 1, 1) := by decide +kernel
theorem dX2_other_34 : decode cX2_other 34 = .ok (.sipush 1000, 3) := by decide +kernel
theorem dX2_other_37 : decode cX2_other 37 = .ok (.if_icmp .gt 12, 3) := by decide +kernel
theorem dX2_other_40 : decode cX2_other 40 = .ok (.aload_n 0, 1) := by decide +kernel
theorem dX2_other_41 : decode cX2_other 41 = .ok (.iload_n 1, 1) := by decide +kernel
theorem dX2_other_42 : decode cX2_other 42 = .ok (.invokevirtual 142, 3) := by decide +kernel
theorem dX2_other_45 : decode cX2_other 45 = .ok (.iload_n 1, 1) := by decide +kernel
theorem dX2_other_46 : decode cX2_other 46 = .ok (.if_icmp .gt 5, 3) := by decide +kernel
theorem dX2_other_49 : decode cX2_other 49 = .ok (.iconst (-1), 1) := by decide +kernel
theorem dX2_other_50 : decode cX2_other 50 = .ok (.ireturn, 1) := by decide +kernel
theorem dX2_other_51 : decode cX2_other 51 = .ok (.iload_n 2, 1) := by decide +kernel
theorem dX2_other_52 : decode cX2_other 52 = .ok (.ifCond .ne 10, 3) := by decide +kernel
theorem dX2_other_55 : decode cX2_other 55 = .ok (.aload_n 0, 1) := by decide +kernel
theorem dX2_other_56 : decode cX2_other 56 = .ok (.getfield 136, 3) := by decide +kernel
theorem dX2_other_59 : decode cX2_other 59 = .ok (.goto 32, 3) := by decide +kernel
theorem dX2_other_62 : decode cX2_other 62 = .ok (.iload_n 2, 1) := by decide +kernel
theorem dX2_other_63 : decode cX2_other 63 = .ok (.iconst 1, 1) := by decide +kernel
theorem dX2_other_64 : decode cX2_other 64 = .ok (.if_icmp .ne 10, 3) := by decide +kernel
theorem dX2_other_67 : decode cX2_other 67 = .ok (.aload_n 0, 1) := by decide +kernel
theorem dX2_other_68 : decode cX2_other 68 = .ok (.getfield 139, 3) := by decide +kernel
theorem dX2_other_71 : decode cX2_other 71 = .ok (.goto 20, 3) := by decide +kernel
theorem dX2_other_74 : decode cX2_other 74 = .ok (.aload_n 0, 1) := by decide +kernel
theorem dX2_other_75 : decode cX2_other 75 = .ok (.aload_n 0, 1) := by decide +kernel
theorem dX2_other_76 : decode cX2_other 76 = .ok (.getfield 136, 3) := by decide +kernel
theorem dX2_other_79 : decode cX2_other 79 = .ok (.aload_n 0, 1) := by decide +kernel
theorem dX2_other_80 : decode cX2_other 80 = .ok (.getfield 139, 3) := by decide +kernel
theorem dX2_other_83 : decode cX2_other 83 = .ok (.invokevirtual 145, 3) := by decide +kernel
theorem dX2_other_86 : decode cX2_other 86 = .ok (.aload_n 0, 1) := by decide +kernel
theorem dX2_other_87 : decode cX2_other 87 = .ok (.getfield 106, 3) := by decide +kernel
theorem dX2_other_90 : decode cX2_other 90 = .ok (.isub, 1) := by decide +kernel
theorem dX2_other_91 : decode cX2_other 91 = .ok (.ireturn, 1) := by decide +kernel
theorem dX2_choose_0 : decode cX2_choose 0 = .ok (.aload_n 0, 1) := by decide +kernel
theorem dX2_choose_1 : decode cX2_choose 1 = .ok (.iconst 0, 1) := by decide +kernel
theorem dX2_choose_2 : decode cX2_choose 2 = .ok (.putfield 58, 3) := by decide +kernel
theorem dX2_choose_5 : decode cX2_choose 5 = .ok (.iload_n 1, 1) := by decide +kernel
theorem dX2_choose_6 : decode cX2_choose 6 = .ok (.ifCond .lt 19, 3) := by decide +kernel
theorem dX2_choose_9 : decode cX2_choose 9 = .ok (.iload_n 1, 1) := by decide +kernel
theorem dX2_choose_10 : decode cX2_choose 10 = .ok (.sipush 1000, 3) := by decide +kernel
theorem dX2_choose_13 : decode cX2_choose 13 = .ok (.if_icmp .gt 12, 3) := by decide +kernel
theorem dX2_choose_16 : decode cX2_choose 16 = .ok (.aload_n 0, 1) := by decide +kernel
theorem dX2_choose_17 : decode cX2_choose 17 = .ok (.iload_n 1, 1) := by decide +kernel
theorem dX2_choose_18 : decode cX2_choose 18 = .ok (.invokevirtual 142, 3) := by decide +kernel
theorem dX2_choose_21 : decode cX2_choose 21 = .ok (.iload_n 1, 1) := by decide +kernel
theorem dX2_choose_22 : decode cX2_choose 22 = .ok (.if_icmp .gt 5, 3) := by decide +kernel
theorem dX2_choose_25 : decode cX2_choose 25 = .ok (.iconst 0, 1) := by decide +kernel
theorem dX2_choose_26 : decode cX2_choose 26 = .ok (.ireturn, 1) := by decide +kernel
theorem dX2_choose_27 : decode cX2_choose 27 = .ok (.aload_n 0, 1) := by decide +kernel
theorem dX2_choose_28 : decode cX2_choose 28 = .ok (.aload_n 0, 1) := by decide +kernel
theorem dX2_choose_29 : decode cX2_choose 29 = .ok (.aload_n 0, 1) := by decide +kernel
theorem dX2_choose_30 : decode cX2_choose 30 = .ok (.getfield 136, 3) := by decide +kernel
theorem dX2_choose_33 : decode cX2_choose 33 = .ok (.aload_n 0, 1) := by decide +kernel
theorem dX2_choose_34 : decode cX2_choose 34 = .ok (.getfield 139, 3) := by decide +kernel
theorem dX2_choose_37 : decode cX2_choose 37 = .ok (.invokevirtual 145, 3) := by decide +kernel
theorem dX2_choose_40 : decode cX2_choose 40 = .ok (.putfield 106, 3) := by decide +kernel
theorem dX2_choose_43 : decode cX2_choose 43 = .ok (.aload_n 0, 1) := by decide +kernel
theorem dX2_choose_44 : decode cX2_choose 44 = .ok (.getfield 28, 3) := by decide +kernel
theorem dX2_choose_47 : decode cX2_choose 47 = .ok (.aload_n 0, 1) := by decide +kernel
theorem dX2_choose_48 : decode cX2_choose 48 = .ok (.getfield 136, 3) := by decide +kernel
theorem dX2_choose_51 : decode cX2_choose 51 = .ok (.aload_n 0, 1) := by decide +kernel
theorem dX2_choose_52 : decode cX2_choose 52 = .ok (.getfield 139, 3) := by decide +kernel
theorem dX2_choose_55 : decode cX2_choose 55 = .ok (.iastore, 1) := by decide +kernel
theorem dX2_choose_56 : decode cX2_choose 56 = .ok (.aload_n 0, 1) := by decide +kernel
theorem dX2_choose_57 : decode cX2_choose 57 = .ok (.iconst 0, 1) := by decide +kernel
theorem dX2_choose_58 : decode cX2_choose 58 = .ok (.putfield 117, 3) := by decide +kernel
theorem dX2_choose_61 : decode cX2_choose 61 = .ok (.iconst 1, 1) := by decide +kernel
theorem dX2_choose_62 : decode cX2_choose 62 = .ok (.ireturn, 1) := by decide +kernel
theorem dX2_batch_0 : decode cX2_batch 0 = .ok (.aload_n 0, 1) := by decide +kernel
theorem dX2_batch_1 : decode cX2_batch 1 = .ok (.iconst 0, 1) := by decide +kernel
theorem dX2_batch_2 : decode cX2_batch 2 = .ok (.putfield 58, 3) := by decide +kernel
theorem dX2_batch_5 : decode cX2_batch 5 = .ok (.aload_n 0, 1) := by decide +kernel
theorem dX2_batch_6 : decode cX2_batch 6 = .ok (.iload_n 1, 1) := by decide +kernel
theorem dX2_batch_7 : decode cX2_batch 7 = .ok (.ifCond .lt 9, 3) := by decide +kernel
theorem dX2_batch_10 : decode cX2_batch 10 = .ok (.iload_n 1, 1) := by decide +kernel
theorem dX2_batch_11 : decode cX2_batch 11 = .ok (.ldc 148, 2) := by decide +kernel
theorem dX2_batch_13 : decode cX2_batch 13 = .ok (.if_icmp .le 7, 3) := by decide +kernel
theorem dX2_batch_16 : decode cX2_batch 16 = .ok (.iconst 1, 1) := by decide +kernel
theorem dX2_batch_17 : decode cX2_batch 17 = .ok (.goto 4, 3) := by decide +kernel
theorem dX2_batch_20 : decode cX2_batch 20 = .ok (.iconst 0, 1) := by decide +kernel
theorem dX2_batch_21 : decode cX2_batch 21 = .ok (.iconst 1, 1) := by decide +kernel
theorem dX2_batch_22 : decode cX2_batch 22 = .ok (.invokevirtual 64, 3) := by decide +kernel
theorem dX2_batch_25 : decode cX2_batch 25 = .ok (.ifCond .ne 25, 3) := by decide +kernel
theorem dX2_batch_28 : decode cX2_batch 28 = .ok (.aload_n 0, 1) := by decide +kernel
theorem dX2_batch_29 : decode cX2_batch 29 = .ok (.aload_n 0, 1) := by decide +kernel
theorem dX2_batch_30 : decode cX2_batch 30 = .ok (.getfield 149, 3) := by decide +kernel
theorem dX2_batch_33 : decode cX2_batch 33 = .ok (.bipush 20, 2) := by decide +kernel
theorem dX2_batch_35 : decode cX2_batch 35 = .ok (.if_icmp .ne 7, 3) := by decide +kernel
theorem dX2_batch_38 : decode cX2_batch 38 = .ok (.iconst 1, 1) := by decide +kernel
theorem dX2_batch_39 : decode cX2_batch 39 = .ok (.goto 4, 3) := by decide +kernel
theorem dX2_batch_42 : decode cX2_batch 42 = .ok (.iconst 0, 1) := by decide +kernel
theorem dX2_batch_43 : decode cX2_batch 43 = .ok (.iconst 2, 1) := by decide +kernel
theorem dX2_batch_44 : decode cX2_batch 44 = .ok (.invokevirtual 64, 3) := by decide +kernel
theorem dX2_batch_47 : decode cX2_batch 47 = .ok (.ifCond .eq 5, 3) := by decide +kernel
theorem dX2_batch_50 : decode cX2_batch 50 = .ok (.iconst 0, 1) := by decide +kernel
theorem dX2_batch_51 : decode cX2_batch 51 = .ok (.ireturn, 1) := by decide +kernel
theorem dX2_batch_52 : decode cX2_batch 52 = .ok (.aload_n 0, 1) := by decide +kernel
theorem dX2_batch_53 : decode cX2_batch 53 = .ok (.getfield 40, 3) := by decide +kernel
theorem dX2_batch_56 : decode cX2_batch 56 = .ok (.aload_n 0, 1) := by decide +kernel
theorem dX2_batch_57 : decode cX2_batch 57 = .ok (.getfield 149, 3) := by decide +kernel
theorem dX2_batch_60 : decode cX2_batch 60 = .ok (.iload_n 1, 1) := by decide +kernel
theorem dX2_batch_61 : decode cX2_batch 61 = .ok (.iastore, 1) := by decide +kernel
theorem dX2_batch_62 : decode cX2_batch 62 = .ok (.aload_n 0, 1) := by decide +kernel
theorem dX2_batch_63 : decode cX2_batch 63 = .ok (.dup, 1) := by decide +kernel
theorem dX2_batch_64 : decode cX2_batch 64 = .ok (.getfield 149, 3) := by decide +kernel
theorem dX2_batch_67 : decode cX2_batch 67 = .ok (.iconst 1, 1) := by decide +kernel
theorem dX2_batch_68 : decode cX2_batch 68 = .ok (.iadd, 1) := by decide +kernel
theorem dX2_batch_69 : decode cX2_batch 69 = .ok (.putfield 149, 3) := by decide +kernel
theorem dX2_batch_72 : decode cX2_batch 72 = .ok (.aload_n 0, 1) := by decide +kernel
theorem dX2_batch_73 : decode cX2_batch 73 = .ok (.getfield 149, 3) := by decide +kernel
theorem dX2_batch_76 : decode cX2_batch 76 = .ok (.iconst 1, 1) := by decide +kernel
theorem dX2_batch_77 : decode cX2_batch 77 = .ok (.isub, 1) := by decide +kernel
theorem dX2_batch_78 : decode cX2_batch 78 = .ok (.ireturn, 1) := by decide +kernel
theorem dX2_twin_0 : decode cX2_twin 0 = .ok (.aload_n 0, 1) := by decide +kernel
theorem dX2_twin_1 : decode cX2_twin 1 = .ok (.iconst 0, 1) := by decide +kernel
theorem dX2_twin_2 : decode cX2_twin 2 = .ok (.putfield 58, 3) := by decide +kernel
theorem dX2_twin_5 : decode cX2_twin 5 = .ok (.aload_n 0, 1) := by decide +kernel
theorem dX2_twin_6 : decode cX2_twin 6 = .ok (.invokevirtual 157, 3) := by decide +kernel
theorem dX2_twin_9 : decode cX2_twin 9 = .ok (.ireturn, 1) := by decide +kernel
theorem dX2_twinOf_0 : decode cX2_twinOf 0 = .ok (.aload_n 0, 1) := by decide +kernel
theorem dX2_twinOf_1 : decode cX2_twinOf 1 = .ok (.invokevirtual 129, 3) := by decide +kernel
theorem dX2_twinOf_4 : decode cX2_twinOf 4 = .ok (.ifCond .ne 5, 3) := by decide +kernel
theorem dX2_twinOf_7 : decode cX2_twinOf 7 = .ok (.iconst (-1), 1) := by decide +kernel
theorem dX2_twinOf_8 : decode cX2_twinOf 8 = .ok (.ireturn, 1) := by decide +kernel
theorem dX2_twinOf_9 : decode cX2_twinOf 9 = .ok (.iconst 0, 1) := by decide +kernel
theorem dX2_twinOf_10 : decode cX2_twinOf 10 = .ok (.istore_n 1, 1) := by decide +kernel
theorem dX2_twinOf_11 : decode cX2_twinOf 11 = .ok (.iload_n 1, 1) := by decide +kernel
theorem dX2_twinOf_12 : decode cX2_twinOf 12 = .ok (.aload_n 0, 1) := by decide +kernel
theorem dX2_twinOf_13 : decode cX2_twinOf 13 = .ok (.getfield 154, 3) := by decide +kernel
theorem dX2_twinOf_16 : decode cX2_twinOf 16 = .ok (.if_icmp .ge 53, 3) := by decide +kernel
theorem dX2_twinOf_19 : decode cX2_twinOf 19 = .ok (.aload_n 0, 1) := by decide +kernel
theorem dX2_twinOf_20 : decode cX2_twinOf 20 = .ok (.getfield 49, 3) := by decide +kernel
theorem dX2_twinOf_23 : decode cX2_twinOf 23 = .ok (.iload_n 1, 1) := by decide +kernel
theorem dX2_twinOf_24 : decode cX2_twinOf 24 = .ok (.iaload, 1) := by decide +kernel
theorem dX2_twinOf_25 : decode cX2_twinOf 25 = .ok (.aload_n 0, 1) := by decide +kernel
theorem dX2_twinOf_26 : decode cX2_twinOf 26 = .ok (.iconst 0, 1) := by decide +kernel
theorem dX2_twinOf_27 : decode cX2_twinOf 27 = .ok (.invokevirtual 133, 3) := by decide +kernel
theorem dX2_twinOf_30 : decode cX2_twinOf 30 = .ok (.if_icmp .ne 33, 3) := by decide +kernel
theorem dX2_twinOf_33 : decode cX2_twinOf 33 = .ok (.aload_n 0, 1) := by decide +kernel
theorem dX2_twinOf_34 : decode cX2_twinOf 34 = .ok (.getfield 52, 3) := by decide +kernel
theorem dX2_twinOf_37 : decode cX2_twinOf 37 = .ok (.iload_n 1, 1) := by decide +kernel
theorem dX2_twinOf_38 : decode cX2_twinOf 38 = .ok (.iaload, 1) := by decide +kernel
theorem dX2_twinOf_39 : decode cX2_twinOf 39 = .ok (.aload_n 0, 1) := by decide +kernel
theorem dX2_twinOf_40 : decode cX2_twinOf 40 = .ok (.iconst 1, 1) := by decide +kernel
theorem dX2_twinOf_41 : decode cX2_twinOf 41 = .ok (.invokevirtual 133, 3) := by decide +kernel
theorem dX2_twinOf_44 : decode cX2_twinOf 44 = .ok (.if_icmp .ne 19, 3) := by decide +kernel
theorem dX2_twinOf_47 : decode cX2_twinOf 47 = .ok (.aload_n 0, 1) := by decide +kernel
theorem dX2_twinOf_48 : decode cX2_twinOf 48 = .ok (.getfield 55, 3) := by decide +kernel
theorem dX2_twinOf_51 : decode cX2_twinOf 51 = .ok (.iload_n 1, 1) := by decide +kernel
theorem dX2_twinOf_52 : decode cX2_twinOf 52 = .ok (.iaload, 1) := by decide +kernel
theorem dX2_twinOf_53 : decode cX2_twinOf 53 = .ok (.aload_n 0, 1) := by decide +kernel
theorem dX2_twinOf_54 : decode cX2_twinOf 54 = .ok (.iconst 2, 1) := by decide +kernel
theorem dX2_twinOf_55 : decode cX2_twinOf 55 = .ok (.invokevirtual 133, 3) := by decide +kernel
theorem dX2_twinOf_58 : decode cX2_twinOf 58 = .ok (.if_icmp .ne 5, 3) := by decide +kernel
theorem dX2_twinOf_61 : decode cX2_twinOf 61 = .ok (.iload_n 1, 1) := by decide +kernel
theorem dX2_twinOf_62 : decode cX2_twinOf 62 = .ok (.ireturn, 1) := by decide +kernel
theorem dX2_twinOf_63 : decode cX2_twinOf 63 = .ok (.iinc 1 1, 3) := by decide +kernel
theorem dX2_twinOf_66 : decode cX2_twinOf 66 = .ok (.goto (-55), 3) := by decide +kernel
theorem dX2_twinOf_69 : decode cX2_twinOf 69 = .ok (.iconst (-1), 1) := by decide +kernel
theorem dX2_twinOf_70 : decode cX2_twinOf 70 = .ok (.ireturn, 1) := by decide +kernel
