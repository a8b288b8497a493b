set_option maxRecDepth 100000
theorem dX2_area_14 : decode cX2_area 14 = .ok (.iconst 0, 1) := by decide +kernel
theorem dX2_area_15 : decode cX2_area 15 = .ok (.istore 4, 2) := by decide +kernel
theorem dX2_area_17 : decode cX2_area 17 = .ok (.iload 4, 2) := by decide +kernel
theorem dX2_area_19 : decode cX2_area 19 = .ok (.sipush 196, 3) := by decide +kernel
theorem dX2_area_22 : decode cX2_area 22 = .ok (.if_icmp .ge 23, 3) := by decide +kernel
theorem dX2_area_25 : decode cX2_area 25 = .ok (.aload_n 0, 1) := by decide +kernel
theorem dX2_area_26 : decode cX2_area 26 = .ok (.getfield 13, 3) := by decide +kernel
theorem dX2_area_29 : decode cX2_area 29 = .ok (.iload 4, 2) := by decide +kernel
theorem dX2_area_31 : decode cX2_area 31 = .ok (.iaload, 1) := by decide +kernel
theorem dX2_area_32 : decode cX2_area 32 = .ok (.iload_n 2, 1) := by decide +kernel
theorem dX2_area_33 : decode cX2_area 33 = .ok (.if_icmp .ne 6, 3) := by decide +kernel
theorem dX2_area_36 : decode cX2_area 36 = .ok (.iinc 3 1, 3) := by decide +kernel
theorem dX2_area_39 : decode cX2_area 39 = .ok (.iinc 4 1, 3) := by decide +kernel
theorem dX2_area_42 : decode cX2_area 42 = .ok (.goto (-25), 3) := by decide +kernel
theorem dX2_area_45 : decode cX2_area 45 = .ok (.iload_n 3, 1) := by decide +kernel
theorem dX2_area_46 : decode cX2_area 46 = .ok (.ireturn, 1) := by decide +kernel
theorem dX2_firstOf_0 : decode cX2_firstOf 0 = .ok (.aload_n 0, 1) := by decide +kernel
theorem dX2_firstOf_1 : decode cX2_firstOf 1 = .ok (.invokevirtual 60, 3) := by decide +kernel
theorem dX2_firstOf_4 : decode cX2_firstOf 4 = .ok (.iconst 0, 1) := by decide +kernel
theorem dX2_firstOf_5 : decode cX2_firstOf 5 = .ok (.istore_n 2, 1) := by decide +kernel
theorem dX2_firstOf_6 : decode cX2_firstOf 6 = .ok (.iconst 0, 1) := by decide +kernel
theorem dX2_firstOf_7 : decode cX2_firstOf 7 = .ok (.istore_n 3, 1) := by decide +kernel
theorem dX2_firstOf_8 : decode cX2_firstOf 8 = .ok (.iload_n 3, 1) := by decide +kernel
theorem dX2_firstOf_9 : decode cX2_firstOf 9 = .ok (.sipush 196, 3) := by decide +kernel
theorem dX2_firstOf_12 : decode cX2_firstOf 12 = .ok (.if_icmp .ge 28, 3) := by decide +kernel
theorem dX2_firstOf_15 : decode cX2_firstOf 15 = .ok (.aload_n 0, 1) := by decide +kernel
theorem dX2_firstOf_16 : decode cX2_firstOf 16 = .ok (.iload_n 3, 1) := by decide +kernel
theorem dX2_firstOf_17 : decode cX2_firstOf 17 = .ok (.iconst 1, 1) := by decide +kernel
theorem dX2_firstOf_18 : decode cX2_firstOf 18 = .ok (.invokevirtual 56, 3) := by decide +kernel
theorem dX2_firstOf_21 : decode cX2_firstOf 21 = .ok (.ifCond .eq 13, 3) := by decide +kernel
theorem dX2_firstOf_24 : decode cX2_firstOf 24 = .ok (.iload_n 2, 1) := by decide +kernel
theorem dX2_firstOf_25 : decode cX2_firstOf 25 = .ok (.iload_n 1, 1) := by decide +kernel
theorem dX2_firstOf_26 : decode cX2_firstOf 26 = .ok (.if_icmp .ne 5, 3) := by decide +kernel
theorem dX2_firstOf_29 : decode cX2_firstOf 29 = .ok (.iload_n 3, 1) := by decide +kernel
theorem dX2_firstOf_30 : decode cX2_firstOf 30 = .ok (.ireturn, 1) := by decide +kernel
theorem dX2_firstOf_31 : decode cX2_firstOf 31 = .ok (.iinc 2 1, 3) := by decide +kernel
theorem dX2_firstOf_34 : decode cX2_firstOf 34 = .ok (.iinc 3 1, 3) := by decide +kernel
theorem dX2_firstOf_37 : decode cX2_firstOf 37 = .ok (.goto (-29), 3) := by decide +kernel
theorem dX2_firstOf_40 : decode cX2_firstOf 40 = .ok (.iconst (-1), 1) := by decide +kernel
theorem dX2_firstOf_41 : decode cX2_firstOf 41 = .ok (.ireturn, 1) := by decide +kernel
theorem dX2_holes_0 : decode cX2_holes 0 = .ok (.aload_n 0, 1) := by decide +kernel
theorem dX2_holes_1 : decode cX2_holes 1 = .ok (.iload_n 1, 1) := by decide +kernel
theorem dX2_holes_2 : decode cX2_holes 2 = .ok (.invokevirtual 67, 3) := by decide +kernel
theorem dX2_holes_5 : decode cX2_holes 5 = .ok (.istore_n 2, 1) := by decide +kernel
theorem dX2_holes_6 : decode cX2_holes 6 = .ok (.iload_n 2, 1) := by decide +kernel
theorem dX2_holes_7 : decode cX2_holes 7 = .ok (.ifCond .ge 5, 3) := by decide +kernel
theorem dX2_holes_10 : decode cX2_holes 10 = .ok (.iconst (-1), 1) := by decide +kernel
theorem dX2_holes_11 : decode cX2_holes 11 = .ok (.ireturn, 1) := by decide +kernel
theorem dX2_holes_12 : decode cX2_holes 12 = .ok (.aload_n 0, 1) := by decide +kernel
theorem dX2_holes_13 : decode cX2_holes 13 = .ok (.invokevirtual 71, 3) := by decide +kernel
theorem dX2_holes_16 : decode cX2_holes 16 = .ok (.iconst 0, 1) := by decide +kernel
theorem dX2_holes_17 : decode cX2_holes 17 = .ok (.istore_n 3, 1) := by decide +kernel
theorem dX2_holes_18 : decode cX2_holes 18 = .ok (.iconst 1, 1) := by decide +kernel
theorem dX2_holes_19 : decode cX2_holes 19 = .ok (.istore 4, 2) := by decide +kernel
theorem dX2_holes_21 : decode cX2_holes 21 = .ok (.iload 4, 2) := by decide +kernel
theorem dX2_holes_23 : decode cX2_holes 23 = .ok (.sipush 196, 3) := by decide +kernel
theorem dX2_holes_26 : decode cX2_holes 26 = .ok (.if_icmp .ge 32, 3) := by decide +kernel
theorem dX2_holes_29 : decode cX2_holes 29 = .ok (.aload_n 0, 1) := by decide +kernel
theorem dX2_holes_30 : decode cX2_holes 30 = .ok (.iload 4, 2) := by decide +kernel
theorem dX2_holes_32 : decode cX2_holes 32 = .ok (.iconst 0, 1) := by decide +kernel
theorem dX2_holes_33 : decode cX2_holes 33 = .ok (.invokevirtual 56, 3) := by decide +kernel
theorem dX2_holes_36 : decode cX2_holes 36 = .ok (.ifCond .eq 16, 3) := by decide +kernel
theorem dX2_holes_39 : decode cX2_holes 39 = .ok (.aload_n 0, 1) := by decide +kernel
theorem dX2_holes_40 : decode cX2_holes 40 = .ok (.iload 4, 2) := by decide +kernel
theorem dX2_holes_42 : decode cX2_holes 42 = .ok (.iload_n 2, 1) := by decide +kernel
theorem dX2_holes_43 : decode cX2_holes 43 = .ok (.invokevirtual 74, 3) := by decide +kernel
theorem dX2_holes_46 : decode cX2_holes 46 = .ok (.ifCond .eq 6, 3) := by decide +kernel
theorem dX2_holes_49 : decode cX2_holes 49 = .ok (.iinc 3 1, 3) := by decide +kernel
theorem dX2_holes_52 : decode cX2_holes 52 = .ok (.iinc 4 1, 3) := by decide +kernel
theorem dX2_holes_55 : decode cX2_holes 55 = .ok (.goto (-34), 3) := by decide +kernel
theorem dX2_holes_58 : decode cX2_holes 58 = .ok (.iload_n 3, 1) := by decide +kernel
theorem dX2_holes_59 : decode cX2_holes 59 = .ok (.ireturn, 1) := by decide +kernel
theorem dX2_findChanges_0 : decode cX2_findChanges 0 = .ok (.iconst 0, 1) := by decide +kernel
theorem dX2_findChanges_1 : decode cX2_findChanges 1 = .ok (.istore_n 1, 1) := by decide +kernel
theorem dX2_findChanges_2 : decode cX2_findChanges 2 = .ok (.iload_n 1, 1) := by decide +kernel
theorem dX2_findChanges_3 : decode cX2_findChanges 3 = .ok (.sipush 196, 3) := by decide +kernel
theorem dX2_findChanges_6 : decode cX2_findChanges 6 = .ok (.if_icmp .ge 26, 3) := by decide +kernel
theorem dX2_findChanges_9 : decode cX2_findChanges 9 = .ok (.aload_n 0, 1) := by decide +kernel
theorem dX2_findChanges_10 : decode cX2_findChanges 10 = .ok (.getfield 17, 3) := by decide +kernel
theorem dX2_findChanges_13 : decode cX2_findChanges 13 = .ok (.iload_n 1, 1) := by decide +kernel
theorem dX2_findChanges_14 : decode cX2_findChanges 14 = .ok (.iload_n 1, 1) := by decide +kernel
theorem dX2_findChanges_15 : decode cX2_findChanges 15 = .ok (.ifCond .ne 7, 3) := by decide +kernel
theorem dX2_findChanges_18 : decode cX2_findChanges 18 = .ok (.iconst 0, 1) := by decide +kernel
theorem dX2_findChanges_19 : decode cX2_findChanges 19 = .ok (.goto 6, 3) := by decide +kernel
theorem dX2_findChanges_22 : decode cX2_findChanges 22 = .ok (.sipush 500, 3) := by decide +kernel
theorem dX2_findChanges_25 : decode cX2_findChanges 25 = .ok (.iastore, 1) := by decide +kernel
theorem dX2_findChanges_26 : decode cX2_findChanges 26 = .ok (.iinc 1 1, 3) := by decide +kernel
theorem dX2_findChanges_29 : decode cX2_findChanges 29 = .ok (.goto (-27), 3) := by decide +kernel
theorem dX2_findChanges_32 : decode cX2_findChanges 32 = .ok (.iconst 1, 1) := by decide +kernel
theorem dX2_findChanges_33 : decode cX2_findChanges 33 = .ok (.istore_n 1, 1) := by decide +kernel
theorem dX2_findChanges_34 : decode cX2_findChanges 34 = .ok (.iconst 0, 1) := by decide +kernel
theorem dX2_findChanges_35 : decode cX2_findChanges 35 = .ok (.istore_n 2, 1) := by decide +kernel
theorem dX2_findChanges_36 : decode cX2_findChanges 36 = .ok (.iload_n 2, 1) := by decide +kernel
theorem dX2_findChanges_37 : decode cX2_findChanges 37 = .ok (.sipush 197, 3) := by decide +kernel
theorem dX2_findChanges_40 : decode cX2_findChanges 40 = .ok (.if_icmp .ge 18, 3) := by decide +kernel
theorem dX2_findChanges_43 : decode cX2_findChanges 43 = .ok (.iload_n 1, 1) := by decide +kernel
theorem dX2_findChanges_44 : decode cX2_findChanges 44 = .ok (.ifCond .eq 14, 3) := by decide +kernel
theorem dX2_findChanges_47 : decode cX2_findChanges 47 = .ok (.aload_n 0, 1) := by decide +kernel
theorem dX2_findChanges_48 : decode cX2_findChanges 48 = .ok (.invokevirtual 53, 3) := by decide +kernel
theorem dX2_findChanges_51 : decode cX2_findChanges 51 = .ok (.istore_n 1, 1) := by decide +kernel
theorem dX2_findChanges_52 : decode cX2_findChanges 52 = .ok (.iinc 2 1, 3) := by decide +kernel
theorem dX2_findChanges_55 : decode cX2_findChanges 55 = .ok (.goto (-19), 3) := by decide +kernel
theorem dX2_findChanges_58 : decode cX2_findChanges 58 = .ok (.return_, 1) := by decide +kernel
theorem dX2_spreadChanges_0 : decode cX2_spreadChanges 0 = .ok (.iconst 0, 1) := by decide +kernel
theorem dX2_spreadChanges_1 : decode cX2_spreadChanges 1 = .ok (.istore_n 1, 1) := by decide +kernel
theorem dX2_spreadChanges_2 : decode cX2_spreadChanges 2 = .ok (.iconst 0, 1) := by decide +kernel
theorem dX2_spreadChanges_3 : decode cX2_spreadChanges 3 = .ok (.istore_n 2, 1) := by decide +kernel
theorem dX2_spreadChanges_4 : decode cX2_spreadChanges 4 = .ok (.iload_n 2, 1) := by decide +kernel
theorem dX2_spreadChanges_5 : decode cX2_spreadChanges 5 = .ok (.sipush 196, 3) := by decide +kernel
theorem dX2_spreadChanges_8 : decode cX2_spreadChanges 8 = .ok (.if_icmp .ge 132, 3) := by decide +kernel
theorem dX2_spreadChanges_11 : decode cX2_spreadChanges 11 = .ok (.iconst 0, 1) := by decide +kernel
theorem dX2_spreadChanges_12 : decode cX2_spreadChanges 12 = .ok (.istore_n 3, 1) := by decide +kernel
theorem dX2_spreadChanges_13 : decode cX2_spreadChanges 13 = .ok (.iload_n 3, 1) := by decide +kernel
theorem dX2_spreadChanges_14 : decode cX2_spreadChanges 14 = .ok (.bipush 9, 2) := by decide +kernel
theorem dX2_spreadChanges_16 : decode cX2_spreadChanges 16 = .ok (.if_icmp .ge 118, 3) := by decide +kernel
theorem dX2_spreadChanges_19 : decode cX2_spreadChanges 19 = .ok (.aload_n 0, 1) := by decide +kernel
theorem dX2_spreadChanges_20 : decode cX2_spreadChanges 20 = .ok (.iload_n 2, 1) := by decide +kernel
theorem dX2_spreadChanges_21 : decode cX2_spreadChanges 21 = .ok (.iload_n 3, 1) := by decide +kernel
theorem dX2_spreadChanges_22 : decode cX2_spreadChanges 22 = .ok (.invokevirtual 42, 3) := by decide +kernel
theorem dX2_spreadChanges_25 : decode cX2_spreadChanges 25 = .ok (.istore 4, 2) := by decide +kernel
theorem dX2_spreadChanges_27 : decode cX2_spreadChanges 27 = .ok (.iload 4, 2) := by decide +kernel
theorem dX2_spreadChanges_29 : decode cX2_spreadChanges 29 = .ok (.ifCond .ge 9, 3) := by decide +kernel
theorem dX2_spreadChanges_32 : decode cX2_spreadChanges 32 = .ok (.sipush 1000, 3) := by decide +kernel
theorem dX2_spreadChanges_35 : decode cX2_spreadChanges 35 = .ok (.goto 49, 3) := by decide +kernel
theorem dX2_spreadChanges_38 : decode cX2_spreadChanges 38 = .ok (.aload_n 0, 1) := by decide +kernel
theorem dX2_spreadChanges_39 : decode cX2_spreadChanges 39 = .ok (.iload_n 2, 1) := by decide +kernel
theorem dX2_spreadChanges_40 : decode cX2_spreadChanges 40 = .ok (.iload 4, 2) := by decide +kernel
theorem dX2_spreadChanges_42 : decode cX2_spreadChanges 42 = .ok (.iload_n 3, 1) := by decide +kernel
theorem dX2_spreadChanges_43 : decode cX2_spreadChanges 43 = .ok (.invokevirtual 45, 3) := by decide +kernel
theorem dX2_spreadChanges_46 : decode cX2_spreadChanges 46 = .ok (.ifCond .eq 7, 3) := by decide +kernel
theorem dX2_spreadChanges_49 : decode cX2_spreadChanges 49 = .ok (.iconst 0, 1) := by decide +kernel
theorem dX2_spreadChanges_50 : decode cX2_spreadChanges 50 = .ok (.goto 34, 3) := by decide +kernel
theorem dX2_spreadChanges_53 : decode cX2_spreadChanges 53 = .ok (.aload_n 0, 1) := by decide +kernel
theorem dX2_spreadChanges_54 : decode cX2_spreadChanges 54 = .ok (.getfield 7, 3) := by decide +kernel
theorem dX2_spreadChanges_57 : decode cX2_spreadChanges 57 = .ok (.iload_n 2, 1) := by decide +kernel
theorem dX2_spreadChanges_58 : decode cX2_spreadChanges 58 = .ok (.baload, 1) := by decide +kernel
theorem dX2_spreadChanges_59 : decode cX2_spreadChanges 59 = .ok (.aload_n 0, 1) := by decide +kernel
theorem dX2_spreadChanges_60 : decode cX2_spreadChanges 60 = .ok (.getfield 7, 3) := by decide +kernel
theorem dX2_spreadChanges_63 : decode cX2_spreadChanges 63 = .ok (.iload 4, 2) := by decide +kernel
theorem dX2_spreadChanges_65 : decode cX2_spreadChanges 65 = .ok (.baload, 1) := by decide +kernel
theorem dX2_spreadChanges_66 : decode cX2_spreadChanges 66 = .ok (.if_icmp .eq 15, 3) := by decide +kernel
theorem dX2_spreadChanges_69 : decode cX2_spreadChanges 69 = .ok (.aload_n 0, 1) := by decide +kernel
theorem dX2_spreadChanges_70 : decode cX2_spreadChanges 70 = .ok (.iload_n 3, 1) := by decide +kernel
theorem dX2_spreadChanges_71 : decode cX2_spreadChanges 71 = .ok (.invokevirtual 38, 3) := by decide +kernel
theorem dX2_spreadChanges_74 : decode cX2_spreadChanges 74 = .ok (.ifCond .eq 7, 3) := by decide +kernel
theorem dX2_spreadChanges_77 : decode cX2_spreadChanges 77 = .ok (.iconst 1, 1) := by decide +kernel
theorem dX2_spreadChanges_78 : decode cX2_spreadChanges 78 = .ok (.goto 6, 3) := by decide +kernel
theorem dX2_spreadChanges_81 : decode cX2_spreadChanges 81 = .ok (.sipush 1000, 3) := by decide +kernel
theorem dX2_spreadChanges_84 : decode cX2_spreadChanges 84 = .ok (.istore 5, 2) := by decide +kernel
theorem dX2_spreadChanges_86 : decode cX2_spreadChanges 86 = .ok (.iload 4, 2) := by decide +kernel
theorem dX2_spreadChanges_88 : decode cX2_spreadChanges 88 = .ok (.ifCond .lt 40, 3) := by decide +kernel
theorem dX2_spreadChanges_91 : decode cX2_spreadChanges 91 = .ok (.aload_n 0, 1) := by decide +kernel
theorem dX2_spreadChanges_92 : decode cX2_spreadChanges 92 = .ok (.getfield 17, 3) := by decide +kernel
theorem dX2_spreadChanges_95 : decode cX2_spreadChanges 95 = .ok (.iload 4, 2) := by decide +kernel
theorem dX2_spreadChanges_97 : decode cX2_spreadChanges 97 = .ok (.iaload, 1) := by decide +kernel
theorem dX2_spreadChanges_98 : decode cX2_spreadChanges 98 = .ok (.iload 5, 2) := by decide +kernel
theorem dX2_spreadChanges_100 : decode cX2_spreadChanges 100 = .ok (.iadd, 1) := by decide +kernel
theorem dX2_spreadChanges_101 : decode cX2_spreadChanges 101 = .ok (.aload_n 0, 1) := by decide +kernel
theorem dX2_spreadChanges_102 : decode cX2_spreadChanges 102 = .ok (.getfield 17, 3) := by decide +kernel
theorem dX2_spreadChanges_105 : decode cX2_spreadChanges 105 = .ok (.iload_n 2, 1) := by decide +kernel
theorem dX2_spreadChanges_106 : decode cX2_spreadChanges 106 = .ok (.iaload, 1) := by decide +kernel
theorem dX2_spreadChanges_107 : decode cX2_spreadChanges 107 = .ok (.if_icmp .ge 21, 3) := by decide +kernel
theorem dX2_spreadChanges_110 : decode cX2_spreadChanges 110 = .ok (.aload_n 0, 1) := by decide +kernel
theorem dX2_spreadChanges_111 : decode cX2_spreadChanges 111 = .ok (.getfield 17, 3) := by decide +kernel
theorem dX2_spreadChanges_114 : decode cX2_spreadChanges 114 = .ok (.iload_n 2, 1) := by decide +kernel
theorem dX2_spreadChanges_115 : decode cX2_spreadChanges 115 = .ok (.aload_n 0, 1) := by decide +kernel
theorem dX2_spreadChanges_116 : decode cX2_spreadChanges 116 = .ok (.getfield 17, 3) := by decide +kernel
theorem dX2_spreadChanges_119 : decode cX2_spreadChanges 119 = .ok (.iload 4, 2) := by decide +kernel
theorem dX2_spreadChanges_121 : decode cX2_spreadChanges 121 = .ok (.iaload, 1) := by decide +kernel
theorem dX2_spreadChanges_122 : decode cX2_spreadChanges 122 = .ok (.iload 5, 2) := by decide +kernel
theorem dX2_spreadChanges_124 : decode cX2_spreadChanges 124 = .ok (.iadd, 1) := by decide +kernel
theorem dX2_spreadChanges_125 : decode cX2_spreadChanges 125 = .ok (.iastore, 1) := by decide +kernel
theorem dX2_spreadChanges_126 : decode cX2_spreadChanges 126 = .ok (.iconst 1, 1) := by decide +kernel
theorem dX2_spreadChanges_127 : decode cX2_spreadChanges 127 = .ok (.istore_n 1, 1) := by decide +kernel
theorem dX2_spreadChanges_128 : decode cX2_spreadChanges 128 = .ok (.iinc 3 1, 3) := by decide +kernel
theorem dX2_spreadChanges_131 : decode cX2_spreadChanges 131 = .ok (.goto (-118), 3) := by decide +kernel
theorem dX2_spreadChanges_134 : decode cX2_spreadChanges 134 = .ok (.iinc 2 1, 3) := by decide +kernel
theorem dX2_spreadChanges_137 : decode cX2_spreadChanges 137 = .ok (.goto (-133), 3) := by decide +kernel
theorem dX2_spreadChanges_140 : decode cX2_spreadChanges 140 = .ok (.iload_n 1, 1) := by decide +kernel
theorem dX2_spreadChanges_141 : decode cX2_spreadChanges 141 = .ok (.ireturn, 1) := by decide +kernel
theorem dX2_isHole_0 : decode cX2_isHole 0 = .ok (.iconst 0, 1) := by decide +kernel
theorem dX2_isHole_1 : decode cX2_isHole 1 = .ok (.istore_n 3, 1) := by decide +kernel
theorem dX2_isHole_2 : decode cX2_isHole 2 = .ok (.iload_n 3, 1) := by decide +kernel
theorem dX2_isHole_3 : decode cX2_isHole 3 = .ok (.sipush 196, 3) := by decide +kernel
theorem dX2_isHole_6 : decode cX2_isHole 6 = .ok (.if_icmp .ge 80, 3) := by decide +kernel
theorem dX2_isHole_9 : decode cX2_isHole 9 = .ok (.iconst 1, 1) := by decide +kernel
theorem dX2_isHole_10 : decode cX2_isHole 10 = .ok (.istore 4, 2) := by decide +kernel
theorem dX2_isHole_12 : decode cX2_isHole 12 = .ok (.iload 4, 2) := by decide +kernel
theorem dX2_isHole_14 : decode cX2_isHole 14 = .ok (.bipush 9, 2) := by decide +kernel
theorem dX2_isHole_16 : decode cX2_isHole 16 = .ok (.if_icmp .ge 64, 3) := by decide +kernel
theorem dX2_isHole_19 : decode cX2_isHole 19 = .ok (.aload_n 0, 1) := by decide +kernel
theorem dX2_isHole_20 : decode cX2_isHole 20 = .ok (.iload_n 3, 1) := by decide +kernel
theorem dX2_isHole_21 : decode cX2_isHole 21 = .ok (.iload 4, 2) := by decide +kernel
theorem dX2_isHole_23 : decode cX2_isHole 23 = .ok (.invokevirtual 42, 3) := by decide +kernel
theorem dX2_isHole_26 : decode cX2_isHole 26 = .ok (.istore 5, 2) := by decide +kernel
theorem dX2_isHole_28 : decode cX2_isHole 28 = .ok (.iload 5, 2) := by decide +kernel
theorem dX2_isHole_30 : decode cX2_isHole 30 = .ok (.ifCond .lt 44, 3) := by decide +kernel
theorem dX2_isHole_33 : decode cX2_isHole 33 = .ok (.aload_n 0, 1) := by decide +kernel
theorem dX2_isHole_34 : decode cX2_isHole 34 = .ok (.getfield 13, 3) := by decide +kernel
theorem dX2_isHole_37 : decode cX2_isHole 37 = .ok (.iload_n 3, 1) := by decide +kernel
theorem dX2_isHole_38 : decode cX2_isHole 38 = .ok (.iaload, 1) := by decide +kernel
theorem dX2_isHole_39 : decode cX2_isHole 39 = .ok (.iload_n 1, 1) := by decide +kernel
theorem dX2_isHole_40 : decode cX2_isHole 40 = .ok (.if_icmp .ne 34, 3) := by decide +kernel
theorem dX2_isHole_43 : decode cX2_isHole 43 = .ok (.aload_n 0, 1) := by decide +kernel
theorem dX2_isHole_44 : decode cX2_isHole 44 = .ok (.getfield 13, 3) := by decide +kernel
theorem dX2_isHole_47 : decode cX2_isHole 47 = .ok (.iload 5, 2) := by decide +kernel
theorem dX2_isHole_49 : decode cX2_isHole 49 = .ok (.iaload, 1) := by decide +kernel
theorem dX2_isHole_50 : decode cX2_isHole 50 = .ok (.iload_n 2, 1) := by decide +kernel
theorem dX2_isHole_51 : decode cX2_isHole 51 = .ok (.if_icmp .ne 23, 3) := by decide +kernel
theorem dX2_isHole_54 : decode cX2_isHole 54 = .ok (.aload_n 0, 1) := by decide +kernel
theorem dX2_isHole_55 : decode cX2_isHole 55 = .ok (.getfield 17, 3) := by decide +kernel
theorem dX2_isHole_58 : decode cX2_isHole 58 = .ok (.iload 5, 2) := by decide +kernel
theorem dX2_isHole_60 : decode cX2_isHole 60 = .ok (.iaload, 1) := by decide +kernel
theorem dX2_isHole_61 : decode cX2_isHole 61 = .ok (.aload_n 0, 1) := by decide +kernel
theorem dX2_isHole_62 : decode cX2_isHole 62 = .ok (.getfield 17, 3) := by decide +kernel
theorem dX2_isHole_65 : decode cX2_isHole 65 = .ok (.iload_n 3, 1) := by decide +kernel
theorem dX2_isHole_66 : decode cX2_isHole 66 = .ok (.iaload, 1) := by decide +kernel
theorem dX2_isHole_67 : decode cX2_isHole 67 = .ok (.iconst 1, 1) := by decide +kernel
theorem dX2_isHole_68 : decode cX2_isHole 68 = .ok (.isub, 1) := by decide +kernel
theorem dX2_isHole_69 : decode cX2_isHole 69 = .ok (.if_icmp .ne 5, 3) := by decide +kernel
theorem dX2_isHole_72 : decode cX2_isHole 72 = .ok (.iconst 1, 1) := by decide +kernel
theorem dX2_isHole_73 : decode cX2_isHole 73 = .ok (.ireturn, 1) := by decide +kernel
theorem dX2_isHole_74 : decode cX2_isHole 74 = .ok (.iinc 4 2, 3) := by decide +kernel
theorem dX2_isHole_77 : decode cX2_isHole 77 = .ok (.goto (-65), 3) := by decide +kernel
theorem dX2_isHole_80 : decode cX2_isHole 80 = .ok (.iinc 3 1, 3) := by decide +kernel
theorem dX2_isHole_83 : decode cX2_isHole 83 = .ok (.goto (-81), 3) := by decide +kernel
theorem dX2_isHole_86 : decode cX2_isHole 86 = .ok (.iconst 0, 1) := by decide +kernel
theorem dX2_isHole_87 : decode cX2_isHole 87 = .ok (.ireturn, 1) := by decide +kernel
theorem dX2_around_0 : decode cX2_around 0 = .ok (.aload_n 0, 1) := by decide +kernel
theorem dX2_around_1 : decode cX2_around 1 = .ok (.iload_n 1, 1) := by decide +kernel
theorem dX2_around_2 : decode cX2_around 2 = .ok (.invokevirtual 67, 3) := by decide +kernel
theorem dX2_around_5 : decode cX2_around 5 = .ok (.istore_n 2, 1) := by decide +kernel
theorem dX2_around_6 : decode cX2_around 6 = .ok (.iload_n 2, 1) := by decide +kernel
theorem dX2_around_7 : decode cX2_around 7 = .ok (.ifCond .ge 5, 3) := by decide +kernel
theorem dX2_around_10 : decode cX2_around 10 = .ok (.iconst (-1), 1) := by decide +kernel
theorem dX2_around_11 : decode cX2_around 11 = .ok (.ireturn, 1) := by decide +kernel
theorem dX2_around_12 : decode cX2_around 12 = .ok (.aload_n 0, 1) := by decide +kernel
theorem dX2_around_13 : decode cX2_around 13 = .ok (.invokevirtual 71, 3) := by decide +kernel
theorem dX2_around_16 : decode cX2_around 16 = .ok (.iconst 0, 1) := by decide +kernel
theorem dX2_around_17 : decode cX2_around 17 = .ok (.istore_n 3, 1) := by decide +kernel
theorem dX2_around_18 : decode cX2_around 18 = .ok (.iload_n 3, 1) := by decide +kernel
theorem dX2_around_19 : decode cX2_around 19 = .ok (.sipush 196, 3) := by decide +kernel
theorem dX2_around_22 : decode cX2_around 22 = .ok (.if_icmp .ge 56, 3) := by decide +kernel
theorem dX2_around_25 : decode cX2_around 25 = .ok (.aload_n 0, 1) := by decide +kernel
theorem dX2_around_26 : decode cX2_around 26 = .ok (.iload_n 3, 1) := by decide +kernel
theorem dX2_around_27 : decode cX2_around 27 = .ok (.iconst 1, 1) := by decide +kernel
theorem dX2_around_28 : decode cX2_around 28 = .ok (.invokevirtual 56, 3) := by decide +kernel
theorem dX2_around_31 : decode cX2_around 31 = .ok (.ifCond .eq 41, 3) := by decide +kernel
theorem dX2_around_34 : decode cX2_around 34 = .ok (.aload_n 0, 1) := by decide +kernel
theorem dX2_around_35 : decode cX2_around 35 = .ok (.getfield 17, 3) := by decide +kernel
theorem dX2_around_38 : decode cX2_around 38 = .ok (.iload_n 3, 1) := by decide +kernel
theorem dX2_around_39 : decode cX2_around 39 = .ok (.iaload, 1) := by decide +kernel
theorem dX2_around_40 : decode cX2_around 40 = .ok (.aload_n 0, 1) := by decide +kernel
theorem dX2_around_41 : decode cX2_around 41 = .ok (.getfield 17, 3) := by decide +kernel
theorem dX2_around_44 : decode cX2_around 44 = .ok (.iload_n 2, 1) := by decide +kernel
theorem dX2_around_45 : decode cX2_around 45 = .ok (.iaload, 1) := by decide +kernel
theorem dX2_around_46 : decode cX2_around 46 = .ok (.iconst 2, 1) := by decide +kernel
theorem dX2_around_47 : decode cX2_around 47 = .ok (.isub, 1) := by decide +kernel
theorem dX2_around_48 : decode cX2_around 48 = .ok (.if_icmp .ne 24, 3) := by decide +kernel
theorem dX2_around_51 : decode cX2_around 51 = .ok (.aload_n 0, 1) := by decide +kernel
theorem dX2_around_52 : decode cX2_around 52 = .ok (.iload_n 3, 1) := by decide +kernel
theorem dX2_around_53 : decode cX2_around 53 = .ok (.invokevirtual 80, 3) := by decide +kernel
theorem dX2_around_56 : decode cX2_around 56 = .ok (.aload_n 0, 1) := by decide +kernel
theorem dX2_around_57 : decode cX2_around 57 = .ok (.getfield 20, 3) := by decide +kernel
theorem dX2_around_60 : decode cX2_around 60 = .ok (.iload_n 2, 1) := by decide +kernel
theorem dX2_around_61 : decode cX2_around 61 = .ok (.baload, 1) := by decide +kernel
theorem dX2_around_62 : decode cX2_around 62 = .ok (.ifCond .ne 10, 3) := by decide +kernel
theorem dX2_around_65 : decode cX2_around 65 = .ok (.aload_n 0, 1) := by decide +kernel
theorem dX2_around_66 : decode cX2_around 66 = .ok (.iconst 1, 1) := by decide +kernel
theorem dX2_around_67 : decode cX2_around 67 = .ok (.iload_n 3, 1) := by decide +kernel
theorem dX2_around_68 : decode cX2_around 68 = .ok (.invokevirtual 63, 3) := by decide +kernel
theorem dX2_around_71 : decode cX2_around 71 = .ok (.ireturn, 1) := by decide +kernel
theorem dX2_around_72 : decode cX2_around 72 = .ok (.iinc 3 1, 3) := by decide +kernel
theorem dX2_around_75 : decode cX2_around 75 = .ok (.goto (-57), 3) := by decide +kernel
theorem dX2_around_78 : decode cX2_around 78 = .ok (.bipush (-2), 2) := by decide +kernel
theorem dX2_around_80 : decode cX2_around 80 = .ok (.ireturn, 1) := by decide +kernel
theorem dX2_findReached_0 : decode cX2_findReached 0 = .ok (.iconst 0, 1) := by decide +kernel
theorem dX2_findReached_1 : decode cX2_findReached 1 = .ok (.istore_n 2, 1) := by decide +kernel
theorem dX2_findReached_2 : decode cX2_findReached 2 = .ok (.iload_n 2, 1) := by decide +kernel
theorem dX2_findReached_3 : decode cX2_findReached 3 = .ok (.sipush 196, 3) := by decide +kernel
theorem dX2_findReached_6 : decode cX2_findReached 6 = .ok (.if_icmp .ge 24, 3) := by decide +kernel
theorem dX2_findReached_9 : decode cX2_findReached 9 = .ok (.aload_n 0, 1) := by decide +kernel
theorem dX2_findReached_10 : decode cX2_findReached 10 = .ok (.getfield 20, 3) := by decide +kernel
theorem dX2_findReached_13 : decode cX2_findReached 13 = .ok (.iload_n 2, 1) := by decide +kernel
theorem dX2_findReached_14 : decode cX2_findReached 14 = .ok (.iload_n 2, 1) := by decide +kernel
theorem dX2_findReached_15 : decode cX2_findReached 15 = .ok (.ifCond .ne 7, 3) := by decide +kernel
theorem dX2_findReached_18 : decode cX2_findReached 18 = .ok (.iconst 1, 1) := by decide +kernel
theorem dX2_findReached_19 : decode cX2_findReached 19 = .ok (.goto 4, 3) := by decide +kernel
theorem dX2_findReached_22 : decode cX2_findReached 22 = .ok (.iconst 0, 1) := by decide +kernel
theorem dX2_findReached_23 : decode cX2_findReached 23 = .ok (.bastore, 1) := by decide +kernel
theorem dX2_findReached_24 : decode cX2_findReached 24 = .ok (.iinc 2 1, 3) := by decide +kernel
theorem dX2_findReached_27 : decode cX2_findReached 27 = .ok (.goto (-25), 3) := by decide +kernel
theorem dX2_findReached_30 : decode cX2_findReached 30 = .ok (.iconst 1, 1) := by decide +kernel
theorem dX2_findReached_31 : decode cX2_findReached 31 = .ok (.istore_n 2, 1) := by decide +kernel
theorem dX2_findReached_32 : decode cX2_findReached 32 = .ok (.iconst 0, 1) := by decide +kernel
theorem dX2_findReached_33 : decode cX2_findReached 33 = .ok (.istore_n 3, 1) := by decide +kernel
theorem dX2_findReached_34 : decode cX2_findReached 34 = .ok (.iload_n 3, 1) := by decide +kernel
theorem dX2_findReached_35 : decode cX2_findReached 35 = .ok (.sipush 197, 3) := by decide +kernel
theorem dX2_findReached_38 : decode cX2_findReached 38 = .ok (.if_icmp .ge 19, 3) := by decide +kernel
theorem dX2_findReached_41 : decode cX2_findReached 41 = .ok (.iload_n 2, 1) := by decide +kernel
theorem dX2_findReached_42 : decode cX2_findReached 42 = .ok (.ifCond .eq 15, 3) := by decide +kernel
theorem dX2_findReached_45 : decode cX2_findReached 45 = .ok (.aload_n 0, 1) := by decide +kernel
theorem dX2_findReached_46 : decode cX2_findReached 46 = .ok (.iload_n 1, 1) := by decide +kernel
theorem dX2_findReached_47 : decode cX2_findReached 47 = .ok (.invokevirtual 77, 3) := by decide +kernel
theorem dX2_findReached_50 : decode cX2_findReached 50 = .ok (.istore_n 2, 1) := by decide +kernel
theorem dX2_findReached_51 : decode cX2_findReached 51 = .ok (.iinc 3 1, 3) := by decide +kernel
theorem dX2_findReached_54 : decode cX2_findReached 54 = .ok (.goto (-20), 3) := by decide +kernel
theorem dX2_findReached_57 : decode cX2_findReached 57 = .ok (.return_, 1) := by decide +kernel
theorem dX2_spreadReached_0 : decode cX2_spreadReached 0 = .ok (.iconst 0, 1) := by decide +kernel
theorem dX2_spreadReached_1 : decode cX2_spreadReached 1 = .ok (.istore_n 2, 1) := by decide +kernel
theorem dX2_spreadReached_2 : decode cX2_spreadReached 2 = .ok (.iconst 0, 1) := by decide +kernel
theorem dX2_spreadReached_3 : decode cX2_spreadReached 3 = .ok (.istore_n 3, 1) := by decide +kernel
theorem dX2_spreadReached_4 : decode cX2_spreadReached 4 = .ok (.iload_n 3, 1) := by decide +kernel
theorem dX2_spreadReached_5 : decode cX2_spreadReached 5 = .ok (.sipush 196, 3) := by decide +kernel
theorem dX2_spreadReached_8 : decode cX2_spreadReached 8 = .ok (.if_icmp .ge 79, 3) := by decide +kernel
theorem dX2_spreadReached_11 : decode cX2_spreadReached 11 = .ok (.iconst 1, 1) := by decide +kernel
theorem dX2_spreadReached_12 : decode cX2_spreadReached 12 = .ok (.istore 4, 2) := by decide +kernel
theorem dX2_spreadReached_14 : decode cX2_spreadReached 14 = .ok (.iload 4, 2) := by decide +kernel
theorem dX2_spreadReached_16 : decode cX2_spreadReached 16 = .ok (.bipush 9, 2) := by decide +kernel
theorem dX2_spreadReached_18 : decode cX2_spreadReached 18 = .ok (.if_icmp .ge 63, 3) := by decide +kernel
theorem dX2_spreadReached_21 : decode cX2_spreadReached 21 = .ok (.aload_n 0, 1) := by decide +kernel
theorem dX2_spreadReached_22 : decode cX2_spreadReached 22 = .ok (.iload_n 3, 1) := by decide +kernel
theorem dX2_spreadReached_23 : decode cX2_spreadReached 23 = .ok (.iload 4, 2) := by decide +kernel
theorem dX2_spreadReached_25 : decode cX2_spreadReached 25 = .ok (.invokevirtual 42, 3) := by decide +kernel
theorem dX2_spreadReached_28 : decode cX2_spreadReached 28 = .ok (.istore 5, 2) := by decide +kernel
theorem dX2_spreadReached_30 : decode cX2_spreadReached 30 = .ok (.iload 5, 2) := by decide +kernel
theorem dX2_spreadReached_32 : decode cX2_spreadReached 32 = .ok (.ifCond .lt 43, 3) := by decide +kernel
theorem dX2_spreadReached_35 : decode cX2_spreadReached 35 = .ok (.aload_n 0, 1) := by decide +kernel
theorem dX2_spreadReached_36 : decode cX2_spreadReached 36 = .ok (.getfield 20, 3) := by decide +kernel
theorem dX2_spreadReached_39 : decode cX2_spreadReached 39 = .ok (.iload_n 3, 1) := by decide +kernel
theorem dX2_spreadReached_40 : decode cX2_spreadReached 40 = .ok (.baload, 1) := by decide +kernel
theorem dX2_spreadReached_41 : decode cX2_spreadReached 41 = .ok (.ifCond .eq 34, 3) := by decide +kernel
theorem dX2_spreadReached_44 : decode cX2_spreadReached 44 = .ok (.aload_n 0, 1) := by decide +kernel
theorem dX2_spreadReached_45 : decode cX2_spreadReached 45 = .ok (.getfield 20, 3) := by decide +kernel
theorem dX2_spreadReached_48 : decode cX2_spreadReached 48 = .ok (.iload 5, 2) := by decide +kernel
theorem dX2_spreadReached_50 : decode cX2_spreadReached 50 = .ok (.baload, 1) := by decide +kernel
theorem dX2_spreadReached_51 : decode cX2_spreadReached 51 = .ok (.ifCond .ne 24, 3) := by decide +kernel
theorem dX2_spreadReached_54 : decode cX2_spreadReached 54 = .ok (.aload_n 0, 1) := by decide +kernel
theorem dX2_spreadReached_55 : decode cX2_spreadReached 55 = .ok (.getfield 13, 3) := by decide +kernel
theorem dX2_spreadReached_58 : decode cX2_spreadReached 58 = .ok (.iload 5, 2) := by decide +kernel
theorem dX2_spreadReached_60 : decode cX2_spreadReached 60 = .ok (.iaload, 1) := by decide +kernel
theorem dX2_spreadReached_61 : decode cX2_spreadReached 61 = .ok (.iload_n 1, 1) := by decide +kernel
theorem dX2_spreadReached_62 : decode cX2_spreadReached 62 = .ok (.if_icmp .eq 13, 3) := by decide +kernel
theorem dX2_spreadReached_65 : decode cX2_spreadReached 65 = .ok (.aload_n 0, 1) := by decide +kernel
theorem dX2_spreadReached_66 : decode cX2_spreadReached 66 = .ok (.getfield 20, 3) := by decide +kernel
theorem dX2_spreadReached_69 : decode cX2_spreadReached 69 = .ok (.iload 5, 2) := by decide +kernel
theorem dX2_spreadReached_71 : decode cX2_spreadReached 71 = .ok (.iconst 1, 1) := by decide +kernel
theorem dX2_spreadReached_72 : decode cX2_spreadReached 72 = .ok (.bastore, 1) := by decide +kernel
theorem dX2_spreadReached_73 : decode cX2_spreadReached 73 = .ok (.iconst 1, 1) := by decide +kernel
theorem dX2_spreadReached_74 : decode cX2_spreadReached 74 = .ok (.istore_n 2, 1) := by decide +kernel
theorem dX2_spreadReached_75 : decode cX2_spreadReached 75 = .ok (.iinc 4 2, 3) := by decide +kernel
theorem dX2_spreadReached_78 : decode cX2_spreadReached 78 = .ok (.goto (-64), 3) := by decide +kernel
theorem dX2_spreadReached_81 : decode cX2_spreadReached 81 = .ok (.iinc 3 1, 3) := by decide +kernel
theorem dX2_spreadReached_84 : decode cX2_spreadReached 84 = .ok (.goto (-80), 3) := by decide +kernel
theorem dX2_spreadReached_87 : decode cX2_spreadReached 87 = .ok (.iload_n 2, 1) := by decide +kernel
theorem dX2_spreadReached_88 : decode cX2_spreadReached 88 = .ok (.ireturn, 1) := by decide +kernel
theorem dX2_depth_0 : decode cX2_depth 0 = .ok (.aload_n 0, 1) := by decide +kernel
theorem dX2_depth_1 : decode cX2_depth 1 = .ok (.iload_n 1, 1) := by decide +kernel
theorem dX2_depth_2 : decode cX2_depth 2 = .ok (.iload_n 2, 1) := by decide +kernel
theorem dX2_depth_3 : decode cX2_depth 3 = .ok (.invokevirtual 30, 3) := by decide +kernel
theorem dX2_depth_6 : decode cX2_depth 6 = .ok (.ifCond .ne 5, 3) := by decide +kernel
theorem dX2_depth_9 : decode cX2_depth 9 = .ok (.iconst (-1), 1) := by decide +kernel
theorem dX2_depth_10 : decode cX2_depth 10 = .ok (.ireturn, 1) := by decide +kernel
theorem dX2_depth_11 : decode cX2_depth 11 = .ok (.aload_n 0, 1) := by decide +kernel
theorem dX2_depth_12 : decode cX2_depth 12 = .ok (.invokevirtual 71, 3) := by decide +kernel
theorem dX2_depth_15 : decode cX2_depth 15 = .ok (.aload_n 0, 1) := by decide +kernel
theorem dX2_depth_16 : decode cX2_depth 16 = .ok (.getfield 17, 3) := by decide +kernel
theorem dX2_depth_19 : decode cX2_depth 19 = .ok (.aload_n 0, 1) := by decide +kernel
theorem dX2_depth_20 : decode cX2_depth 20 = .ok (.iload_n 1, 1) := by decide +kernel
theorem dX2_depth_21 : decode cX2_depth 21 = .ok (.iload_n 2, 1) := by decide +kernel
theorem dX2_depth_22 : decode cX2_depth 22 = .ok (.invokevirtual 34, 3) := by decide +kernel
theorem dX2_depth_25 : decode cX2_depth 25 = .ok (.iaload, 1) := by decide +kernel
theorem dX2_depth_26 : decode cX2_depth 26 = .ok (.ireturn, 1) := by decide +kernel
theorem dX2_enclosed_0 : decode cX2_enclosed 0 = .ok (.aload_n 0, 1) := by decide +kernel
theorem dX2_enclosed_1 : decode cX2_enclosed 1 = .ok (.iload_n 1, 1) := by decide +kernel
theorem dX2_enclosed_2 : decode cX2_enclosed 2 = .ok (.invokevirtual 67, 3) := by decide +kernel
theorem dX2_enclosed_5 : decode cX2_enclosed 5 = .ok (.istore_n 2, 1) := by decide +kernel
theorem dX2_enclosed_6 : decode cX2_enclosed 6 = .ok (.iload_n 2, 1) := by decide +kernel
theorem dX2_enclosed_7 : decode cX2_enclosed 7 = .ok (.ifCond .ge 5, 3) := by decide +kernel
theorem dX2_enclosed_10 : decode cX2_enclosed 10 = .ok (.iconst (-1), 1) := by decide +kernel
theorem dX2_enclosed_11 : decode cX2_enclosed 11 = .ok (.ireturn, 1) := by decide +kernel
theorem dX2_enclosed_12 : decode cX2_enclosed 12 = .ok (.aload_n 0, 1) := by decide +kernel
theorem dX2_enclosed_13 : decode cX2_enclosed 13 = .ok (.iload_n 2, 1) := by decide +kernel
theorem dX2_enclosed_14 : decode cX2_enclosed 14 = .ok (.invokevirtual 80, 3) := by decide +kernel
theorem dX2_enclosed_17 : decode cX2_enclosed 17 = .ok (.iconst 0, 1) := by decide +kernel
theorem dX2_enclosed_18 : decode cX2_enclosed 18 = .ok (.istore_n 3, 1) := by decide +kernel
theorem dX2_enclosed_19 : decode cX2_enclosed 19 = .ok (.iconst 0, 1) := by decide +kernel
theorem dX2_enclosed_20 : decode cX2_enclosed 20 = .ok (.istore 4, 2) := by decide +kernel
theorem dX2_enclosed_22 : decode cX2_enclosed 22 = .ok (.iload 4, 2) := by decide +kernel
theorem dX2_enclosed_24 : decode cX2_enclosed 24 = .ok (.sipush 196, 3) := by decide +kernel
theorem dX2_enclosed_27 : decode cX2_enclosed 27 = .ok (.if_icmp .ge 33, 3) := by decide +kernel
theorem dX2_enclosed_30 : decode cX2_enclosed 30 = .ok (.aload_n 0, 1) := by decide +kernel
theorem dX2_enclosed_31 : decode cX2_enclosed 31 = .ok (.getfield 20, 3) := by decide +kernel
theorem dX2_enclosed_34 : decode cX2_enclosed 34 = .ok (.iload 4, 2) := by decide +kernel
theorem dX2_enclosed_36 : decode cX2_enclosed 36 = .ok (.baload, 1) := by decide +kernel
theorem dX2_enclosed_37 : decode cX2_enclosed 37 = .ok (.ifCond .ne 17, 3) := by decide +kernel
theorem dX2_enclosed_40 : decode cX2_enclosed 40 = .ok (.aload_n 0, 1) := by decide +kernel
theorem dX2_enclosed_41 : decode cX2_enclosed 41 = .ok (.getfield 13, 3) := by decide +kernel
theorem dX2_enclosed_44 : decode cX2_enclosed 44 = .ok (.iload 4, 2) := by decide +kernel
theorem dX2_enclosed_46 : decode cX2_enclosed 46 = .ok (.iaload, 1) := by decide +kernel
theorem dX2_enclosed_47 : decode cX2_enclosed 47 = .ok (.iload_n 2, 1) := by decide +kernel
theorem dX2_enclosed_48 : decode cX2_enclosed 48 = .ok (.if_icmp .eq 6, 3) := by decide +kernel
theorem dX2_enclosed_51 : decode cX2_enclosed 51 = .ok (.iinc 3 1, 3) := by decide +kernel
theorem dX2_enclosed_54 : decode cX2_enclosed 54 = .ok (.iinc 4 1, 3) := by decide +kernel
theorem dX2_enclosed_57 : decode cX2_enclosed 57 = .ok (.goto (-35), 3) := by decide +kernel
theorem dX2_enclosed_60 : decode cX2_enclosed 60 = .ok (.iload_n 3, 1) := by decide +kernel
theorem dX2_enclosed_61 : decode cX2_enclosed 61 = .ok (.ireturn, 1) := by decide +kernel
