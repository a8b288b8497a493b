set_option maxRecDepth 100000
theorem dX1_touchAbove_76 : decode cX1_touchAbove 76 = .ok (.getfield 17, 3) := by decide +kernel
theorem dX1_touchAbove_79 : decode cX1_touchAbove 79 = .ok (.iload_n 3, 1) := by decide +kernel
theorem dX1_touchAbove_80 : decode cX1_touchAbove 80 = .ok (.baload, 1) := by decide +kernel
theorem dX1_touchAbove_81 : decode cX1_touchAbove 81 = .ok (.iload 4, 2) := by decide +kernel
theorem dX1_touchAbove_83 : decode cX1_touchAbove 83 = .ok (.iadd, 1) := by decide +kernel
theorem dX1_touchAbove_84 : decode cX1_touchAbove 84 = .ok (.if_icmp .gt 27, 3) := by decide +kernel
theorem dX1_touchAbove_87 : decode cX1_touchAbove 87 = .ok (.aload_n 0, 1) := by decide +kernel
theorem dX1_touchAbove_88 : decode cX1_touchAbove 88 = .ok (.getfield 13, 3) := by decide +kernel
theorem dX1_touchAbove_91 : decode cX1_touchAbove 91 = .ok (.iload_n 3, 1) := by decide +kernel
theorem dX1_touchAbove_92 : decode cX1_touchAbove 92 = .ok (.baload, 1) := by decide +kernel
theorem dX1_touchAbove_93 : decode cX1_touchAbove 93 = .ok (.aload_n 0, 1) := by decide +kernel
theorem dX1_touchAbove_94 : decode cX1_touchAbove 94 = .ok (.getfield 17, 3) := by decide +kernel
theorem dX1_touchAbove_97 : decode cX1_touchAbove 97 = .ok (.iload_n 2, 1) := by decide +kernel
theorem dX1_touchAbove_98 : decode cX1_touchAbove 98 = .ok (.baload, 1) := by decide +kernel
theorem dX1_touchAbove_99 : decode cX1_touchAbove 99 = .ok (.iload 4, 2) := by decide +kernel
theorem dX1_touchAbove_101 : decode cX1_touchAbove 101 = .ok (.iadd, 1) := by decide +kernel
theorem dX1_touchAbove_102 : decode cX1_touchAbove 102 = .ok (.if_icmp .gt 9, 3) := by decide +kernel
theorem dX1_touchAbove_105 : decode cX1_touchAbove 105 = .ok (.aload_n 0, 1) := by decide +kernel
theorem dX1_touchAbove_106 : decode cX1_touchAbove 106 = .ok (.iload_n 2, 1) := by decide +kernel
theorem dX1_touchAbove_107 : decode cX1_touchAbove 107 = .ok (.iload_n 3, 1) := by decide +kernel
theorem dX1_touchAbove_108 : decode cX1_touchAbove 108 = .ok (.invokevirtual 99, 3) := by decide +kernel
theorem dX1_touchAbove_111 : decode cX1_touchAbove 111 = .ok (.aload_n 0, 1) := by decide +kernel
theorem dX1_touchAbove_112 : decode cX1_touchAbove 112 = .ok (.getfield 20, 3) := by decide +kernel
theorem dX1_touchAbove_115 : decode cX1_touchAbove 115 = .ok (.iload_n 2, 1) := by decide +kernel
theorem dX1_touchAbove_116 : decode cX1_touchAbove 116 = .ok (.baload, 1) := by decide +kernel
theorem dX1_touchAbove_117 : decode cX1_touchAbove 117 = .ok (.aload_n 0, 1) := by decide +kernel
theorem dX1_touchAbove_118 : decode cX1_touchAbove 118 = .ok (.getfield 20, 3) := by decide +kernel
theorem dX1_touchAbove_121 : decode cX1_touchAbove 121 = .ok (.iload_n 3, 1) := by decide +kernel
theorem dX1_touchAbove_122 : decode cX1_touchAbove 122 = .ok (.baload, 1) := by decide +kernel
theorem dX1_touchAbove_123 : decode cX1_touchAbove 123 = .ok (.if_icmp .eq 10, 3) := by decide +kernel
theorem dX1_touchAbove_126 : decode cX1_touchAbove 126 = .ok (.aload_n 0, 1) := by decide +kernel
theorem dX1_touchAbove_127 : decode cX1_touchAbove 127 = .ok (.iload_n 2, 1) := by decide +kernel
theorem dX1_touchAbove_128 : decode cX1_touchAbove 128 = .ok (.iload_n 3, 1) := by decide +kernel
theorem dX1_touchAbove_129 : decode cX1_touchAbove 129 = .ok (.iload_n 1, 1) := by decide +kernel
theorem dX1_touchAbove_130 : decode cX1_touchAbove 130 = .ok (.invokevirtual 103, 3) := by decide +kernel
theorem dX1_touchAbove_133 : decode cX1_touchAbove 133 = .ok (.aload_n 0, 1) := by decide +kernel
theorem dX1_touchAbove_134 : decode cX1_touchAbove 134 = .ok (.getfield 17, 3) := by decide +kernel
theorem dX1_touchAbove_137 : decode cX1_touchAbove 137 = .ok (.iload_n 2, 1) := by decide +kernel
theorem dX1_touchAbove_138 : decode cX1_touchAbove 138 = .ok (.baload, 1) := by decide +kernel
theorem dX1_touchAbove_139 : decode cX1_touchAbove 139 = .ok (.aload_n 0, 1) := by decide +kernel
theorem dX1_touchAbove_140 : decode cX1_touchAbove 140 = .ok (.getfield 17, 3) := by decide +kernel
theorem dX1_touchAbove_143 : decode cX1_touchAbove 143 = .ok (.iload_n 3, 1) := by decide +kernel
theorem dX1_touchAbove_144 : decode cX1_touchAbove 144 = .ok (.baload, 1) := by decide +kernel
theorem dX1_touchAbove_145 : decode cX1_touchAbove 145 = .ok (.if_icmp .ge 9, 3) := by decide +kernel
theorem dX1_touchAbove_148 : decode cX1_touchAbove 148 = .ok (.iinc 2 1, 3) := by decide +kernel
theorem dX1_touchAbove_151 : decode cX1_touchAbove 151 = .ok (.goto 6, 3) := by decide +kernel
theorem dX1_touchAbove_154 : decode cX1_touchAbove 154 = .ok (.iinc 3 1, 3) := by decide +kernel
theorem dX1_touchAbove_157 : decode cX1_touchAbove 157 = .ok (.goto (-141), 3) := by decide +kernel
theorem dX1_touchAbove_160 : decode cX1_touchAbove 160 = .ok (.return_, 1) := by decide +kernel
theorem dX1_cornerAbove_0 : decode cX1_cornerAbove 0 = .ok (.aload_n 0, 1) := by decide +kernel
theorem dX1_cornerAbove_1 : decode cX1_cornerAbove 1 = .ok (.getfield 20, 3) := by decide +kernel
theorem dX1_cornerAbove_4 : decode cX1_cornerAbove 4 = .ok (.iload_n 1, 1) := by decide +kernel
theorem dX1_cornerAbove_5 : decode cX1_cornerAbove 5 = .ok (.baload, 1) := by decide +kernel
theorem dX1_cornerAbove_6 : decode cX1_cornerAbove 6 = .ok (.ifCond .ne 42, 3) := by decide +kernel
theorem dX1_cornerAbove_9 : decode cX1_cornerAbove 9 = .ok (.iload_n 1, 1) := by decide +kernel
theorem dX1_cornerAbove_10 : decode cX1_cornerAbove 10 = .ok (.iconst 1, 1) := by decide +kernel
theorem dX1_cornerAbove_11 : decode cX1_cornerAbove 11 = .ok (.iadd, 1) := by decide +kernel
theorem dX1_cornerAbove_12 : decode cX1_cornerAbove 12 = .ok (.aload_n 0, 1) := by decide +kernel
theorem dX1_cornerAbove_13 : decode cX1_cornerAbove 13 = .ok (.getfield 28, 3) := by decide +kernel
theorem dX1_cornerAbove_16 : decode cX1_cornerAbove 16 = .ok (.iload_n 3, 1) := by decide +kernel
theorem dX1_cornerAbove_17 : decode cX1_cornerAbove 17 = .ok (.saload, 1) := by decide +kernel
theorem dX1_cornerAbove_18 : decode cX1_cornerAbove 18 = .ok (.if_icmp .ge 30, 3) := by decide +kernel
theorem dX1_cornerAbove_21 : decode cX1_cornerAbove 21 = .ok (.aload_n 0, 1) := by decide +kernel
theorem dX1_cornerAbove_22 : decode cX1_cornerAbove 22 = .ok (.getfield 13, 3) := by decide +kernel
theorem dX1_cornerAbove_25 : decode cX1_cornerAbove 25 = .ok (.iload_n 1, 1) := by decide +kernel
theorem dX1_cornerAbove_26 : decode cX1_cornerAbove 26 = .ok (.iconst 1, 1) := by decide +kernel
theorem dX1_cornerAbove_27 : decode cX1_cornerAbove 27 = .ok (.iadd, 1) := by decide +kernel
theorem dX1_cornerAbove_28 : decode cX1_cornerAbove 28 = .ok (.baload, 1) := by decide +kernel
theorem dX1_cornerAbove_29 : decode cX1_cornerAbove 29 = .ok (.aload_n 0, 1) := by decide +kernel
theorem dX1_cornerAbove_30 : decode cX1_cornerAbove 30 = .ok (.getfield 17, 3) := by decide +kernel
theorem dX1_cornerAbove_33 : decode cX1_cornerAbove 33 = .ok (.iload_n 2, 1) := by decide +kernel
theorem dX1_cornerAbove_34 : decode cX1_cornerAbove 34 = .ok (.baload, 1) := by decide +kernel
theorem dX1_cornerAbove_35 : decode cX1_cornerAbove 35 = .ok (.iconst 1, 1) := by decide +kernel
theorem dX1_cornerAbove_36 : decode cX1_cornerAbove 36 = .ok (.iadd, 1) := by decide +kernel
theorem dX1_cornerAbove_37 : decode cX1_cornerAbove 37 = .ok (.if_icmp .ne 11, 3) := by decide +kernel
theorem dX1_cornerAbove_40 : decode cX1_cornerAbove 40 = .ok (.aload_n 0, 1) := by decide +kernel
theorem dX1_cornerAbove_41 : decode cX1_cornerAbove 41 = .ok (.iload_n 1, 1) := by decide +kernel
theorem dX1_cornerAbove_42 : decode cX1_cornerAbove 42 = .ok (.iconst 1, 1) := by decide +kernel
theorem dX1_cornerAbove_43 : decode cX1_cornerAbove 43 = .ok (.iadd, 1) := by decide +kernel
theorem dX1_cornerAbove_44 : decode cX1_cornerAbove 44 = .ok (.iload_n 2, 1) := by decide +kernel
theorem dX1_cornerAbove_45 : decode cX1_cornerAbove 45 = .ok (.invokevirtual 99, 3) := by decide +kernel
theorem dX1_cornerAbove_48 : decode cX1_cornerAbove 48 = .ok (.aload_n 0, 1) := by decide +kernel
theorem dX1_cornerAbove_49 : decode cX1_cornerAbove 49 = .ok (.getfield 20, 3) := by decide +kernel
theorem dX1_cornerAbove_52 : decode cX1_cornerAbove 52 = .ok (.iload_n 2, 1) := by decide +kernel
theorem dX1_cornerAbove_53 : decode cX1_cornerAbove 53 = .ok (.baload, 1) := by decide +kernel
theorem dX1_cornerAbove_54 : decode cX1_cornerAbove 54 = .ok (.ifCond .ne 44, 3) := by decide +kernel
theorem dX1_cornerAbove_57 : decode cX1_cornerAbove 57 = .ok (.iload_n 2, 1) := by decide +kernel
theorem dX1_cornerAbove_58 : decode cX1_cornerAbove 58 = .ok (.iconst 1, 1) := by decide +kernel
theorem dX1_cornerAbove_59 : decode cX1_cornerAbove 59 = .ok (.iadd, 1) := by decide +kernel
theorem dX1_cornerAbove_60 : decode cX1_cornerAbove 60 = .ok (.aload_n 0, 1) := by decide +kernel
theorem dX1_cornerAbove_61 : decode cX1_cornerAbove 61 = .ok (.getfield 28, 3) := by decide +kernel
theorem dX1_cornerAbove_64 : decode cX1_cornerAbove 64 = .ok (.iload_n 3, 1) := by decide +kernel
theorem dX1_cornerAbove_65 : decode cX1_cornerAbove 65 = .ok (.iconst 1, 1) := by decide +kernel
theorem dX1_cornerAbove_66 : decode cX1_cornerAbove 66 = .ok (.iadd, 1) := by decide +kernel
theorem dX1_cornerAbove_67 : decode cX1_cornerAbove 67 = .ok (.saload, 1) := by decide +kernel
theorem dX1_cornerAbove_68 : decode cX1_cornerAbove 68 = .ok (.if_icmp .ge 30, 3) := by decide +kernel
theorem dX1_cornerAbove_71 : decode cX1_cornerAbove 71 = .ok (.aload_n 0, 1) := by decide +kernel
theorem dX1_cornerAbove_72 : decode cX1_cornerAbove 72 = .ok (.getfield 13, 3) := by decide +kernel
theorem dX1_cornerAbove_75 : decode cX1_cornerAbove 75 = .ok (.iload_n 2, 1) := by decide +kernel
theorem dX1_cornerAbove_76 : decode cX1_cornerAbove 76 = .ok (.iconst 1, 1) := by decide +kernel
theorem dX1_cornerAbove_77 : decode cX1_cornerAbove 77 = .ok (.iadd, 1) := by decide +kernel
theorem dX1_cornerAbove_78 : decode cX1_cornerAbove 78 = .ok (.baload, 1) := by decide +kernel
theorem dX1_cornerAbove_79 : decode cX1_cornerAbove 79 = .ok (.aload_n 0, 1) := by decide +kernel
theorem dX1_cornerAbove_80 : decode cX1_cornerAbove 80 = .ok (.getfield 17, 3) := by decide +kernel
theorem dX1_cornerAbove_83 : decode cX1_cornerAbove 83 = .ok (.iload_n 1, 1) := by decide +kernel
theorem dX1_cornerAbove_84 : decode cX1_cornerAbove 84 = .ok (.baload, 1) := by decide +kernel
theorem dX1_cornerAbove_85 : decode cX1_cornerAbove 85 = .ok (.iconst 1, 1) := by decide +kernel
theorem dX1_cornerAbove_86 : decode cX1_cornerAbove 86 = .ok (.iadd, 1) := by decide +kernel
theorem dX1_cornerAbove_87 : decode cX1_cornerAbove 87 = .ok (.if_icmp .ne 11, 3) := by decide +kernel
theorem dX1_cornerAbove_90 : decode cX1_cornerAbove 90 = .ok (.aload_n 0, 1) := by decide +kernel
theorem dX1_cornerAbove_91 : decode cX1_cornerAbove 91 = .ok (.iload_n 1, 1) := by decide +kernel
theorem dX1_cornerAbove_92 : decode cX1_cornerAbove 92 = .ok (.iload_n 2, 1) := by decide +kernel
theorem dX1_cornerAbove_93 : decode cX1_cornerAbove 93 = .ok (.iconst 1, 1) := by decide +kernel
theorem dX1_cornerAbove_94 : decode cX1_cornerAbove 94 = .ok (.iadd, 1) := by decide +kernel
theorem dX1_cornerAbove_95 : decode cX1_cornerAbove 95 = .ok (.invokevirtual 99, 3) := by decide +kernel
theorem dX1_cornerAbove_98 : decode cX1_cornerAbove 98 = .ok (.return_, 1) := by decide +kernel
theorem dX1_settleRuns_0 : decode cX1_settleRuns 0 = .ok (.aload_n 0, 1) := by decide +kernel
theorem dX1_settleRuns_1 : decode cX1_settleRuns 1 = .ok (.iconst 0, 1) := by decide +kernel
theorem dX1_settleRuns_2 : decode cX1_settleRuns 2 = .ok (.putfield 70, 3) := by decide +kernel
theorem dX1_settleRuns_5 : decode cX1_settleRuns 5 = .ok (.aload_n 0, 1) := by decide +kernel
theorem dX1_settleRuns_6 : decode cX1_settleRuns 6 = .ok (.iconst 1, 1) := by decide +kernel
theorem dX1_settleRuns_7 : decode cX1_settleRuns 7 = .ok (.putfield 73, 3) := by decide +kernel
theorem dX1_settleRuns_10 : decode cX1_settleRuns 10 = .ok (.aload_n 0, 1) := by decide +kernel
theorem dX1_settleRuns_11 : decode cX1_settleRuns 11 = .ok (.getfield 37, 3) := by decide +kernel
theorem dX1_settleRuns_14 : decode cX1_settleRuns 14 = .ok (.iconst 0, 1) := by decide +kernel
theorem dX1_settleRuns_15 : decode cX1_settleRuns 15 = .ok (.iconst 0, 1) := by decide +kernel
theorem dX1_settleRuns_16 : decode cX1_settleRuns 16 = .ok (.sastore, 1) := by decide +kernel
theorem dX1_settleRuns_17 : decode cX1_settleRuns 17 = .ok (.aload_n 0, 1) := by decide +kernel
theorem dX1_settleRuns_18 : decode cX1_settleRuns 18 = .ok (.getfield 34, 3) := by decide +kernel
theorem dX1_settleRuns_21 : decode cX1_settleRuns 21 = .ok (.iconst 0, 1) := by decide +kernel
theorem dX1_settleRuns_22 : decode cX1_settleRuns 22 = .ok (.iconst 0, 1) := by decide +kernel
theorem dX1_settleRuns_23 : decode cX1_settleRuns 23 = .ok (.bastore, 1) := by decide +kernel
theorem dX1_settleRuns_24 : decode cX1_settleRuns 24 = .ok (.aload_n 0, 1) := by decide +kernel
theorem dX1_settleRuns_25 : decode cX1_settleRuns 25 = .ok (.getfield 31, 3) := by decide +kernel
theorem dX1_settleRuns_28 : decode cX1_settleRuns 28 = .ok (.iconst 0, 1) := by decide +kernel
theorem dX1_settleRuns_29 : decode cX1_settleRuns 29 = .ok (.iconst 0, 1) := by decide +kernel
theorem dX1_settleRuns_30 : decode cX1_settleRuns 30 = .ok (.sastore, 1) := by decide +kernel
theorem dX1_settleRuns_31 : decode cX1_settleRuns 31 = .ok (.iconst 1, 1) := by decide +kernel
theorem dX1_settleRuns_32 : decode cX1_settleRuns 32 = .ok (.istore_n 1, 1) := by decide +kernel
theorem dX1_settleRuns_33 : decode cX1_settleRuns 33 = .ok (.iload_n 1, 1) := by decide +kernel
theorem dX1_settleRuns_34 : decode cX1_settleRuns 34 = .ok (.aload_n 0, 1) := by decide +kernel
theorem dX1_settleRuns_35 : decode cX1_settleRuns 35 = .ok (.getfield 80, 3) := by decide +kernel
theorem dX1_settleRuns_38 : decode cX1_settleRuns 38 = .ok (.if_icmp .ge 178, 3) := by decide +kernel
theorem dX1_settleRuns_41 : decode cX1_settleRuns 41 = .ok (.aload_n 0, 1) := by decide +kernel
theorem dX1_settleRuns_42 : decode cX1_settleRuns 42 = .ok (.getfield 17, 3) := by decide +kernel
theorem dX1_settleRuns_45 : decode cX1_settleRuns 45 = .ok (.iload_n 1, 1) := by decide +kernel
theorem dX1_settleRuns_46 : decode cX1_settleRuns 46 = .ok (.baload, 1) := by decide +kernel
theorem dX1_settleRuns_47 : decode cX1_settleRuns 47 = .ok (.aload_n 0, 1) := by decide +kernel
theorem dX1_settleRuns_48 : decode cX1_settleRuns 48 = .ok (.getfield 13, 3) := by decide +kernel
theorem dX1_settleRuns_51 : decode cX1_settleRuns 51 = .ok (.iload_n 1, 1) := by decide +kernel
theorem dX1_settleRuns_52 : decode cX1_settleRuns 52 = .ok (.baload, 1) := by decide +kernel
theorem dX1_settleRuns_53 : decode cX1_settleRuns 53 = .ok (.isub, 1) := by decide +kernel
theorem dX1_settleRuns_54 : decode cX1_settleRuns 54 = .ok (.iconst 1, 1) := by decide +kernel
theorem dX1_settleRuns_55 : decode cX1_settleRuns 55 = .ok (.iadd, 1) := by decide +kernel
theorem dX1_settleRuns_56 : decode cX1_settleRuns 56 = .ok (.istore_n 2, 1) := by decide +kernel
theorem dX1_settleRuns_57 : decode cX1_settleRuns 57 = .ok (.aload_n 0, 1) := by decide +kernel
theorem dX1_settleRuns_58 : decode cX1_settleRuns 58 = .ok (.getfield 24, 3) := by decide +kernel
theorem dX1_settleRuns_61 : decode cX1_settleRuns 61 = .ok (.iload_n 1, 1) := by decide +kernel
theorem dX1_settleRuns_62 : decode cX1_settleRuns 62 = .ok (.aload_n 0, 1) := by decide +kernel
theorem dX1_settleRuns_63 : decode cX1_settleRuns 63 = .ok (.getfield 24, 3) := by decide +kernel
theorem dX1_settleRuns_66 : decode cX1_settleRuns 66 = .ok (.aload_n 0, 1) := by decide +kernel
theorem dX1_settleRuns_67 : decode cX1_settleRuns 67 = .ok (.getfield 24, 3) := by decide +kernel
theorem dX1_settleRuns_70 : decode cX1_settleRuns 70 = .ok (.iload_n 1, 1) := by decide +kernel
theorem dX1_settleRuns_71 : decode cX1_settleRuns 71 = .ok (.saload, 1) := by decide +kernel
theorem dX1_settleRuns_72 : decode cX1_settleRuns 72 = .ok (.saload, 1) := by decide +kernel
theorem dX1_settleRuns_73 : decode cX1_settleRuns 73 = .ok (.sastore, 1) := by decide +kernel
theorem dX1_settleRuns_74 : decode cX1_settleRuns 74 = .ok (.aload_n 0, 1) := by decide +kernel
theorem dX1_settleRuns_75 : decode cX1_settleRuns 75 = .ok (.getfield 24, 3) := by decide +kernel
theorem dX1_settleRuns_78 : decode cX1_settleRuns 78 = .ok (.iload_n 1, 1) := by decide +kernel
theorem dX1_settleRuns_79 : decode cX1_settleRuns 79 = .ok (.saload, 1) := by decide +kernel
theorem dX1_settleRuns_80 : decode cX1_settleRuns 80 = .ok (.istore_n 3, 1) := by decide +kernel
theorem dX1_settleRuns_81 : decode cX1_settleRuns 81 = .ok (.iload_n 3, 1) := by decide +kernel
theorem dX1_settleRuns_82 : decode cX1_settleRuns 82 = .ok (.iload_n 1, 1) := by decide +kernel
theorem dX1_settleRuns_83 : decode cX1_settleRuns 83 = .ok (.if_icmp .eq 17, 3) := by decide +kernel
theorem dX1_settleRuns_86 : decode cX1_settleRuns 86 = .ok (.aload_n 0, 1) := by decide +kernel
theorem dX1_settleRuns_87 : decode cX1_settleRuns 87 = .ok (.getfield 37, 3) := by decide +kernel
theorem dX1_settleRuns_90 : decode cX1_settleRuns 90 = .ok (.iload_n 3, 1) := by decide +kernel
theorem dX1_settleRuns_91 : decode cX1_settleRuns 91 = .ok (.dup2, 1) := by decide +kernel
theorem dX1_settleRuns_92 : decode cX1_settleRuns 92 = .ok (.saload, 1) := by decide +kernel
theorem dX1_settleRuns_93 : decode cX1_settleRuns 93 = .ok (.iload_n 2, 1) := by decide +kernel
theorem dX1_settleRuns_94 : decode cX1_settleRuns 94 = .ok (.iadd, 1) := by decide +kernel
theorem dX1_settleRuns_95 : decode cX1_settleRuns 95 = .ok (.i2s, 1) := by decide +kernel
theorem dX1_settleRuns_96 : decode cX1_settleRuns 96 = .ok (.sastore, 1) := by decide +kernel
theorem dX1_settleRuns_97 : decode cX1_settleRuns 97 = .ok (.goto 113, 3) := by decide +kernel
theorem dX1_settleRuns_100 : decode cX1_settleRuns 100 = .ok (.aload_n 0, 1) := by decide +kernel
theorem dX1_settleRuns_101 : decode cX1_settleRuns 101 = .ok (.getfield 37, 3) := by decide +kernel
theorem dX1_settleRuns_104 : decode cX1_settleRuns 104 = .ok (.iload_n 1, 1) := by decide +kernel
theorem dX1_settleRuns_105 : decode cX1_settleRuns 105 = .ok (.iload_n 2, 1) := by decide +kernel
theorem dX1_settleRuns_106 : decode cX1_settleRuns 106 = .ok (.i2s, 1) := by decide +kernel
theorem dX1_settleRuns_107 : decode cX1_settleRuns 107 = .ok (.sastore, 1) := by decide +kernel
theorem dX1_settleRuns_108 : decode cX1_settleRuns 108 = .ok (.aload_n 0, 1) := by decide +kernel
theorem dX1_settleRuns_109 : decode cX1_settleRuns 109 = .ok (.getfield 13, 3) := by decide +kernel
theorem dX1_settleRuns_112 : decode cX1_settleRuns 112 = .ok (.iload_n 1, 1) := by decide +kernel
theorem dX1_settleRuns_113 : decode cX1_settleRuns 113 = .ok (.baload, 1) := by decide +kernel
theorem dX1_settleRuns_114 : decode cX1_settleRuns 114 = .ok (.ifCond .ne 7, 3) := by decide +kernel
theorem dX1_settleRuns_117 : decode cX1_settleRuns 117 = .ok (.iconst 0, 1) := by decide +kernel
theorem dX1_settleRuns_118 : decode cX1_settleRuns 118 = .ok (.goto 11, 3) := by decide +kernel
theorem dX1_settleRuns_121 : decode cX1_settleRuns 121 = .ok (.aload_n 0, 1) := by decide +kernel
theorem dX1_settleRuns_122 : decode cX1_settleRuns 122 = .ok (.getfield 24, 3) := by decide +kernel
theorem dX1_settleRuns_125 : decode cX1_settleRuns 125 = .ok (.iload_n 1, 1) := by decide +kernel
theorem dX1_settleRuns_126 : decode cX1_settleRuns 126 = .ok (.iconst 1, 1) := by decide +kernel
theorem dX1_settleRuns_127 : decode cX1_settleRuns 127 = .ok (.isub, 1) := by decide +kernel
theorem dX1_settleRuns_128 : decode cX1_settleRuns 128 = .ok (.saload, 1) := by decide +kernel
theorem dX1_settleRuns_129 : decode cX1_settleRuns 129 = .ok (.istore 4, 2) := by decide +kernel
theorem dX1_settleRuns_131 : decode cX1_settleRuns 131 = .ok (.aload_n 0, 1) := by decide +kernel
theorem dX1_settleRuns_132 : decode cX1_settleRuns 132 = .ok (.getfield 31, 3) := by decide +kernel
theorem dX1_settleRuns_135 : decode cX1_settleRuns 135 = .ok (.iload_n 1, 1) := by decide +kernel
theorem dX1_settleRuns_136 : decode cX1_settleRuns 136 = .ok (.iload 4, 2) := by decide +kernel
theorem dX1_settleRuns_138 : decode cX1_settleRuns 138 = .ok (.i2s, 1) := by decide +kernel
theorem dX1_settleRuns_139 : decode cX1_settleRuns 139 = .ok (.sastore, 1) := by decide +kernel
theorem dX1_settleRuns_140 : decode cX1_settleRuns 140 = .ok (.aload_n 0, 1) := by decide +kernel
theorem dX1_settleRuns_141 : decode cX1_settleRuns 141 = .ok (.getfield 34, 3) := by decide +kernel
theorem dX1_settleRuns_144 : decode cX1_settleRuns 144 = .ok (.iload_n 1, 1) := by decide +kernel
theorem dX1_settleRuns_145 : decode cX1_settleRuns 145 = .ok (.aload_n 0, 1) := by decide +kernel
theorem dX1_settleRuns_146 : decode cX1_settleRuns 146 = .ok (.getfield 34, 3) := by decide +kernel
theorem dX1_settleRuns_149 : decode cX1_settleRuns 149 = .ok (.iload 4, 2) := by decide +kernel
theorem dX1_settleRuns_151 : decode cX1_settleRuns 151 = .ok (.baload, 1) := by decide +kernel
theorem dX1_settleRuns_152 : decode cX1_settleRuns 152 = .ok (.iconst 1, 1) := by decide +kernel
theorem dX1_settleRuns_153 : decode cX1_settleRuns 153 = .ok (.iadd, 1) := by decide +kernel
theorem dX1_settleRuns_154 : decode cX1_settleRuns 154 = .ok (.i2b, 1) := by decide +kernel
theorem dX1_settleRuns_155 : decode cX1_settleRuns 155 = .ok (.bastore, 1) := by decide +kernel
theorem dX1_settleRuns_156 : decode cX1_settleRuns 156 = .ok (.aload_n 0, 1) := by decide +kernel
theorem dX1_settleRuns_157 : decode cX1_settleRuns 157 = .ok (.getfield 20, 3) := by decide +kernel
theorem dX1_settleRuns_160 : decode cX1_settleRuns 160 = .ok (.iload_n 1, 1) := by decide +kernel
theorem dX1_settleRuns_161 : decode cX1_settleRuns 161 = .ok (.baload, 1) := by decide +kernel
theorem dX1_settleRuns_162 : decode cX1_settleRuns 162 = .ok (.ifCond .eq 38, 3) := by decide +kernel
theorem dX1_settleRuns_165 : decode cX1_settleRuns 165 = .ok (.aload_n 0, 1) := by decide +kernel
theorem dX1_settleRuns_166 : decode cX1_settleRuns 166 = .ok (.getfield 46, 3) := by decide +kernel
theorem dX1_settleRuns_169 : decode cX1_settleRuns 169 = .ok (.iload_n 1, 1) := by decide +kernel
theorem dX1_settleRuns_170 : decode cX1_settleRuns 170 = .ok (.aload_n 0, 1) := by decide +kernel
theorem dX1_settleRuns_171 : decode cX1_settleRuns 171 = .ok (.getfield 70, 3) := by decide +kernel
theorem dX1_settleRuns_174 : decode cX1_settleRuns 174 = .ok (.i2s, 1) := by decide +kernel
theorem dX1_settleRuns_175 : decode cX1_settleRuns 175 = .ok (.sastore, 1) := by decide +kernel
theorem dX1_settleRuns_176 : decode cX1_settleRuns 176 = .ok (.aload_n 0, 1) := by decide +kernel
theorem dX1_settleRuns_177 : decode cX1_settleRuns 177 = .ok (.getfield 49, 3) := by decide +kernel
theorem dX1_settleRuns_180 : decode cX1_settleRuns 180 = .ok (.aload_n 0, 1) := by decide +kernel
theorem dX1_settleRuns_181 : decode cX1_settleRuns 181 = .ok (.getfield 70, 3) := by decide +kernel
theorem dX1_settleRuns_184 : decode cX1_settleRuns 184 = .ok (.iload_n 1, 1) := by decide +kernel
theorem dX1_settleRuns_185 : decode cX1_settleRuns 185 = .ok (.i2s, 1) := by decide +kernel
theorem dX1_settleRuns_186 : decode cX1_settleRuns 186 = .ok (.sastore, 1) := by decide +kernel
theorem dX1_settleRuns_187 : decode cX1_settleRuns 187 = .ok (.aload_n 0, 1) := by decide +kernel
theorem dX1_settleRuns_188 : decode cX1_settleRuns 188 = .ok (.dup, 1) := by decide +kernel
theorem dX1_settleRuns_189 : decode cX1_settleRuns 189 = .ok (.getfield 70, 3) := by decide +kernel
theorem dX1_settleRuns_192 : decode cX1_settleRuns 192 = .ok (.iconst 1, 1) := by decide +kernel
theorem dX1_settleRuns_193 : decode cX1_settleRuns 193 = .ok (.iadd, 1) := by decide +kernel
theorem dX1_settleRuns_194 : decode cX1_settleRuns 194 = .ok (.putfield 70, 3) := by decide +kernel
theorem dX1_settleRuns_197 : decode cX1_settleRuns 197 = .ok (.goto 13, 3) := by decide +kernel
theorem dX1_settleRuns_200 : decode cX1_settleRuns 200 = .ok (.aload_n 0, 1) := by decide +kernel
theorem dX1_settleRuns_201 : decode cX1_settleRuns 201 = .ok (.dup, 1) := by decide +kernel
theorem dX1_settleRuns_202 : decode cX1_settleRuns 202 = .ok (.getfield 73, 3) := by decide +kernel
theorem dX1_settleRuns_205 : decode cX1_settleRuns 205 = .ok (.iconst 1, 1) := by decide +kernel
theorem dX1_settleRuns_206 : decode cX1_settleRuns 206 = .ok (.iadd, 1) := by decide +kernel
theorem dX1_settleRuns_207 : decode cX1_settleRuns 207 = .ok (.putfield 73, 3) := by decide +kernel
theorem dX1_settleRuns_210 : decode cX1_settleRuns 210 = .ok (.iinc 1 1, 3) := by decide +kernel
theorem dX1_settleRuns_213 : decode cX1_settleRuns 213 = .ok (.goto (-180), 3) := by decide +kernel
theorem dX1_settleRuns_216 : decode cX1_settleRuns 216 = .ok (.return_, 1) := by decide +kernel
theorem dX1_sumUp_0 : decode cX1_sumUp 0 = .ok (.iconst 0, 1) := by decide +kernel
theorem dX1_sumUp_1 : decode cX1_sumUp 1 = .ok (.istore_n 1, 1) := by decide +kernel
theorem dX1_sumUp_2 : decode cX1_sumUp 2 = .ok (.iload_n 1, 1) := by decide +kernel
theorem dX1_sumUp_3 : decode cX1_sumUp 3 = .ok (.aload_n 0, 1) := by decide +kernel
theorem dX1_sumUp_4 : decode cX1_sumUp 4 = .ok (.getfield 80, 3) := by decide +kernel
theorem dX1_sumUp_7 : decode cX1_sumUp 7 = .ok (.if_icmp .ge 23, 3) := by decide +kernel
theorem dX1_sumUp_10 : decode cX1_sumUp 10 = .ok (.aload_n 0, 1) := by decide +kernel
theorem dX1_sumUp_11 : decode cX1_sumUp 11 = .ok (.getfield 40, 3) := by decide +kernel
theorem dX1_sumUp_14 : decode cX1_sumUp 14 = .ok (.iload_n 1, 1) := by decide +kernel
theorem dX1_sumUp_15 : decode cX1_sumUp 15 = .ok (.iconst 0, 1) := by decide +kernel
theorem dX1_sumUp_16 : decode cX1_sumUp 16 = .ok (.sastore, 1) := by decide +kernel
theorem dX1_sumUp_17 : decode cX1_sumUp 17 = .ok (.aload_n 0, 1) := by decide +kernel
theorem dX1_sumUp_18 : decode cX1_sumUp 18 = .ok (.getfield 43, 3) := by decide +kernel
theorem dX1_sumUp_21 : decode cX1_sumUp 21 = .ok (.iload_n 1, 1) := by decide +kernel
theorem dX1_sumUp_22 : decode cX1_sumUp 22 = .ok (.iconst 0, 1) := by decide +kernel
theorem dX1_sumUp_23 : decode cX1_sumUp 23 = .ok (.sastore, 1) := by decide +kernel
theorem dX1_sumUp_24 : decode cX1_sumUp 24 = .ok (.iinc 1 1, 3) := by decide +kernel
theorem dX1_sumUp_27 : decode cX1_sumUp 27 = .ok (.goto (-25), 3) := by decide +kernel
theorem dX1_sumUp_30 : decode cX1_sumUp 30 = .ok (.aload_n 0, 1) := by decide +kernel
theorem dX1_sumUp_31 : decode cX1_sumUp 31 = .ok (.getfield 80, 3) := by decide +kernel
theorem dX1_sumUp_34 : decode cX1_sumUp 34 = .ok (.iconst 1, 1) := by decide +kernel
theorem dX1_sumUp_35 : decode cX1_sumUp 35 = .ok (.isub, 1) := by decide +kernel
theorem dX1_sumUp_36 : decode cX1_sumUp 36 = .ok (.istore_n 1, 1) := by decide +kernel
theorem dX1_sumUp_37 : decode cX1_sumUp 37 = .ok (.iload_n 1, 1) := by decide +kernel
theorem dX1_sumUp_38 : decode cX1_sumUp 38 = .ok (.ifCond .le 72, 3) := by decide +kernel
theorem dX1_sumUp_41 : decode cX1_sumUp 41 = .ok (.aload_n 0, 1) := by decide +kernel
theorem dX1_sumUp_42 : decode cX1_sumUp 42 = .ok (.getfield 24, 3) := by decide +kernel
theorem dX1_sumUp_45 : decode cX1_sumUp 45 = .ok (.iload_n 1, 1) := by decide +kernel
theorem dX1_sumUp_46 : decode cX1_sumUp 46 = .ok (.saload, 1) := by decide +kernel
theorem dX1_sumUp_47 : decode cX1_sumUp 47 = .ok (.iload_n 1, 1) := by decide +kernel
theorem dX1_sumUp_48 : decode cX1_sumUp 48 = .ok (.if_icmp .eq 6, 3) := by decide +kernel
theorem dX1_sumUp_51 : decode cX1_sumUp 51 = .ok (.goto 53, 3) := by decide +kernel
theorem dX1_sumUp_54 : decode cX1_sumUp 54 = .ok (.aload_n 0, 1) := by decide +kernel
theorem dX1_sumUp_55 : decode cX1_sumUp 55 = .ok (.getfield 31, 3) := by decide +kernel
theorem dX1_sumUp_58 : decode cX1_sumUp 58 = .ok (.iload_n 1, 1) := by decide +kernel
theorem dX1_sumUp_59 : decode cX1_sumUp 59 = .ok (.saload, 1) := by decide +kernel
theorem dX1_sumUp_60 : decode cX1_sumUp 60 = .ok (.istore_n 2, 1) := by decide +kernel
theorem dX1_sumUp_61 : decode cX1_sumUp 61 = .ok (.aload_n 0, 1) := by decide +kernel
theorem dX1_sumUp_62 : decode cX1_sumUp 62 = .ok (.getfield 40, 3) := by decide +kernel
theorem dX1_sumUp_65 : decode cX1_sumUp 65 = .ok (.iload_n 2, 1) := by decide +kernel
theorem dX1_sumUp_66 : decode cX1_sumUp 66 = .ok (.dup2, 1) := by decide +kernel
theorem dX1_sumUp_67 : decode cX1_sumUp 67 = .ok (.saload, 1) := by decide +kernel
theorem dX1_sumUp_68 : decode cX1_sumUp 68 = .ok (.aload_n 0, 1) := by decide +kernel
theorem dX1_sumUp_69 : decode cX1_sumUp 69 = .ok (.getfield 37, 3) := by decide +kernel
theorem dX1_sumUp_72 : decode cX1_sumUp 72 = .ok (.iload_n 1, 1) := by decide +kernel
theorem dX1_sumUp_73 : decode cX1_sumUp 73 = .ok (.saload, 1) := by decide +kernel
theorem dX1_sumUp_74 : decode cX1_sumUp 74 = .ok (.aload_n 0, 1) := by decide +kernel
theorem dX1_sumUp_75 : decode cX1_sumUp 75 = .ok (.getfield 40, 3) := by decide +kernel
theorem dX1_sumUp_78 : decode cX1_sumUp 78 = .ok (.iload_n 1, 1) := by decide +kernel
theorem dX1_sumUp_79 : decode cX1_sumUp 79 = .ok (.saload, 1) := by decide +kernel
theorem dX1_sumUp_80 : decode cX1_sumUp 80 = .ok (.iadd, 1) := by decide +kernel
theorem dX1_sumUp_81 : decode cX1_sumUp 81 = .ok (.iadd, 1) := by decide +kernel
theorem dX1_sumUp_82 : decode cX1_sumUp 82 = .ok (.i2s, 1) := by decide +kernel
theorem dX1_sumUp_83 : decode cX1_sumUp 83 = .ok (.sastore, 1) := by decide +kernel
theorem dX1_sumUp_84 : decode cX1_sumUp 84 = .ok (.aload_n 0, 1) := by decide +kernel
theorem dX1_sumUp_85 : decode cX1_sumUp 85 = .ok (.getfield 20, 3) := by decide +kernel
theorem dX1_sumUp_88 : decode cX1_sumUp 88 = .ok (.iload_n 1, 1) := by decide +kernel
theorem dX1_sumUp_89 : decode cX1_sumUp 89 = .ok (.baload, 1) := by decide +kernel
theorem dX1_sumUp_90 : decode cX1_sumUp 90 = .ok (.ifCond .ne 14, 3) := by decide +kernel
theorem dX1_sumUp_93 : decode cX1_sumUp 93 = .ok (.aload_n 0, 1) := by decide +kernel
theorem dX1_sumUp_94 : decode cX1_sumUp 94 = .ok (.getfield 43, 3) := by decide +kernel
theorem dX1_sumUp_97 : decode cX1_sumUp 97 = .ok (.iload_n 2, 1) := by decide +kernel
theorem dX1_sumUp_98 : decode cX1_sumUp 98 = .ok (.dup2, 1) := by decide +kernel
theorem dX1_sumUp_99 : decode cX1_sumUp 99 = .ok (.saload, 1) := by decide +kernel
theorem dX1_sumUp_100 : decode cX1_sumUp 100 = .ok (.iconst 1, 1) := by decide +kernel
theorem dX1_sumUp_101 : decode cX1_sumUp 101 = .ok (.iadd, 1) := by decide +kernel
theorem dX1_sumUp_102 : decode cX1_sumUp 102 = .ok (.i2s, 1) := by decide +kernel
theorem dX1_sumUp_103 : decode cX1_sumUp 103 = .ok (.sastore, 1) := by decide +kernel
theorem dX1_sumUp_104 : decode cX1_sumUp 104 = .ok (.iinc 1 (-1), 3) := by decide +kernel
theorem dX1_sumUp_107 : decode cX1_sumUp 107 = .ok (.goto (-70), 3) := by decide +kernel
theorem dX1_sumUp_110 : decode cX1_sumUp 110 = .ok (.return_, 1) := by decide +kernel
theorem dX1_euler_0 : decode cX1_euler 0 = .ok (.aload_n 0, 1) := by decide +kernel
theorem dX1_euler_1 : decode cX1_euler 1 = .ok (.invokevirtual 67, 3) := by decide +kernel
theorem dX1_euler_4 : decode cX1_euler 4 = .ok (.aload_n 0, 1) := by decide +kernel
theorem dX1_euler_5 : decode cX1_euler 5 = .ok (.getfield 70, 3) := by decide +kernel
theorem dX1_euler_8 : decode cX1_euler 8 = .ok (.aload_n 0, 1) := by decide +kernel
theorem dX1_euler_9 : decode cX1_euler 9 = .ok (.getfield 73, 3) := by decide +kernel
theorem dX1_euler_12 : decode cX1_euler 12 = .ok (.iconst 1, 1) := by decide +kernel
theorem dX1_euler_13 : decode cX1_euler 13 = .ok (.isub, 1) := by decide +kernel
theorem dX1_euler_14 : decode cX1_euler 14 = .ok (.isub, 1) := by decide +kernel
theorem dX1_euler_15 : decode cX1_euler 15 = .ok (.ireturn, 1) := by decide +kernel
theorem dX1_label_0 : decode cX1_label 0 = .ok (.aload_n 0, 1) := by decide +kernel
theorem dX1_label_1 : decode cX1_label 1 = .ok (.iload_n 1, 1) := by decide +kernel
theorem dX1_label_2 : decode cX1_label 2 = .ok (.iload_n 2, 1) := by decide +kernel
theorem dX1_label_3 : decode cX1_label 3 = .ok (.invokevirtual 59, 3) := by decide +kernel
theorem dX1_label_6 : decode cX1_label 6 = .ok (.ifCond .ne 5, 3) := by decide +kernel
theorem dX1_label_9 : decode cX1_label 9 = .ok (.iconst (-1), 1) := by decide +kernel
theorem dX1_label_10 : decode cX1_label 10 = .ok (.ireturn, 1) := by decide +kernel
theorem dX1_label_11 : decode cX1_label 11 = .ok (.aload_n 0, 1) := by decide +kernel
theorem dX1_label_12 : decode cX1_label 12 = .ok (.invokevirtual 67, 3) := by decide +kernel
theorem dX1_label_15 : decode cX1_label 15 = .ok (.aload_n 0, 1) := by decide +kernel
theorem dX1_label_16 : decode cX1_label 16 = .ok (.iload_n 1, 1) := by decide +kernel
theorem dX1_label_17 : decode cX1_label 17 = .ok (.iload_n 2, 1) := by decide +kernel
theorem dX1_label_18 : decode cX1_label 18 = .ok (.invokevirtual 76, 3) := by decide +kernel
theorem dX1_label_21 : decode cX1_label 21 = .ok (.istore_n 3, 1) := by decide +kernel
theorem dX1_label_22 : decode cX1_label 22 = .ok (.aload_n 0, 1) := by decide +kernel
theorem dX1_label_23 : decode cX1_label 23 = .ok (.getfield 20, 3) := by decide +kernel
theorem dX1_label_26 : decode cX1_label 26 = .ok (.iload_n 3, 1) := by decide +kernel
theorem dX1_label_27 : decode cX1_label 27 = .ok (.baload, 1) := by decide +kernel
theorem dX1_label_28 : decode cX1_label 28 = .ok (.ifCond .eq 17, 3) := by decide +kernel
theorem dX1_label_31 : decode cX1_label 31 = .ok (.aload_n 0, 1) := by decide +kernel
theorem dX1_label_32 : decode cX1_label 32 = .ok (.getfield 46, 3) := by decide +kernel
theorem dX1_label_35 : decode cX1_label 35 = .ok (.aload_n 0, 1) := by decide +kernel
theorem dX1_label_36 : decode cX1_label 36 = .ok (.getfield 24, 3) := by decide +kernel
theorem dX1_label_39 : decode cX1_label 39 = .ok (.iload_n 3, 1) := by decide +kernel
theorem dX1_label_40 : decode cX1_label 40 = .ok (.saload, 1) := by decide +kernel
theorem dX1_label_41 : decode cX1_label 41 = .ok (.saload, 1) := by decide +kernel
theorem dX1_label_42 : decode cX1_label 42 = .ok (.goto 5, 3) := by decide +kernel
theorem dX1_label_45 : decode cX1_label 45 = .ok (.bipush (-2), 2) := by decide +kernel
theorem dX1_label_47 : decode cX1_label 47 = .ok (.ireturn, 1) := by decide +kernel
theorem dX1_runAt_0 : decode cX1_runAt 0 = .ok (.aload_n 0, 1) := by decide +kernel
theorem dX1_runAt_1 : decode cX1_runAt 1 = .ok (.getfield 28, 3) := by decide +kernel
theorem dX1_runAt_4 : decode cX1_runAt 4 = .ok (.iload_n 2, 1) := by decide +kernel
theorem dX1_runAt_5 : decode cX1_runAt 5 = .ok (.saload, 1) := by decide +kernel
theorem dX1_runAt_6 : decode cX1_runAt 6 = .ok (.istore_n 3, 1) := by decide +kernel
theorem dX1_runAt_7 : decode cX1_runAt 7 = .ok (.iload_n 3, 1) := by decide +kernel
theorem dX1_runAt_8 : decode cX1_runAt 8 = .ok (.aload_n 0, 1) := by decide +kernel
theorem dX1_runAt_9 : decode cX1_runAt 9 = .ok (.getfield 28, 3) := by decide +kernel
theorem dX1_runAt_12 : decode cX1_runAt 12 = .ok (.iload_n 2, 1) := by decide +kernel
theorem dX1_runAt_13 : decode cX1_runAt 13 = .ok (.iconst 1, 1) := by decide +kernel
theorem dX1_runAt_14 : decode cX1_runAt 14 = .ok (.iadd, 1) := by decide +kernel
theorem dX1_runAt_15 : decode cX1_runAt 15 = .ok (.saload, 1) := by decide +kernel
theorem dX1_runAt_16 : decode cX1_runAt 16 = .ok (.iconst 1, 1) := by decide +kernel
theorem dX1_runAt_17 : decode cX1_runAt 17 = .ok (.isub, 1) := by decide +kernel
theorem dX1_runAt_18 : decode cX1_runAt 18 = .ok (.if_icmp .ge 19, 3) := by decide +kernel
theorem dX1_runAt_21 : decode cX1_runAt 21 = .ok (.aload_n 0, 1) := by decide +kernel
theorem dX1_runAt_22 : decode cX1_runAt 22 = .ok (.getfield 17, 3) := by decide +kernel
theorem dX1_runAt_25 : decode cX1_runAt 25 = .ok (.iload_n 3, 1) := by decide +kernel
theorem dX1_runAt_26 : decode cX1_runAt 26 = .ok (.baload, 1) := by decide +kernel
theorem dX1_runAt_27 : decode cX1_runAt 27 = .ok (.iload_n 1, 1) := by decide +kernel
theorem dX1_runAt_28 : decode cX1_runAt 28 = .ok (.if_icmp .ge 9, 3) := by decide +kernel
theorem dX1_runAt_31 : decode cX1_runAt 31 = .ok (.iinc 3 1, 3) := by decide +kernel
theorem dX1_runAt_34 : decode cX1_runAt 34 = .ok (.goto (-27), 3) := by decide +kernel
theorem dX1_runAt_37 : decode cX1_runAt 37 = .ok (.iload_n 3, 1) := by decide +kernel
theorem dX1_runAt_38 : decode cX1_runAt 38 = .ok (.ireturn, 1) := by decide +kernel
theorem dX1_area_0 : decode cX1_area 0 = .ok (.aload_n 0, 1) := by decide +kernel
theorem dX1_area_1 : decode cX1_area 1 = .ok (.invokevirtual 67, 3) := by decide +kernel
theorem dX1_area_4 : decode cX1_area 4 = .ok (.iload_n 1, 1) := by decide +kernel
theorem dX1_area_5 : decode cX1_area 5 = .ok (.ifCond .lt 11, 3) := by decide +kernel
theorem dX1_area_8 : decode cX1_area 8 = .ok (.iload_n 1, 1) := by decide +kernel
theorem dX1_area_9 : decode cX1_area 9 = .ok (.aload_n 0, 1) := by decide +kernel
theorem dX1_area_10 : decode cX1_area 10 = .ok (.getfield 70, 3) := by decide +kernel
theorem dX1_area_13 : decode cX1_area 13 = .ok (.if_icmp .lt 7, 3) := by decide +kernel
theorem dX1_area_16 : decode cX1_area 16 = .ok (.iconst (-1), 1) := by decide +kernel
theorem dX1_area_17 : decode cX1_area 17 = .ok (.goto 14, 3) := by decide +kernel
theorem dX1_area_20 : decode cX1_area 20 = .ok (.aload_n 0, 1) := by decide +kernel
theorem dX1_area_21 : decode cX1_area 21 = .ok (.getfield 37, 3) := by decide +kernel
theorem dX1_area_24 : decode cX1_area 24 = .ok (.aload_n 0, 1) := by decide +kernel
theorem dX1_area_25 : decode cX1_area 25 = .ok (.getfield 49, 3) := by decide +kernel
theorem dX1_area_28 : decode cX1_area 28 = .ok (.iload_n 1, 1) := by decide +kernel
theorem dX1_area_29 : decode cX1_area 29 = .ok (.saload, 1) := by decide +kernel
theorem dX1_area_30 : decode cX1_area 30 = .ok (.saload, 1) := by decide +kernel
theorem dX1_area_31 : decode cX1_area 31 = .ok (.ireturn, 1) := by decide +kernel
theorem dX1_holes_0 : decode cX1_holes 0 = .ok (.aload_n 0, 1) := by decide +kernel
theorem dX1_holes_1 : decode cX1_holes 1 = .ok (.invokevirtual 67, 3) := by decide +kernel
theorem dX1_holes_4 : decode cX1_holes 4 = .ok (.iload_n 1, 1) := by decide +kernel
theorem dX1_holes_5 : decode cX1_holes 5 = .ok (.ifCond .lt 11, 3) := by decide +kernel
theorem dX1_holes_8 : decode cX1_holes 8 = .ok (.iload_n 1, 1) := by decide +kernel
theorem dX1_holes_9 : decode cX1_holes 9 = .ok (.aload_n 0, 1) := by decide +kernel
theorem dX1_holes_10 : decode cX1_holes 10 = .ok (.getfield 70, 3) := by decide +kernel
theorem dX1_holes_13 : decode cX1_holes 13 = .ok (.if_icmp .lt 7, 3) := by decide +kernel
theorem dX1_holes_16 : decode cX1_holes 16 = .ok (.iconst (-1), 1) := by decide +kernel
theorem dX1_holes_17 : decode cX1_holes 17 = .ok (.goto 14, 3) := by decide +kernel
theorem dX1_holes_20 : decode cX1_holes 20 = .ok (.aload_n 0, 1) := by decide +kernel
theorem dX1_holes_21 : decode cX1_holes 21 = .ok (.getfield 43, 3) := by decide +kernel
theorem dX1_holes_24 : decode cX1_holes 24 = .ok (.aload_n 0, 1) := by decide +kernel
theorem dX1_holes_25 : decode cX1_holes 25 = .ok (.getfield 49, 3) := by decide +kernel
theorem dX1_holes_28 : decode cX1_holes 28 = .ok (.iload_n 1, 1) := by decide +kernel
theorem dX1_holes_29 : decode cX1_holes 29 = .ok (.saload, 1) := by decide +kernel
theorem dX1_holes_30 : decode cX1_holes 30 = .ok (.saload, 1) := by decide +kernel
theorem dX1_holes_31 : decode cX1_holes 31 = .ok (.ireturn, 1) := by decide +kernel
theorem dX1_around_0 : decode cX1_around 0 = .ok (.aload_n 0, 1) := by decide +kernel
theorem dX1_around_1 : decode cX1_around 1 = .ok (.invokevirtual 67, 3) := by decide +kernel
theorem dX1_around_4 : decode cX1_around 4 = .ok (.iload_n 1, 1) := by decide +kernel
theorem dX1_around_5 : decode cX1_around 5 = .ok (.ifCond .lt 11, 3) := by decide +kernel
theorem dX1_around_8 : decode cX1_around 8 = .ok (.iload_n 1, 1) := by decide +kernel
theorem dX1_around_9 : decode cX1_around 9 = .ok (.aload_n 0, 1) := by decide +kernel
theorem dX1_around_10 : decode cX1_around 10 = .ok (.getfield 70, 3) := by decide +kernel
theorem dX1_around_13 : decode cX1_around 13 = .ok (.if_icmp .lt 5, 3) := by decide +kernel
theorem dX1_around_16 : decode cX1_around 16 = .ok (.iconst (-1), 1) := by decide +kernel
theorem dX1_around_17 : decode cX1_around 17 = .ok (.ireturn, 1) := by decide +kernel
theorem dX1_around_18 : decode cX1_around 18 = .ok (.aload_n 0, 1) := by decide +kernel
theorem dX1_around_19 : decode cX1_around 19 = .ok (.getfield 31, 3) := by decide +kernel
theorem dX1_around_22 : decode cX1_around 22 = .ok (.aload_n 0, 1) := by decide +kernel
theorem dX1_around_23 : decode cX1_around 23 = .ok (.getfield 49, 3) := by decide +kernel
theorem dX1_around_26 : decode cX1_around 26 = .ok (.iload_n 1, 1) := by decide +kernel
theorem dX1_around_27 : decode cX1_around 27 = .ok (.saload, 1) := by decide +kernel
theorem dX1_around_28 : decode cX1_around 28 = .ok (.saload, 1) := by decide +kernel
theorem dX1_around_29 : decode cX1_around 29 = .ok (.istore_n 2, 1) := by decide +kernel
theorem dX1_around_30 : decode cX1_around 30 = .ok (.iload_n 2, 1) := by decide +kernel
theorem dX1_around_31 : decode cX1_around 31 = .ok (.ifCond .ne 8, 3) := by decide +kernel
theorem dX1_around_34 : decode cX1_around 34 = .ok (.bipush (-2), 2) := by decide +kernel
theorem dX1_around_36 : decode cX1_around 36 = .ok (.goto 14, 3) := by decide +kernel
theorem dX1_around_39 : decode cX1_around 39 = .ok (.aload_n 0, 1) := by decide +kernel
theorem dX1_around_40 : decode cX1_around 40 = .ok (.getfield 46, 3) := by decide +kernel
theorem dX1_around_43 : decode cX1_around 43 = .ok (.aload_n 0, 1) := by decide +kernel
theorem dX1_around_44 : decode cX1_around 44 = .ok (.getfield 31, 3) := by decide +kernel
theorem dX1_around_47 : decode cX1_around 47 = .ok (.iload_n 2, 1) := by decide +kernel
theorem dX1_around_48 : decode cX1_around 48 = .ok (.saload, 1) := by decide +kernel
theorem dX1_around_49 : decode cX1_around 49 = .ok (.saload, 1) := by decide +kernel
theorem dX1_around_50 : decode cX1_around 50 = .ok (.ireturn, 1) := by decide +kernel
theorem dX1_depth_0 : decode cX1_depth 0 = .ok (.aload_n 0, 1) := by decide +kernel
theorem dX1_depth_1 : decode cX1_depth 1 = .ok (.iload_n 1, 1) := by decide +kernel
theorem dX1_depth_2 : decode cX1_depth 2 = .ok (.iload_n 2, 1) := by decide +kernel
theorem dX1_depth_3 : decode cX1_depth 3 = .ok (.invokevirtual 59, 3) := by decide +kernel
theorem dX1_depth_6 : decode cX1_depth 6 = .ok (.ifCond .ne 5, 3) := by decide +kernel
theorem dX1_depth_9 : decode cX1_depth 9 = .ok (.iconst (-1), 1) := by decide +kernel
theorem dX1_depth_10 : decode cX1_depth 10 = .ok (.ireturn, 1) := by decide +kernel
theorem dX1_depth_11 : decode cX1_depth 11 = .ok (.aload_n 0, 1) := by decide +kernel
theorem dX1_depth_12 : decode cX1_depth 12 = .ok (.invokevirtual 67, 3) := by decide +kernel
theorem dX1_depth_15 : decode cX1_depth 15 = .ok (.aload_n 0, 1) := by decide +kernel
theorem dX1_depth_16 : decode cX1_depth 16 = .ok (.iload_n 1, 1) := by decide +kernel
theorem dX1_depth_17 : decode cX1_depth 17 = .ok (.iload_n 2, 1) := by decide +kernel
theorem dX1_depth_18 : decode cX1_depth 18 = .ok (.invokevirtual 76, 3) := by decide +kernel
theorem dX1_depth_21 : decode cX1_depth 21 = .ok (.istore_n 3, 1) := by decide +kernel
theorem dX1_depth_22 : decode cX1_depth 22 = .ok (.aload_n 0, 1) := by decide +kernel
theorem dX1_depth_23 : decode cX1_depth 23 = .ok (.getfield 34, 3) := by decide +kernel
theorem dX1_depth_26 : decode cX1_depth 26 = .ok (.aload_n 0, 1) := by decide +kernel
theorem dX1_depth_27 : decode cX1_depth 27 = .ok (.getfield 24, 3) := by decide +kernel
theorem dX1_depth_30 : decode cX1_depth 30 = .ok (.iload_n 3, 1) := by decide +kernel
theorem dX1_depth_31 : decode cX1_depth 31 = .ok (.saload, 1) := by decide +kernel
theorem dX1_depth_32 : decode cX1_depth 32 = .ok (.baload, 1) := by decide +kernel
theorem dX1_depth_33 : decode cX1_depth 33 = .ok (.ireturn, 1) := by decide +kernel
theorem dX1_enclosed_0 : decode cX1_enclosed 0 = .ok (.aload_n 0, 1) := by decide +kernel
theorem dX1_enclosed_1 : decode cX1_enclosed 1 = .ok (.invokevirtual 67, 3) := by decide +kernel
theorem dX1_enclosed_4 : decode cX1_enclosed 4 = .ok (.iload_n 1, 1) := by decide +kernel
theorem dX1_enclosed_5 : decode cX1_enclosed 5 = .ok (.ifCond .lt 11, 3) := by decide +kernel
theorem dX1_enclosed_8 : decode cX1_enclosed 8 = .ok (.iload_n 1, 1) := by decide +kernel
theorem dX1_enclosed_9 : decode cX1_enclosed 9 = .ok (.aload_n 0, 1) := by decide +kernel
theorem dX1_enclosed_10 : decode cX1_enclosed 10 = .ok (.getfield 70, 3) := by decide +kernel
theorem dX1_enclosed_13 : decode cX1_enclosed 13 = .ok (.if_icmp .lt 7, 3) := by decide +kernel
theorem dX1_enclosed_16 : decode cX1_enclosed 16 = .ok (.iconst (-1), 1) := by decide +kernel
theorem dX1_enclosed_17 : decode cX1_enclosed 17 = .ok (.goto 14, 3) := by decide +kernel
theorem dX1_enclosed_20 : decode cX1_enclosed 20 = .ok (.aload_n 0, 1) := by decide +kernel
theorem dX1_enclosed_21 : decode cX1_enclosed 21 = .ok (.getfield 40, 3) := by decide +kernel
theorem dX1_enclosed_24 : decode cX1_enclosed 24 = .ok (.aload_n 0, 1) := by decide +kernel
theorem dX1_enclosed_25 : decode cX1_enclosed 25 = .ok (.getfield 49, 3) := by decide +kernel
theorem dX1_enclosed_28 : decode cX1_enclosed 28 = .ok (.iload_n 1, 1) := by decide +kernel
theorem dX1_enclosed_29 : decode cX1_enclosed 29 = .ok (.saload, 1) := by decide +kernel
theorem dX1_enclosed_30 : decode cX1_enclosed 30 = .ok (.saload, 1) := by decide +kernel
theorem dX1_enclosed_31 : decode cX1_enclosed 31 = .ok (.ireturn, 1) := by decide +kernel
