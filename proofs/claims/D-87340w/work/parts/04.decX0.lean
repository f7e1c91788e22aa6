set_option maxRecDepth 100000
theorem dX0_init_0 : decode cX0_init 0 = .ok (.aload_n 0, 1) := by decide +kernel
theorem dX0_init_1 : decode cX0_init 1 = .ok (.invokespecial 1, 3) := by decide +kernel
theorem dX0_init_4 : decode cX0_init 4 = .ok (.aload_n 0, 1) := by decide +kernel
theorem dX0_init_5 : decode cX0_init 5 = .ok (.new 7, 3) := by decide +kernel
theorem dX0_init_8 : decode cX0_init 8 = .ok (.dup, 1) := by decide +kernel
theorem dX0_init_9 : decode cX0_init 9 = .ok (.invokespecial 9, 3) := by decide +kernel
theorem dX0_init_12 : decode cX0_init 12 = .ok (.putfield 10, 3) := by decide +kernel
theorem dX0_init_15 : decode cX0_init 15 = .ok (.aload_n 0, 1) := by decide +kernel
theorem dX0_init_16 : decode cX0_init 16 = .ok (.new 7, 3) := by decide +kernel
theorem dX0_init_19 : decode cX0_init 19 = .ok (.dup, 1) := by decide +kernel
theorem dX0_init_20 : decode cX0_init 20 = .ok (.invokespecial 9, 3) := by decide +kernel
theorem dX0_init_23 : decode cX0_init 23 = .ok (.putfield 16, 3) := by decide +kernel
theorem dX0_init_26 : decode cX0_init 26 = .ok (.aload_n 0, 1) := by decide +kernel
theorem dX0_init_27 : decode cX0_init 27 = .ok (.new 7, 3) := by decide +kernel
theorem dX0_init_30 : decode cX0_init 30 = .ok (.dup, 1) := by decide +kernel
theorem dX0_init_31 : decode cX0_init 31 = .ok (.invokespecial 9, 3) := by decide +kernel
theorem dX0_init_34 : decode cX0_init 34 = .ok (.putfield 19, 3) := by decide +kernel
theorem dX0_init_37 : decode cX0_init 37 = .ok (.aload_n 0, 1) := by decide +kernel
theorem dX0_init_38 : decode cX0_init 38 = .ok (.new 7, 3) := by decide +kernel
theorem dX0_init_41 : decode cX0_init 41 = .ok (.dup, 1) := by decide +kernel
theorem dX0_init_42 : decode cX0_init 42 = .ok (.invokespecial 9, 3) := by decide +kernel
theorem dX0_init_45 : decode cX0_init 45 = .ok (.putfield 22, 3) := by decide +kernel
theorem dX0_init_48 : decode cX0_init 48 = .ok (.aload_n 0, 1) := by decide +kernel
theorem dX0_init_49 : decode cX0_init 49 = .ok (.bipush 40, 2) := by decide +kernel
theorem dX0_init_51 : decode cX0_init 51 = .ok (.anewarray 25, 3) := by decide +kernel
theorem dX0_init_54 : decode cX0_init 54 = .ok (.putfield 27, 3) := by decide +kernel
theorem dX0_init_57 : decode cX0_init 57 = .ok (.aload_n 0, 1) := by decide +kernel
theorem dX0_init_58 : decode cX0_init 58 = .ok (.bipush 40, 2) := by decide +kernel
theorem dX0_init_60 : decode cX0_init 60 = .ok (.bipush 8, 2) := by decide +kernel
theorem dX0_init_62 : decode cX0_init 62 = .ok (.multianewarray 31 2, 4) := by decide +kernel
theorem dX0_init_66 : decode cX0_init 66 = .ok (.putfield 33, 3) := by decide +kernel
theorem dX0_init_69 : decode cX0_init 69 = .ok (.aload_n 0, 1) := by decide +kernel
theorem dX0_init_70 : decode cX0_init 70 = .ok (.bipush 40, 2) := by decide +kernel
theorem dX0_init_72 : decode cX0_init 72 = .ok (.bipush 8, 2) := by decide +kernel
theorem dX0_init_74 : decode cX0_init 74 = .ok (.multianewarray 31 2, 4) := by decide +kernel
theorem dX0_init_78 : decode cX0_init 78 = .ok (.putfield 36, 3) := by decide +kernel
theorem dX0_init_81 : decode cX0_init 81 = .ok (.aload_n 0, 1) := by decide +kernel
theorem dX0_init_82 : decode cX0_init 82 = .ok (.bipush 40, 2) := by decide +kernel
theorem dX0_init_84 : decode cX0_init 84 = .ok (.bipush 40, 2) := by decide +kernel
theorem dX0_init_86 : decode cX0_init 86 = .ok (.multianewarray 39 2, 4) := by decide +kernel
theorem dX0_init_90 : decode cX0_init 90 = .ok (.putfield 41, 3) := by decide +kernel
theorem dX0_init_93 : decode cX0_init 93 = .ok (.aload_n 0, 1) := by decide +kernel
theorem dX0_init_94 : decode cX0_init 94 = .ok (.bipush 61, 2) := by decide +kernel
theorem dX0_init_96 : decode cX0_init 96 = .ok (.bipush 40, 2) := by decide +kernel
theorem dX0_init_98 : decode cX0_init 98 = .ok (.multianewarray 31 2, 4) := by decide +kernel
theorem dX0_init_102 : decode cX0_init 102 = .ok (.putfield 44, 3) := by decide +kernel
theorem dX0_init_105 : decode cX0_init 105 = .ok (.aload_n 0, 1) := by decide +kernel
theorem dX0_init_106 : decode cX0_init 106 = .ok (.bipush 40, 2) := by decide +kernel
theorem dX0_init_108 : decode cX0_init 108 = .ok (.newarray .long, 2) := by decide +kernel
theorem dX0_init_110 : decode cX0_init 110 = .ok (.putfield 47, 3) := by decide +kernel
theorem dX0_init_113 : decode cX0_init 113 = .ok (.aload_n 0, 1) := by decide +kernel
theorem dX0_init_114 : decode cX0_init 114 = .ok (.bipush 40, 2) := by decide +kernel
theorem dX0_init_116 : decode cX0_init 116 = .ok (.newarray .long, 2) := by decide +kernel
theorem dX0_init_118 : decode cX0_init 118 = .ok (.putfield 51, 3) := by decide +kernel
theorem dX0_init_121 : decode cX0_init 121 = .ok (.return_, 1) := by decide +kernel
theorem dX0_named_0 : decode cX0_named 0 = .ok (.lload_n 1, 1) := by decide +kernel
theorem dX0_named_1 : decode cX0_named 1 = .ok (.invokestatic 76, 3) := by decide +kernel
theorem dX0_named_4 : decode cX0_named 4 = .ok (.lstore_n 3, 1) := by decide +kernel
theorem dX0_named_5 : decode cX0_named 5 = .ok (.iconst 0, 1) := by decide +kernel
theorem dX0_named_6 : decode cX0_named 6 = .ok (.istore 5, 2) := by decide +kernel
theorem dX0_named_8 : decode cX0_named 8 = .ok (.iload 5, 2) := by decide +kernel
theorem dX0_named_10 : decode cX0_named 10 = .ok (.aload_n 0, 1) := by decide +kernel
theorem dX0_named_11 : decode cX0_named 11 = .ok (.getfield 10, 3) := by decide +kernel
theorem dX0_named_14 : decode cX0_named 14 = .ok (.invokevirtual 54, 3) := by decide +kernel
theorem dX0_named_17 : decode cX0_named 17 = .ok (.if_icmp .ge 32, 3) := by decide +kernel
theorem dX0_named_20 : decode cX0_named 20 = .ok (.aload_n 0, 1) := by decide +kernel
theorem dX0_named_21 : decode cX0_named 21 = .ok (.getfield 10, 3) := by decide +kernel
theorem dX0_named_24 : decode cX0_named 24 = .ok (.iload 5, 2) := by decide +kernel
theorem dX0_named_26 : decode cX0_named 26 = .ok (.invokevirtual 58, 3) := by decide +kernel
theorem dX0_named_29 : decode cX0_named 29 = .ok (.checkcast 80, 3) := by decide +kernel
theorem dX0_named_32 : decode cX0_named 32 = .ok (.getfield 82, 3) := by decide +kernel
theorem dX0_named_35 : decode cX0_named 35 = .ok (.lload_n 3, 1) := by decide +kernel
theorem dX0_named_36 : decode cX0_named 36 = .ok (.lcmp, 1) := by decide +kernel
theorem dX0_named_37 : decode cX0_named 37 = .ok (.ifCond .ne 6, 3) := by decide +kernel
theorem dX0_named_40 : decode cX0_named 40 = .ok (.iload 5, 2) := by decide +kernel
theorem dX0_named_42 : decode cX0_named 42 = .ok (.ireturn, 1) := by decide +kernel
theorem dX0_named_43 : decode cX0_named 43 = .ok (.iinc 5 1, 3) := by decide +kernel
theorem dX0_named_46 : decode cX0_named 46 = .ok (.goto (-38), 3) := by decide +kernel
theorem dX0_named_49 : decode cX0_named 49 = .ok (.iconst (-1), 1) := by decide +kernel
theorem dX0_named_50 : decode cX0_named 50 = .ok (.ireturn, 1) := by decide +kernel
theorem dX0_letters_0 : decode cX0_letters 0 = .ok (.lconst 0, 1) := by decide +kernel
theorem dX0_letters_1 : decode cX0_letters 1 = .ok (.lstore_n 2, 1) := by decide +kernel
theorem dX0_letters_2 : decode cX0_letters 2 = .ok (.bipush 56, 2) := by decide +kernel
theorem dX0_letters_4 : decode cX0_letters 4 = .ok (.istore 4, 2) := by decide +kernel
theorem dX0_letters_6 : decode cX0_letters 6 = .ok (.iload 4, 2) := by decide +kernel
theorem dX0_letters_8 : decode cX0_letters 8 = .ok (.ifCond .lt 59, 3) := by decide +kernel
theorem dX0_letters_11 : decode cX0_letters 11 = .ok (.lload_n 0, 1) := by decide +kernel
theorem dX0_letters_12 : decode cX0_letters 12 = .ok (.iload 4, 2) := by decide +kernel
theorem dX0_letters_14 : decode cX0_letters 14 = .ok (.lushr, 1) := by decide +kernel
theorem dX0_letters_15 : decode cX0_letters 15 = .ok (.ldc2_w 68, 3) := by decide +kernel
theorem dX0_letters_18 : decode cX0_letters 18 = .ok (.land, 1) := by decide +kernel
theorem dX0_letters_19 : decode cX0_letters 19 = .ok (.lstore 5, 2) := by decide +kernel
theorem dX0_letters_21 : decode cX0_letters 21 = .ok (.lload 5, 2) := by decide +kernel
theorem dX0_letters_23 : decode cX0_letters 23 = .ok (.lconst 0, 1) := by decide +kernel
theorem dX0_letters_24 : decode cX0_letters 24 = .ok (.lcmp, 1) := by decide +kernel
theorem dX0_letters_25 : decode cX0_letters 25 = .ok (.ifCond .ne 6, 3) := by decide +kernel
theorem dX0_letters_28 : decode cX0_letters 28 = .ok (.goto 33, 3) := by decide +kernel
theorem dX0_letters_31 : decode cX0_letters 31 = .ok (.lload 5, 2) := by decide +kernel
theorem dX0_letters_33 : decode cX0_letters 33 = .ok (.ldc2_w 70, 3) := by decide +kernel
theorem dX0_letters_36 : decode cX0_letters 36 = .ok (.lcmp, 1) := by decide +kernel
theorem dX0_letters_37 : decode cX0_letters 37 = .ok (.ifCond .lt 12, 3) := by decide +kernel
theorem dX0_letters_40 : decode cX0_letters 40 = .ok (.lload 5, 2) := by decide +kernel
theorem dX0_letters_42 : decode cX0_letters 42 = .ok (.ldc2_w 72, 3) := by decide +kernel
theorem dX0_letters_45 : decode cX0_letters 45 = .ok (.lcmp, 1) := by decide +kernel
theorem dX0_letters_46 : decode cX0_letters 46 = .ok (.ifCond .le 7, 3) := by decide +kernel
theorem dX0_letters_49 : decode cX0_letters 49 = .ok (.ldc2_w 74, 3) := by decide +kernel
theorem dX0_letters_52 : decode cX0_letters 52 = .ok (.lreturn, 1) := by decide +kernel
theorem dX0_letters_53 : decode cX0_letters 53 = .ok (.lload_n 2, 1) := by decide +kernel
theorem dX0_letters_54 : decode cX0_letters 54 = .ok (.bipush 8, 2) := by decide +kernel
theorem dX0_letters_56 : decode cX0_letters 56 = .ok (.lshl, 1) := by decide +kernel
theorem dX0_letters_57 : decode cX0_letters 57 = .ok (.lload 5, 2) := by decide +kernel
theorem dX0_letters_59 : decode cX0_letters 59 = .ok (.lor, 1) := by decide +kernel
theorem dX0_letters_60 : decode cX0_letters 60 = .ok (.lstore_n 2, 1) := by decide +kernel
theorem dX0_letters_61 : decode cX0_letters 61 = .ok (.iinc 4 (-8), 3) := by decide +kernel
theorem dX0_letters_64 : decode cX0_letters 64 = .ok (.goto (-58), 3) := by decide +kernel
theorem dX0_letters_67 : decode cX0_letters 67 = .ok (.lload_n 2, 1) := by decide +kernel
theorem dX0_letters_68 : decode cX0_letters 68 = .ok (.lconst 0, 1) := by decide +kernel
theorem dX0_letters_69 : decode cX0_letters 69 = .ok (.lcmp, 1) := by decide +kernel
theorem dX0_letters_70 : decode cX0_letters 70 = .ok (.ifCond .ne 9, 3) := by decide +kernel
theorem dX0_letters_73 : decode cX0_letters 73 = .ok (.ldc2_w 74, 3) := by decide +kernel
theorem dX0_letters_76 : decode cX0_letters 76 = .ok (.goto 4, 3) := by decide +kernel
theorem dX0_letters_79 : decode cX0_letters 79 = .ok (.lload_n 2, 1) := by decide +kernel
theorem dX0_letters_80 : decode cX0_letters 80 = .ok (.lreturn, 1) := by decide +kernel
theorem dX0_kind_0 : decode cX0_kind 0 = .ok (.lload 5, 2) := by decide +kernel
theorem dX0_kind_2 : decode cX0_kind 2 = .ok (.invokestatic 76, 3) := by decide +kernel
theorem dX0_kind_5 : decode cX0_kind 5 = .ok (.lstore 7, 2) := by decide +kernel
theorem dX0_kind_7 : decode cX0_kind 7 = .ok (.aload_n 0, 1) := by decide +kernel
theorem dX0_kind_8 : decode cX0_kind 8 = .ok (.getfield 10, 3) := by decide +kernel
theorem dX0_kind_11 : decode cX0_kind 11 = .ok (.invokevirtual 54, 3) := by decide +kernel
theorem dX0_kind_14 : decode cX0_kind 14 = .ok (.bipush 40, 2) := by decide +kernel
theorem dX0_kind_16 : decode cX0_kind 16 = .ok (.if_icmp .eq 57, 3) := by decide +kernel
theorem dX0_kind_19 : decode cX0_kind 19 = .ok (.iload_n 1, 1) := by decide +kernel
theorem dX0_kind_20 : decode cX0_kind 20 = .ok (.ifCond .lt 53, 3) := by decide +kernel
theorem dX0_kind_23 : decode cX0_kind 23 = .ok (.iload_n 1, 1) := by decide +kernel
theorem dX0_kind_24 : decode cX0_kind 24 = .ok (.ldc 86, 2) := by decide +kernel
theorem dX0_kind_26 : decode cX0_kind 26 = .ok (.if_icmp .gt 47, 3) := by decide +kernel
theorem dX0_kind_29 : decode cX0_kind 29 = .ok (.iload_n 2, 1) := by decide +kernel
theorem dX0_kind_30 : decode cX0_kind 30 = .ok (.iconst 1, 1) := by decide +kernel
theorem dX0_kind_31 : decode cX0_kind 31 = .ok (.if_icmp .eq 13, 3) := by decide +kernel
theorem dX0_kind_34 : decode cX0_kind 34 = .ok (.iload_n 2, 1) := by decide +kernel
theorem dX0_kind_35 : decode cX0_kind 35 = .ok (.iconst 2, 1) := by decide +kernel
theorem dX0_kind_36 : decode cX0_kind 36 = .ok (.if_icmp .eq 8, 3) := by decide +kernel
theorem dX0_kind_39 : decode cX0_kind 39 = .ok (.iload_n 2, 1) := by decide +kernel
theorem dX0_kind_40 : decode cX0_kind 40 = .ok (.iconst 4, 1) := by decide +kernel
theorem dX0_kind_41 : decode cX0_kind 41 = .ok (.if_icmp .ne 32, 3) := by decide +kernel
theorem dX0_kind_44 : decode cX0_kind 44 = .ok (.iload 4, 2) := by decide +kernel
theorem dX0_kind_46 : decode cX0_kind 46 = .ok (.ifCond .lt 27, 3) := by decide +kernel
theorem dX0_kind_49 : decode cX0_kind 49 = .ok (.iload 4, 2) := by decide +kernel
theorem dX0_kind_51 : decode cX0_kind 51 = .ok (.sipush 1000, 3) := by decide +kernel
theorem dX0_kind_54 : decode cX0_kind 54 = .ok (.if_icmp .gt 19, 3) := by decide +kernel
theorem dX0_kind_57 : decode cX0_kind 57 = .ok (.lload 7, 2) := by decide +kernel
theorem dX0_kind_59 : decode cX0_kind 59 = .ok (.lconst 0, 1) := by decide +kernel
theorem dX0_kind_60 : decode cX0_kind 60 = .ok (.lcmp, 1) := by decide +kernel
theorem dX0_kind_61 : decode cX0_kind 61 = .ok (.ifCond .lt 12, 3) := by decide +kernel
theorem dX0_kind_64 : decode cX0_kind 64 = .ok (.aload_n 0, 1) := by decide +kernel
theorem dX0_kind_65 : decode cX0_kind 65 = .ok (.lload 5, 2) := by decide +kernel
theorem dX0_kind_67 : decode cX0_kind 67 = .ok (.invokevirtual 87, 3) := by decide +kernel
theorem dX0_kind_70 : decode cX0_kind 70 = .ok (.ifCond .lt 5, 3) := by decide +kernel
theorem dX0_kind_73 : decode cX0_kind 73 = .ok (.iconst (-1), 1) := by decide +kernel
theorem dX0_kind_74 : decode cX0_kind 74 = .ok (.ireturn, 1) := by decide +kernel
theorem dX0_kind_75 : decode cX0_kind 75 = .ok (.new 80, 3) := by decide +kernel
theorem dX0_kind_78 : decode cX0_kind 78 = .ok (.dup, 1) := by decide +kernel
theorem dX0_kind_79 : decode cX0_kind 79 = .ok (.iload_n 1, 1) := by decide +kernel
theorem dX0_kind_80 : decode cX0_kind 80 = .ok (.iload_n 2, 1) := by decide +kernel
theorem dX0_kind_81 : decode cX0_kind 81 = .ok (.iload_n 3, 1) := by decide +kernel
theorem dX0_kind_82 : decode cX0_kind 82 = .ok (.iload 4, 2) := by decide +kernel
theorem dX0_kind_84 : decode cX0_kind 84 = .ok (.lload 7, 2) := by decide +kernel
theorem dX0_kind_86 : decode cX0_kind 86 = .ok (.invokespecial 91, 3) := by decide +kernel
theorem dX0_kind_89 : decode cX0_kind 89 = .ok (.astore 9, 2) := by decide +kernel
theorem dX0_kind_91 : decode cX0_kind 91 = .ok (.aload 9, 2) := by decide +kernel
theorem dX0_kind_93 : decode cX0_kind 93 = .ok (.getfield 94, 3) := by decide +kernel
theorem dX0_kind_96 : decode cX0_kind 96 = .ok (.astore 10, 2) := by decide +kernel
theorem dX0_kind_98 : decode cX0_kind 98 = .ok (.iload_n 2, 1) := by decide +kernel
theorem dX0_kind_99 : decode cX0_kind 99 = .ok (.iconst 4, 1) := by decide +kernel
theorem dX0_kind_100 : decode cX0_kind 100 = .ok (.if_icmp .ge 25, 3) := by decide +kernel
theorem dX0_kind_103 : decode cX0_kind 103 = .ok (.aload 10, 2) := by decide +kernel
theorem dX0_kind_105 : decode cX0_kind 105 = .ok (.iconst 0, 1) := by decide +kernel
theorem dX0_kind_106 : decode cX0_kind 106 = .ok (.iaload, 1) := by decide +kernel
theorem dX0_kind_107 : decode cX0_kind 107 = .ok (.aload 10, 2) := by decide +kernel
theorem dX0_kind_109 : decode cX0_kind 109 = .ok (.iconst 2, 1) := by decide +kernel
theorem dX0_kind_110 : decode cX0_kind 110 = .ok (.iaload, 1) := by decide +kernel
theorem dX0_kind_111 : decode cX0_kind 111 = .ok (.if_icmp .ne 30, 3) := by decide +kernel
theorem dX0_kind_114 : decode cX0_kind 114 = .ok (.aload 10, 2) := by decide +kernel
theorem dX0_kind_116 : decode cX0_kind 116 = .ok (.iconst 1, 1) := by decide +kernel
theorem dX0_kind_117 : decode cX0_kind 117 = .ok (.iaload, 1) := by decide +kernel
theorem dX0_kind_118 : decode cX0_kind 118 = .ok (.aload 10, 2) := by decide +kernel
theorem dX0_kind_120 : decode cX0_kind 120 = .ok (.iconst 3, 1) := by decide +kernel
theorem dX0_kind_121 : decode cX0_kind 121 = .ok (.iaload, 1) := by decide +kernel
theorem dX0_kind_122 : decode cX0_kind 122 = .ok (.if_icmp .ne 19, 3) := by decide +kernel
theorem dX0_kind_125 : decode cX0_kind 125 = .ok (.iload_n 2, 1) := by decide +kernel
theorem dX0_kind_126 : decode cX0_kind 126 = .ok (.iconst 1, 1) := by decide +kernel
theorem dX0_kind_127 : decode cX0_kind 127 = .ok (.if_icmp .ne 16, 3) := by decide +kernel
theorem dX0_kind_130 : decode cX0_kind 130 = .ok (.aload 10, 2) := by decide +kernel
theorem dX0_kind_132 : decode cX0_kind 132 = .ok (.iconst 0, 1) := by decide +kernel
theorem dX0_kind_133 : decode cX0_kind 133 = .ok (.iaload, 1) := by decide +kernel
theorem dX0_kind_134 : decode cX0_kind 134 = .ok (.aload 10, 2) := by decide +kernel
theorem dX0_kind_136 : decode cX0_kind 136 = .ok (.iconst 1, 1) := by decide +kernel
theorem dX0_kind_137 : decode cX0_kind 137 = .ok (.iaload, 1) := by decide +kernel
theorem dX0_kind_138 : decode cX0_kind 138 = .ok (.if_icmp .eq 5, 3) := by decide +kernel
theorem dX0_kind_141 : decode cX0_kind 141 = .ok (.iconst (-1), 1) := by decide +kernel
theorem dX0_kind_142 : decode cX0_kind 142 = .ok (.ireturn, 1) := by decide +kernel
theorem dX0_kind_143 : decode cX0_kind 143 = .ok (.aload_n 0, 1) := by decide +kernel
theorem dX0_kind_144 : decode cX0_kind 144 = .ok (.getfield 10, 3) := by decide +kernel
theorem dX0_kind_147 : decode cX0_kind 147 = .ok (.aload 9, 2) := by decide +kernel
theorem dX0_kind_149 : decode cX0_kind 149 = .ok (.invokevirtual 98, 3) := by decide +kernel
theorem dX0_kind_152 : decode cX0_kind 152 = .ok (.pop, 1) := by decide +kernel
theorem dX0_kind_153 : decode cX0_kind 153 = .ok (.aload_n 0, 1) := by decide +kernel
theorem dX0_kind_154 : decode cX0_kind 154 = .ok (.getfield 10, 3) := by decide +kernel
theorem dX0_kind_157 : decode cX0_kind 157 = .ok (.invokevirtual 54, 3) := by decide +kernel
theorem dX0_kind_160 : decode cX0_kind 160 = .ok (.iconst 1, 1) := by decide +kernel
theorem dX0_kind_161 : decode cX0_kind 161 = .ok (.isub, 1) := by decide +kernel
theorem dX0_kind_162 : decode cX0_kind 162 = .ok (.ireturn, 1) := by decide +kernel
theorem dX0_edge_0 : decode cX0_edge 0 = .ok (.aload_n 0, 1) := by decide +kernel
theorem dX0_edge_1 : decode cX0_edge 1 = .ok (.iload_n 1, 1) := by decide +kernel
theorem dX0_edge_2 : decode cX0_edge 2 = .ok (.invokevirtual 102, 3) := by decide +kernel
theorem dX0_edge_5 : decode cX0_edge 5 = .ok (.ifCond .eq 19, 3) := by decide +kernel
theorem dX0_edge_8 : decode cX0_edge 8 = .ok (.iload_n 2, 1) := by decide +kernel
theorem dX0_edge_9 : decode cX0_edge 9 = .ok (.invokestatic 106, 3) := by decide +kernel
theorem dX0_edge_12 : decode cX0_edge 12 = .ok (.ifCond .eq 12, 3) := by decide +kernel
theorem dX0_edge_15 : decode cX0_edge 15 = .ok (.iload_n 3, 1) := by decide +kernel
theorem dX0_edge_16 : decode cX0_edge 16 = .ok (.ifCond .lt 8, 3) := by decide +kernel
theorem dX0_edge_19 : decode cX0_edge 19 = .ok (.iload_n 3, 1) := by decide +kernel
theorem dX0_edge_20 : decode cX0_edge 20 = .ok (.iconst 4, 1) := by decide +kernel
theorem dX0_edge_21 : decode cX0_edge 21 = .ok (.if_icmp .le 5, 3) := by decide +kernel
theorem dX0_edge_24 : decode cX0_edge 24 = .ok (.iconst (-1), 1) := by decide +kernel
theorem dX0_edge_25 : decode cX0_edge 25 = .ok (.ireturn, 1) := by decide +kernel
theorem dX0_edge_26 : decode cX0_edge 26 = .ok (.aload_n 0, 1) := by decide +kernel
theorem dX0_edge_27 : decode cX0_edge 27 = .ok (.getfield 10, 3) := by decide +kernel
theorem dX0_edge_30 : decode cX0_edge 30 = .ok (.iload_n 1, 1) := by decide +kernel
theorem dX0_edge_31 : decode cX0_edge 31 = .ok (.invokevirtual 58, 3) := by decide +kernel
theorem dX0_edge_34 : decode cX0_edge 34 = .ok (.checkcast 80, 3) := by decide +kernel
theorem dX0_edge_37 : decode cX0_edge 37 = .ok (.astore 4, 2) := by decide +kernel
theorem dX0_edge_39 : decode cX0_edge 39 = .ok (.aload 4, 2) := by decide +kernel
theorem dX0_edge_41 : decode cX0_edge 41 = .ok (.iload_n 2, 1) := by decide +kernel
theorem dX0_edge_42 : decode cX0_edge 42 = .ok (.invokevirtual 109, 3) := by decide +kernel
theorem dX0_edge_45 : decode cX0_edge 45 = .ok (.istore 5, 2) := by decide +kernel
theorem dX0_edge_47 : decode cX0_edge 47 = .ok (.iload_n 3, 1) := by decide +kernel
theorem dX0_edge_48 : decode cX0_edge 48 = .ok (.iconst 4, 1) := by decide +kernel
theorem dX0_edge_49 : decode cX0_edge 49 = .ok (.if_icmp .ne 8, 3) := by decide +kernel
theorem dX0_edge_52 : decode cX0_edge 52 = .ok (.iload 5, 2) := by decide +kernel
theorem dX0_edge_54 : decode cX0_edge 54 = .ok (.goto 11, 3) := by decide +kernel
theorem dX0_edge_57 : decode cX0_edge 57 = .ok (.aload 4, 2) := by decide +kernel
theorem dX0_edge_59 : decode cX0_edge 59 = .ok (.iload 5, 2) := by decide +kernel
theorem dX0_edge_61 : decode cX0_edge 61 = .ok (.iload_n 3, 1) := by decide +kernel
theorem dX0_edge_62 : decode cX0_edge 62 = .ok (.invokevirtual 113, 3) := by decide +kernel
theorem dX0_edge_65 : decode cX0_edge 65 = .ok (.ireturn, 1) := by decide +kernel
theorem dX0_isKind_0 : decode cX0_isKind 0 = .ok (.iload_n 1, 1) := by decide +kernel
theorem dX0_isKind_1 : decode cX0_isKind 1 = .ok (.ifCond .lt 18, 3) := by decide +kernel
theorem dX0_isKind_4 : decode cX0_isKind 4 = .ok (.iload_n 1, 1) := by decide +kernel
theorem dX0_isKind_5 : decode cX0_isKind 5 = .ok (.aload_n 0, 1) := by decide +kernel
theorem dX0_isKind_6 : decode cX0_isKind 6 = .ok (.getfield 10, 3) := by decide +kernel
theorem dX0_isKind_9 : decode cX0_isKind 9 = .ok (.invokevirtual 54, 3) := by decide +kernel
theorem dX0_isKind_12 : decode cX0_isKind 12 = .ok (.if_icmp .ge 7, 3) := by decide +kernel
theorem dX0_isKind_15 : decode cX0_isKind 15 = .ok (.iconst 1, 1) := by decide +kernel
theorem dX0_isKind_16 : decode cX0_isKind 16 = .ok (.goto 4, 3) := by decide +kernel
theorem dX0_isKind_19 : decode cX0_isKind 19 = .ok (.iconst 0, 1) := by decide +kernel
theorem dX0_isKind_20 : decode cX0_isKind 20 = .ok (.ireturn, 1) := by decide +kernel
theorem dX0_isMove_0 : decode cX0_isMove 0 = .ok (.iload_n 0, 1) := by decide +kernel
theorem dX0_isMove_1 : decode cX0_isMove 1 = .ok (.ifCond .lt 13, 3) := by decide +kernel
theorem dX0_isMove_4 : decode cX0_isMove 4 = .ok (.iload_n 0, 1) := by decide +kernel
theorem dX0_isMove_5 : decode cX0_isMove 5 = .ok (.bipush 8, 2) := by decide +kernel
theorem dX0_isMove_7 : decode cX0_isMove 7 = .ok (.if_icmp .ge 7, 3) := by decide +kernel
theorem dX0_isMove_10 : decode cX0_isMove 10 = .ok (.iconst 1, 1) := by decide +kernel
theorem dX0_isMove_11 : decode cX0_isMove 11 = .ok (.goto 4, 3) := by decide +kernel
theorem dX0_isMove_14 : decode cX0_isMove 14 = .ok (.iconst 0, 1) := by decide +kernel
theorem dX0_isMove_15 : decode cX0_isMove 15 = .ok (.ireturn, 1) := by decide +kernel
theorem dX0_then_0 : decode cX0_then 0 = .ok (.iload_n 1, 1) := by decide +kernel
theorem dX0_then_1 : decode cX0_then 1 = .ok (.invokestatic 106, 3) := by decide +kernel
theorem dX0_then_4 : decode cX0_then 4 = .ok (.ifCond .eq 18, 3) := by decide +kernel
theorem dX0_then_7 : decode cX0_then 7 = .ok (.iload_n 2, 1) := by decide +kernel
theorem dX0_then_8 : decode cX0_then 8 = .ok (.invokestatic 106, 3) := by decide +kernel
theorem dX0_then_11 : decode cX0_then 11 = .ok (.ifCond .eq 11, 3) := by decide +kernel
theorem dX0_then_14 : decode cX0_then 14 = .ok (.iload_n 1, 1) := by decide +kernel
theorem dX0_then_15 : decode cX0_then 15 = .ok (.iload_n 2, 1) := by decide +kernel
theorem dX0_then_16 : decode cX0_then 16 = .ok (.invokestatic 117, 3) := by decide +kernel
theorem dX0_then_19 : decode cX0_then 19 = .ok (.goto 4, 3) := by decide +kernel
theorem dX0_then_22 : decode cX0_then 22 = .ok (.iconst (-1), 1) := by decide +kernel
theorem dX0_then_23 : decode cX0_then 23 = .ok (.ireturn, 1) := by decide +kernel
theorem dX0_pattern_0 : decode cX0_pattern 0 = .ok (.aload_n 0, 1) := by decide +kernel
theorem dX0_pattern_1 : decode cX0_pattern 1 = .ok (.getfield 16, 3) := by decide +kernel
theorem dX0_pattern_4 : decode cX0_pattern 4 = .ok (.invokevirtual 54, 3) := by decide +kernel
theorem dX0_pattern_7 : decode cX0_pattern 7 = .ok (.bipush 16, 2) := by decide +kernel
theorem dX0_pattern_9 : decode cX0_pattern 9 = .ok (.if_icmp .ne 5, 3) := by decide +kernel
theorem dX0_pattern_12 : decode cX0_pattern 12 = .ok (.iconst (-1), 1) := by decide +kernel
theorem dX0_pattern_13 : decode cX0_pattern 13 = .ok (.ireturn, 1) := by decide +kernel
theorem dX0_pattern_14 : decode cX0_pattern 14 = .ok (.aload_n 0, 1) := by decide +kernel
theorem dX0_pattern_15 : decode cX0_pattern 15 = .ok (.getfield 16, 3) := by decide +kernel
theorem dX0_pattern_18 : decode cX0_pattern 18 = .ok (.new 62, 3) := by decide +kernel
theorem dX0_pattern_21 : decode cX0_pattern 21 = .ok (.dup, 1) := by decide +kernel
theorem dX0_pattern_22 : decode cX0_pattern 22 = .ok (.invokespecial 121, 3) := by decide +kernel
theorem dX0_pattern_25 : decode cX0_pattern 25 = .ok (.invokevirtual 98, 3) := by decide +kernel
theorem dX0_pattern_28 : decode cX0_pattern 28 = .ok (.pop, 1) := by decide +kernel
theorem dX0_pattern_29 : decode cX0_pattern 29 = .ok (.aload_n 0, 1) := by decide +kernel
theorem dX0_pattern_30 : decode cX0_pattern 30 = .ok (.getfield 16, 3) := by decide +kernel
theorem dX0_pattern_33 : decode cX0_pattern 33 = .ok (.invokevirtual 54, 3) := by decide +kernel
theorem dX0_pattern_36 : decode cX0_pattern 36 = .ok (.iconst 1, 1) := by decide +kernel
theorem dX0_pattern_37 : decode cX0_pattern 37 = .ok (.isub, 1) := by decide +kernel
theorem dX0_pattern_38 : decode cX0_pattern 38 = .ok (.ireturn, 1) := by decide +kernel
theorem dX0_insert_0 : decode cX0_insert 0 = .ok (.aload_n 0, 1) := by decide +kernel
theorem dX0_insert_1 : decode cX0_insert 1 = .ok (.iload_n 1, 1) := by decide +kernel
theorem dX0_insert_2 : decode cX0_insert 2 = .ok (.invokevirtual 150, 3) := by decide +kernel
theorem dX0_insert_5 : decode cX0_insert 5 = .ok (.astore 5, 2) := by decide +kernel
theorem dX0_insert_7 : decode cX0_insert 7 = .ok (.aload 5, 2) := by decide +kernel
theorem dX0_insert_9 : decode cX0_insert 9 = .ok (.ifnull 64, 3) := by decide +kernel
theorem dX0_insert_12 : decode cX0_insert 12 = .ok (.iload_n 2, 1) := by decide +kernel
theorem dX0_insert_13 : decode cX0_insert 13 = .ok (.ifCond .lt 60, 3) := by decide +kernel
theorem dX0_insert_16 : decode cX0_insert 16 = .ok (.iload_n 2, 1) := by decide +kernel
theorem dX0_insert_17 : decode cX0_insert 17 = .ok (.aload 5, 2) := by decide +kernel
theorem dX0_insert_19 : decode cX0_insert 19 = .ok (.getfield 140, 3) := by decide +kernel
theorem dX0_insert_22 : decode cX0_insert 22 = .ok (.invokevirtual 54, 3) := by decide +kernel
theorem dX0_insert_25 : decode cX0_insert 25 = .ok (.if_icmp .gt 48, 3) := by decide +kernel
theorem dX0_insert_28 : decode cX0_insert 28 = .ok (.aload 5, 2) := by decide +kernel
theorem dX0_insert_30 : decode cX0_insert 30 = .ok (.getfield 140, 3) := by decide +kernel
theorem dX0_insert_33 : decode cX0_insert 33 = .ok (.invokevirtual 54, 3) := by decide +kernel
theorem dX0_insert_36 : decode cX0_insert 36 = .ok (.bipush 60, 2) := by decide +kernel
theorem dX0_insert_38 : decode cX0_insert 38 = .ok (.if_icmp .eq 35, 3) := by decide +kernel
theorem dX0_insert_41 : decode cX0_insert 41 = .ok (.iload_n 3, 1) := by decide +kernel
theorem dX0_insert_42 : decode cX0_insert 42 = .ok (.ifCond .lt 31, 3) := by decide +kernel
theorem dX0_insert_45 : decode cX0_insert 45 = .ok (.iload_n 3, 1) := by decide +kernel
theorem dX0_insert_46 : decode cX0_insert 46 = .ok (.bipush 60, 2) := by decide +kernel
theorem dX0_insert_48 : decode cX0_insert 48 = .ok (.if_icmp .gt 25, 3) := by decide +kernel
theorem dX0_insert_51 : decode cX0_insert 51 = .ok (.iload 4, 2) := by decide +kernel
theorem dX0_insert_53 : decode cX0_insert 53 = .ok (.bipush (-30), 2) := by decide +kernel
theorem dX0_insert_55 : decode cX0_insert 55 = .ok (.if_icmp .lt 18, 3) := by decide +kernel
theorem dX0_insert_58 : decode cX0_insert 58 = .ok (.iload 4, 2) := by decide +kernel
theorem dX0_insert_60 : decode cX0_insert 60 = .ok (.bipush 30, 2) := by decide +kernel
theorem dX0_insert_62 : decode cX0_insert 62 = .ok (.if_icmp .gt 11, 3) := by decide +kernel
theorem dX0_insert_65 : decode cX0_insert 65 = .ok (.aload_n 0, 1) := by decide +kernel
theorem dX0_insert_66 : decode cX0_insert 66 = .ok (.iconst 1, 1) := by decide +kernel
theorem dX0_insert_67 : decode cX0_insert 67 = .ok (.invokevirtual 154, 3) := by decide +kernel
theorem dX0_insert_70 : decode cX0_insert 70 = .ok (.ifCond .ne 5, 3) := by decide +kernel
theorem dX0_insert_73 : decode cX0_insert 73 = .ok (.iconst 0, 1) := by decide +kernel
theorem dX0_insert_74 : decode cX0_insert 74 = .ok (.ireturn, 1) := by decide +kernel
theorem dX0_insert_75 : decode cX0_insert 75 = .ok (.aload_n 0, 1) := by decide +kernel
theorem dX0_insert_76 : decode cX0_insert 76 = .ok (.aload 5, 2) := by decide +kernel
theorem dX0_insert_78 : decode cX0_insert 78 = .ok (.invokevirtual 157, 3) := by decide +kernel
theorem dX0_insert_81 : decode cX0_insert 81 = .ok (.aload 5, 2) := by decide +kernel
theorem dX0_insert_83 : decode cX0_insert 83 = .ok (.getfield 140, 3) := by decide +kernel
theorem dX0_insert_86 : decode cX0_insert 86 = .ok (.iload_n 2, 1) := by decide +kernel
theorem dX0_insert_87 : decode cX0_insert 87 = .ok (.new 138, 3) := by decide +kernel
theorem dX0_insert_90 : decode cX0_insert 90 = .ok (.dup, 1) := by decide +kernel
theorem dX0_insert_91 : decode cX0_insert 91 = .ok (.iload_n 3, 1) := by decide +kernel
theorem dX0_insert_92 : decode cX0_insert 92 = .ok (.iload 4, 2) := by decide +kernel
theorem dX0_insert_94 : decode cX0_insert 94 = .ok (.invokespecial 160, 3) := by decide +kernel
theorem dX0_insert_97 : decode cX0_insert 97 = .ok (.invokevirtual 163, 3) := by decide +kernel
theorem dX0_insert_100 : decode cX0_insert 100 = .ok (.aload_n 0, 1) := by decide +kernel
theorem dX0_insert_101 : decode cX0_insert 101 = .ok (.dup, 1) := by decide +kernel
theorem dX0_insert_102 : decode cX0_insert 102 = .ok (.getfield 135, 3) := by decide +kernel
theorem dX0_insert_105 : decode cX0_insert 105 = .ok (.iconst 1, 1) := by decide +kernel
theorem dX0_insert_106 : decode cX0_insert 106 = .ok (.iadd, 1) := by decide +kernel
theorem dX0_insert_107 : decode cX0_insert 107 = .ok (.putfield 135, 3) := by decide +kernel
theorem dX0_insert_110 : decode cX0_insert 110 = .ok (.iconst 1, 1) := by decide +kernel
theorem dX0_insert_111 : decode cX0_insert 111 = .ok (.ireturn, 1) := by decide +kernel
theorem dX0_pattern_2_0 : decode cX0_pattern_2 0 = .ok (.iload_n 1, 1) := by decide +kernel
theorem dX0_pattern_2_1 : decode cX0_pattern_2 1 = .ok (.ifCond .lt 28, 3) := by decide +kernel
theorem dX0_pattern_2_4 : decode cX0_pattern_2 4 = .ok (.iload_n 1, 1) := by decide +kernel
theorem dX0_pattern_2_5 : decode cX0_pattern_2 5 = .ok (.aload_n 0, 1) := by decide +kernel
theorem dX0_pattern_2_6 : decode cX0_pattern_2 6 = .ok (.getfield 16, 3) := by decide +kernel
theorem dX0_pattern_2_9 : decode cX0_pattern_2 9 = .ok (.invokevirtual 54, 3) := by decide +kernel
theorem dX0_pattern_2_12 : decode cX0_pattern_2 12 = .ok (.if_icmp .ge 17, 3) := by decide +kernel
theorem dX0_pattern_2_15 : decode cX0_pattern_2 15 = .ok (.aload_n 0, 1) := by decide +kernel
theorem dX0_pattern_2_16 : decode cX0_pattern_2 16 = .ok (.getfield 16, 3) := by decide +kernel
theorem dX0_pattern_2_19 : decode cX0_pattern_2 19 = .ok (.iload_n 1, 1) := by decide +kernel
theorem dX0_pattern_2_20 : decode cX0_pattern_2 20 = .ok (.invokevirtual 58, 3) := by decide +kernel
theorem dX0_pattern_2_23 : decode cX0_pattern_2 23 = .ok (.checkcast 62, 3) := by decide +kernel
theorem dX0_pattern_2_26 : decode cX0_pattern_2 26 = .ok (.goto 4, 3) := by decide +kernel
theorem dX0_pattern_2_29 : decode cX0_pattern_2 29 = .ok (.aconst_null, 1) := by decide +kernel
theorem dX0_pattern_2_30 : decode cX0_pattern_2 30 = .ok (.areturn, 1) := by decide +kernel
theorem dX0_canMake_0 : decode cX0_canMake 0 = .ok (.iload_n 1, 1) := by decide +kernel
theorem dX0_canMake_1 : decode cX0_canMake 1 = .ok (.sipush 6000, 3) := by decide +kernel
theorem dX0_canMake_4 : decode cX0_canMake 4 = .ok (.aload_n 0, 1) := by decide +kernel
theorem dX0_canMake_5 : decode cX0_canMake 5 = .ok (.getfield 135, 3) := by decide +kernel
theorem dX0_canMake_8 : decode cX0_canMake 8 = .ok (.isub, 1) := by decide +kernel
theorem dX0_canMake_9 : decode cX0_canMake 9 = .ok (.if_icmp .gt 7, 3) := by decide +kernel
theorem dX0_canMake_12 : decode cX0_canMake 12 = .ok (.iconst 1, 1) := by decide +kernel
theorem dX0_canMake_13 : decode cX0_canMake 13 = .ok (.goto 4, 3) := by decide +kernel
theorem dX0_canMake_16 : decode cX0_canMake 16 = .ok (.iconst 0, 1) := by decide +kernel
theorem dX0_canMake_17 : decode cX0_canMake 17 = .ok (.ireturn, 1) := by decide +kernel
theorem dX0_keep_0 : decode cX0_keep 0 = .ok (.aload_n 0, 1) := by decide +kernel
theorem dX0_keep_1 : decode cX0_keep 1 = .ok (.getfield 122, 3) := by decide +kernel
theorem dX0_keep_4 : decode cX0_keep 4 = .ok (.bipush 40, 2) := by decide +kernel
theorem dX0_keep_6 : decode cX0_keep 6 = .ok (.if_icmp .ne 28, 3) := by decide +kernel
theorem dX0_keep_9 : decode cX0_keep 9 = .ok (.aload_n 0, 1) := by decide +kernel
theorem dX0_keep_10 : decode cX0_keep 10 = .ok (.getfield 27, 3) := by decide +kernel
theorem dX0_keep_13 : decode cX0_keep 13 = .ok (.iconst 1, 1) := by decide +kernel
theorem dX0_keep_14 : decode cX0_keep 14 = .ok (.aload_n 0, 1) := by decide +kernel
theorem dX0_keep_15 : decode cX0_keep 15 = .ok (.getfield 27, 3) := by decide +kernel
theorem dX0_keep_18 : decode cX0_keep 18 = .ok (.iconst 0, 1) := by decide +kernel
theorem dX0_keep_19 : decode cX0_keep 19 = .ok (.bipush 39, 2) := by decide +kernel
theorem dX0_keep_21 : decode cX0_keep 21 = .ok (.invokestatic 126, 3) := by decide +kernel
theorem dX0_keep_24 : decode cX0_keep 24 = .ok (.aload_n 0, 1) := by decide +kernel
theorem dX0_keep_25 : decode cX0_keep 25 = .ok (.dup, 1) := by decide +kernel
theorem dX0_keep_26 : decode cX0_keep 26 = .ok (.getfield 122, 3) := by decide +kernel
theorem dX0_keep_29 : decode cX0_keep 29 = .ok (.iconst 1, 1) := by decide +kernel
theorem dX0_keep_30 : decode cX0_keep 30 = .ok (.isub, 1) := by decide +kernel
theorem dX0_keep_31 : decode cX0_keep 31 = .ok (.putfield 122, 3) := by decide +kernel
theorem dX0_keep_34 : decode cX0_keep 34 = .ok (.aload_n 0, 1) := by decide +kernel
theorem dX0_keep_35 : decode cX0_keep 35 = .ok (.getfield 27, 3) := by decide +kernel
theorem dX0_keep_38 : decode cX0_keep 38 = .ok (.aload_n 0, 1) := by decide +kernel
theorem dX0_keep_39 : decode cX0_keep 39 = .ok (.getfield 122, 3) := by decide +kernel
theorem dX0_keep_42 : decode cX0_keep 42 = .ok (.new 25, 3) := by decide +kernel
theorem dX0_keep_45 : decode cX0_keep 45 = .ok (.dup, 1) := by decide +kernel
theorem dX0_keep_46 : decode cX0_keep 46 = .ok (.aload_n 1, 1) := by decide +kernel
theorem dX0_keep_47 : decode cX0_keep 47 = .ok (.invokespecial 132, 3) := by decide +kernel
theorem dX0_keep_50 : decode cX0_keep 50 = .ok (.aastore, 1) := by decide +kernel
theorem dX0_keep_51 : decode cX0_keep 51 = .ok (.aload_n 0, 1) := by decide +kernel
theorem dX0_keep_52 : decode cX0_keep 52 = .ok (.dup, 1) := by decide +kernel
theorem dX0_keep_53 : decode cX0_keep 53 = .ok (.getfield 122, 3) := by decide +kernel
theorem dX0_keep_56 : decode cX0_keep 56 = .ok (.iconst 1, 1) := by decide +kernel
theorem dX0_keep_57 : decode cX0_keep 57 = .ok (.iadd, 1) := by decide +kernel
theorem dX0_keep_58 : decode cX0_keep 58 = .ok (.putfield 122, 3) := by decide +kernel
theorem dX0_keep_61 : decode cX0_keep 61 = .ok (.return_, 1) := by decide +kernel
theorem dX0_remove_0 : decode cX0_remove 0 = .ok (.aload_n 0, 1) := by decide +kernel
theorem dX0_remove_1 : decode cX0_remove 1 = .ok (.iload_n 1, 1) := by decide +kernel
theorem dX0_remove_2 : decode cX0_remove 2 = .ok (.invokevirtual 150, 3) := by decide +kernel
theorem dX0_remove_5 : decode cX0_remove 5 = .ok (.astore_n 3, 1) := by decide +kernel
theorem dX0_remove_6 : decode cX0_remove 6 = .ok (.aload_n 3, 1) := by decide +kernel
theorem dX0_remove_7 : decode cX0_remove 7 = .ok (.ifnull 11, 3) := by decide +kernel
theorem dX0_remove_10 : decode cX0_remove 10 = .ok (.aload_n 3, 1) := by decide +kernel
theorem dX0_remove_11 : decode cX0_remove 11 = .ok (.iload_n 2, 1) := by decide +kernel
theorem dX0_remove_12 : decode cX0_remove 12 = .ok (.invokevirtual 166, 3) := by decide +kernel
theorem dX0_remove_15 : decode cX0_remove 15 = .ok (.ifnonnull 5, 3) := by decide +kernel
theorem dX0_remove_18 : decode cX0_remove 18 = .ok (.iconst 0, 1) := by decide +kernel
theorem dX0_remove_19 : decode cX0_remove 19 = .ok (.ireturn, 1) := by decide +kernel
theorem dX0_remove_20 : decode cX0_remove 20 = .ok (.aload_n 0, 1) := by decide +kernel
theorem dX0_remove_21 : decode cX0_remove 21 = .ok (.aload_n 3, 1) := by decide +kernel
theorem dX0_remove_22 : decode cX0_remove 22 = .ok (.invokevirtual 157, 3) := by decide +kernel
theorem dX0_remove_25 : decode cX0_remove 25 = .ok (.aload_n 3, 1) := by decide +kernel
theorem dX0_remove_26 : decode cX0_remove 26 = .ok (.getfield 140, 3) := by decide +kernel
theorem dX0_remove_29 : decode cX0_remove 29 = .ok (.iload_n 2, 1) := by decide +kernel
theorem dX0_remove_30 : decode cX0_remove 30 = .ok (.invokevirtual 170, 3) := by decide +kernel
theorem dX0_remove_33 : decode cX0_remove 33 = .ok (.pop, 1) := by decide +kernel
theorem dX0_remove_34 : decode cX0_remove 34 = .ok (.iconst 1, 1) := by decide +kernel
theorem dX0_remove_35 : decode cX0_remove 35 = .ok (.ireturn, 1) := by decide +kernel
theorem dX0_move_0 : decode cX0_move 0 = .ok (.aload_n 0, 1) := by decide +kernel
theorem dX0_move_1 : decode cX0_move 1 = .ok (.iload_n 1, 1) := by decide +kernel
theorem dX0_move_2 : decode cX0_move 2 = .ok (.invokevirtual 150, 3) := by decide +kernel
theorem dX0_move_5 : decode cX0_move 5 = .ok (.astore 4, 2) := by decide +kernel
theorem dX0_move_7 : decode cX0_move 7 = .ok (.aload 4, 2) := by decide +kernel
theorem dX0_move_9 : decode cX0_move 9 = .ok (.ifnull 21, 3) := by decide +kernel
theorem dX0_move_12 : decode cX0_move 12 = .ok (.aload 4, 2) := by decide +kernel
theorem dX0_move_14 : decode cX0_move 14 = .ok (.iload_n 2, 1) := by decide +kernel
theorem dX0_move_15 : decode cX0_move 15 = .ok (.invokevirtual 166, 3) := by decide +kernel
theorem dX0_move_18 : decode cX0_move 18 = .ok (.ifnull 12, 3) := by decide +kernel
theorem dX0_move_21 : decode cX0_move 21 = .ok (.aload 4, 2) := by decide +kernel
theorem dX0_move_23 : decode cX0_move 23 = .ok (.iload_n 3, 1) := by decide +kernel
theorem dX0_move_24 : decode cX0_move 24 = .ok (.invokevirtual 166, 3) := by decide +kernel
theorem dX0_move_27 : decode cX0_move 27 = .ok (.ifnonnull 5, 3) := by decide +kernel
theorem dX0_move_30 : decode cX0_move 30 = .ok (.iconst 0, 1) := by decide +kernel
theorem dX0_move_31 : decode cX0_move 31 = .ok (.ireturn, 1) := by decide +kernel
theorem dX0_move_32 : decode cX0_move 32 = .ok (.aload_n 0, 1) := by decide +kernel
theorem dX0_move_33 : decode cX0_move 33 = .ok (.aload 4, 2) := by decide +kernel
theorem dX0_move_35 : decode cX0_move 35 = .ok (.invokevirtual 157, 3) := by decide +kernel
theorem dX0_move_38 : decode cX0_move 38 = .ok (.aload 4, 2) := by decide +kernel
theorem dX0_move_40 : decode cX0_move 40 = .ok (.getfield 140, 3) := by decide +kernel
theorem dX0_move_43 : decode cX0_move 43 = .ok (.iload_n 3, 1) := by decide +kernel
theorem dX0_move_44 : decode cX0_move 44 = .ok (.aload 4, 2) := by decide +kernel
theorem dX0_move_46 : decode cX0_move 46 = .ok (.getfield 140, 3) := by decide +kernel
theorem dX0_move_49 : decode cX0_move 49 = .ok (.iload_n 2, 1) := by decide +kernel
theorem dX0_move_50 : decode cX0_move 50 = .ok (.invokevirtual 170, 3) := by decide +kernel
theorem dX0_move_53 : decode cX0_move 53 = .ok (.checkcast 138, 3) := by decide +kernel
theorem dX0_move_56 : decode cX0_move 56 = .ok (.invokevirtual 163, 3) := by decide +kernel
theorem dX0_move_59 : decode cX0_move 59 = .ok (.iconst 1, 1) := by decide +kernel
theorem dX0_move_60 : decode cX0_move 60 = .ok (.ireturn, 1) := by decide +kernel
theorem dX0_put_0 : decode cX0_put 0 = .ok (.aload_n 0, 1) := by decide +kernel
theorem dX0_put_1 : decode cX0_put 1 = .ok (.iload_n 1, 1) := by decide +kernel
theorem dX0_put_2 : decode cX0_put 2 = .ok (.invokevirtual 150, 3) := by decide +kernel
theorem dX0_put_5 : decode cX0_put 5 = .ok (.astore 6, 2) := by decide +kernel
theorem dX0_put_7 : decode cX0_put 7 = .ok (.aload 6, 2) := by decide +kernel
theorem dX0_put_9 : decode cX0_put 9 = .ok (.ifnull 44, 3) := by decide +kernel
theorem dX0_put_12 : decode cX0_put 12 = .ok (.aload 6, 2) := by decide +kernel
theorem dX0_put_14 : decode cX0_put 14 = .ok (.iload_n 2, 1) := by decide +kernel
theorem dX0_put_15 : decode cX0_put 15 = .ok (.iload_n 3, 1) := by decide +kernel
theorem dX0_put_16 : decode cX0_put 16 = .ok (.invokevirtual 173, 3) := by decide +kernel
theorem dX0_put_19 : decode cX0_put 19 = .ok (.ifnull 34, 3) := by decide +kernel
theorem dX0_put_22 : decode cX0_put 22 = .ok (.iload 4, 2) := by decide +kernel
theorem dX0_put_24 : decode cX0_put 24 = .ok (.iconst (-1), 1) := by decide +kernel
theorem dX0_put_25 : decode cX0_put 25 = .ok (.if_icmp .eq 20, 3) := by decide +kernel
theorem dX0_put_28 : decode cX0_put 28 = .ok (.aload_n 0, 1) := by decide +kernel
theorem dX0_put_29 : decode cX0_put 29 = .ok (.iload 4, 2) := by decide +kernel
theorem dX0_put_31 : decode cX0_put 31 = .ok (.invokevirtual 102, 3) := by decide +kernel
theorem dX0_put_34 : decode cX0_put 34 = .ok (.ifCond .eq 19, 3) := by decide +kernel
theorem dX0_put_37 : decode cX0_put 37 = .ok (.iload 5, 2) := by decide +kernel
theorem dX0_put_39 : decode cX0_put 39 = .ok (.invokestatic 106, 3) := by decide +kernel
theorem dX0_put_42 : decode cX0_put 42 = .ok (.ifCond .eq 11, 3) := by decide +kernel
theorem dX0_put_45 : decode cX0_put 45 = .ok (.aload_n 0, 1) := by decide +kernel
theorem dX0_put_46 : decode cX0_put 46 = .ok (.iconst 1, 1) := by decide +kernel
theorem dX0_put_47 : decode cX0_put 47 = .ok (.invokevirtual 154, 3) := by decide +kernel
theorem dX0_put_50 : decode cX0_put 50 = .ok (.ifCond .ne 5, 3) := by decide +kernel
theorem dX0_put_53 : decode cX0_put 53 = .ok (.iconst 0, 1) := by decide +kernel
theorem dX0_put_54 : decode cX0_put 54 = .ok (.ireturn, 1) := by decide +kernel
theorem dX0_put_55 : decode cX0_put 55 = .ok (.aload_n 0, 1) := by decide +kernel
theorem dX0_put_56 : decode cX0_put 56 = .ok (.aload 6, 2) := by decide +kernel
theorem dX0_put_58 : decode cX0_put 58 = .ok (.invokevirtual 157, 3) := by decide +kernel
theorem dX0_put_61 : decode cX0_put 61 = .ok (.aload_n 0, 1) := by decide +kernel
theorem dX0_put_62 : decode cX0_put 62 = .ok (.aload 6, 2) := by decide +kernel
theorem dX0_put_64 : decode cX0_put 64 = .ok (.iload_n 2, 1) := by decide +kernel
theorem dX0_put_65 : decode cX0_put 65 = .ok (.invokevirtual 177, 3) := by decide +kernel
theorem dX0_put_68 : decode cX0_put 68 = .ok (.astore 7, 2) := by decide +kernel
theorem dX0_put_70 : decode cX0_put 70 = .ok (.aload 7, 2) := by decide +kernel
theorem dX0_put_72 : decode cX0_put 72 = .ok (.iload_n 3, 1) := by decide +kernel
theorem dX0_put_73 : decode cX0_put 73 = .ok (.aload 7, 2) := by decide +kernel
theorem dX0_put_75 : decode cX0_put 75 = .ok (.getfield 181, 3) := by decide +kernel
theorem dX0_put_78 : decode cX0_put 78 = .ok (.isub, 1) := by decide +kernel
theorem dX0_put_79 : decode cX0_put 79 = .ok (.iload 4, 2) := by decide +kernel
theorem dX0_put_81 : decode cX0_put 81 = .ok (.iload 4, 2) := by decide +kernel
theorem dX0_put_83 : decode cX0_put 83 = .ok (.ifCond .ge 7, 3) := by decide +kernel
theorem dX0_put_86 : decode cX0_put 86 = .ok (.iconst 0, 1) := by decide +kernel
theorem dX0_put_87 : decode cX0_put 87 = .ok (.goto 20, 3) := by decide +kernel
theorem dX0_put_90 : decode cX0_put 90 = .ok (.aload_n 0, 1) := by decide +kernel
theorem dX0_put_91 : decode cX0_put 91 = .ok (.getfield 10, 3) := by decide +kernel
theorem dX0_put_94 : decode cX0_put 94 = .ok (.iload 4, 2) := by decide +kernel
theorem dX0_put_96 : decode cX0_put 96 = .ok (.invokevirtual 58, 3) := by decide +kernel
theorem dX0_put_99 : decode cX0_put 99 = .ok (.checkcast 80, 3) := by decide +kernel
theorem dX0_put_102 : decode cX0_put 102 = .ok (.iload 5, 2) := by decide +kernel
theorem dX0_put_104 : decode cX0_put 104 = .ok (.invokevirtual 109, 3) := by decide +kernel
theorem dX0_put_107 : decode cX0_put 107 = .ok (.iconst 0, 1) := by decide +kernel
theorem dX0_put_108 : decode cX0_put 108 = .ok (.invokevirtual 184, 3) := by decide +kernel
theorem dX0_put_111 : decode cX0_put 111 = .ok (.iconst 1, 1) := by decide +kernel
theorem dX0_put_112 : decode cX0_put 112 = .ok (.ireturn, 1) := by decide +kernel
theorem dX0_own_0 : decode cX0_own 0 = .ok (.new 138, 3) := by decide +kernel
theorem dX0_own_3 : decode cX0_own 3 = .ok (.dup, 1) := by decide +kernel
theorem dX0_own_4 : decode cX0_own 4 = .ok (.aload_n 1, 1) := by decide +kernel
theorem dX0_own_5 : decode cX0_own 5 = .ok (.getfield 140, 3) := by decide +kernel
theorem dX0_own_8 : decode cX0_own 8 = .ok (.iload_n 2, 1) := by decide +kernel
theorem dX0_own_9 : decode cX0_own 9 = .ok (.invokevirtual 58, 3) := by decide +kernel
theorem dX0_own_12 : decode cX0_own 12 = .ok (.checkcast 138, 3) := by decide +kernel
theorem dX0_own_15 : decode cX0_own 15 = .ok (.invokespecial 143, 3) := by decide +kernel
theorem dX0_own_18 : decode cX0_own 18 = .ok (.astore_n 3, 1) := by decide +kernel
theorem dX0_own_19 : decode cX0_own 19 = .ok (.aload_n 0, 1) := by decide +kernel
theorem dX0_own_20 : decode cX0_own 20 = .ok (.dup, 1) := by decide +kernel
theorem dX0_own_21 : decode cX0_own 21 = .ok (.getfield 135, 3) := by decide +kernel
theorem dX0_own_24 : decode cX0_own 24 = .ok (.iconst 1, 1) := by decide +kernel
theorem dX0_own_25 : decode cX0_own 25 = .ok (.iadd, 1) := by decide +kernel
theorem dX0_own_26 : decode cX0_own 26 = .ok (.putfield 135, 3) := by decide +kernel
theorem dX0_own_29 : decode cX0_own 29 = .ok (.aload_n 1, 1) := by decide +kernel
theorem dX0_own_30 : decode cX0_own 30 = .ok (.getfield 140, 3) := by decide +kernel
theorem dX0_own_33 : decode cX0_own 33 = .ok (.iload_n 2, 1) := by decide +kernel
theorem dX0_own_34 : decode cX0_own 34 = .ok (.aload_n 3, 1) := by decide +kernel
theorem dX0_own_35 : decode cX0_own 35 = .ok (.invokevirtual 146, 3) := by decide +kernel
theorem dX0_own_38 : decode cX0_own 38 = .ok (.pop, 1) := by decide +kernel
theorem dX0_own_39 : decode cX0_own 39 = .ok (.aload_n 3, 1) := by decide +kernel
theorem dX0_own_40 : decode cX0_own 40 = .ok (.areturn, 1) := by decide +kernel
theorem dX0_shade_0 : decode cX0_shade 0 = .ok (.aload_n 0, 1) := by decide +kernel
theorem dX0_shade_1 : decode cX0_shade 1 = .ok (.iload_n 1, 1) := by decide +kernel
theorem dX0_shade_2 : decode cX0_shade 2 = .ok (.invokevirtual 150, 3) := by decide +kernel
theorem dX0_shade_5 : decode cX0_shade 5 = .ok (.astore 5, 2) := by decide +kernel
theorem dX0_shade_7 : decode cX0_shade 7 = .ok (.aload 5, 2) := by decide +kernel
theorem dX0_shade_9 : decode cX0_shade 9 = .ok (.ifnonnull 7, 3) := by decide +kernel
theorem dX0_shade_12 : decode cX0_shade 12 = .ok (.aconst_null, 1) := by decide +kernel
theorem dX0_shade_13 : decode cX0_shade 13 = .ok (.goto 10, 3) := by decide +kernel
theorem dX0_shade_16 : decode cX0_shade 16 = .ok (.aload 5, 2) := by decide +kernel
theorem dX0_shade_18 : decode cX0_shade 18 = .ok (.iload_n 2, 1) := by decide +kernel
theorem dX0_shade_19 : decode cX0_shade 19 = .ok (.iload_n 3, 1) := by decide +kernel
theorem dX0_shade_20 : decode cX0_shade 20 = .ok (.invokevirtual 173, 3) := by decide +kernel
theorem dX0_shade_23 : decode cX0_shade 23 = .ok (.astore 6, 2) := by decide +kernel
theorem dX0_shade_25 : decode cX0_shade 25 = .ok (.aload 6, 2) := by decide +kernel
theorem dX0_shade_27 : decode cX0_shade 27 = .ok (.ifnull 27, 3) := by decide +kernel
theorem dX0_shade_30 : decode cX0_shade 30 = .ok (.aload 6, 2) := by decide +kernel
theorem dX0_shade_32 : decode cX0_shade 32 = .ok (.getfield 187, 3) := by decide +kernel
theorem dX0_shade_35 : decode cX0_shade 35 = .ok (.iload_n 3, 1) := by decide +kernel
theorem dX0_shade_36 : decode cX0_shade 36 = .ok (.aload 6, 2) := by decide +kernel
theorem dX0_shade_38 : decode cX0_shade 38 = .ok (.getfield 181, 3) := by decide +kernel
theorem dX0_shade_41 : decode cX0_shade 41 = .ok (.isub, 1) := by decide +kernel
theorem dX0_shade_42 : decode cX0_shade 42 = .ok (.baload, 1) := by decide +kernel
theorem dX0_shade_43 : decode cX0_shade 43 = .ok (.ifCond .lt 11, 3) := by decide +kernel
theorem dX0_shade_46 : decode cX0_shade 46 = .ok (.aload_n 0, 1) := by decide +kernel
theorem dX0_shade_47 : decode cX0_shade 47 = .ok (.iconst 1, 1) := by decide +kernel
theorem dX0_shade_48 : decode cX0_shade 48 = .ok (.invokevirtual 154, 3) := by decide +kernel
theorem dX0_shade_51 : decode cX0_shade 51 = .ok (.ifCond .ne 5, 3) := by decide +kernel
theorem dX0_shade_54 : decode cX0_shade 54 = .ok (.iconst 0, 1) := by decide +kernel
theorem dX0_shade_55 : decode cX0_shade 55 = .ok (.ireturn, 1) := by decide +kernel
theorem dX0_shade_56 : decode cX0_shade 56 = .ok (.aload_n 0, 1) := by decide +kernel
theorem dX0_shade_57 : decode cX0_shade 57 = .ok (.aload 5, 2) := by decide +kernel
theorem dX0_shade_59 : decode cX0_shade 59 = .ok (.invokevirtual 157, 3) := by decide +kernel
theorem dX0_shade_62 : decode cX0_shade 62 = .ok (.aload_n 0, 1) := by decide +kernel
theorem dX0_shade_63 : decode cX0_shade 63 = .ok (.aload 5, 2) := by decide +kernel
theorem dX0_shade_65 : decode cX0_shade 65 = .ok (.iload_n 2, 1) := by decide +kernel
theorem dX0_shade_66 : decode cX0_shade 66 = .ok (.invokevirtual 177, 3) := by decide +kernel
theorem dX0_shade_69 : decode cX0_shade 69 = .ok (.getfield 190, 3) := by decide +kernel
theorem dX0_shade_72 : decode cX0_shade 72 = .ok (.iload_n 3, 1) := by decide +kernel
theorem dX0_shade_73 : decode cX0_shade 73 = .ok (.aload 6, 2) := by decide +kernel
theorem dX0_shade_75 : decode cX0_shade 75 = .ok (.getfield 181, 3) := by decide +kernel
theorem dX0_shade_78 : decode cX0_shade 78 = .ok (.isub, 1) := by decide +kernel
theorem dX0_shade_79 : decode cX0_shade 79 = .ok (.iload 4, 2) := by decide +kernel
theorem dX0_shade_81 : decode cX0_shade 81 = .ok (.i2s, 1) := by decide +kernel
theorem dX0_shade_82 : decode cX0_shade 82 = .ok (.sastore, 1) := by decide +kernel
theorem dX0_shade_83 : decode cX0_shade 83 = .ok (.iconst 1, 1) := by decide +kernel
theorem dX0_shade_84 : decode cX0_shade 84 = .ok (.ireturn, 1) := by decide +kernel
theorem dX0_at_0 : decode cX0_at 0 = .ok (.aload_n 0, 1) := by decide +kernel
theorem dX0_at_1 : decode cX0_at 1 = .ok (.iload_n 1, 1) := by decide +kernel
theorem dX0_at_2 : decode cX0_at 2 = .ok (.invokevirtual 150, 3) := by decide +kernel
theorem dX0_at_5 : decode cX0_at 5 = .ok (.astore 5, 2) := by decide +kernel
theorem dX0_at_7 : decode cX0_at 7 = .ok (.aload 5, 2) := by decide +kernel
theorem dX0_at_9 : decode cX0_at 9 = .ok (.ifnull 14, 3) := by decide +kernel
theorem dX0_at_12 : decode cX0_at 12 = .ok (.iload 4, 2) := by decide +kernel
theorem dX0_at_14 : decode cX0_at 14 = .ok (.ifCond .lt 9, 3) := by decide +kernel
theorem dX0_at_17 : decode cX0_at 17 = .ok (.iload 4, 2) := by decide +kernel
theorem dX0_at_19 : decode cX0_at 19 = .ok (.iconst 2, 1) := by decide +kernel
theorem dX0_at_20 : decode cX0_at 20 = .ok (.if_icmp .le 5, 3) := by decide +kernel
theorem dX0_at_23 : decode cX0_at 23 = .ok (.iconst (-1), 1) := by decide +kernel
theorem dX0_at_24 : decode cX0_at 24 = .ok (.ireturn, 1) := by decide +kernel
theorem dX0_at_25 : decode cX0_at 25 = .ok (.aload 5, 2) := by decide +kernel
theorem dX0_at_27 : decode cX0_at 27 = .ok (.iload_n 2, 1) := by decide +kernel
theorem dX0_at_28 : decode cX0_at 28 = .ok (.iload_n 3, 1) := by decide +kernel
theorem dX0_at_29 : decode cX0_at 29 = .ok (.invokevirtual 173, 3) := by decide +kernel
theorem dX0_at_32 : decode cX0_at 32 = .ok (.astore 6, 2) := by decide +kernel
theorem dX0_at_34 : decode cX0_at 34 = .ok (.aload 6, 2) := by decide +kernel
theorem dX0_at_36 : decode cX0_at 36 = .ok (.ifnonnull 15, 3) := by decide +kernel
theorem dX0_at_39 : decode cX0_at 39 = .ok (.iload 4, 2) := by decide +kernel
theorem dX0_at_41 : decode cX0_at 41 = .ok (.ifCond .ne 8, 3) := by decide +kernel
theorem dX0_at_44 : decode cX0_at 44 = .ok (.bipush (-2), 2) := by decide +kernel
theorem dX0_at_46 : decode cX0_at 46 = .ok (.goto 4, 3) := by decide +kernel
theorem dX0_at_49 : decode cX0_at 49 = .ok (.iconst 0, 1) := by decide +kernel
theorem dX0_at_50 : decode cX0_at 50 = .ok (.ireturn, 1) := by decide +kernel
theorem dX0_at_51 : decode cX0_at 51 = .ok (.iload_n 3, 1) := by decide +kernel
theorem dX0_at_52 : decode cX0_at 52 = .ok (.aload 6, 2) := by decide +kernel
theorem dX0_at_54 : decode cX0_at 54 = .ok (.getfield 181, 3) := by decide +kernel
theorem dX0_at_57 : decode cX0_at 57 = .ok (.isub, 1) := by decide +kernel
theorem dX0_at_58 : decode cX0_at 58 = .ok (.istore 7, 2) := by decide +kernel
theorem dX0_at_60 : decode cX0_at 60 = .ok (.iload 4, 2) := by decide +kernel
theorem dX0_at_62 : decode cX0_at 62 = .ok (.ifCond .ne 14, 3) := by decide +kernel
theorem dX0_at_65 : decode cX0_at 65 = .ok (.aload 6, 2) := by decide +kernel
theorem dX0_at_67 : decode cX0_at 67 = .ok (.getfield 187, 3) := by decide +kernel
theorem dX0_at_70 : decode cX0_at 70 = .ok (.iload 7, 2) := by decide +kernel
theorem dX0_at_72 : decode cX0_at 72 = .ok (.baload, 1) := by decide +kernel
theorem dX0_at_73 : decode cX0_at 73 = .ok (.goto 28, 3) := by decide +kernel
theorem dX0_at_76 : decode cX0_at 76 = .ok (.iload 4, 2) := by decide +kernel
theorem dX0_at_78 : decode cX0_at 78 = .ok (.iconst 1, 1) := by decide +kernel
theorem dX0_at_79 : decode cX0_at 79 = .ok (.if_icmp .ne 14, 3) := by decide +kernel
theorem dX0_at_82 : decode cX0_at 82 = .ok (.aload 6, 2) := by decide +kernel
theorem dX0_at_84 : decode cX0_at 84 = .ok (.getfield 194, 3) := by decide +kernel
theorem dX0_at_87 : decode cX0_at 87 = .ok (.iload 7, 2) := by decide +kernel
theorem dX0_at_89 : decode cX0_at 89 = .ok (.baload, 1) := by decide +kernel
theorem dX0_at_90 : decode cX0_at 90 = .ok (.goto 11, 3) := by decide +kernel
theorem dX0_at_93 : decode cX0_at 93 = .ok (.aload 6, 2) := by decide +kernel
theorem dX0_at_95 : decode cX0_at 95 = .ok (.getfield 190, 3) := by decide +kernel
theorem dX0_at_98 : decode cX0_at 98 = .ok (.iload 7, 2) := by decide +kernel
theorem dX0_at_100 : decode cX0_at 100 = .ok (.saload, 1) := by decide +kernel
theorem dX0_at_101 : decode cX0_at 101 = .ok (.ireturn, 1) := by decide +kernel
theorem dX0_row_0 : decode cX0_row 0 = .ok (.aload_n 0, 1) := by decide +kernel
theorem dX0_row_1 : decode cX0_row 1 = .ok (.iload_n 1, 1) := by decide +kernel
theorem dX0_row_2 : decode cX0_row 2 = .ok (.invokevirtual 150, 3) := by decide +kernel
theorem dX0_row_5 : decode cX0_row 5 = .ok (.astore 4, 2) := by decide +kernel
theorem dX0_row_7 : decode cX0_row 7 = .ok (.aload 4, 2) := by decide +kernel
theorem dX0_row_9 : decode cX0_row 9 = .ok (.ifnonnull 7, 3) := by decide +kernel
theorem dX0_row_12 : decode cX0_row 12 = .ok (.aconst_null, 1) := by decide +kernel
theorem dX0_row_13 : decode cX0_row 13 = .ok (.goto 9, 3) := by decide +kernel
theorem dX0_row_16 : decode cX0_row 16 = .ok (.aload 4, 2) := by decide +kernel
theorem dX0_row_18 : decode cX0_row 18 = .ok (.iload_n 2, 1) := by decide +kernel
theorem dX0_row_19 : decode cX0_row 19 = .ok (.invokevirtual 166, 3) := by decide +kernel
theorem dX0_row_22 : decode cX0_row 22 = .ok (.astore 5, 2) := by decide +kernel
theorem dX0_row_24 : decode cX0_row 24 = .ok (.aload 5, 2) := by decide +kernel
theorem dX0_row_26 : decode cX0_row 26 = .ok (.ifnonnull 5, 3) := by decide +kernel
theorem dX0_row_29 : decode cX0_row 29 = .ok (.iconst (-1), 1) := by decide +kernel
theorem dX0_row_30 : decode cX0_row 30 = .ok (.ireturn, 1) := by decide +kernel
theorem dX0_row_31 : decode cX0_row 31 = .ok (.iload_n 3, 1) := by decide +kernel
theorem dX0_row_32 : decode cX0_row 32 = .ok (.tableswitch 135 0 2 #[28, 35, 41], 28) := by decide +kernel
theorem dX0_row_60 : decode cX0_row 60 = .ok (.aload 5, 2) := by decide +kernel
theorem dX0_row_62 : decode cX0_row 62 = .ok (.getfield 187, 3) := by decide +kernel
theorem dX0_row_65 : decode cX0_row 65 = .ok (.arraylength, 1) := by decide +kernel
theorem dX0_row_66 : decode cX0_row 66 = .ok (.ireturn, 1) := by decide +kernel
theorem dX0_row_67 : decode cX0_row 67 = .ok (.aload 5, 2) := by decide +kernel
theorem dX0_row_69 : decode cX0_row 69 = .ok (.getfield 181, 3) := by decide +kernel
theorem dX0_row_72 : decode cX0_row 72 = .ok (.ireturn, 1) := by decide +kernel
theorem dX0_row_73 : decode cX0_row 73 = .ok (.iconst 0, 1) := by decide +kernel
theorem dX0_row_74 : decode cX0_row 74 = .ok (.istore 6, 2) := by decide +kernel
theorem dX0_row_76 : decode cX0_row 76 = .ok (.iconst 0, 1) := by decide +kernel
theorem dX0_row_77 : decode cX0_row 77 = .ok (.istore 7, 2) := by decide +kernel
theorem dX0_row_79 : decode cX0_row 79 = .ok (.iload 7, 2) := by decide +kernel
theorem dX0_row_81 : decode cX0_row 81 = .ok (.aload_n 0, 1) := by decide +kernel
theorem dX0_row_82 : decode cX0_row 82 = .ok (.getfield 16, 3) := by decide +kernel
theorem dX0_row_85 : decode cX0_row 85 = .ok (.invokevirtual 54, 3) := by decide +kernel
theorem dX0_row_88 : decode cX0_row 88 = .ok (.if_icmp .ge 76, 3) := by decide +kernel
theorem dX0_row_91 : decode cX0_row 91 = .ok (.iconst 0, 1) := by decide +kernel
theorem dX0_row_92 : decode cX0_row 92 = .ok (.istore 8, 2) := by decide +kernel
theorem dX0_row_94 : decode cX0_row 94 = .ok (.iload 8, 2) := by decide +kernel
theorem dX0_row_96 : decode cX0_row 96 = .ok (.aload_n 0, 1) := by decide +kernel
theorem dX0_row_97 : decode cX0_row 97 = .ok (.getfield 16, 3) := by decide +kernel
theorem dX0_row_100 : decode cX0_row 100 = .ok (.iload 7, 2) := by decide +kernel
theorem dX0_row_102 : decode cX0_row 102 = .ok (.invokevirtual 58, 3) := by decide +kernel
theorem dX0_row_105 : decode cX0_row 105 = .ok (.checkcast 62, 3) := by decide +kernel
theorem dX0_row_108 : decode cX0_row 108 = .ok (.getfield 140, 3) := by decide +kernel
theorem dX0_row_111 : decode cX0_row 111 = .ok (.invokevirtual 54, 3) := by decide +kernel
theorem dX0_row_114 : decode cX0_row 114 = .ok (.if_icmp .ge 44, 3) := by decide +kernel
theorem dX0_row_117 : decode cX0_row 117 = .ok (.iload 6, 2) := by decide +kernel
theorem dX0_row_119 : decode cX0_row 119 = .ok (.aload_n 0, 1) := by decide +kernel
theorem dX0_row_120 : decode cX0_row 120 = .ok (.getfield 16, 3) := by decide +kernel
theorem dX0_row_123 : decode cX0_row 123 = .ok (.iload 7, 2) := by decide +kernel
theorem dX0_row_125 : decode cX0_row 125 = .ok (.invokevirtual 58, 3) := by decide +kernel
theorem dX0_row_128 : decode cX0_row 128 = .ok (.checkcast 62, 3) := by decide +kernel
theorem dX0_row_131 : decode cX0_row 131 = .ok (.getfield 140, 3) := by decide +kernel
theorem dX0_row_134 : decode cX0_row 134 = .ok (.iload 8, 2) := by decide +kernel
theorem dX0_row_136 : decode cX0_row 136 = .ok (.invokevirtual 58, 3) := by decide +kernel
theorem dX0_row_139 : decode cX0_row 139 = .ok (.aload 5, 2) := by decide +kernel
theorem dX0_row_141 : decode cX0_row 141 = .ok (.if_acmp .ne 7, 3) := by decide +kernel
theorem dX0_row_144 : decode cX0_row 144 = .ok (.iconst 1, 1) := by decide +kernel
theorem dX0_row_145 : decode cX0_row 145 = .ok (.goto 4, 3) := by decide +kernel
theorem dX0_row_148 : decode cX0_row 148 = .ok (.iconst 0, 1) := by decide +kernel
theorem dX0_row_149 : decode cX0_row 149 = .ok (.iadd, 1) := by decide +kernel
theorem dX0_row_150 : decode cX0_row 150 = .ok (.istore 6, 2) := by decide +kernel
theorem dX0_row_152 : decode cX0_row 152 = .ok (.iinc 8 1, 3) := by decide +kernel
theorem dX0_row_155 : decode cX0_row 155 = .ok (.goto (-61), 3) := by decide +kernel
theorem dX0_row_158 : decode cX0_row 158 = .ok (.iinc 7 1, 3) := by decide +kernel
theorem dX0_row_161 : decode cX0_row 161 = .ok (.goto (-82), 3) := by decide +kernel
theorem dX0_row_164 : decode cX0_row 164 = .ok (.iload 6, 2) := by decide +kernel
theorem dX0_row_166 : decode cX0_row 166 = .ok (.ireturn, 1) := by decide +kernel
theorem dX0_row_167 : decode cX0_row 167 = .ok (.iconst (-1), 1) := by decide +kernel
theorem dX0_row_168 : decode cX0_row 168 = .ok (.ireturn, 1) := by decide +kernel
theorem dX0_shares_0 : decode cX0_shares 0 = .ok (.aload_n 0, 1) := by decide +kernel
theorem dX0_shares_1 : decode cX0_shares 1 = .ok (.iload_n 1, 1) := by decide +kernel
theorem dX0_shares_2 : decode cX0_shares 2 = .ok (.invokevirtual 150, 3) := by decide +kernel
theorem dX0_shares_5 : decode cX0_shares 5 = .ok (.astore 5, 2) := by decide +kernel
theorem dX0_shares_7 : decode cX0_shares 7 = .ok (.aload_n 0, 1) := by decide +kernel
theorem dX0_shares_8 : decode cX0_shares 8 = .ok (.iload_n 3, 1) := by decide +kernel
theorem dX0_shares_9 : decode cX0_shares 9 = .ok (.invokevirtual 150, 3) := by decide +kernel
theorem dX0_shares_12 : decode cX0_shares 12 = .ok (.astore 6, 2) := by decide +kernel
theorem dX0_shares_14 : decode cX0_shares 14 = .ok (.aload 5, 2) := by decide +kernel
theorem dX0_shares_16 : decode cX0_shares 16 = .ok (.ifnonnull 7, 3) := by decide +kernel
theorem dX0_shares_19 : decode cX0_shares 19 = .ok (.aconst_null, 1) := by decide +kernel
theorem dX0_shares_20 : decode cX0_shares 20 = .ok (.goto 9, 3) := by decide +kernel
theorem dX0_shares_23 : decode cX0_shares 23 = .ok (.aload 5, 2) := by decide +kernel
theorem dX0_shares_25 : decode cX0_shares 25 = .ok (.iload_n 2, 1) := by decide +kernel
theorem dX0_shares_26 : decode cX0_shares 26 = .ok (.invokevirtual 166, 3) := by decide +kernel
theorem dX0_shares_29 : decode cX0_shares 29 = .ok (.astore 7, 2) := by decide +kernel
theorem dX0_shares_31 : decode cX0_shares 31 = .ok (.aload 7, 2) := by decide +kernel
theorem dX0_shares_33 : decode cX0_shares 33 = .ok (.ifnull 24, 3) := by decide +kernel
theorem dX0_shares_36 : decode cX0_shares 36 = .ok (.aload 6, 2) := by decide +kernel
theorem dX0_shares_38 : decode cX0_shares 38 = .ok (.ifnull 19, 3) := by decide +kernel
theorem dX0_shares_41 : decode cX0_shares 41 = .ok (.aload 6, 2) := by decide +kernel
theorem dX0_shares_43 : decode cX0_shares 43 = .ok (.iload 4, 2) := by decide +kernel
theorem dX0_shares_45 : decode cX0_shares 45 = .ok (.invokevirtual 166, 3) := by decide +kernel
theorem dX0_shares_48 : decode cX0_shares 48 = .ok (.aload 7, 2) := by decide +kernel
theorem dX0_shares_50 : decode cX0_shares 50 = .ok (.if_acmp .ne 7, 3) := by decide +kernel
theorem dX0_shares_53 : decode cX0_shares 53 = .ok (.iconst 1, 1) := by decide +kernel
theorem dX0_shares_54 : decode cX0_shares 54 = .ok (.goto 4, 3) := by decide +kernel
theorem dX0_shares_57 : decode cX0_shares 57 = .ok (.iconst 0, 1) := by decide +kernel
theorem dX0_shares_58 : decode cX0_shares 58 = .ok (.ireturn, 1) := by decide +kernel
theorem dX0_copy_0 : decode cX0_copy 0 = .ok (.aload_n 0, 1) := by decide +kernel
theorem dX0_copy_1 : decode cX0_copy 1 = .ok (.iload_n 1, 1) := by decide +kernel
theorem dX0_copy_2 : decode cX0_copy 2 = .ok (.invokevirtual 150, 3) := by decide +kernel
theorem dX0_copy_5 : decode cX0_copy 5 = .ok (.astore_n 2, 1) := by decide +kernel
theorem dX0_copy_6 : decode cX0_copy 6 = .ok (.aload_n 2, 1) := by decide +kernel
theorem dX0_copy_7 : decode cX0_copy 7 = .ok (.ifnull 15, 3) := by decide +kernel
theorem dX0_copy_10 : decode cX0_copy 10 = .ok (.aload_n 0, 1) := by decide +kernel
theorem dX0_copy_11 : decode cX0_copy 11 = .ok (.getfield 16, 3) := by decide +kernel
theorem dX0_copy_14 : decode cX0_copy 14 = .ok (.invokevirtual 54, 3) := by decide +kernel
theorem dX0_copy_17 : decode cX0_copy 17 = .ok (.bipush 16, 2) := by decide +kernel
theorem dX0_copy_19 : decode cX0_copy 19 = .ok (.if_icmp .ne 5, 3) := by decide +kernel
theorem dX0_copy_22 : decode cX0_copy 22 = .ok (.iconst (-1), 1) := by decide +kernel
theorem dX0_copy_23 : decode cX0_copy 23 = .ok (.ireturn, 1) := by decide +kernel
theorem dX0_copy_24 : decode cX0_copy 24 = .ok (.new 62, 3) := by decide +kernel
theorem dX0_copy_27 : decode cX0_copy 27 = .ok (.dup, 1) := by decide +kernel
theorem dX0_copy_28 : decode cX0_copy 28 = .ok (.invokespecial 121, 3) := by decide +kernel
theorem dX0_copy_31 : decode cX0_copy 31 = .ok (.astore_n 3, 1) := by decide +kernel
theorem dX0_copy_32 : decode cX0_copy 32 = .ok (.aload_n 3, 1) := by decide +kernel
theorem dX0_copy_33 : decode cX0_copy 33 = .ok (.new 7, 3) := by decide +kernel
theorem dX0_copy_36 : decode cX0_copy 36 = .ok (.dup, 1) := by decide +kernel
theorem dX0_copy_37 : decode cX0_copy 37 = .ok (.aload_n 2, 1) := by decide +kernel
theorem dX0_copy_38 : decode cX0_copy 38 = .ok (.getfield 140, 3) := by decide +kernel
theorem dX0_copy_41 : decode cX0_copy 41 = .ok (.invokespecial 197, 3) := by decide +kernel
theorem dX0_copy_44 : decode cX0_copy 44 = .ok (.putfield 140, 3) := by decide +kernel
theorem dX0_copy_47 : decode cX0_copy 47 = .ok (.aload_n 0, 1) := by decide +kernel
theorem dX0_copy_48 : decode cX0_copy 48 = .ok (.getfield 16, 3) := by decide +kernel
theorem dX0_copy_51 : decode cX0_copy 51 = .ok (.aload_n 3, 1) := by decide +kernel
theorem dX0_copy_52 : decode cX0_copy 52 = .ok (.invokevirtual 98, 3) := by decide +kernel
theorem dX0_copy_55 : decode cX0_copy 55 = .ok (.pop, 1) := by decide +kernel
theorem dX0_copy_56 : decode cX0_copy 56 = .ok (.aload_n 0, 1) := by decide +kernel
theorem dX0_copy_57 : decode cX0_copy 57 = .ok (.getfield 16, 3) := by decide +kernel
theorem dX0_copy_60 : decode cX0_copy 60 = .ok (.invokevirtual 54, 3) := by decide +kernel
theorem dX0_copy_63 : decode cX0_copy 63 = .ok (.iconst 1, 1) := by decide +kernel
theorem dX0_copy_64 : decode cX0_copy 64 = .ok (.isub, 1) := by decide +kernel
theorem dX0_copy_65 : decode cX0_copy 65 = .ok (.ireturn, 1) := by decide +kernel
theorem dX0_region_0 : decode cX0_region 0 = .ok (.aload_n 0, 1) := by decide +kernel
theorem dX0_region_1 : decode cX0_region 1 = .ok (.iload_n 1, 1) := by decide +kernel
theorem dX0_region_2 : decode cX0_region 2 = .ok (.invokevirtual 150, 3) := by decide +kernel
theorem dX0_region_5 : decode cX0_region 5 = .ok (.astore 6, 2) := by decide +kernel
theorem dX0_region_7 : decode cX0_region 7 = .ok (.aload 6, 2) := by decide +kernel
theorem dX0_region_9 : decode cX0_region 9 = .ok (.ifnull 29, 3) := by decide +kernel
theorem dX0_region_12 : decode cX0_region 12 = .ok (.iload 4, 2) := by decide +kernel
theorem dX0_region_14 : decode cX0_region 14 = .ok (.iconst 1, 1) := by decide +kernel
theorem dX0_region_15 : decode cX0_region 15 = .ok (.if_icmp .lt 23, 3) := by decide +kernel
theorem dX0_region_18 : decode cX0_region 18 = .ok (.iload 4, 2) := by decide +kernel
theorem dX0_region_20 : decode cX0_region 20 = .ok (.bipush 20, 2) := by decide +kernel
theorem dX0_region_22 : decode cX0_region 22 = .ok (.if_icmp .gt 16, 3) := by decide +kernel
theorem dX0_region_25 : decode cX0_region 25 = .ok (.iload 5, 2) := by decide +kernel
theorem dX0_region_27 : decode cX0_region 27 = .ok (.iconst 1, 1) := by decide +kernel
theorem dX0_region_28 : decode cX0_region 28 = .ok (.if_icmp .lt 10, 3) := by decide +kernel
theorem dX0_region_31 : decode cX0_region 31 = .ok (.iload 5, 2) := by decide +kernel
theorem dX0_region_33 : decode cX0_region 33 = .ok (.bipush 20, 2) := by decide +kernel
theorem dX0_region_35 : decode cX0_region 35 = .ok (.if_icmp .le 5, 3) := by decide +kernel
theorem dX0_region_38 : decode cX0_region 38 = .ok (.iconst (-1), 1) := by decide +kernel
theorem dX0_region_39 : decode cX0_region 39 = .ok (.ireturn, 1) := by decide +kernel
theorem dX0_region_40 : decode cX0_region 40 = .ok (.aload_n 0, 1) := by decide +kernel
theorem dX0_region_41 : decode cX0_region 41 = .ok (.new 200, 3) := by decide +kernel
theorem dX0_region_44 : decode cX0_region 44 = .ok (.dup, 1) := by decide +kernel
theorem dX0_region_45 : decode cX0_region 45 = .ok (.iload 4, 2) := by decide +kernel
theorem dX0_region_47 : decode cX0_region 47 = .ok (.iload 5, 2) := by decide +kernel
theorem dX0_region_49 : decode cX0_region 49 = .ok (.invokespecial 202, 3) := by decide +kernel
theorem dX0_region_52 : decode cX0_region 52 = .ok (.putfield 203, 3) := by decide +kernel
theorem dX0_region_55 : decode cX0_region 55 = .ok (.iconst 0, 1) := by decide +kernel
theorem dX0_region_56 : decode cX0_region 56 = .ok (.istore 7, 2) := by decide +kernel
theorem dX0_region_58 : decode cX0_region 58 = .ok (.iconst 0, 1) := by decide +kernel
theorem dX0_region_59 : decode cX0_region 59 = .ok (.istore 8, 2) := by decide +kernel
theorem dX0_region_61 : decode cX0_region 61 = .ok (.iload 8, 2) := by decide +kernel
theorem dX0_region_63 : decode cX0_region 63 = .ok (.iload 4, 2) := by decide +kernel
theorem dX0_region_65 : decode cX0_region 65 = .ok (.if_icmp .ge 192, 3) := by decide +kernel
theorem dX0_region_68 : decode cX0_region 68 = .ok (.iconst 0, 1) := by decide +kernel
theorem dX0_region_69 : decode cX0_region 69 = .ok (.istore 9, 2) := by decide +kernel
theorem dX0_region_71 : decode cX0_region 71 = .ok (.iload 9, 2) := by decide +kernel
theorem dX0_region_73 : decode cX0_region 73 = .ok (.iload 5, 2) := by decide +kernel
theorem dX0_region_75 : decode cX0_region 75 = .ok (.if_icmp .ge 176, 3) := by decide +kernel
theorem dX0_region_78 : decode cX0_region 78 = .ok (.iload_n 2, 1) := by decide +kernel
theorem dX0_region_79 : decode cX0_region 79 = .ok (.bipush 60, 2) := by decide +kernel
theorem dX0_region_81 : decode cX0_region 81 = .ok (.if_icmp .gt 21, 3) := by decide +kernel
theorem dX0_region_84 : decode cX0_region 84 = .ok (.iload_n 2, 1) := by decide +kernel
theorem dX0_region_85 : decode cX0_region 85 = .ok (.bipush (-20), 2) := by decide +kernel
theorem dX0_region_87 : decode cX0_region 87 = .ok (.if_icmp .lt 15, 3) := by decide +kernel
theorem dX0_region_90 : decode cX0_region 90 = .ok (.iload_n 3, 1) := by decide +kernel
theorem dX0_region_91 : decode cX0_region 91 = .ok (.bipush 120, 2) := by decide +kernel
theorem dX0_region_93 : decode cX0_region 93 = .ok (.if_icmp .gt 9, 3) := by decide +kernel
theorem dX0_region_96 : decode cX0_region 96 = .ok (.iload_n 3, 1) := by decide +kernel
theorem dX0_region_97 : decode cX0_region 97 = .ok (.bipush (-120), 2) := by decide +kernel
theorem dX0_region_99 : decode cX0_region 99 = .ok (.if_icmp .ge 7, 3) := by decide +kernel
theorem dX0_region_102 : decode cX0_region 102 = .ok (.aconst_null, 1) := by decide +kernel
theorem dX0_region_103 : decode cX0_region 103 = .ok (.goto 16, 3) := by decide +kernel
theorem dX0_region_106 : decode cX0_region 106 = .ok (.aload 6, 2) := by decide +kernel
theorem dX0_region_108 : decode cX0_region 108 = .ok (.iload_n 2, 1) := by decide +kernel
theorem dX0_region_109 : decode cX0_region 109 = .ok (.iload 8, 2) := by decide +kernel
theorem dX0_region_111 : decode cX0_region 111 = .ok (.iadd, 1) := by decide +kernel
theorem dX0_region_112 : decode cX0_region 112 = .ok (.iload_n 3, 1) := by decide +kernel
theorem dX0_region_113 : decode cX0_region 113 = .ok (.iload 9, 2) := by decide +kernel
theorem dX0_region_115 : decode cX0_region 115 = .ok (.iadd, 1) := by decide +kernel
theorem dX0_region_116 : decode cX0_region 116 = .ok (.invokevirtual 173, 3) := by decide +kernel
theorem dX0_region_119 : decode cX0_region 119 = .ok (.astore 10, 2) := by decide +kernel
theorem dX0_region_121 : decode cX0_region 121 = .ok (.aload_n 0, 1) := by decide +kernel
theorem dX0_region_122 : decode cX0_region 122 = .ok (.getfield 203, 3) := by decide +kernel
theorem dX0_region_125 : decode cX0_region 125 = .ok (.getfield 207, 3) := by decide +kernel
theorem dX0_region_128 : decode cX0_region 128 = .ok (.iload 8, 2) := by decide +kernel
theorem dX0_region_130 : decode cX0_region 130 = .ok (.aaload, 1) := by decide +kernel
theorem dX0_region_131 : decode cX0_region 131 = .ok (.iload 9, 2) := by decide +kernel
theorem dX0_region_133 : decode cX0_region 133 = .ok (.aload 10, 2) := by decide +kernel
theorem dX0_region_135 : decode cX0_region 135 = .ok (.ifnonnull 8, 3) := by decide +kernel
theorem dX0_region_138 : decode cX0_region 138 = .ok (.bipush (-2), 2) := by decide +kernel
theorem dX0_region_140 : decode cX0_region 140 = .ok (.goto 19, 3) := by decide +kernel
theorem dX0_region_143 : decode cX0_region 143 = .ok (.aload 10, 2) := by decide +kernel
theorem dX0_region_145 : decode cX0_region 145 = .ok (.getfield 187, 3) := by decide +kernel
theorem dX0_region_148 : decode cX0_region 148 = .ok (.iload_n 3, 1) := by decide +kernel
theorem dX0_region_149 : decode cX0_region 149 = .ok (.iload 9, 2) := by decide +kernel
theorem dX0_region_151 : decode cX0_region 151 = .ok (.iadd, 1) := by decide +kernel
theorem dX0_region_152 : decode cX0_region 152 = .ok (.aload 10, 2) := by decide +kernel
theorem dX0_region_154 : decode cX0_region 154 = .ok (.getfield 181, 3) := by decide +kernel
theorem dX0_region_157 : decode cX0_region 157 = .ok (.isub, 1) := by decide +kernel
theorem dX0_region_158 : decode cX0_region 158 = .ok (.baload, 1) := by decide +kernel
theorem dX0_region_159 : decode cX0_region 159 = .ok (.bastore, 1) := by decide +kernel
theorem dX0_region_160 : decode cX0_region 160 = .ok (.aload 10, 2) := by decide +kernel
theorem dX0_region_162 : decode cX0_region 162 = .ok (.ifnull 83, 3) := by decide +kernel
theorem dX0_region_165 : decode cX0_region 165 = .ok (.aload_n 0, 1) := by decide +kernel
theorem dX0_region_166 : decode cX0_region 166 = .ok (.getfield 203, 3) := by decide +kernel
theorem dX0_region_169 : decode cX0_region 169 = .ok (.getfield 207, 3) := by decide +kernel
theorem dX0_region_172 : decode cX0_region 172 = .ok (.iload 8, 2) := by decide +kernel
theorem dX0_region_174 : decode cX0_region 174 = .ok (.aaload, 1) := by decide +kernel
theorem dX0_region_175 : decode cX0_region 175 = .ok (.iload 9, 2) := by decide +kernel
theorem dX0_region_177 : decode cX0_region 177 = .ok (.baload, 1) := by decide +kernel
theorem dX0_region_178 : decode cX0_region 178 = .ok (.ifCond .ge 6, 3) := by decide +kernel
theorem dX0_region_181 : decode cX0_region 181 = .ok (.goto 64, 3) := by decide +kernel
theorem dX0_region_184 : decode cX0_region 184 = .ok (.aload_n 0, 1) := by decide +kernel
theorem dX0_region_185 : decode cX0_region 185 = .ok (.getfield 203, 3) := by decide +kernel
theorem dX0_region_188 : decode cX0_region 188 = .ok (.getfield 210, 3) := by decide +kernel
theorem dX0_region_191 : decode cX0_region 191 = .ok (.iload 8, 2) := by decide +kernel
theorem dX0_region_193 : decode cX0_region 193 = .ok (.aaload, 1) := by decide +kernel
theorem dX0_region_194 : decode cX0_region 194 = .ok (.iload 9, 2) := by decide +kernel
theorem dX0_region_196 : decode cX0_region 196 = .ok (.aload 10, 2) := by decide +kernel
theorem dX0_region_198 : decode cX0_region 198 = .ok (.getfield 194, 3) := by decide +kernel
theorem dX0_region_201 : decode cX0_region 201 = .ok (.iload_n 3, 1) := by decide +kernel
theorem dX0_region_202 : decode cX0_region 202 = .ok (.iload 9, 2) := by decide +kernel
theorem dX0_region_204 : decode cX0_region 204 = .ok (.iadd, 1) := by decide +kernel
theorem dX0_region_205 : decode cX0_region 205 = .ok (.aload 10, 2) := by decide +kernel
theorem dX0_region_207 : decode cX0_region 207 = .ok (.getfield 181, 3) := by decide +kernel
theorem dX0_region_210 : decode cX0_region 210 = .ok (.isub, 1) := by decide +kernel
theorem dX0_region_211 : decode cX0_region 211 = .ok (.baload, 1) := by decide +kernel
theorem dX0_region_212 : decode cX0_region 212 = .ok (.bastore, 1) := by decide +kernel
theorem dX0_region_213 : decode cX0_region 213 = .ok (.aload_n 0, 1) := by decide +kernel
theorem dX0_region_214 : decode cX0_region 214 = .ok (.getfield 203, 3) := by decide +kernel
theorem dX0_region_217 : decode cX0_region 217 = .ok (.getfield 212, 3) := by decide +kernel
theorem dX0_region_220 : decode cX0_region 220 = .ok (.iload 8, 2) := by decide +kernel
theorem dX0_region_222 : decode cX0_region 222 = .ok (.aaload, 1) := by decide +kernel
theorem dX0_region_223 : decode cX0_region 223 = .ok (.iload 9, 2) := by decide +kernel
theorem dX0_region_225 : decode cX0_region 225 = .ok (.aload 10, 2) := by decide +kernel
theorem dX0_region_227 : decode cX0_region 227 = .ok (.getfield 190, 3) := by decide +kernel
theorem dX0_region_230 : decode cX0_region 230 = .ok (.iload_n 3, 1) := by decide +kernel
theorem dX0_region_231 : decode cX0_region 231 = .ok (.iload 9, 2) := by decide +kernel
theorem dX0_region_233 : decode cX0_region 233 = .ok (.iadd, 1) := by decide +kernel
theorem dX0_region_234 : decode cX0_region 234 = .ok (.aload 10, 2) := by decide +kernel
theorem dX0_region_236 : decode cX0_region 236 = .ok (.getfield 181, 3) := by decide +kernel
theorem dX0_region_239 : decode cX0_region 239 = .ok (.isub, 1) := by decide +kernel
theorem dX0_region_240 : decode cX0_region 240 = .ok (.saload, 1) := by decide +kernel
theorem dX0_region_241 : decode cX0_region 241 = .ok (.sastore, 1) := by decide +kernel
theorem dX0_region_242 : decode cX0_region 242 = .ok (.iinc 7 1, 3) := by decide +kernel
theorem dX0_region_245 : decode cX0_region 245 = .ok (.iinc 9 1, 3) := by decide +kernel
theorem dX0_region_248 : decode cX0_region 248 = .ok (.goto (-177), 3) := by decide +kernel
theorem dX0_region_251 : decode cX0_region 251 = .ok (.iinc 8 1, 3) := by decide +kernel
theorem dX0_region_254 : decode cX0_region 254 = .ok (.goto (-193), 3) := by decide +kernel
theorem dX0_region_257 : decode cX0_region 257 = .ok (.iload 7, 2) := by decide +kernel
theorem dX0_region_259 : decode cX0_region 259 = .ok (.ireturn, 1) := by decide +kernel
theorem dX0_turn_0 : decode cX0_turn 0 = .ok (.aload_n 0, 1) := by decide +kernel
theorem dX0_turn_1 : decode cX0_turn 1 = .ok (.getfield 203, 3) := by decide +kernel
theorem dX0_turn_4 : decode cX0_turn 4 = .ok (.ifnull 10, 3) := by decide +kernel
theorem dX0_turn_7 : decode cX0_turn 7 = .ok (.iload_n 1, 1) := by decide +kernel
theorem dX0_turn_8 : decode cX0_turn 8 = .ok (.invokestatic 106, 3) := by decide +kernel
theorem dX0_turn_11 : decode cX0_turn 11 = .ok (.ifCond .ne 5, 3) := by decide +kernel
theorem dX0_turn_14 : decode cX0_turn 14 = .ok (.iconst 0, 1) := by decide +kernel
theorem dX0_turn_15 : decode cX0_turn 15 = .ok (.ireturn, 1) := by decide +kernel
theorem dX0_turn_16 : decode cX0_turn 16 = .ok (.aload_n 0, 1) := by decide +kernel
theorem dX0_turn_17 : decode cX0_turn 17 = .ok (.aload_n 0, 1) := by decide +kernel
theorem dX0_turn_18 : decode cX0_turn 18 = .ok (.getfield 203, 3) := by decide +kernel
theorem dX0_turn_21 : decode cX0_turn 21 = .ok (.iload_n 1, 1) := by decide +kernel
theorem dX0_turn_22 : decode cX0_turn 22 = .ok (.aload_n 0, 1) := by decide +kernel
theorem dX0_turn_23 : decode cX0_turn 23 = .ok (.invokevirtual 215, 3) := by decide +kernel
theorem dX0_turn_26 : decode cX0_turn 26 = .ok (.putfield 203, 3) := by decide +kernel
theorem dX0_turn_29 : decode cX0_turn 29 = .ok (.iconst 1, 1) := by decide +kernel
theorem dX0_turn_30 : decode cX0_turn 30 = .ok (.ireturn, 1) := by decide +kernel
theorem dX0_paste_0 : decode cX0_paste 0 = .ok (.aload_n 0, 1) := by decide +kernel
theorem dX0_paste_1 : decode cX0_paste 1 = .ok (.iload_n 1, 1) := by decide +kernel
theorem dX0_paste_2 : decode cX0_paste 2 = .ok (.invokevirtual 150, 3) := by decide +kernel
theorem dX0_paste_5 : decode cX0_paste 5 = .ok (.astore 4, 2) := by decide +kernel
theorem dX0_paste_7 : decode cX0_paste 7 = .ok (.aload 4, 2) := by decide +kernel
theorem dX0_paste_9 : decode cX0_paste 9 = .ok (.ifnull 10, 3) := by decide +kernel
theorem dX0_paste_12 : decode cX0_paste 12 = .ok (.aload_n 0, 1) := by decide +kernel
theorem dX0_paste_13 : decode cX0_paste 13 = .ok (.getfield 203, 3) := by decide +kernel
theorem dX0_paste_16 : decode cX0_paste 16 = .ok (.ifnonnull 5, 3) := by decide +kernel
theorem dX0_paste_19 : decode cX0_paste 19 = .ok (.iconst (-1), 1) := by decide +kernel
theorem dX0_paste_20 : decode cX0_paste 20 = .ok (.ireturn, 1) := by decide +kernel
theorem dX0_paste_21 : decode cX0_paste 21 = .ok (.iload_n 2, 1) := by decide +kernel
theorem dX0_paste_22 : decode cX0_paste 22 = .ok (.bipush 60, 2) := by decide +kernel
theorem dX0_paste_24 : decode cX0_paste 24 = .ok (.if_icmp .gt 21, 3) := by decide +kernel
theorem dX0_paste_27 : decode cX0_paste 27 = .ok (.iload_n 2, 1) := by decide +kernel
theorem dX0_paste_28 : decode cX0_paste 28 = .ok (.bipush (-20), 2) := by decide +kernel
theorem dX0_paste_30 : decode cX0_paste 30 = .ok (.if_icmp .lt 15, 3) := by decide +kernel
theorem dX0_paste_33 : decode cX0_paste 33 = .ok (.iload_n 3, 1) := by decide +kernel
theorem dX0_paste_34 : decode cX0_paste 34 = .ok (.bipush 120, 2) := by decide +kernel
theorem dX0_paste_36 : decode cX0_paste 36 = .ok (.if_icmp .gt 9, 3) := by decide +kernel
theorem dX0_paste_39 : decode cX0_paste 39 = .ok (.iload_n 3, 1) := by decide +kernel
theorem dX0_paste_40 : decode cX0_paste 40 = .ok (.bipush (-120), 2) := by decide +kernel
theorem dX0_paste_42 : decode cX0_paste 42 = .ok (.if_icmp .ge 5, 3) := by decide +kernel
theorem dX0_paste_45 : decode cX0_paste 45 = .ok (.iconst 0, 1) := by decide +kernel
theorem dX0_paste_46 : decode cX0_paste 46 = .ok (.ireturn, 1) := by decide +kernel
theorem dX0_paste_47 : decode cX0_paste 47 = .ok (.iconst 0, 1) := by decide +kernel
theorem dX0_paste_48 : decode cX0_paste 48 = .ok (.istore 5, 2) := by decide +kernel
theorem dX0_paste_50 : decode cX0_paste 50 = .ok (.iconst 0, 1) := by decide +kernel
theorem dX0_paste_51 : decode cX0_paste 51 = .ok (.istore 6, 2) := by decide +kernel
theorem dX0_paste_53 : decode cX0_paste 53 = .ok (.iconst 0, 1) := by decide +kernel
theorem dX0_paste_54 : decode cX0_paste 54 = .ok (.istore 7, 2) := by decide +kernel
theorem dX0_paste_56 : decode cX0_paste 56 = .ok (.iload 7, 2) := by decide +kernel
theorem dX0_paste_58 : decode cX0_paste 58 = .ok (.aload_n 0, 1) := by decide +kernel
theorem dX0_paste_59 : decode cX0_paste 59 = .ok (.getfield 203, 3) := by decide +kernel
theorem dX0_paste_62 : decode cX0_paste 62 = .ok (.invokevirtual 219, 3) := by decide +kernel
theorem dX0_paste_65 : decode cX0_paste 65 = .ok (.if_icmp .ge 95, 3) := by decide +kernel
theorem dX0_paste_68 : decode cX0_paste 68 = .ok (.iload 6, 2) := by decide +kernel
theorem dX0_paste_70 : decode cX0_paste 70 = .ok (.istore 8, 2) := by decide +kernel
theorem dX0_paste_72 : decode cX0_paste 72 = .ok (.iconst 0, 1) := by decide +kernel
theorem dX0_paste_73 : decode cX0_paste 73 = .ok (.istore 9, 2) := by decide +kernel
theorem dX0_paste_75 : decode cX0_paste 75 = .ok (.iload 9, 2) := by decide +kernel
theorem dX0_paste_77 : decode cX0_paste 77 = .ok (.aload_n 0, 1) := by decide +kernel
theorem dX0_paste_78 : decode cX0_paste 78 = .ok (.getfield 203, 3) := by decide +kernel
theorem dX0_paste_81 : decode cX0_paste 81 = .ok (.invokevirtual 221, 3) := by decide +kernel
theorem dX0_paste_84 : decode cX0_paste 84 = .ok (.if_icmp .ge 53, 3) := by decide +kernel
theorem dX0_paste_87 : decode cX0_paste 87 = .ok (.iload 6, 2) := by decide +kernel
theorem dX0_paste_89 : decode cX0_paste 89 = .ok (.aload_n 0, 1) := by decide +kernel
theorem dX0_paste_90 : decode cX0_paste 90 = .ok (.getfield 203, 3) := by decide +kernel
theorem dX0_paste_93 : decode cX0_paste 93 = .ok (.getfield 207, 3) := by decide +kernel
theorem dX0_paste_96 : decode cX0_paste 96 = .ok (.iload 7, 2) := by decide +kernel
theorem dX0_paste_98 : decode cX0_paste 98 = .ok (.aaload, 1) := by decide +kernel
theorem dX0_paste_99 : decode cX0_paste 99 = .ok (.iload 9, 2) := by decide +kernel
theorem dX0_paste_101 : decode cX0_paste 101 = .ok (.baload, 1) := by decide +kernel
theorem dX0_paste_102 : decode cX0_paste 102 = .ok (.bipush (-2), 2) := by decide +kernel
theorem dX0_paste_104 : decode cX0_paste 104 = .ok (.if_icmp .eq 23, 3) := by decide +kernel
theorem dX0_paste_107 : decode cX0_paste 107 = .ok (.aload 4, 2) := by decide +kernel
theorem dX0_paste_109 : decode cX0_paste 109 = .ok (.iload_n 2, 1) := by decide +kernel
theorem dX0_paste_110 : decode cX0_paste 110 = .ok (.iload 7, 2) := by decide +kernel
theorem dX0_paste_112 : decode cX0_paste 112 = .ok (.iadd, 1) := by decide +kernel
theorem dX0_paste_113 : decode cX0_paste 113 = .ok (.iload_n 3, 1) := by decide +kernel
theorem dX0_paste_114 : decode cX0_paste 114 = .ok (.iload 9, 2) := by decide +kernel
theorem dX0_paste_116 : decode cX0_paste 116 = .ok (.iadd, 1) := by decide +kernel
theorem dX0_paste_117 : decode cX0_paste 117 = .ok (.invokevirtual 173, 3) := by decide +kernel
theorem dX0_paste_120 : decode cX0_paste 120 = .ok (.ifnull 7, 3) := by decide +kernel
theorem dX0_paste_123 : decode cX0_paste 123 = .ok (.iconst 1, 1) := by decide +kernel
theorem dX0_paste_124 : decode cX0_paste 124 = .ok (.goto 4, 3) := by decide +kernel
theorem dX0_paste_127 : decode cX0_paste 127 = .ok (.iconst 0, 1) := by decide +kernel
theorem dX0_paste_128 : decode cX0_paste 128 = .ok (.iadd, 1) := by decide +kernel
theorem dX0_paste_129 : decode cX0_paste 129 = .ok (.istore 6, 2) := by decide +kernel
theorem dX0_paste_131 : decode cX0_paste 131 = .ok (.iinc 9 1, 3) := by decide +kernel
theorem dX0_paste_134 : decode cX0_paste 134 = .ok (.goto (-59), 3) := by decide +kernel
theorem dX0_paste_137 : decode cX0_paste 137 = .ok (.iload 5, 2) := by decide +kernel
theorem dX0_paste_139 : decode cX0_paste 139 = .ok (.iload 6, 2) := by decide +kernel
theorem dX0_paste_141 : decode cX0_paste 141 = .ok (.iload 8, 2) := by decide +kernel
theorem dX0_paste_143 : decode cX0_paste 143 = .ok (.if_icmp .le 7, 3) := by decide +kernel
theorem dX0_paste_146 : decode cX0_paste 146 = .ok (.iconst 1, 1) := by decide +kernel
theorem dX0_paste_147 : decode cX0_paste 147 = .ok (.goto 4, 3) := by decide +kernel
theorem dX0_paste_150 : decode cX0_paste 150 = .ok (.iconst 0, 1) := by decide +kernel
theorem dX0_paste_151 : decode cX0_paste 151 = .ok (.iadd, 1) := by decide +kernel
theorem dX0_paste_152 : decode cX0_paste 152 = .ok (.istore 5, 2) := by decide +kernel
theorem dX0_paste_154 : decode cX0_paste 154 = .ok (.iinc 7 1, 3) := by decide +kernel
theorem dX0_paste_157 : decode cX0_paste 157 = .ok (.goto (-101), 3) := by decide +kernel
theorem dX0_paste_160 : decode cX0_paste 160 = .ok (.aload_n 0, 1) := by decide +kernel
theorem dX0_paste_161 : decode cX0_paste 161 = .ok (.iload 5, 2) := by decide +kernel
theorem dX0_paste_163 : decode cX0_paste 163 = .ok (.invokevirtual 154, 3) := by decide +kernel
theorem dX0_paste_166 : decode cX0_paste 166 = .ok (.ifCond .ne 5, 3) := by decide +kernel
theorem dX0_paste_169 : decode cX0_paste 169 = .ok (.iconst (-1), 1) := by decide +kernel
theorem dX0_paste_170 : decode cX0_paste 170 = .ok (.ireturn, 1) := by decide +kernel
theorem dX0_paste_171 : decode cX0_paste 171 = .ok (.iload 6, 2) := by decide +kernel
theorem dX0_paste_173 : decode cX0_paste 173 = .ok (.ifCond .ne 5, 3) := by decide +kernel
theorem dX0_paste_176 : decode cX0_paste 176 = .ok (.iconst 0, 1) := by decide +kernel
theorem dX0_paste_177 : decode cX0_paste 177 = .ok (.ireturn, 1) := by decide +kernel
theorem dX0_paste_178 : decode cX0_paste 178 = .ok (.aload_n 0, 1) := by decide +kernel
theorem dX0_paste_179 : decode cX0_paste 179 = .ok (.aload 4, 2) := by decide +kernel
theorem dX0_paste_181 : decode cX0_paste 181 = .ok (.invokevirtual 157, 3) := by decide +kernel
theorem dX0_paste_184 : decode cX0_paste 184 = .ok (.iconst 0, 1) := by decide +kernel
theorem dX0_paste_185 : decode cX0_paste 185 = .ok (.istore 7, 2) := by decide +kernel
theorem dX0_paste_187 : decode cX0_paste 187 = .ok (.iload 7, 2) := by decide +kernel
theorem dX0_paste_189 : decode cX0_paste 189 = .ok (.aload_n 0, 1) := by decide +kernel
theorem dX0_paste_190 : decode cX0_paste 190 = .ok (.getfield 203, 3) := by decide +kernel
theorem dX0_paste_193 : decode cX0_paste 193 = .ok (.invokevirtual 219, 3) := by decide +kernel
theorem dX0_paste_196 : decode cX0_paste 196 = .ok (.if_icmp .ge 141, 3) := by decide +kernel
theorem dX0_paste_199 : decode cX0_paste 199 = .ok (.aconst_null, 1) := by decide +kernel
theorem dX0_paste_200 : decode cX0_paste 200 = .ok (.astore 8, 2) := by decide +kernel
theorem dX0_paste_202 : decode cX0_paste 202 = .ok (.iconst 0, 1) := by decide +kernel
theorem dX0_paste_203 : decode cX0_paste 203 = .ok (.istore 9, 2) := by decide +kernel
theorem dX0_paste_205 : decode cX0_paste 205 = .ok (.iload 9, 2) := by decide +kernel
theorem dX0_paste_207 : decode cX0_paste 207 = .ok (.aload_n 0, 1) := by decide +kernel
theorem dX0_paste_208 : decode cX0_paste 208 = .ok (.getfield 203, 3) := by decide +kernel
theorem dX0_paste_211 : decode cX0_paste 211 = .ok (.invokevirtual 221, 3) := by decide +kernel
theorem dX0_paste_214 : decode cX0_paste 214 = .ok (.if_icmp .ge 117, 3) := by decide +kernel
theorem dX0_paste_217 : decode cX0_paste 217 = .ok (.aload_n 0, 1) := by decide +kernel
theorem dX0_paste_218 : decode cX0_paste 218 = .ok (.getfield 203, 3) := by decide +kernel
theorem dX0_paste_221 : decode cX0_paste 221 = .ok (.getfield 207, 3) := by decide +kernel
theorem dX0_paste_224 : decode cX0_paste 224 = .ok (.iload 7, 2) := by decide +kernel
theorem dX0_paste_226 : decode cX0_paste 226 = .ok (.aaload, 1) := by decide +kernel
theorem dX0_paste_227 : decode cX0_paste 227 = .ok (.iload 9, 2) := by decide +kernel
theorem dX0_paste_229 : decode cX0_paste 229 = .ok (.baload, 1) := by decide +kernel
theorem dX0_paste_230 : decode cX0_paste 230 = .ok (.bipush (-2), 2) := by decide +kernel
theorem dX0_paste_232 : decode cX0_paste 232 = .ok (.if_icmp .eq 93, 3) := by decide +kernel
theorem dX0_paste_235 : decode cX0_paste 235 = .ok (.aload 4, 2) := by decide +kernel
theorem dX0_paste_237 : decode cX0_paste 237 = .ok (.iload_n 2, 1) := by decide +kernel
theorem dX0_paste_238 : decode cX0_paste 238 = .ok (.iload 7, 2) := by decide +kernel
theorem dX0_paste_240 : decode cX0_paste 240 = .ok (.iadd, 1) := by decide +kernel
theorem dX0_paste_241 : decode cX0_paste 241 = .ok (.iload_n 3, 1) := by decide +kernel
theorem dX0_paste_242 : decode cX0_paste 242 = .ok (.iload 9, 2) := by decide +kernel
theorem dX0_paste_244 : decode cX0_paste 244 = .ok (.iadd, 1) := by decide +kernel
theorem dX0_paste_245 : decode cX0_paste 245 = .ok (.invokevirtual 173, 3) := by decide +kernel
theorem dX0_paste_248 : decode cX0_paste 248 = .ok (.ifnonnull 6, 3) := by decide +kernel
theorem dX0_paste_251 : decode cX0_paste 251 = .ok (.goto 74, 3) := by decide +kernel
theorem dX0_paste_254 : decode cX0_paste 254 = .ok (.aload 8, 2) := by decide +kernel
theorem dX0_paste_256 : decode cX0_paste 256 = .ok (.ifnonnull 15, 3) := by decide +kernel
theorem dX0_paste_259 : decode cX0_paste 259 = .ok (.aload_n 0, 1) := by decide +kernel
theorem dX0_paste_260 : decode cX0_paste 260 = .ok (.aload 4, 2) := by decide +kernel
theorem dX0_paste_262 : decode cX0_paste 262 = .ok (.iload_n 2, 1) := by decide +kernel
theorem dX0_paste_263 : decode cX0_paste 263 = .ok (.iload 7, 2) := by decide +kernel
theorem dX0_paste_265 : decode cX0_paste 265 = .ok (.iadd, 1) := by decide +kernel
theorem dX0_paste_266 : decode cX0_paste 266 = .ok (.invokevirtual 177, 3) := by decide +kernel
theorem dX0_paste_269 : decode cX0_paste 269 = .ok (.astore 8, 2) := by decide +kernel
theorem dX0_paste_271 : decode cX0_paste 271 = .ok (.aload 8, 2) := by decide +kernel
theorem dX0_paste_273 : decode cX0_paste 273 = .ok (.iload_n 3, 1) := by decide +kernel
theorem dX0_paste_274 : decode cX0_paste 274 = .ok (.iload 9, 2) := by decide +kernel
theorem dX0_paste_276 : decode cX0_paste 276 = .ok (.iadd, 1) := by decide +kernel
theorem dX0_paste_277 : decode cX0_paste 277 = .ok (.aload 8, 2) := by decide +kernel
theorem dX0_paste_279 : decode cX0_paste 279 = .ok (.getfield 181, 3) := by decide +kernel
theorem dX0_paste_282 : decode cX0_paste 282 = .ok (.isub, 1) := by decide +kernel
theorem dX0_paste_283 : decode cX0_paste 283 = .ok (.aload_n 0, 1) := by decide +kernel
theorem dX0_paste_284 : decode cX0_paste 284 = .ok (.getfield 203, 3) := by decide +kernel
theorem dX0_paste_287 : decode cX0_paste 287 = .ok (.getfield 207, 3) := by decide +kernel
theorem dX0_paste_290 : decode cX0_paste 290 = .ok (.iload 7, 2) := by decide +kernel
theorem dX0_paste_292 : decode cX0_paste 292 = .ok (.aaload, 1) := by decide +kernel
theorem dX0_paste_293 : decode cX0_paste 293 = .ok (.iload 9, 2) := by decide +kernel
theorem dX0_paste_295 : decode cX0_paste 295 = .ok (.baload, 1) := by decide +kernel
theorem dX0_paste_296 : decode cX0_paste 296 = .ok (.aload_n 0, 1) := by decide +kernel
theorem dX0_paste_297 : decode cX0_paste 297 = .ok (.getfield 203, 3) := by decide +kernel
theorem dX0_paste_300 : decode cX0_paste 300 = .ok (.getfield 210, 3) := by decide +kernel
theorem dX0_paste_303 : decode cX0_paste 303 = .ok (.iload 7, 2) := by decide +kernel
theorem dX0_paste_305 : decode cX0_paste 305 = .ok (.aaload, 1) := by decide +kernel
theorem dX0_paste_306 : decode cX0_paste 306 = .ok (.iload 9, 2) := by decide +kernel
theorem dX0_paste_308 : decode cX0_paste 308 = .ok (.baload, 1) := by decide +kernel
theorem dX0_paste_309 : decode cX0_paste 309 = .ok (.aload_n 0, 1) := by decide +kernel
theorem dX0_paste_310 : decode cX0_paste 310 = .ok (.getfield 203, 3) := by decide +kernel
theorem dX0_paste_313 : decode cX0_paste 313 = .ok (.getfield 212, 3) := by decide +kernel
theorem dX0_paste_316 : decode cX0_paste 316 = .ok (.iload 7, 2) := by decide +kernel
theorem dX0_paste_318 : decode cX0_paste 318 = .ok (.aaload, 1) := by decide +kernel
theorem dX0_paste_319 : decode cX0_paste 319 = .ok (.iload 9, 2) := by decide +kernel
theorem dX0_paste_321 : decode cX0_paste 321 = .ok (.saload, 1) := by decide +kernel
theorem dX0_paste_322 : decode cX0_paste 322 = .ok (.invokevirtual 184, 3) := by decide +kernel
theorem dX0_paste_325 : decode cX0_paste 325 = .ok (.iinc 9 1, 3) := by decide +kernel
theorem dX0_paste_328 : decode cX0_paste 328 = .ok (.goto (-123), 3) := by decide +kernel
theorem dX0_paste_331 : decode cX0_paste 331 = .ok (.iinc 7 1, 3) := by decide +kernel
theorem dX0_paste_334 : decode cX0_paste 334 = .ok (.goto (-147), 3) := by decide +kernel
theorem dX0_paste_337 : decode cX0_paste 337 = .ok (.iload 6, 2) := by decide +kernel
theorem dX0_paste_339 : decode cX0_paste 339 = .ok (.ireturn, 1) := by decide +kernel
theorem dX0_rule_0 : decode cX0_rule 0 = .ok (.aload_n 0, 1) := by decide +kernel
theorem dX0_rule_1 : decode cX0_rule 1 = .ok (.getfield 19, 3) := by decide +kernel
theorem dX0_rule_4 : decode cX0_rule 4 = .ok (.invokevirtual 54, 3) := by decide +kernel
theorem dX0_rule_7 : decode cX0_rule 7 = .ok (.bipush 8, 2) := by decide +kernel
theorem dX0_rule_9 : decode cX0_rule 9 = .ok (.if_icmp .eq 23, 3) := by decide +kernel
theorem dX0_rule_12 : decode cX0_rule 12 = .ok (.iload_n 1, 1) := by decide +kernel
theorem dX0_rule_13 : decode cX0_rule 13 = .ok (.iconst 1, 1) := by decide +kernel
theorem dX0_rule_14 : decode cX0_rule 14 = .ok (.if_icmp .lt 18, 3) := by decide +kernel
theorem dX0_rule_17 : decode cX0_rule 17 = .ok (.iload_n 1, 1) := by decide +kernel
theorem dX0_rule_18 : decode cX0_rule 18 = .ok (.iconst 4, 1) := by decide +kernel
theorem dX0_rule_19 : decode cX0_rule 19 = .ok (.if_icmp .gt 13, 3) := by decide +kernel
theorem dX0_rule_22 : decode cX0_rule 22 = .ok (.iload_n 2, 1) := by decide +kernel
theorem dX0_rule_23 : decode cX0_rule 23 = .ok (.iconst 1, 1) := by decide +kernel
theorem dX0_rule_24 : decode cX0_rule 24 = .ok (.if_icmp .lt 8, 3) := by decide +kernel
theorem dX0_rule_27 : decode cX0_rule 27 = .ok (.iload_n 2, 1) := by decide +kernel
theorem dX0_rule_28 : decode cX0_rule 28 = .ok (.iconst 4, 1) := by decide +kernel
theorem dX0_rule_29 : decode cX0_rule 29 = .ok (.if_icmp .le 5, 3) := by decide +kernel
theorem dX0_rule_32 : decode cX0_rule 32 = .ok (.iconst (-1), 1) := by decide +kernel
theorem dX0_rule_33 : decode cX0_rule 33 = .ok (.ireturn, 1) := by decide +kernel
theorem dX0_rule_34 : decode cX0_rule 34 = .ok (.aload_n 0, 1) := by decide +kernel
theorem dX0_rule_35 : decode cX0_rule 35 = .ok (.getfield 19, 3) := by decide +kernel
theorem dX0_rule_38 : decode cX0_rule 38 = .ok (.new 64, 3) := by decide +kernel
theorem dX0_rule_41 : decode cX0_rule 41 = .ok (.dup, 1) := by decide +kernel
theorem dX0_rule_42 : decode cX0_rule 42 = .ok (.iload_n 1, 1) := by decide +kernel
theorem dX0_rule_43 : decode cX0_rule 43 = .ok (.iload_n 2, 1) := by decide +kernel
theorem dX0_rule_44 : decode cX0_rule 44 = .ok (.invokespecial 224, 3) := by decide +kernel
theorem dX0_rule_47 : decode cX0_rule 47 = .ok (.invokevirtual 98, 3) := by decide +kernel
theorem dX0_rule_50 : decode cX0_rule 50 = .ok (.pop, 1) := by decide +kernel
theorem dX0_rule_51 : decode cX0_rule 51 = .ok (.aload_n 0, 1) := by decide +kernel
theorem dX0_rule_52 : decode cX0_rule 52 = .ok (.getfield 19, 3) := by decide +kernel
theorem dX0_rule_55 : decode cX0_rule 55 = .ok (.invokevirtual 54, 3) := by decide +kernel
theorem dX0_rule_58 : decode cX0_rule 58 = .ok (.iconst 1, 1) := by decide +kernel
theorem dX0_rule_59 : decode cX0_rule 59 = .ok (.isub, 1) := by decide +kernel
theorem dX0_rule_60 : decode cX0_rule 60 = .ok (.ireturn, 1) := by decide +kernel
theorem dX0_becomes_0 : decode cX0_becomes 0 = .ok (.aload_n 0, 1) := by decide +kernel
theorem dX0_becomes_1 : decode cX0_becomes 1 = .ok (.iload_n 1, 1) := by decide +kernel
theorem dX0_becomes_2 : decode cX0_becomes 2 = .ok (.invokevirtual 225, 3) := by decide +kernel
theorem dX0_becomes_5 : decode cX0_becomes 5 = .ok (.astore 7, 2) := by decide +kernel
theorem dX0_becomes_7 : decode cX0_becomes 7 = .ok (.aload 7, 2) := by decide +kernel
theorem dX0_becomes_9 : decode cX0_becomes 9 = .ok (.ifnull 62, 3) := by decide +kernel
theorem dX0_becomes_12 : decode cX0_becomes 12 = .ok (.aload_n 0, 1) := by decide +kernel
theorem dX0_becomes_13 : decode cX0_becomes 13 = .ok (.iload_n 2, 1) := by decide +kernel
theorem dX0_becomes_14 : decode cX0_becomes 14 = .ok (.invokevirtual 102, 3) := by decide +kernel
theorem dX0_becomes_17 : decode cX0_becomes 17 = .ok (.ifCond .eq 54, 3) := by decide +kernel
theorem dX0_becomes_20 : decode cX0_becomes 20 = .ok (.iload_n 3, 1) := by decide +kernel
theorem dX0_becomes_21 : decode cX0_becomes 21 = .ok (.ifCond .lt 50, 3) := by decide +kernel
theorem dX0_becomes_24 : decode cX0_becomes 24 = .ok (.iload_n 3, 1) := by decide +kernel
theorem dX0_becomes_25 : decode cX0_becomes 25 = .ok (.aload 7, 2) := by decide +kernel
theorem dX0_becomes_27 : decode cX0_becomes 27 = .ok (.getfield 229, 3) := by decide +kernel
theorem dX0_becomes_30 : decode cX0_becomes 30 = .ok (.if_icmp .ge 41, 3) := by decide +kernel
theorem dX0_becomes_33 : decode cX0_becomes 33 = .ok (.iload 4, 2) := by decide +kernel
theorem dX0_becomes_35 : decode cX0_becomes 35 = .ok (.ifCond .lt 36, 3) := by decide +kernel
theorem dX0_becomes_38 : decode cX0_becomes 38 = .ok (.iload 4, 2) := by decide +kernel
theorem dX0_becomes_40 : decode cX0_becomes 40 = .ok (.aload 7, 2) := by decide +kernel
theorem dX0_becomes_42 : decode cX0_becomes 42 = .ok (.getfield 231, 3) := by decide +kernel
theorem dX0_becomes_45 : decode cX0_becomes 45 = .ok (.if_icmp .ge 26, 3) := by decide +kernel
theorem dX0_becomes_48 : decode cX0_becomes 48 = .ok (.iload 5, 2) := by decide +kernel
theorem dX0_becomes_50 : decode cX0_becomes 50 = .ok (.iconst (-1), 1) := by decide +kernel
theorem dX0_becomes_51 : decode cX0_becomes 51 = .ok (.if_icmp .eq 22, 3) := by decide +kernel
theorem dX0_becomes_54 : decode cX0_becomes 54 = .ok (.aload_n 0, 1) := by decide +kernel
theorem dX0_becomes_55 : decode cX0_becomes 55 = .ok (.iload 5, 2) := by decide +kernel
theorem dX0_becomes_57 : decode cX0_becomes 57 = .ok (.invokevirtual 102, 3) := by decide +kernel
theorem dX0_becomes_60 : decode cX0_becomes 60 = .ok (.ifCond .eq 11, 3) := by decide +kernel
theorem dX0_becomes_63 : decode cX0_becomes 63 = .ok (.iload 6, 2) := by decide +kernel
theorem dX0_becomes_65 : decode cX0_becomes 65 = .ok (.invokestatic 106, 3) := by decide +kernel
theorem dX0_becomes_68 : decode cX0_becomes 68 = .ok (.ifCond .ne 5, 3) := by decide +kernel
theorem dX0_becomes_71 : decode cX0_becomes 71 = .ok (.iconst 0, 1) := by decide +kernel
theorem dX0_becomes_72 : decode cX0_becomes 72 = .ok (.ireturn, 1) := by decide +kernel
theorem dX0_becomes_73 : decode cX0_becomes 73 = .ok (.aload 7, 2) := by decide +kernel
theorem dX0_becomes_75 : decode cX0_becomes 75 = .ok (.iload_n 2, 1) := by decide +kernel
theorem dX0_becomes_76 : decode cX0_becomes 76 = .ok (.invokevirtual 233, 3) := by decide +kernel
theorem dX0_becomes_79 : decode cX0_becomes 79 = .ok (.astore 8, 2) := by decide +kernel
theorem dX0_becomes_81 : decode cX0_becomes 81 = .ok (.aload 8, 2) := by decide +kernel
theorem dX0_becomes_83 : decode cX0_becomes 83 = .ok (.getfield 207, 3) := by decide +kernel
theorem dX0_becomes_86 : decode cX0_becomes 86 = .ok (.iload_n 3, 1) := by decide +kernel
theorem dX0_becomes_87 : decode cX0_becomes 87 = .ok (.aaload, 1) := by decide +kernel
theorem dX0_becomes_88 : decode cX0_becomes 88 = .ok (.iload 4, 2) := by decide +kernel
theorem dX0_becomes_90 : decode cX0_becomes 90 = .ok (.iload 5, 2) := by decide +kernel
theorem dX0_becomes_92 : decode cX0_becomes 92 = .ok (.i2b, 1) := by decide +kernel
theorem dX0_becomes_93 : decode cX0_becomes 93 = .ok (.bastore, 1) := by decide +kernel
theorem dX0_becomes_94 : decode cX0_becomes 94 = .ok (.aload 8, 2) := by decide +kernel
theorem dX0_becomes_96 : decode cX0_becomes 96 = .ok (.getfield 210, 3) := by decide +kernel
theorem dX0_becomes_99 : decode cX0_becomes 99 = .ok (.iload_n 3, 1) := by decide +kernel
theorem dX0_becomes_100 : decode cX0_becomes 100 = .ok (.aaload, 1) := by decide +kernel
theorem dX0_becomes_101 : decode cX0_becomes 101 = .ok (.iload 4, 2) := by decide +kernel
theorem dX0_becomes_103 : decode cX0_becomes 103 = .ok (.iload 5, 2) := by decide +kernel
theorem dX0_becomes_105 : decode cX0_becomes 105 = .ok (.ifCond .ge 7, 3) := by decide +kernel
theorem dX0_becomes_108 : decode cX0_becomes 108 = .ok (.iconst 0, 1) := by decide +kernel
theorem dX0_becomes_109 : decode cX0_becomes 109 = .ok (.goto 20, 3) := by decide +kernel
theorem dX0_becomes_112 : decode cX0_becomes 112 = .ok (.aload_n 0, 1) := by decide +kernel
theorem dX0_becomes_113 : decode cX0_becomes 113 = .ok (.getfield 10, 3) := by decide +kernel
theorem dX0_becomes_116 : decode cX0_becomes 116 = .ok (.iload 5, 2) := by decide +kernel
theorem dX0_becomes_118 : decode cX0_becomes 118 = .ok (.invokevirtual 58, 3) := by decide +kernel
theorem dX0_becomes_121 : decode cX0_becomes 121 = .ok (.checkcast 80, 3) := by decide +kernel
theorem dX0_becomes_124 : decode cX0_becomes 124 = .ok (.iload 6, 2) := by decide +kernel
theorem dX0_becomes_126 : decode cX0_becomes 126 = .ok (.invokevirtual 109, 3) := by decide +kernel
theorem dX0_becomes_129 : decode cX0_becomes 129 = .ok (.i2b, 1) := by decide +kernel
theorem dX0_becomes_130 : decode cX0_becomes 130 = .ok (.bastore, 1) := by decide +kernel
theorem dX0_becomes_131 : decode cX0_becomes 131 = .ok (.iconst 1, 1) := by decide +kernel
theorem dX0_becomes_132 : decode cX0_becomes 132 = .ok (.ireturn, 1) := by decide +kernel
theorem dX0_rule_2_0 : decode cX0_rule_2 0 = .ok (.iload_n 1, 1) := by decide +kernel
theorem dX0_rule_2_1 : decode cX0_rule_2 1 = .ok (.ifCond .lt 28, 3) := by decide +kernel
theorem dX0_rule_2_4 : decode cX0_rule_2 4 = .ok (.iload_n 1, 1) := by decide +kernel
theorem dX0_rule_2_5 : decode cX0_rule_2 5 = .ok (.aload_n 0, 1) := by decide +kernel
theorem dX0_rule_2_6 : decode cX0_rule_2 6 = .ok (.getfield 19, 3) := by decide +kernel
theorem dX0_rule_2_9 : decode cX0_rule_2 9 = .ok (.invokevirtual 54, 3) := by decide +kernel
theorem dX0_rule_2_12 : decode cX0_rule_2 12 = .ok (.if_icmp .ge 17, 3) := by decide +kernel
theorem dX0_rule_2_15 : decode cX0_rule_2 15 = .ok (.aload_n 0, 1) := by decide +kernel
theorem dX0_rule_2_16 : decode cX0_rule_2 16 = .ok (.getfield 19, 3) := by decide +kernel
theorem dX0_rule_2_19 : decode cX0_rule_2 19 = .ok (.iload_n 1, 1) := by decide +kernel
theorem dX0_rule_2_20 : decode cX0_rule_2 20 = .ok (.invokevirtual 58, 3) := by decide +kernel
theorem dX0_rule_2_23 : decode cX0_rule_2 23 = .ok (.checkcast 64, 3) := by decide +kernel
theorem dX0_rule_2_26 : decode cX0_rule_2 26 = .ok (.goto 4, 3) := by decide +kernel
theorem dX0_rule_2_29 : decode cX0_rule_2 29 = .ok (.aconst_null, 1) := by decide +kernel
theorem dX0_rule_2_30 : decode cX0_rule_2 30 = .ok (.areturn, 1) := by decide +kernel
theorem dX0_grow_0 : decode cX0_grow 0 = .ok (.aload_n 0, 1) := by decide +kernel
theorem dX0_grow_1 : decode cX0_grow 1 = .ok (.iload_n 1, 1) := by decide +kernel
theorem dX0_grow_2 : decode cX0_grow 2 = .ok (.invokevirtual 150, 3) := by decide +kernel
theorem dX0_grow_5 : decode cX0_grow 5 = .ok (.astore 4, 2) := by decide +kernel
theorem dX0_grow_7 : decode cX0_grow 7 = .ok (.aload_n 0, 1) := by decide +kernel
theorem dX0_grow_8 : decode cX0_grow 8 = .ok (.iload_n 2, 1) := by decide +kernel
theorem dX0_grow_9 : decode cX0_grow 9 = .ok (.invokevirtual 225, 3) := by decide +kernel
theorem dX0_grow_12 : decode cX0_grow 12 = .ok (.astore 5, 2) := by decide +kernel
theorem dX0_grow_14 : decode cX0_grow 14 = .ok (.aload 4, 2) := by decide +kernel
theorem dX0_grow_16 : decode cX0_grow 16 = .ok (.ifnull 41, 3) := by decide +kernel
theorem dX0_grow_19 : decode cX0_grow 19 = .ok (.aload 5, 2) := by decide +kernel
theorem dX0_grow_21 : decode cX0_grow 21 = .ok (.ifnull 36, 3) := by decide +kernel
theorem dX0_grow_24 : decode cX0_grow 24 = .ok (.iload_n 3, 1) := by decide +kernel
theorem dX0_grow_25 : decode cX0_grow 25 = .ok (.ifCond .lt 32, 3) := by decide +kernel
theorem dX0_grow_28 : decode cX0_grow 28 = .ok (.iload_n 3, 1) := by decide +kernel
theorem dX0_grow_29 : decode cX0_grow 29 = .ok (.iconst 5, 1) := by decide +kernel
theorem dX0_grow_30 : decode cX0_grow 30 = .ok (.if_icmp .gt 27, 3) := by decide +kernel
theorem dX0_grow_33 : decode cX0_grow 33 = .ok (.aload_n 0, 1) := by decide +kernel
theorem dX0_grow_34 : decode cX0_grow 34 = .ok (.getfield 16, 3) := by decide +kernel
theorem dX0_grow_37 : decode cX0_grow 37 = .ok (.invokevirtual 54, 3) := by decide +kernel
theorem dX0_grow_40 : decode cX0_grow 40 = .ok (.bipush 16, 2) := by decide +kernel
theorem dX0_grow_42 : decode cX0_grow 42 = .ok (.if_icmp .eq 15, 3) := by decide +kernel
theorem dX0_grow_45 : decode cX0_grow 45 = .ok (.aload_n 0, 1) := by decide +kernel
theorem dX0_grow_46 : decode cX0_grow 46 = .ok (.aload 4, 2) := by decide +kernel
theorem dX0_grow_48 : decode cX0_grow 48 = .ok (.aload 5, 2) := by decide +kernel
theorem dX0_grow_50 : decode cX0_grow 50 = .ok (.iload_n 3, 1) := by decide +kernel
theorem dX0_grow_51 : decode cX0_grow 51 = .ok (.invokevirtual 267, 3) := by decide +kernel
theorem dX0_grow_54 : decode cX0_grow 54 = .ok (.ifCond .ne 5, 3) := by decide +kernel
theorem dX0_grow_57 : decode cX0_grow 57 = .ok (.iconst (-1), 1) := by decide +kernel
theorem dX0_grow_58 : decode cX0_grow 58 = .ok (.ireturn, 1) := by decide +kernel
theorem dX0_grow_59 : decode cX0_grow 59 = .ok (.aload 4, 2) := by decide +kernel
theorem dX0_grow_61 : decode cX0_grow 61 = .ok (.getfield 140, 3) := by decide +kernel
theorem dX0_grow_64 : decode cX0_grow 64 = .ok (.invokevirtual 54, 3) := by decide +kernel
theorem dX0_grow_67 : decode cX0_grow 67 = .ok (.istore 6, 2) := by decide +kernel
theorem dX0_grow_69 : decode cX0_grow 69 = .ok (.iconst 0, 1) := by decide +kernel
theorem dX0_grow_70 : decode cX0_grow 70 = .ok (.istore 7, 2) := by decide +kernel
theorem dX0_grow_72 : decode cX0_grow 72 = .ok (.iload 7, 2) := by decide +kernel
theorem dX0_grow_74 : decode cX0_grow 74 = .ok (.iload_n 3, 1) := by decide +kernel
theorem dX0_grow_75 : decode cX0_grow 75 = .ok (.if_icmp .ge 19, 3) := by decide +kernel
theorem dX0_grow_78 : decode cX0_grow 78 = .ok (.iload 6, 2) := by decide +kernel
theorem dX0_grow_80 : decode cX0_grow 80 = .ok (.aload 5, 2) := by decide +kernel
theorem dX0_grow_82 : decode cX0_grow 82 = .ok (.getfield 229, 3) := by decide +kernel
theorem dX0_grow_85 : decode cX0_grow 85 = .ok (.imul, 1) := by decide +kernel
theorem dX0_grow_86 : decode cX0_grow 86 = .ok (.istore 6, 2) := by decide +kernel
theorem dX0_grow_88 : decode cX0_grow 88 = .ok (.iinc 7 1, 3) := by decide +kernel
theorem dX0_grow_91 : decode cX0_grow 91 = .ok (.goto (-19), 3) := by decide +kernel
theorem dX0_grow_94 : decode cX0_grow 94 = .ok (.aload_n 0, 1) := by decide +kernel
theorem dX0_grow_95 : decode cX0_grow 95 = .ok (.iload 6, 2) := by decide +kernel
theorem dX0_grow_97 : decode cX0_grow 97 = .ok (.invokevirtual 154, 3) := by decide +kernel
theorem dX0_grow_100 : decode cX0_grow 100 = .ok (.ifCond .ne 5, 3) := by decide +kernel
theorem dX0_grow_103 : decode cX0_grow 103 = .ok (.iconst (-1), 1) := by decide +kernel
theorem dX0_grow_104 : decode cX0_grow 104 = .ok (.ireturn, 1) := by decide +kernel
theorem dX0_grow_105 : decode cX0_grow 105 = .ok (.new 7, 3) := by decide +kernel
theorem dX0_grow_108 : decode cX0_grow 108 = .ok (.dup, 1) := by decide +kernel
theorem dX0_grow_109 : decode cX0_grow 109 = .ok (.iload 6, 2) := by decide +kernel
theorem dX0_grow_111 : decode cX0_grow 111 = .ok (.invokespecial 254, 3) := by decide +kernel
theorem dX0_grow_114 : decode cX0_grow 114 = .ok (.astore 7, 2) := by decide +kernel
theorem dX0_grow_116 : decode cX0_grow 116 = .ok (.iconst 0, 1) := by decide +kernel
theorem dX0_grow_117 : decode cX0_grow 117 = .ok (.istore 8, 2) := by decide +kernel
theorem dX0_grow_119 : decode cX0_grow 119 = .ok (.iload 8, 2) := by decide +kernel
theorem dX0_grow_121 : decode cX0_grow 121 = .ok (.aload 4, 2) := by decide +kernel
theorem dX0_grow_123 : decode cX0_grow 123 = .ok (.getfield 140, 3) := by decide +kernel
theorem dX0_grow_126 : decode cX0_grow 126 = .ok (.invokevirtual 54, 3) := by decide +kernel
theorem dX0_grow_129 : decode cX0_grow 129 = .ok (.if_icmp .ge 35, 3) := by decide +kernel
theorem dX0_grow_132 : decode cX0_grow 132 = .ok (.aload 7, 2) := by decide +kernel
theorem dX0_grow_134 : decode cX0_grow 134 = .ok (.new 138, 3) := by decide +kernel
theorem dX0_grow_137 : decode cX0_grow 137 = .ok (.dup, 1) := by decide +kernel
theorem dX0_grow_138 : decode cX0_grow 138 = .ok (.aload 4, 2) := by decide +kernel
theorem dX0_grow_140 : decode cX0_grow 140 = .ok (.getfield 140, 3) := by decide +kernel
theorem dX0_grow_143 : decode cX0_grow 143 = .ok (.iload 8, 2) := by decide +kernel
theorem dX0_grow_145 : decode cX0_grow 145 = .ok (.invokevirtual 58, 3) := by decide +kernel
theorem dX0_grow_148 : decode cX0_grow 148 = .ok (.checkcast 138, 3) := by decide +kernel
theorem dX0_grow_151 : decode cX0_grow 151 = .ok (.invokespecial 143, 3) := by decide +kernel
theorem dX0_grow_154 : decode cX0_grow 154 = .ok (.invokevirtual 98, 3) := by decide +kernel
theorem dX0_grow_157 : decode cX0_grow 157 = .ok (.pop, 1) := by decide +kernel
theorem dX0_grow_158 : decode cX0_grow 158 = .ok (.iinc 8 1, 3) := by decide +kernel
theorem dX0_grow_161 : decode cX0_grow 161 = .ok (.goto (-42), 3) := by decide +kernel
theorem dX0_grow_164 : decode cX0_grow 164 = .ok (.iconst 0, 1) := by decide +kernel
theorem dX0_grow_165 : decode cX0_grow 165 = .ok (.istore 8, 2) := by decide +kernel
theorem dX0_grow_167 : decode cX0_grow 167 = .ok (.iload 8, 2) := by decide +kernel
theorem dX0_grow_169 : decode cX0_grow 169 = .ok (.iload_n 3, 1) := by decide +kernel
theorem dX0_grow_170 : decode cX0_grow 170 = .ok (.if_icmp .ge 19, 3) := by decide +kernel
theorem dX0_grow_173 : decode cX0_grow 173 = .ok (.aload_n 0, 1) := by decide +kernel
theorem dX0_grow_174 : decode cX0_grow 174 = .ok (.aload 7, 2) := by decide +kernel
theorem dX0_grow_176 : decode cX0_grow 176 = .ok (.aload 5, 2) := by decide +kernel
theorem dX0_grow_178 : decode cX0_grow 178 = .ok (.invokevirtual 270, 3) := by decide +kernel
theorem dX0_grow_181 : decode cX0_grow 181 = .ok (.astore 7, 2) := by decide +kernel
theorem dX0_grow_183 : decode cX0_grow 183 = .ok (.iinc 8 1, 3) := by decide +kernel
theorem dX0_grow_186 : decode cX0_grow 186 = .ok (.goto (-19), 3) := by decide +kernel
theorem dX0_grow_189 : decode cX0_grow 189 = .ok (.aload_n 0, 1) := by decide +kernel
theorem dX0_grow_190 : decode cX0_grow 190 = .ok (.dup, 1) := by decide +kernel
theorem dX0_grow_191 : decode cX0_grow 191 = .ok (.getfield 135, 3) := by decide +kernel
theorem dX0_grow_194 : decode cX0_grow 194 = .ok (.iload 6, 2) := by decide +kernel
theorem dX0_grow_196 : decode cX0_grow 196 = .ok (.iadd, 1) := by decide +kernel
theorem dX0_grow_197 : decode cX0_grow 197 = .ok (.putfield 135, 3) := by decide +kernel
theorem dX0_grow_200 : decode cX0_grow 200 = .ok (.new 62, 3) := by decide +kernel
theorem dX0_grow_203 : decode cX0_grow 203 = .ok (.dup, 1) := by decide +kernel
theorem dX0_grow_204 : decode cX0_grow 204 = .ok (.invokespecial 121, 3) := by decide +kernel
theorem dX0_grow_207 : decode cX0_grow 207 = .ok (.astore 8, 2) := by decide +kernel
theorem dX0_grow_209 : decode cX0_grow 209 = .ok (.aload 8, 2) := by decide +kernel
theorem dX0_grow_211 : decode cX0_grow 211 = .ok (.aload 7, 2) := by decide +kernel
theorem dX0_grow_213 : decode cX0_grow 213 = .ok (.putfield 140, 3) := by decide +kernel
theorem dX0_grow_216 : decode cX0_grow 216 = .ok (.aload_n 0, 1) := by decide +kernel
theorem dX0_grow_217 : decode cX0_grow 217 = .ok (.getfield 16, 3) := by decide +kernel
theorem dX0_grow_220 : decode cX0_grow 220 = .ok (.aload 8, 2) := by decide +kernel
theorem dX0_grow_222 : decode cX0_grow 222 = .ok (.invokevirtual 98, 3) := by decide +kernel
theorem dX0_grow_225 : decode cX0_grow 225 = .ok (.pop, 1) := by decide +kernel
theorem dX0_grow_226 : decode cX0_grow 226 = .ok (.aload_n 0, 1) := by decide +kernel
theorem dX0_grow_227 : decode cX0_grow 227 = .ok (.getfield 16, 3) := by decide +kernel
theorem dX0_grow_230 : decode cX0_grow 230 = .ok (.invokevirtual 54, 3) := by decide +kernel
theorem dX0_grow_233 : decode cX0_grow 233 = .ok (.iconst 1, 1) := by decide +kernel
theorem dX0_grow_234 : decode cX0_grow 234 = .ok (.isub, 1) := by decide +kernel
theorem dX0_grow_235 : decode cX0_grow 235 = .ok (.ireturn, 1) := by decide +kernel
theorem dX0_canGrow_0 : decode cX0_canGrow 0 = .ok (.aload_n 1, 1) := by decide +kernel
theorem dX0_canGrow_1 : decode cX0_canGrow 1 = .ok (.getfield 140, 3) := by decide +kernel
theorem dX0_canGrow_4 : decode cX0_canGrow 4 = .ok (.invokevirtual 54, 3) := by decide +kernel
theorem dX0_canGrow_7 : decode cX0_canGrow 7 = .ok (.i2l, 1) := by decide +kernel
theorem dX0_canGrow_8 : decode cX0_canGrow 8 = .ok (.lstore 4, 2) := by decide +kernel
theorem dX0_canGrow_10 : decode cX0_canGrow 10 = .ok (.lconst 1, 1) := by decide +kernel
theorem dX0_canGrow_11 : decode cX0_canGrow 11 = .ok (.lstore 6, 2) := by decide +kernel
theorem dX0_canGrow_13 : decode cX0_canGrow 13 = .ok (.iconst 0, 1) := by decide +kernel
theorem dX0_canGrow_14 : decode cX0_canGrow 14 = .ok (.istore 8, 2) := by decide +kernel
theorem dX0_canGrow_16 : decode cX0_canGrow 16 = .ok (.iload 8, 2) := by decide +kernel
theorem dX0_canGrow_18 : decode cX0_canGrow 18 = .ok (.iload_n 3, 1) := by decide +kernel
theorem dX0_canGrow_19 : decode cX0_canGrow 19 = .ok (.if_icmp .ge 29, 3) := by decide +kernel
theorem dX0_canGrow_22 : decode cX0_canGrow 22 = .ok (.lload 4, 2) := by decide +kernel
theorem dX0_canGrow_24 : decode cX0_canGrow 24 = .ok (.aload_n 2, 1) := by decide +kernel
theorem dX0_canGrow_25 : decode cX0_canGrow 25 = .ok (.getfield 229, 3) := by decide +kernel
theorem dX0_canGrow_28 : decode cX0_canGrow 28 = .ok (.i2l, 1) := by decide +kernel
theorem dX0_canGrow_29 : decode cX0_canGrow 29 = .ok (.lmul, 1) := by decide +kernel
theorem dX0_canGrow_30 : decode cX0_canGrow 30 = .ok (.lstore 4, 2) := by decide +kernel
theorem dX0_canGrow_32 : decode cX0_canGrow 32 = .ok (.lload 6, 2) := by decide +kernel
theorem dX0_canGrow_34 : decode cX0_canGrow 34 = .ok (.aload_n 2, 1) := by decide +kernel
theorem dX0_canGrow_35 : decode cX0_canGrow 35 = .ok (.getfield 231, 3) := by decide +kernel
theorem dX0_canGrow_38 : decode cX0_canGrow 38 = .ok (.i2l, 1) := by decide +kernel
theorem dX0_canGrow_39 : decode cX0_canGrow 39 = .ok (.lmul, 1) := by decide +kernel
theorem dX0_canGrow_40 : decode cX0_canGrow 40 = .ok (.lstore 6, 2) := by decide +kernel
theorem dX0_canGrow_42 : decode cX0_canGrow 42 = .ok (.iinc 8 1, 3) := by decide +kernel
theorem dX0_canGrow_45 : decode cX0_canGrow 45 = .ok (.goto (-29), 3) := by decide +kernel
theorem dX0_canGrow_48 : decode cX0_canGrow 48 = .ok (.lload 4, 2) := by decide +kernel
theorem dX0_canGrow_50 : decode cX0_canGrow 50 = .ok (.ldc2_w 237, 3) := by decide +kernel
theorem dX0_canGrow_53 : decode cX0_canGrow 53 = .ok (.lcmp, 1) := by decide +kernel
theorem dX0_canGrow_54 : decode cX0_canGrow 54 = .ok (.ifCond .le 5, 3) := by decide +kernel
theorem dX0_canGrow_57 : decode cX0_canGrow 57 = .ok (.iconst 0, 1) := by decide +kernel
theorem dX0_canGrow_58 : decode cX0_canGrow 58 = .ok (.ireturn, 1) := by decide +kernel
theorem dX0_canGrow_59 : decode cX0_canGrow 59 = .ok (.iconst 0, 1) := by decide +kernel
theorem dX0_canGrow_60 : decode cX0_canGrow 60 = .ok (.istore 8, 2) := by decide +kernel
theorem dX0_canGrow_62 : decode cX0_canGrow 62 = .ok (.iload 8, 2) := by decide +kernel
theorem dX0_canGrow_64 : decode cX0_canGrow 64 = .ok (.aload_n 1, 1) := by decide +kernel
theorem dX0_canGrow_65 : decode cX0_canGrow 65 = .ok (.getfield 140, 3) := by decide +kernel
theorem dX0_canGrow_68 : decode cX0_canGrow 68 = .ok (.invokevirtual 54, 3) := by decide +kernel
theorem dX0_canGrow_71 : decode cX0_canGrow 71 = .ok (.if_icmp .ge 61, 3) := by decide +kernel
theorem dX0_canGrow_74 : decode cX0_canGrow 74 = .ok (.aload_n 1, 1) := by decide +kernel
theorem dX0_canGrow_75 : decode cX0_canGrow 75 = .ok (.getfield 140, 3) := by decide +kernel
theorem dX0_canGrow_78 : decode cX0_canGrow 78 = .ok (.iload 8, 2) := by decide +kernel
theorem dX0_canGrow_80 : decode cX0_canGrow 80 = .ok (.invokevirtual 58, 3) := by decide +kernel
theorem dX0_canGrow_83 : decode cX0_canGrow 83 = .ok (.checkcast 138, 3) := by decide +kernel
theorem dX0_canGrow_86 : decode cX0_canGrow 86 = .ok (.astore 9, 2) := by decide +kernel
theorem dX0_canGrow_88 : decode cX0_canGrow 88 = .ok (.aload 9, 2) := by decide +kernel
theorem dX0_canGrow_90 : decode cX0_canGrow 90 = .ok (.getfield 187, 3) := by decide +kernel
theorem dX0_canGrow_93 : decode cX0_canGrow 93 = .ok (.arraylength, 1) := by decide +kernel
theorem dX0_canGrow_94 : decode cX0_canGrow 94 = .ok (.i2l, 1) := by decide +kernel
theorem dX0_canGrow_95 : decode cX0_canGrow 95 = .ok (.lload 6, 2) := by decide +kernel
theorem dX0_canGrow_97 : decode cX0_canGrow 97 = .ok (.lmul, 1) := by decide +kernel
theorem dX0_canGrow_98 : decode cX0_canGrow 98 = .ok (.ldc2_w 237, 3) := by decide +kernel
theorem dX0_canGrow_101 : decode cX0_canGrow 101 = .ok (.lcmp, 1) := by decide +kernel
theorem dX0_canGrow_102 : decode cX0_canGrow 102 = .ok (.ifCond .gt 22, 3) := by decide +kernel
theorem dX0_canGrow_105 : decode cX0_canGrow 105 = .ok (.aload 9, 2) := by decide +kernel
theorem dX0_canGrow_107 : decode cX0_canGrow 107 = .ok (.getfield 181, 3) := by decide +kernel
theorem dX0_canGrow_110 : decode cX0_canGrow 110 = .ok (.invokestatic 239, 3) := by decide +kernel
theorem dX0_canGrow_113 : decode cX0_canGrow 113 = .ok (.i2l, 1) := by decide +kernel
theorem dX0_canGrow_114 : decode cX0_canGrow 114 = .ok (.lload 6, 2) := by decide +kernel
theorem dX0_canGrow_116 : decode cX0_canGrow 116 = .ok (.lmul, 1) := by decide +kernel
theorem dX0_canGrow_117 : decode cX0_canGrow 117 = .ok (.ldc2_w 244, 3) := by decide +kernel
theorem dX0_canGrow_120 : decode cX0_canGrow 120 = .ok (.lcmp, 1) := by decide +kernel
theorem dX0_canGrow_121 : decode cX0_canGrow 121 = .ok (.ifCond .le 5, 3) := by decide +kernel
theorem dX0_canGrow_124 : decode cX0_canGrow 124 = .ok (.iconst 0, 1) := by decide +kernel
theorem dX0_canGrow_125 : decode cX0_canGrow 125 = .ok (.ireturn, 1) := by decide +kernel
theorem dX0_canGrow_126 : decode cX0_canGrow 126 = .ok (.iinc 8 1, 3) := by decide +kernel
theorem dX0_canGrow_129 : decode cX0_canGrow 129 = .ok (.goto (-67), 3) := by decide +kernel
theorem dX0_canGrow_132 : decode cX0_canGrow 132 = .ok (.aload_n 2, 1) := by decide +kernel
theorem dX0_canGrow_133 : decode cX0_canGrow 133 = .ok (.getfield 229, 3) := by decide +kernel
theorem dX0_canGrow_136 : decode cX0_canGrow 136 = .ok (.aload_n 2, 1) := by decide +kernel
theorem dX0_canGrow_137 : decode cX0_canGrow 137 = .ok (.getfield 231, 3) := by decide +kernel
theorem dX0_canGrow_140 : decode cX0_canGrow 140 = .ok (.if_icmp .eq 13, 3) := by decide +kernel
theorem dX0_canGrow_143 : decode cX0_canGrow 143 = .ok (.aload_n 0, 1) := by decide +kernel
theorem dX0_canGrow_144 : decode cX0_canGrow 144 = .ok (.aload_n 1, 1) := by decide +kernel
theorem dX0_canGrow_145 : decode cX0_canGrow 145 = .ok (.aload_n 2, 1) := by decide +kernel
theorem dX0_canGrow_146 : decode cX0_canGrow 146 = .ok (.iload_n 3, 1) := by decide +kernel
theorem dX0_canGrow_147 : decode cX0_canGrow 147 = .ok (.invokevirtual 246, 3) := by decide +kernel
theorem dX0_canGrow_150 : decode cX0_canGrow 150 = .ok (.ifCond .ne 7, 3) := by decide +kernel
theorem dX0_canGrow_153 : decode cX0_canGrow 153 = .ok (.iconst 1, 1) := by decide +kernel
theorem dX0_canGrow_154 : decode cX0_canGrow 154 = .ok (.goto 4, 3) := by decide +kernel
theorem dX0_canGrow_157 : decode cX0_canGrow 157 = .ok (.iconst 0, 1) := by decide +kernel
theorem dX0_canGrow_158 : decode cX0_canGrow 158 = .ok (.ireturn, 1) := by decide +kernel
theorem dX0_isTurned_0 : decode cX0_isTurned 0 = .ok (.aload_n 0, 1) := by decide +kernel
theorem dX0_isTurned_1 : decode cX0_isTurned 1 = .ok (.getfield 33, 3) := by decide +kernel
theorem dX0_isTurned_4 : decode cX0_isTurned 4 = .ok (.astore 4, 2) := by decide +kernel
theorem dX0_isTurned_6 : decode cX0_isTurned 6 = .ok (.aload 4, 2) := by decide +kernel
theorem dX0_isTurned_8 : decode cX0_isTurned 8 = .ok (.arraylength, 1) := by decide +kernel
theorem dX0_isTurned_9 : decode cX0_isTurned 9 = .ok (.istore 5, 2) := by decide +kernel
theorem dX0_isTurned_11 : decode cX0_isTurned 11 = .ok (.iconst 0, 1) := by decide +kernel
theorem dX0_isTurned_12 : decode cX0_isTurned 12 = .ok (.istore 6, 2) := by decide +kernel
theorem dX0_isTurned_14 : decode cX0_isTurned 14 = .ok (.iload 6, 2) := by decide +kernel
theorem dX0_isTurned_16 : decode cX0_isTurned 16 = .ok (.iload 5, 2) := by decide +kernel
theorem dX0_isTurned_18 : decode cX0_isTurned 18 = .ok (.if_icmp .ge 38, 3) := by decide +kernel
theorem dX0_isTurned_21 : decode cX0_isTurned 21 = .ok (.aload 4, 2) := by decide +kernel
theorem dX0_isTurned_23 : decode cX0_isTurned 23 = .ok (.iload 6, 2) := by decide +kernel
theorem dX0_isTurned_25 : decode cX0_isTurned 25 = .ok (.aaload, 1) := by decide +kernel
theorem dX0_isTurned_26 : decode cX0_isTurned 26 = .ok (.astore 7, 2) := by decide +kernel
theorem dX0_isTurned_28 : decode cX0_isTurned 28 = .ok (.iconst 0, 1) := by decide +kernel
theorem dX0_isTurned_29 : decode cX0_isTurned 29 = .ok (.istore 8, 2) := by decide +kernel
theorem dX0_isTurned_31 : decode cX0_isTurned 31 = .ok (.iload 8, 2) := by decide +kernel
theorem dX0_isTurned_33 : decode cX0_isTurned 33 = .ok (.bipush 8, 2) := by decide +kernel
theorem dX0_isTurned_35 : decode cX0_isTurned 35 = .ok (.if_icmp .ge 15, 3) := by decide +kernel
theorem dX0_isTurned_38 : decode cX0_isTurned 38 = .ok (.aload 7, 2) := by decide +kernel
theorem dX0_isTurned_40 : decode cX0_isTurned 40 = .ok (.iload 8, 2) := by decide +kernel
theorem dX0_isTurned_42 : decode cX0_isTurned 42 = .ok (.iconst 0, 1) := by decide +kernel
theorem dX0_isTurned_43 : decode cX0_isTurned 43 = .ok (.bastore, 1) := by decide +kernel
theorem dX0_isTurned_44 : decode cX0_isTurned 44 = .ok (.iinc 8 1, 3) := by decide +kernel
theorem dX0_isTurned_47 : decode cX0_isTurned 47 = .ok (.goto (-16), 3) := by decide +kernel
theorem dX0_isTurned_50 : decode cX0_isTurned 50 = .ok (.iinc 6 1, 3) := by decide +kernel
theorem dX0_isTurned_53 : decode cX0_isTurned 53 = .ok (.goto (-39), 3) := by decide +kernel
theorem dX0_isTurned_56 : decode cX0_isTurned 56 = .ok (.iconst 0, 1) := by decide +kernel
theorem dX0_isTurned_57 : decode cX0_isTurned 57 = .ok (.istore 4, 2) := by decide +kernel
theorem dX0_isTurned_59 : decode cX0_isTurned 59 = .ok (.iload 4, 2) := by decide +kernel
theorem dX0_isTurned_61 : decode cX0_isTurned 61 = .ok (.aload_n 1, 1) := by decide +kernel
theorem dX0_isTurned_62 : decode cX0_isTurned 62 = .ok (.getfield 140, 3) := by decide +kernel
theorem dX0_isTurned_65 : decode cX0_isTurned 65 = .ok (.invokevirtual 54, 3) := by decide +kernel
theorem dX0_isTurned_68 : decode cX0_isTurned 68 = .ok (.if_icmp .ge 77, 3) := by decide +kernel
theorem dX0_isTurned_71 : decode cX0_isTurned 71 = .ok (.aload_n 1, 1) := by decide +kernel
theorem dX0_isTurned_72 : decode cX0_isTurned 72 = .ok (.getfield 140, 3) := by decide +kernel
theorem dX0_isTurned_75 : decode cX0_isTurned 75 = .ok (.iload 4, 2) := by decide +kernel
theorem dX0_isTurned_77 : decode cX0_isTurned 77 = .ok (.invokevirtual 58, 3) := by decide +kernel
theorem dX0_isTurned_80 : decode cX0_isTurned 80 = .ok (.checkcast 138, 3) := by decide +kernel
theorem dX0_isTurned_83 : decode cX0_isTurned 83 = .ok (.astore 5, 2) := by decide +kernel
theorem dX0_isTurned_85 : decode cX0_isTurned 85 = .ok (.iconst 0, 1) := by decide +kernel
theorem dX0_isTurned_86 : decode cX0_isTurned 86 = .ok (.istore 6, 2) := by decide +kernel
theorem dX0_isTurned_88 : decode cX0_isTurned 88 = .ok (.iload 6, 2) := by decide +kernel
theorem dX0_isTurned_90 : decode cX0_isTurned 90 = .ok (.aload 5, 2) := by decide +kernel
theorem dX0_isTurned_92 : decode cX0_isTurned 92 = .ok (.getfield 187, 3) := by decide +kernel
theorem dX0_isTurned_95 : decode cX0_isTurned 95 = .ok (.arraylength, 1) := by decide +kernel
theorem dX0_isTurned_96 : decode cX0_isTurned 96 = .ok (.if_icmp .ge 43, 3) := by decide +kernel
theorem dX0_isTurned_99 : decode cX0_isTurned 99 = .ok (.aload 5, 2) := by decide +kernel
theorem dX0_isTurned_101 : decode cX0_isTurned 101 = .ok (.getfield 187, 3) := by decide +kernel
theorem dX0_isTurned_104 : decode cX0_isTurned 104 = .ok (.iload 6, 2) := by decide +kernel
theorem dX0_isTurned_106 : decode cX0_isTurned 106 = .ok (.baload, 1) := by decide +kernel
theorem dX0_isTurned_107 : decode cX0_isTurned 107 = .ok (.ifCond .lt 26, 3) := by decide +kernel
theorem dX0_isTurned_110 : decode cX0_isTurned 110 = .ok (.aload_n 0, 1) := by decide +kernel
theorem dX0_isTurned_111 : decode cX0_isTurned 111 = .ok (.getfield 33, 3) := by decide +kernel
theorem dX0_isTurned_114 : decode cX0_isTurned 114 = .ok (.aload 5, 2) := by decide +kernel
theorem dX0_isTurned_116 : decode cX0_isTurned 116 = .ok (.getfield 187, 3) := by decide +kernel
theorem dX0_isTurned_119 : decode cX0_isTurned 119 = .ok (.iload 6, 2) := by decide +kernel
theorem dX0_isTurned_121 : decode cX0_isTurned 121 = .ok (.baload, 1) := by decide +kernel
theorem dX0_isTurned_122 : decode cX0_isTurned 122 = .ok (.aaload, 1) := by decide +kernel
theorem dX0_isTurned_123 : decode cX0_isTurned 123 = .ok (.aload 5, 2) := by decide +kernel
theorem dX0_isTurned_125 : decode cX0_isTurned 125 = .ok (.getfield 194, 3) := by decide +kernel
theorem dX0_isTurned_128 : decode cX0_isTurned 128 = .ok (.iload 6, 2) := by decide +kernel
theorem dX0_isTurned_130 : decode cX0_isTurned 130 = .ok (.baload, 1) := by decide +kernel
theorem dX0_isTurned_131 : decode cX0_isTurned 131 = .ok (.iconst 1, 1) := by decide +kernel
theorem dX0_isTurned_132 : decode cX0_isTurned 132 = .ok (.bastore, 1) := by decide +kernel
theorem dX0_isTurned_133 : decode cX0_isTurned 133 = .ok (.iinc 6 1, 3) := by decide +kernel
theorem dX0_isTurned_136 : decode cX0_isTurned 136 = .ok (.goto (-48), 3) := by decide +kernel
theorem dX0_isTurned_139 : decode cX0_isTurned 139 = .ok (.iinc 4 1, 3) := by decide +kernel
theorem dX0_isTurned_142 : decode cX0_isTurned 142 = .ok (.goto (-83), 3) := by decide +kernel
theorem dX0_isTurned_145 : decode cX0_isTurned 145 = .ok (.iconst 0, 1) := by decide +kernel
theorem dX0_isTurned_146 : decode cX0_isTurned 146 = .ok (.istore 4, 2) := by decide +kernel
theorem dX0_isTurned_148 : decode cX0_isTurned 148 = .ok (.iload 4, 2) := by decide +kernel
theorem dX0_isTurned_150 : decode cX0_isTurned 150 = .ok (.iload_n 3, 1) := by decide +kernel
theorem dX0_isTurned_151 : decode cX0_isTurned 151 = .ok (.if_icmp .ge 74, 3) := by decide +kernel
theorem dX0_isTurned_154 : decode cX0_isTurned 154 = .ok (.aload_n 0, 1) := by decide +kernel
theorem dX0_isTurned_155 : decode cX0_isTurned 155 = .ok (.getfield 33, 3) := by decide +kernel
theorem dX0_isTurned_158 : decode cX0_isTurned 158 = .ok (.astore 5, 2) := by decide +kernel
theorem dX0_isTurned_160 : decode cX0_isTurned 160 = .ok (.aload 5, 2) := by decide +kernel
theorem dX0_isTurned_162 : decode cX0_isTurned 162 = .ok (.arraylength, 1) := by decide +kernel
theorem dX0_isTurned_163 : decode cX0_isTurned 163 = .ok (.istore 6, 2) := by decide +kernel
theorem dX0_isTurned_165 : decode cX0_isTurned 165 = .ok (.iconst 0, 1) := by decide +kernel
theorem dX0_isTurned_166 : decode cX0_isTurned 166 = .ok (.istore 7, 2) := by decide +kernel
theorem dX0_isTurned_168 : decode cX0_isTurned 168 = .ok (.iload 7, 2) := by decide +kernel
theorem dX0_isTurned_170 : decode cX0_isTurned 170 = .ok (.iload 6, 2) := by decide +kernel
theorem dX0_isTurned_172 : decode cX0_isTurned 172 = .ok (.if_icmp .ge 42, 3) := by decide +kernel
theorem dX0_isTurned_175 : decode cX0_isTurned 175 = .ok (.aload 5, 2) := by decide +kernel
theorem dX0_isTurned_177 : decode cX0_isTurned 177 = .ok (.iload 7, 2) := by decide +kernel
theorem dX0_isTurned_179 : decode cX0_isTurned 179 = .ok (.aaload, 1) := by decide +kernel
theorem dX0_isTurned_180 : decode cX0_isTurned 180 = .ok (.astore 8, 2) := by decide +kernel
theorem dX0_isTurned_182 : decode cX0_isTurned 182 = .ok (.iconst 1, 1) := by decide +kernel
theorem dX0_isTurned_183 : decode cX0_isTurned 183 = .ok (.istore 9, 2) := by decide +kernel
theorem dX0_isTurned_185 : decode cX0_isTurned 185 = .ok (.iload 9, 2) := by decide +kernel
theorem dX0_isTurned_187 : decode cX0_isTurned 187 = .ok (.bipush 8, 2) := by decide +kernel
theorem dX0_isTurned_189 : decode cX0_isTurned 189 = .ok (.if_icmp .ge 19, 3) := by decide +kernel
theorem dX0_isTurned_192 : decode cX0_isTurned 192 = .ok (.aload 8, 2) := by decide +kernel
theorem dX0_isTurned_194 : decode cX0_isTurned 194 = .ok (.iload 9, 2) := by decide +kernel
theorem dX0_isTurned_196 : decode cX0_isTurned 196 = .ok (.baload, 1) := by decide +kernel
theorem dX0_isTurned_197 : decode cX0_isTurned 197 = .ok (.ifCond .eq 5, 3) := by decide +kernel
theorem dX0_isTurned_200 : decode cX0_isTurned 200 = .ok (.iconst 1, 1) := by decide +kernel
theorem dX0_isTurned_201 : decode cX0_isTurned 201 = .ok (.ireturn, 1) := by decide +kernel
theorem dX0_isTurned_202 : decode cX0_isTurned 202 = .ok (.iinc 9 2, 3) := by decide +kernel
theorem dX0_isTurned_205 : decode cX0_isTurned 205 = .ok (.goto (-20), 3) := by decide +kernel
theorem dX0_isTurned_208 : decode cX0_isTurned 208 = .ok (.iinc 7 1, 3) := by decide +kernel
theorem dX0_isTurned_211 : decode cX0_isTurned 211 = .ok (.goto (-43), 3) := by decide +kernel
theorem dX0_isTurned_214 : decode cX0_isTurned 214 = .ok (.aload_n 0, 1) := by decide +kernel
theorem dX0_isTurned_215 : decode cX0_isTurned 215 = .ok (.aload_n 2, 1) := by decide +kernel
theorem dX0_isTurned_216 : decode cX0_isTurned 216 = .ok (.invokevirtual 250, 3) := by decide +kernel
theorem dX0_isTurned_219 : decode cX0_isTurned 219 = .ok (.iinc 4 1, 3) := by decide +kernel
theorem dX0_isTurned_222 : decode cX0_isTurned 222 = .ok (.goto (-74), 3) := by decide +kernel
theorem dX0_isTurned_225 : decode cX0_isTurned 225 = .ok (.iconst 0, 1) := by decide +kernel
theorem dX0_isTurned_226 : decode cX0_isTurned 226 = .ok (.ireturn, 1) := by decide +kernel
theorem dX0_step_0 : decode cX0_step 0 = .ok (.aload_n 0, 1) := by decide +kernel
theorem dX0_step_1 : decode cX0_step 1 = .ok (.getfield 36, 3) := by decide +kernel
theorem dX0_step_4 : decode cX0_step 4 = .ok (.astore_n 2, 1) := by decide +kernel
theorem dX0_step_5 : decode cX0_step 5 = .ok (.aload_n 2, 1) := by decide +kernel
theorem dX0_step_6 : decode cX0_step 6 = .ok (.arraylength, 1) := by decide +kernel
theorem dX0_step_7 : decode cX0_step 7 = .ok (.istore_n 3, 1) := by decide +kernel
theorem dX0_step_8 : decode cX0_step 8 = .ok (.iconst 0, 1) := by decide +kernel
theorem dX0_step_9 : decode cX0_step 9 = .ok (.istore 4, 2) := by decide +kernel
theorem dX0_step_11 : decode cX0_step 11 = .ok (.iload 4, 2) := by decide +kernel
theorem dX0_step_13 : decode cX0_step 13 = .ok (.iload_n 3, 1) := by decide +kernel
theorem dX0_step_14 : decode cX0_step 14 = .ok (.if_icmp .ge 37, 3) := by decide +kernel
theorem dX0_step_17 : decode cX0_step 17 = .ok (.aload_n 2, 1) := by decide +kernel
theorem dX0_step_18 : decode cX0_step 18 = .ok (.iload 4, 2) := by decide +kernel
theorem dX0_step_20 : decode cX0_step 20 = .ok (.aaload, 1) := by decide +kernel
theorem dX0_step_21 : decode cX0_step 21 = .ok (.astore 5, 2) := by decide +kernel
theorem dX0_step_23 : decode cX0_step 23 = .ok (.iconst 0, 1) := by decide +kernel
theorem dX0_step_24 : decode cX0_step 24 = .ok (.istore 6, 2) := by decide +kernel
theorem dX0_step_26 : decode cX0_step 26 = .ok (.iload 6, 2) := by decide +kernel
theorem dX0_step_28 : decode cX0_step 28 = .ok (.bipush 8, 2) := by decide +kernel
theorem dX0_step_30 : decode cX0_step 30 = .ok (.if_icmp .ge 15, 3) := by decide +kernel
theorem dX0_step_33 : decode cX0_step 33 = .ok (.aload 5, 2) := by decide +kernel
theorem dX0_step_35 : decode cX0_step 35 = .ok (.iload 6, 2) := by decide +kernel
theorem dX0_step_37 : decode cX0_step 37 = .ok (.iconst 0, 1) := by decide +kernel
theorem dX0_step_38 : decode cX0_step 38 = .ok (.bastore, 1) := by decide +kernel
theorem dX0_step_39 : decode cX0_step 39 = .ok (.iinc 6 1, 3) := by decide +kernel
theorem dX0_step_42 : decode cX0_step 42 = .ok (.goto (-16), 3) := by decide +kernel
theorem dX0_step_45 : decode cX0_step 45 = .ok (.iinc 4 1, 3) := by decide +kernel
theorem dX0_step_48 : decode cX0_step 48 = .ok (.goto (-37), 3) := by decide +kernel
theorem dX0_step_51 : decode cX0_step 51 = .ok (.iconst 0, 1) := by decide +kernel
theorem dX0_step_52 : decode cX0_step 52 = .ok (.istore_n 2, 1) := by decide +kernel
theorem dX0_step_53 : decode cX0_step 53 = .ok (.iload_n 2, 1) := by decide +kernel
theorem dX0_step_54 : decode cX0_step 54 = .ok (.aload_n 0, 1) := by decide +kernel
theorem dX0_step_55 : decode cX0_step 55 = .ok (.getfield 10, 3) := by decide +kernel
theorem dX0_step_58 : decode cX0_step 58 = .ok (.invokevirtual 54, 3) := by decide +kernel
theorem dX0_step_61 : decode cX0_step 61 = .ok (.if_icmp .ge 151, 3) := by decide +kernel
theorem dX0_step_64 : decode cX0_step 64 = .ok (.iconst 0, 1) := by decide +kernel
theorem dX0_step_65 : decode cX0_step 65 = .ok (.istore_n 3, 1) := by decide +kernel
theorem dX0_step_66 : decode cX0_step 66 = .ok (.iload_n 3, 1) := by decide +kernel
theorem dX0_step_67 : decode cX0_step 67 = .ok (.bipush 8, 2) := by decide +kernel
theorem dX0_step_69 : decode cX0_step 69 = .ok (.if_icmp .ge 137, 3) := by decide +kernel
theorem dX0_step_72 : decode cX0_step 72 = .ok (.aload_n 0, 1) := by decide +kernel
theorem dX0_step_73 : decode cX0_step 73 = .ok (.getfield 33, 3) := by decide +kernel
theorem dX0_step_76 : decode cX0_step 76 = .ok (.iload_n 2, 1) := by decide +kernel
theorem dX0_step_77 : decode cX0_step 77 = .ok (.aaload, 1) := by decide +kernel
theorem dX0_step_78 : decode cX0_step 78 = .ok (.iload_n 3, 1) := by decide +kernel
theorem dX0_step_79 : decode cX0_step 79 = .ok (.baload, 1) := by decide +kernel
theorem dX0_step_80 : decode cX0_step 80 = .ok (.ifCond .ne 6, 3) := by decide +kernel
theorem dX0_step_83 : decode cX0_step 83 = .ok (.goto 117, 3) := by decide +kernel
theorem dX0_step_86 : decode cX0_step 86 = .ok (.aload_n 1, 1) := by decide +kernel
theorem dX0_step_87 : decode cX0_step 87 = .ok (.iload_n 2, 1) := by decide +kernel
theorem dX0_step_88 : decode cX0_step 88 = .ok (.invokevirtual 233, 3) := by decide +kernel
theorem dX0_step_91 : decode cX0_step 91 = .ok (.astore 4, 2) := by decide +kernel
theorem dX0_step_93 : decode cX0_step 93 = .ok (.iconst 0, 1) := by decide +kernel
theorem dX0_step_94 : decode cX0_step 94 = .ok (.istore 5, 2) := by decide +kernel
theorem dX0_step_96 : decode cX0_step 96 = .ok (.iload 5, 2) := by decide +kernel
theorem dX0_step_98 : decode cX0_step 98 = .ok (.aload_n 1, 1) := by decide +kernel
theorem dX0_step_99 : decode cX0_step 99 = .ok (.getfield 229, 3) := by decide +kernel
theorem dX0_step_102 : decode cX0_step 102 = .ok (.if_icmp .ge 98, 3) := by decide +kernel
theorem dX0_step_105 : decode cX0_step 105 = .ok (.iconst 0, 1) := by decide +kernel
theorem dX0_step_106 : decode cX0_step 106 = .ok (.istore 6, 2) := by decide +kernel
theorem dX0_step_108 : decode cX0_step 108 = .ok (.iload 6, 2) := by decide +kernel
theorem dX0_step_110 : decode cX0_step 110 = .ok (.aload_n 1, 1) := by decide +kernel
theorem dX0_step_111 : decode cX0_step 111 = .ok (.getfield 231, 3) := by decide +kernel
theorem dX0_step_114 : decode cX0_step 114 = .ok (.if_icmp .ge 80, 3) := by decide +kernel
theorem dX0_step_117 : decode cX0_step 117 = .ok (.aload 4, 2) := by decide +kernel
theorem dX0_step_119 : decode cX0_step 119 = .ok (.getfield 207, 3) := by decide +kernel
theorem dX0_step_122 : decode cX0_step 122 = .ok (.iload 5, 2) := by decide +kernel
theorem dX0_step_124 : decode cX0_step 124 = .ok (.aaload, 1) := by decide +kernel
theorem dX0_step_125 : decode cX0_step 125 = .ok (.iload 6, 2) := by decide +kernel
theorem dX0_step_127 : decode cX0_step 127 = .ok (.baload, 1) := by decide +kernel
theorem dX0_step_128 : decode cX0_step 128 = .ok (.ifCond .lt 60, 3) := by decide +kernel
theorem dX0_step_131 : decode cX0_step 131 = .ok (.aload_n 0, 1) := by decide +kernel
theorem dX0_step_132 : decode cX0_step 132 = .ok (.getfield 36, 3) := by decide +kernel
theorem dX0_step_135 : decode cX0_step 135 = .ok (.aload 4, 2) := by decide +kernel
theorem dX0_step_137 : decode cX0_step 137 = .ok (.getfield 207, 3) := by decide +kernel
theorem dX0_step_140 : decode cX0_step 140 = .ok (.iload 5, 2) := by decide +kernel
theorem dX0_step_142 : decode cX0_step 142 = .ok (.aaload, 1) := by decide +kernel
theorem dX0_step_143 : decode cX0_step 143 = .ok (.iload 6, 2) := by decide +kernel
theorem dX0_step_145 : decode cX0_step 145 = .ok (.baload, 1) := by decide +kernel
theorem dX0_step_146 : decode cX0_step 146 = .ok (.aaload, 1) := by decide +kernel
theorem dX0_step_147 : decode cX0_step 147 = .ok (.aload_n 0, 1) := by decide +kernel
theorem dX0_step_148 : decode cX0_step 148 = .ok (.getfield 10, 3) := by decide +kernel
theorem dX0_step_151 : decode cX0_step 151 = .ok (.aload 4, 2) := by decide +kernel
theorem dX0_step_153 : decode cX0_step 153 = .ok (.getfield 207, 3) := by decide +kernel
theorem dX0_step_156 : decode cX0_step 156 = .ok (.iload 5, 2) := by decide +kernel
theorem dX0_step_158 : decode cX0_step 158 = .ok (.aaload, 1) := by decide +kernel
theorem dX0_step_159 : decode cX0_step 159 = .ok (.iload 6, 2) := by decide +kernel
theorem dX0_step_161 : decode cX0_step 161 = .ok (.baload, 1) := by decide +kernel
theorem dX0_step_162 : decode cX0_step 162 = .ok (.invokevirtual 58, 3) := by decide +kernel
theorem dX0_step_165 : decode cX0_step 165 = .ok (.checkcast 80, 3) := by decide +kernel
theorem dX0_step_168 : decode cX0_step 168 = .ok (.aload 4, 2) := by decide +kernel
theorem dX0_step_170 : decode cX0_step 170 = .ok (.getfield 210, 3) := by decide +kernel
theorem dX0_step_173 : decode cX0_step 173 = .ok (.iload 5, 2) := by decide +kernel
theorem dX0_step_175 : decode cX0_step 175 = .ok (.aaload, 1) := by decide +kernel
theorem dX0_step_176 : decode cX0_step 176 = .ok (.iload 6, 2) := by decide +kernel
theorem dX0_step_178 : decode cX0_step 178 = .ok (.baload, 1) := by decide +kernel
theorem dX0_step_179 : decode cX0_step 179 = .ok (.iload_n 3, 1) := by decide +kernel
theorem dX0_step_180 : decode cX0_step 180 = .ok (.invokestatic 117, 3) := by decide +kernel
theorem dX0_step_183 : decode cX0_step 183 = .ok (.invokevirtual 109, 3) := by decide +kernel
theorem dX0_step_186 : decode cX0_step 186 = .ok (.iconst 1, 1) := by decide +kernel
theorem dX0_step_187 : decode cX0_step 187 = .ok (.bastore, 1) := by decide +kernel
theorem dX0_step_188 : decode cX0_step 188 = .ok (.iinc 6 1, 3) := by decide +kernel
theorem dX0_step_191 : decode cX0_step 191 = .ok (.goto (-83), 3) := by decide +kernel
theorem dX0_step_194 : decode cX0_step 194 = .ok (.iinc 5 1, 3) := by decide +kernel
theorem dX0_step_197 : decode cX0_step 197 = .ok (.goto (-101), 3) := by decide +kernel
theorem dX0_step_200 : decode cX0_step 200 = .ok (.iinc 3 1, 3) := by decide +kernel
theorem dX0_step_203 : decode cX0_step 203 = .ok (.goto (-137), 3) := by decide +kernel
theorem dX0_step_206 : decode cX0_step 206 = .ok (.iinc 2 1, 3) := by decide +kernel
theorem dX0_step_209 : decode cX0_step 209 = .ok (.goto (-156), 3) := by decide +kernel
theorem dX0_step_212 : decode cX0_step 212 = .ok (.iconst 0, 1) := by decide +kernel
theorem dX0_step_213 : decode cX0_step 213 = .ok (.istore_n 2, 1) := by decide +kernel
theorem dX0_step_214 : decode cX0_step 214 = .ok (.iload_n 2, 1) := by decide +kernel
theorem dX0_step_215 : decode cX0_step 215 = .ok (.bipush 40, 2) := by decide +kernel
theorem dX0_step_217 : decode cX0_step 217 = .ok (.if_icmp .ge 28, 3) := by decide +kernel
theorem dX0_step_220 : decode cX0_step 220 = .ok (.aload_n 0, 1) := by decide +kernel
theorem dX0_step_221 : decode cX0_step 221 = .ok (.getfield 36, 3) := by decide +kernel
theorem dX0_step_224 : decode cX0_step 224 = .ok (.iload_n 2, 1) := by decide +kernel
theorem dX0_step_225 : decode cX0_step 225 = .ok (.aaload, 1) := by decide +kernel
theorem dX0_step_226 : decode cX0_step 226 = .ok (.iconst 0, 1) := by decide +kernel
theorem dX0_step_227 : decode cX0_step 227 = .ok (.aload_n 0, 1) := by decide +kernel
theorem dX0_step_228 : decode cX0_step 228 = .ok (.getfield 33, 3) := by decide +kernel
theorem dX0_step_231 : decode cX0_step 231 = .ok (.iload_n 2, 1) := by decide +kernel
theorem dX0_step_232 : decode cX0_step 232 = .ok (.aaload, 1) := by decide +kernel
theorem dX0_step_233 : decode cX0_step 233 = .ok (.iconst 0, 1) := by decide +kernel
theorem dX0_step_234 : decode cX0_step 234 = .ok (.bipush 8, 2) := by decide +kernel
theorem dX0_step_236 : decode cX0_step 236 = .ok (.invokestatic 126, 3) := by decide +kernel
theorem dX0_step_239 : decode cX0_step 239 = .ok (.iinc 2 1, 3) := by decide +kernel
theorem dX0_step_242 : decode cX0_step 242 = .ok (.goto (-28), 3) := by decide +kernel
theorem dX0_step_245 : decode cX0_step 245 = .ok (.return_, 1) := by decide +kernel
theorem dX0_grown_0 : decode cX0_grown 0 = .ok (.new 7, 3) := by decide +kernel
theorem dX0_grown_3 : decode cX0_grown 3 = .ok (.dup, 1) := by decide +kernel
theorem dX0_grown_4 : decode cX0_grown 4 = .ok (.aload_n 1, 1) := by decide +kernel
theorem dX0_grown_5 : decode cX0_grown 5 = .ok (.invokevirtual 54, 3) := by decide +kernel
theorem dX0_grown_8 : decode cX0_grown 8 = .ok (.aload_n 2, 1) := by decide +kernel
theorem dX0_grown_9 : decode cX0_grown 9 = .ok (.getfield 229, 3) := by decide +kernel
theorem dX0_grown_12 : decode cX0_grown 12 = .ok (.imul, 1) := by decide +kernel
theorem dX0_grown_13 : decode cX0_grown 13 = .ok (.invokespecial 254, 3) := by decide +kernel
theorem dX0_grown_16 : decode cX0_grown 16 = .ok (.astore_n 3, 1) := by decide +kernel
theorem dX0_grown_17 : decode cX0_grown 17 = .ok (.iconst 0, 1) := by decide +kernel
theorem dX0_grown_18 : decode cX0_grown 18 = .ok (.istore 4, 2) := by decide +kernel
theorem dX0_grown_20 : decode cX0_grown 20 = .ok (.iload 4, 2) := by decide +kernel
theorem dX0_grown_22 : decode cX0_grown 22 = .ok (.aload_n 1, 1) := by decide +kernel
theorem dX0_grown_23 : decode cX0_grown 23 = .ok (.invokevirtual 54, 3) := by decide +kernel
theorem dX0_grown_26 : decode cX0_grown 26 = .ok (.if_icmp .ge 126, 3) := by decide +kernel
theorem dX0_grown_29 : decode cX0_grown 29 = .ok (.aload_n 1, 1) := by decide +kernel
theorem dX0_grown_30 : decode cX0_grown 30 = .ok (.iload 4, 2) := by decide +kernel
theorem dX0_grown_32 : decode cX0_grown 32 = .ok (.invokevirtual 58, 3) := by decide +kernel
theorem dX0_grown_35 : decode cX0_grown 35 = .ok (.checkcast 138, 3) := by decide +kernel
theorem dX0_grown_38 : decode cX0_grown 38 = .ok (.astore 5, 2) := by decide +kernel
theorem dX0_grown_40 : decode cX0_grown 40 = .ok (.iconst 0, 1) := by decide +kernel
theorem dX0_grown_41 : decode cX0_grown 41 = .ok (.istore 6, 2) := by decide +kernel
theorem dX0_grown_43 : decode cX0_grown 43 = .ok (.iload 6, 2) := by decide +kernel
theorem dX0_grown_45 : decode cX0_grown 45 = .ok (.aload_n 2, 1) := by decide +kernel
theorem dX0_grown_46 : decode cX0_grown 46 = .ok (.getfield 229, 3) := by decide +kernel
theorem dX0_grown_49 : decode cX0_grown 49 = .ok (.if_icmp .ge 97, 3) := by decide +kernel
theorem dX0_grown_52 : decode cX0_grown 52 = .ok (.new 138, 3) := by decide +kernel
theorem dX0_grown_55 : decode cX0_grown 55 = .ok (.dup, 1) := by decide +kernel
theorem dX0_grown_56 : decode cX0_grown 56 = .ok (.aload 5, 2) := by decide +kernel
theorem dX0_grown_58 : decode cX0_grown 58 = .ok (.getfield 187, 3) := by decide +kernel
theorem dX0_grown_61 : decode cX0_grown 61 = .ok (.arraylength, 1) := by decide +kernel
theorem dX0_grown_62 : decode cX0_grown 62 = .ok (.aload_n 2, 1) := by decide +kernel
theorem dX0_grown_63 : decode cX0_grown 63 = .ok (.getfield 231, 3) := by decide +kernel
theorem dX0_grown_66 : decode cX0_grown 66 = .ok (.imul, 1) := by decide +kernel
theorem dX0_grown_67 : decode cX0_grown 67 = .ok (.aload 5, 2) := by decide +kernel
theorem dX0_grown_69 : decode cX0_grown 69 = .ok (.getfield 181, 3) := by decide +kernel
theorem dX0_grown_72 : decode cX0_grown 72 = .ok (.aload_n 2, 1) := by decide +kernel
theorem dX0_grown_73 : decode cX0_grown 73 = .ok (.getfield 231, 3) := by decide +kernel
theorem dX0_grown_76 : decode cX0_grown 76 = .ok (.imul, 1) := by decide +kernel
theorem dX0_grown_77 : decode cX0_grown 77 = .ok (.invokespecial 160, 3) := by decide +kernel
theorem dX0_grown_80 : decode cX0_grown 80 = .ok (.astore 7, 2) := by decide +kernel
theorem dX0_grown_82 : decode cX0_grown 82 = .ok (.aload_n 3, 1) := by decide +kernel
theorem dX0_grown_83 : decode cX0_grown 83 = .ok (.aload 7, 2) := by decide +kernel
theorem dX0_grown_85 : decode cX0_grown 85 = .ok (.invokevirtual 98, 3) := by decide +kernel
theorem dX0_grown_88 : decode cX0_grown 88 = .ok (.pop, 1) := by decide +kernel
theorem dX0_grown_89 : decode cX0_grown 89 = .ok (.iconst 0, 1) := by decide +kernel
theorem dX0_grown_90 : decode cX0_grown 90 = .ok (.istore 8, 2) := by decide +kernel
theorem dX0_grown_92 : decode cX0_grown 92 = .ok (.iload 8, 2) := by decide +kernel
theorem dX0_grown_94 : decode cX0_grown 94 = .ok (.aload 5, 2) := by decide +kernel
theorem dX0_grown_96 : decode cX0_grown 96 = .ok (.getfield 187, 3) := by decide +kernel
theorem dX0_grown_99 : decode cX0_grown 99 = .ok (.arraylength, 1) := by decide +kernel
theorem dX0_grown_100 : decode cX0_grown 100 = .ok (.if_icmp .ge 40, 3) := by decide +kernel
theorem dX0_grown_103 : decode cX0_grown 103 = .ok (.aload 5, 2) := by decide +kernel
theorem dX0_grown_105 : decode cX0_grown 105 = .ok (.getfield 187, 3) := by decide +kernel
theorem dX0_grown_108 : decode cX0_grown 108 = .ok (.iload 8, 2) := by decide +kernel
theorem dX0_grown_110 : decode cX0_grown 110 = .ok (.baload, 1) := by decide +kernel
theorem dX0_grown_111 : decode cX0_grown 111 = .ok (.ifCond .lt 23, 3) := by decide +kernel
theorem dX0_grown_114 : decode cX0_grown 114 = .ok (.aload_n 0, 1) := by decide +kernel
theorem dX0_grown_115 : decode cX0_grown 115 = .ok (.aload 7, 2) := by decide +kernel
theorem dX0_grown_117 : decode cX0_grown 117 = .ok (.iload 8, 2) := by decide +kernel
theorem dX0_grown_119 : decode cX0_grown 119 = .ok (.aload_n 2, 1) := by decide +kernel
theorem dX0_grown_120 : decode cX0_grown 120 = .ok (.getfield 231, 3) := by decide +kernel
theorem dX0_grown_123 : decode cX0_grown 123 = .ok (.imul, 1) := by decide +kernel
theorem dX0_grown_124 : decode cX0_grown 124 = .ok (.aload_n 2, 1) := by decide +kernel
theorem dX0_grown_125 : decode cX0_grown 125 = .ok (.aload 5, 2) := by decide +kernel
theorem dX0_grown_127 : decode cX0_grown 127 = .ok (.iload 8, 2) := by decide +kernel
theorem dX0_grown_129 : decode cX0_grown 129 = .ok (.iload 6, 2) := by decide +kernel
theorem dX0_grown_131 : decode cX0_grown 131 = .ok (.invokevirtual 257, 3) := by decide +kernel
theorem dX0_grown_134 : decode cX0_grown 134 = .ok (.iinc 8 1, 3) := by decide +kernel
theorem dX0_grown_137 : decode cX0_grown 137 = .ok (.goto (-45), 3) := by decide +kernel
theorem dX0_grown_140 : decode cX0_grown 140 = .ok (.iinc 6 1, 3) := by decide +kernel
theorem dX0_grown_143 : decode cX0_grown 143 = .ok (.goto (-100), 3) := by decide +kernel
theorem dX0_grown_146 : decode cX0_grown 146 = .ok (.iinc 4 1, 3) := by decide +kernel
theorem dX0_grown_149 : decode cX0_grown 149 = .ok (.goto (-129), 3) := by decide +kernel
theorem dX0_grown_152 : decode cX0_grown 152 = .ok (.aload_n 3, 1) := by decide +kernel
theorem dX0_grown_153 : decode cX0_grown 153 = .ok (.areturn, 1) := by decide +kernel
theorem dX0_lay_0 : decode cX0_lay 0 = .ok (.aload 4, 2) := by decide +kernel
theorem dX0_lay_2 : decode cX0_lay 2 = .ok (.getfield 194, 3) := by decide +kernel
theorem dX0_lay_5 : decode cX0_lay 5 = .ok (.iload 5, 2) := by decide +kernel
theorem dX0_lay_7 : decode cX0_lay 7 = .ok (.baload, 1) := by decide +kernel
theorem dX0_lay_8 : decode cX0_lay 8 = .ok (.istore 7, 2) := by decide +kernel
theorem dX0_lay_10 : decode cX0_lay 10 = .ok (.aload_n 3, 1) := by decide +kernel
theorem dX0_lay_11 : decode cX0_lay 11 = .ok (.aload 4, 2) := by decide +kernel
theorem dX0_lay_13 : decode cX0_lay 13 = .ok (.getfield 187, 3) := by decide +kernel
theorem dX0_lay_16 : decode cX0_lay 16 = .ok (.iload 5, 2) := by decide +kernel
theorem dX0_lay_18 : decode cX0_lay 18 = .ok (.baload, 1) := by decide +kernel
theorem dX0_lay_19 : decode cX0_lay 19 = .ok (.invokevirtual 233, 3) := by decide +kernel
theorem dX0_lay_22 : decode cX0_lay 22 = .ok (.astore 8, 2) := by decide +kernel
theorem dX0_lay_24 : decode cX0_lay 24 = .ok (.iconst 0, 1) := by decide +kernel
theorem dX0_lay_25 : decode cX0_lay 25 = .ok (.istore 9, 2) := by decide +kernel
theorem dX0_lay_27 : decode cX0_lay 27 = .ok (.iload 9, 2) := by decide +kernel
theorem dX0_lay_29 : decode cX0_lay 29 = .ok (.aload_n 3, 1) := by decide +kernel
theorem dX0_lay_30 : decode cX0_lay 30 = .ok (.getfield 231, 3) := by decide +kernel
theorem dX0_lay_33 : decode cX0_lay 33 = .ok (.if_icmp .ge 119, 3) := by decide +kernel
theorem dX0_lay_36 : decode cX0_lay 36 = .ok (.iload 7, 2) := by decide +kernel
theorem dX0_lay_38 : decode cX0_lay 38 = .ok (.aload_n 3, 1) := by decide +kernel
theorem dX0_lay_39 : decode cX0_lay 39 = .ok (.getfield 229, 3) := by decide +kernel
theorem dX0_lay_42 : decode cX0_lay 42 = .ok (.iload 6, 2) := by decide +kernel
theorem dX0_lay_44 : decode cX0_lay 44 = .ok (.iload 9, 2) := by decide +kernel
theorem dX0_lay_46 : decode cX0_lay 46 = .ok (.invokestatic 261, 3) := by decide +kernel
theorem dX0_lay_49 : decode cX0_lay 49 = .ok (.istore 10, 2) := by decide +kernel
theorem dX0_lay_51 : decode cX0_lay 51 = .ok (.iload 7, 2) := by decide +kernel
theorem dX0_lay_53 : decode cX0_lay 53 = .ok (.aload_n 3, 1) := by decide +kernel
theorem dX0_lay_54 : decode cX0_lay 54 = .ok (.getfield 231, 3) := by decide +kernel
theorem dX0_lay_57 : decode cX0_lay 57 = .ok (.iload 6, 2) := by decide +kernel
theorem dX0_lay_59 : decode cX0_lay 59 = .ok (.iload 9, 2) := by decide +kernel
theorem dX0_lay_61 : decode cX0_lay 61 = .ok (.invokestatic 264, 3) := by decide +kernel
theorem dX0_lay_64 : decode cX0_lay 64 = .ok (.istore 11, 2) := by decide +kernel
theorem dX0_lay_66 : decode cX0_lay 66 = .ok (.aload 8, 2) := by decide +kernel
theorem dX0_lay_68 : decode cX0_lay 68 = .ok (.getfield 207, 3) := by decide +kernel
theorem dX0_lay_71 : decode cX0_lay 71 = .ok (.iload 10, 2) := by decide +kernel
theorem dX0_lay_73 : decode cX0_lay 73 = .ok (.aaload, 1) := by decide +kernel
theorem dX0_lay_74 : decode cX0_lay 74 = .ok (.iload 11, 2) := by decide +kernel
theorem dX0_lay_76 : decode cX0_lay 76 = .ok (.baload, 1) := by decide +kernel
theorem dX0_lay_77 : decode cX0_lay 77 = .ok (.istore 12, 2) := by decide +kernel
theorem dX0_lay_79 : decode cX0_lay 79 = .ok (.aload_n 1, 1) := by decide +kernel
theorem dX0_lay_80 : decode cX0_lay 80 = .ok (.iload_n 2, 1) := by decide +kernel
theorem dX0_lay_81 : decode cX0_lay 81 = .ok (.iload 9, 2) := by decide +kernel
theorem dX0_lay_83 : decode cX0_lay 83 = .ok (.iadd, 1) := by decide +kernel
theorem dX0_lay_84 : decode cX0_lay 84 = .ok (.iload 12, 2) := by decide +kernel
theorem dX0_lay_86 : decode cX0_lay 86 = .ok (.iload 12, 2) := by decide +kernel
theorem dX0_lay_88 : decode cX0_lay 88 = .ok (.ifCond .ge 7, 3) := by decide +kernel
theorem dX0_lay_91 : decode cX0_lay 91 = .ok (.iconst 0, 1) := by decide +kernel
theorem dX0_lay_92 : decode cX0_lay 92 = .ok (.goto 34, 3) := by decide +kernel
theorem dX0_lay_95 : decode cX0_lay 95 = .ok (.aload_n 0, 1) := by decide +kernel
theorem dX0_lay_96 : decode cX0_lay 96 = .ok (.getfield 10, 3) := by decide +kernel
theorem dX0_lay_99 : decode cX0_lay 99 = .ok (.iload 12, 2) := by decide +kernel
theorem dX0_lay_101 : decode cX0_lay 101 = .ok (.invokevirtual 58, 3) := by decide +kernel
theorem dX0_lay_104 : decode cX0_lay 104 = .ok (.checkcast 80, 3) := by decide +kernel
theorem dX0_lay_107 : decode cX0_lay 107 = .ok (.aload 8, 2) := by decide +kernel
theorem dX0_lay_109 : decode cX0_lay 109 = .ok (.getfield 210, 3) := by decide +kernel
theorem dX0_lay_112 : decode cX0_lay 112 = .ok (.iload 10, 2) := by decide +kernel
theorem dX0_lay_114 : decode cX0_lay 114 = .ok (.aaload, 1) := by decide +kernel
theorem dX0_lay_115 : decode cX0_lay 115 = .ok (.iload 11, 2) := by decide +kernel
theorem dX0_lay_117 : decode cX0_lay 117 = .ok (.baload, 1) := by decide +kernel
theorem dX0_lay_118 : decode cX0_lay 118 = .ok (.iload 7, 2) := by decide +kernel
theorem dX0_lay_120 : decode cX0_lay 120 = .ok (.invokestatic 117, 3) := by decide +kernel
theorem dX0_lay_123 : decode cX0_lay 123 = .ok (.invokevirtual 109, 3) := by decide +kernel
theorem dX0_lay_126 : decode cX0_lay 126 = .ok (.iload 12, 2) := by decide +kernel
theorem dX0_lay_128 : decode cX0_lay 128 = .ok (.ifCond .ge 7, 3) := by decide +kernel
theorem dX0_lay_131 : decode cX0_lay 131 = .ok (.iconst 0, 1) := by decide +kernel
theorem dX0_lay_132 : decode cX0_lay 132 = .ok (.goto 11, 3) := by decide +kernel
theorem dX0_lay_135 : decode cX0_lay 135 = .ok (.aload 4, 2) := by decide +kernel
theorem dX0_lay_137 : decode cX0_lay 137 = .ok (.getfield 190, 3) := by decide +kernel
theorem dX0_lay_140 : decode cX0_lay 140 = .ok (.iload 5, 2) := by decide +kernel
theorem dX0_lay_142 : decode cX0_lay 142 = .ok (.saload, 1) := by decide +kernel
theorem dX0_lay_143 : decode cX0_lay 143 = .ok (.invokevirtual 184, 3) := by decide +kernel
theorem dX0_lay_146 : decode cX0_lay 146 = .ok (.iinc 9 1, 3) := by decide +kernel
theorem dX0_lay_149 : decode cX0_lay 149 = .ok (.goto (-122), 3) := by decide +kernel
theorem dX0_lay_152 : decode cX0_lay 152 = .ok (.return_, 1) := by decide +kernel
theorem dX0_foretold_0 : decode cX0_foretold 0 = .ok (.aload_n 0, 1) := by decide +kernel
theorem dX0_foretold_1 : decode cX0_foretold 1 = .ok (.iload_n 1, 1) := by decide +kernel
theorem dX0_foretold_2 : decode cX0_foretold 2 = .ok (.invokevirtual 225, 3) := by decide +kernel
theorem dX0_foretold_5 : decode cX0_foretold 5 = .ok (.astore 5, 2) := by decide +kernel
theorem dX0_foretold_7 : decode cX0_foretold 7 = .ok (.aload 5, 2) := by decide +kernel
theorem dX0_foretold_9 : decode cX0_foretold 9 = .ok (.ifnull 30, 3) := by decide +kernel
theorem dX0_foretold_12 : decode cX0_foretold 12 = .ok (.aload_n 0, 1) := by decide +kernel
theorem dX0_foretold_13 : decode cX0_foretold 13 = .ok (.iload_n 2, 1) := by decide +kernel
theorem dX0_foretold_14 : decode cX0_foretold 14 = .ok (.invokevirtual 102, 3) := by decide +kernel
theorem dX0_foretold_17 : decode cX0_foretold 17 = .ok (.ifCond .eq 22, 3) := by decide +kernel
theorem dX0_foretold_20 : decode cX0_foretold 20 = .ok (.aload_n 0, 1) := by decide +kernel
theorem dX0_foretold_21 : decode cX0_foretold 21 = .ok (.iload 4, 2) := by decide +kernel
theorem dX0_foretold_23 : decode cX0_foretold 23 = .ok (.invokevirtual 102, 3) := by decide +kernel
theorem dX0_foretold_26 : decode cX0_foretold 26 = .ok (.ifCond .eq 13, 3) := by decide +kernel
theorem dX0_foretold_29 : decode cX0_foretold 29 = .ok (.iload_n 3, 1) := by decide +kernel
theorem dX0_foretold_30 : decode cX0_foretold 30 = .ok (.ifCond .lt 9, 3) := by decide +kernel
theorem dX0_foretold_33 : decode cX0_foretold 33 = .ok (.iload_n 3, 1) := by decide +kernel
theorem dX0_foretold_34 : decode cX0_foretold 34 = .ok (.bipush 60, 2) := by decide +kernel
theorem dX0_foretold_36 : decode cX0_foretold 36 = .ok (.if_icmp .le 7, 3) := by decide +kernel
theorem dX0_foretold_39 : decode cX0_foretold 39 = .ok (.ldc2_w 74, 3) := by decide +kernel
theorem dX0_foretold_42 : decode cX0_foretold 42 = .ok (.lreturn, 1) := by decide +kernel
theorem dX0_foretold_43 : decode cX0_foretold 43 = .ok (.aload_n 0, 1) := by decide +kernel
theorem dX0_foretold_44 : decode cX0_foretold 44 = .ok (.aload 5, 2) := by decide +kernel
theorem dX0_foretold_46 : decode cX0_foretold 46 = .ok (.invokevirtual 288, 3) := by decide +kernel
theorem dX0_foretold_49 : decode cX0_foretold 49 = .ok (.aload_n 0, 1) := by decide +kernel
theorem dX0_foretold_50 : decode cX0_foretold 50 = .ok (.iload_n 3, 1) := by decide +kernel
theorem dX0_foretold_51 : decode cX0_foretold 51 = .ok (.iload 4, 2) := by decide +kernel
theorem dX0_foretold_53 : decode cX0_foretold 53 = .ok (.invokevirtual 291, 3) := by decide +kernel
theorem dX0_foretold_56 : decode cX0_foretold 56 = .ok (.iconst 0, 1) := by decide +kernel
theorem dX0_foretold_57 : decode cX0_foretold 57 = .ok (.istore 6, 2) := by decide +kernel
theorem dX0_foretold_59 : decode cX0_foretold 59 = .ok (.iload 6, 2) := by decide +kernel
theorem dX0_foretold_61 : decode cX0_foretold 61 = .ok (.bipush 40, 2) := by decide +kernel
theorem dX0_foretold_63 : decode cX0_foretold 63 = .ok (.if_icmp .ge 27, 3) := by decide +kernel
theorem dX0_foretold_66 : decode cX0_foretold 66 = .ok (.aload_n 0, 1) := by decide +kernel
theorem dX0_foretold_67 : decode cX0_foretold 67 = .ok (.getfield 47, 3) := by decide +kernel
theorem dX0_foretold_70 : decode cX0_foretold 70 = .ok (.iload 6, 2) := by decide +kernel
theorem dX0_foretold_72 : decode cX0_foretold 72 = .ok (.iload 6, 2) := by decide +kernel
theorem dX0_foretold_74 : decode cX0_foretold 74 = .ok (.iload_n 2, 1) := by decide +kernel
theorem dX0_foretold_75 : decode cX0_foretold 75 = .ok (.if_icmp .ne 7, 3) := by decide +kernel
theorem dX0_foretold_78 : decode cX0_foretold 78 = .ok (.lconst 1, 1) := by decide +kernel
theorem dX0_foretold_79 : decode cX0_foretold 79 = .ok (.goto 4, 3) := by decide +kernel
theorem dX0_foretold_82 : decode cX0_foretold 82 = .ok (.lconst 0, 1) := by decide +kernel
theorem dX0_foretold_83 : decode cX0_foretold 83 = .ok (.lastore, 1) := by decide +kernel
theorem dX0_foretold_84 : decode cX0_foretold 84 = .ok (.iinc 6 1, 3) := by decide +kernel
theorem dX0_foretold_87 : decode cX0_foretold 87 = .ok (.goto (-28), 3) := by decide +kernel
theorem dX0_foretold_90 : decode cX0_foretold 90 = .ok (.iconst 0, 1) := by decide +kernel
theorem dX0_foretold_91 : decode cX0_foretold 91 = .ok (.istore 6, 2) := by decide +kernel
theorem dX0_foretold_93 : decode cX0_foretold 93 = .ok (.iload 6, 2) := by decide +kernel
theorem dX0_foretold_95 : decode cX0_foretold 95 = .ok (.iload_n 3, 1) := by decide +kernel
theorem dX0_foretold_96 : decode cX0_foretold 96 = .ok (.if_icmp .gt 63, 3) := by decide +kernel
theorem dX0_foretold_99 : decode cX0_foretold 99 = .ok (.iconst 0, 1) := by decide +kernel
theorem dX0_foretold_100 : decode cX0_foretold 100 = .ok (.istore 7, 2) := by decide +kernel
theorem dX0_foretold_102 : decode cX0_foretold 102 = .ok (.iload 7, 2) := by decide +kernel
theorem dX0_foretold_104 : decode cX0_foretold 104 = .ok (.aload_n 0, 1) := by decide +kernel
theorem dX0_foretold_105 : decode cX0_foretold 105 = .ok (.getfield 10, 3) := by decide +kernel
theorem dX0_foretold_108 : decode cX0_foretold 108 = .ok (.invokevirtual 54, 3) := by decide +kernel
theorem dX0_foretold_111 : decode cX0_foretold 111 = .ok (.if_icmp .ge 30, 3) := by decide +kernel
theorem dX0_foretold_114 : decode cX0_foretold 114 = .ok (.aload_n 0, 1) := by decide +kernel
theorem dX0_foretold_115 : decode cX0_foretold 115 = .ok (.getfield 44, 3) := by decide +kernel
theorem dX0_foretold_118 : decode cX0_foretold 118 = .ok (.iload 6, 2) := by decide +kernel
theorem dX0_foretold_120 : decode cX0_foretold 120 = .ok (.aaload, 1) := by decide +kernel
theorem dX0_foretold_121 : decode cX0_foretold 121 = .ok (.iload 7, 2) := by decide +kernel
theorem dX0_foretold_123 : decode cX0_foretold 123 = .ok (.baload, 1) := by decide +kernel
theorem dX0_foretold_124 : decode cX0_foretold 124 = .ok (.ifCond .ne 11, 3) := by decide +kernel
theorem dX0_foretold_127 : decode cX0_foretold 127 = .ok (.aload_n 0, 1) := by decide +kernel
theorem dX0_foretold_128 : decode cX0_foretold 128 = .ok (.getfield 47, 3) := by decide +kernel
theorem dX0_foretold_131 : decode cX0_foretold 131 = .ok (.iload 7, 2) := by decide +kernel
theorem dX0_foretold_133 : decode cX0_foretold 133 = .ok (.lconst 0, 1) := by decide +kernel
theorem dX0_foretold_134 : decode cX0_foretold 134 = .ok (.lastore, 1) := by decide +kernel
theorem dX0_foretold_135 : decode cX0_foretold 135 = .ok (.iinc 7 1, 3) := by decide +kernel
theorem dX0_foretold_138 : decode cX0_foretold 138 = .ok (.goto (-36), 3) := by decide +kernel
theorem dX0_foretold_141 : decode cX0_foretold 141 = .ok (.iload 6, 2) := by decide +kernel
theorem dX0_foretold_143 : decode cX0_foretold 143 = .ok (.iload_n 3, 1) := by decide +kernel
theorem dX0_foretold_144 : decode cX0_foretold 144 = .ok (.if_icmp .ge 9, 3) := by decide +kernel
theorem dX0_foretold_147 : decode cX0_foretold 147 = .ok (.aload_n 0, 1) := by decide +kernel
theorem dX0_foretold_148 : decode cX0_foretold 148 = .ok (.iload 6, 2) := by decide +kernel
theorem dX0_foretold_150 : decode cX0_foretold 150 = .ok (.invokevirtual 294, 3) := by decide +kernel
theorem dX0_foretold_153 : decode cX0_foretold 153 = .ok (.iinc 6 1, 3) := by decide +kernel
theorem dX0_foretold_156 : decode cX0_foretold 156 = .ok (.goto (-63), 3) := by decide +kernel
theorem dX0_foretold_159 : decode cX0_foretold 159 = .ok (.goto 9, 3) := by decide +kernel
theorem dX0_foretold_162 : decode cX0_foretold 162 = .ok (.astore 6, 2) := by decide +kernel
theorem dX0_foretold_164 : decode cX0_foretold 164 = .ok (.ldc2_w 297, 3) := by decide +kernel
theorem dX0_foretold_167 : decode cX0_foretold 167 = .ok (.lreturn, 1) := by decide +kernel
theorem dX0_foretold_168 : decode cX0_foretold 168 = .ok (.aload_n 0, 1) := by decide +kernel
theorem dX0_foretold_169 : decode cX0_foretold 169 = .ok (.getfield 47, 3) := by decide +kernel
theorem dX0_foretold_172 : decode cX0_foretold 172 = .ok (.iload 4, 2) := by decide +kernel
theorem dX0_foretold_174 : decode cX0_foretold 174 = .ok (.laload, 1) := by decide +kernel
theorem dX0_foretold_175 : decode cX0_foretold 175 = .ok (.lreturn, 1) := by decide +kernel
theorem dX0_fillMatrix_0 : decode cX0_fillMatrix 0 = .ok (.iconst 0, 1) := by decide +kernel
theorem dX0_fillMatrix_1 : decode cX0_fillMatrix 1 = .ok (.istore_n 2, 1) := by decide +kernel
theorem dX0_fillMatrix_2 : decode cX0_fillMatrix 2 = .ok (.iload_n 2, 1) := by decide +kernel
theorem dX0_fillMatrix_3 : decode cX0_fillMatrix 3 = .ok (.aload_n 0, 1) := by decide +kernel
theorem dX0_fillMatrix_4 : decode cX0_fillMatrix 4 = .ok (.getfield 10, 3) := by decide +kernel
theorem dX0_fillMatrix_7 : decode cX0_fillMatrix 7 = .ok (.invokevirtual 54, 3) := by decide +kernel
theorem dX0_fillMatrix_10 : decode cX0_fillMatrix 10 = .ok (.if_icmp .ge 122, 3) := by decide +kernel
theorem dX0_fillMatrix_13 : decode cX0_fillMatrix 13 = .ok (.iconst 0, 1) := by decide +kernel
theorem dX0_fillMatrix_14 : decode cX0_fillMatrix 14 = .ok (.istore_n 3, 1) := by decide +kernel
theorem dX0_fillMatrix_15 : decode cX0_fillMatrix 15 = .ok (.iload_n 3, 1) := by decide +kernel
theorem dX0_fillMatrix_16 : decode cX0_fillMatrix 16 = .ok (.bipush 40, 2) := by decide +kernel
theorem dX0_fillMatrix_18 : decode cX0_fillMatrix 18 = .ok (.if_icmp .ge 18, 3) := by decide +kernel
theorem dX0_fillMatrix_21 : decode cX0_fillMatrix 21 = .ok (.aload_n 0, 1) := by decide +kernel
theorem dX0_fillMatrix_22 : decode cX0_fillMatrix 22 = .ok (.getfield 41, 3) := by decide +kernel
theorem dX0_fillMatrix_25 : decode cX0_fillMatrix 25 = .ok (.iload_n 2, 1) := by decide +kernel
theorem dX0_fillMatrix_26 : decode cX0_fillMatrix 26 = .ok (.aaload, 1) := by decide +kernel
theorem dX0_fillMatrix_27 : decode cX0_fillMatrix 27 = .ok (.iload_n 3, 1) := by decide +kernel
theorem dX0_fillMatrix_28 : decode cX0_fillMatrix 28 = .ok (.lconst 0, 1) := by decide +kernel
theorem dX0_fillMatrix_29 : decode cX0_fillMatrix 29 = .ok (.lastore, 1) := by decide +kernel
theorem dX0_fillMatrix_30 : decode cX0_fillMatrix 30 = .ok (.iinc 3 1, 3) := by decide +kernel
theorem dX0_fillMatrix_33 : decode cX0_fillMatrix 33 = .ok (.goto (-18), 3) := by decide +kernel
theorem dX0_fillMatrix_36 : decode cX0_fillMatrix 36 = .ok (.aload_n 1, 1) := by decide +kernel
theorem dX0_fillMatrix_37 : decode cX0_fillMatrix 37 = .ok (.iload_n 2, 1) := by decide +kernel
theorem dX0_fillMatrix_38 : decode cX0_fillMatrix 38 = .ok (.invokevirtual 233, 3) := by decide +kernel
theorem dX0_fillMatrix_41 : decode cX0_fillMatrix 41 = .ok (.astore_n 3, 1) := by decide +kernel
theorem dX0_fillMatrix_42 : decode cX0_fillMatrix 42 = .ok (.aload_n 3, 1) := by decide +kernel
theorem dX0_fillMatrix_43 : decode cX0_fillMatrix 43 = .ok (.getfield 207, 3) := by decide +kernel
theorem dX0_fillMatrix_46 : decode cX0_fillMatrix 46 = .ok (.astore 4, 2) := by decide +kernel
theorem dX0_fillMatrix_48 : decode cX0_fillMatrix 48 = .ok (.aload 4, 2) := by decide +kernel
theorem dX0_fillMatrix_50 : decode cX0_fillMatrix 50 = .ok (.arraylength, 1) := by decide +kernel
theorem dX0_fillMatrix_51 : decode cX0_fillMatrix 51 = .ok (.istore 5, 2) := by decide +kernel
theorem dX0_fillMatrix_53 : decode cX0_fillMatrix 53 = .ok (.iconst 0, 1) := by decide +kernel
theorem dX0_fillMatrix_54 : decode cX0_fillMatrix 54 = .ok (.istore 6, 2) := by decide +kernel
theorem dX0_fillMatrix_56 : decode cX0_fillMatrix 56 = .ok (.iload 6, 2) := by decide +kernel
theorem dX0_fillMatrix_58 : decode cX0_fillMatrix 58 = .ok (.iload 5, 2) := by decide +kernel
theorem dX0_fillMatrix_60 : decode cX0_fillMatrix 60 = .ok (.if_icmp .ge 66, 3) := by decide +kernel
theorem dX0_fillMatrix_63 : decode cX0_fillMatrix 63 = .ok (.aload 4, 2) := by decide +kernel
theorem dX0_fillMatrix_65 : decode cX0_fillMatrix 65 = .ok (.iload 6, 2) := by decide +kernel
theorem dX0_fillMatrix_67 : decode cX0_fillMatrix 67 = .ok (.aaload, 1) := by decide +kernel
theorem dX0_fillMatrix_68 : decode cX0_fillMatrix 68 = .ok (.astore 7, 2) := by decide +kernel
theorem dX0_fillMatrix_70 : decode cX0_fillMatrix 70 = .ok (.aload 7, 2) := by decide +kernel
theorem dX0_fillMatrix_72 : decode cX0_fillMatrix 72 = .ok (.astore 8, 2) := by decide +kernel
theorem dX0_fillMatrix_74 : decode cX0_fillMatrix 74 = .ok (.aload 8, 2) := by decide +kernel
theorem dX0_fillMatrix_76 : decode cX0_fillMatrix 76 = .ok (.arraylength, 1) := by decide +kernel
theorem dX0_fillMatrix_77 : decode cX0_fillMatrix 77 = .ok (.istore 9, 2) := by decide +kernel
theorem dX0_fillMatrix_79 : decode cX0_fillMatrix 79 = .ok (.iconst 0, 1) := by decide +kernel
theorem dX0_fillMatrix_80 : decode cX0_fillMatrix 80 = .ok (.istore 10, 2) := by decide +kernel
theorem dX0_fillMatrix_82 : decode cX0_fillMatrix 82 = .ok (.iload 10, 2) := by decide +kernel
theorem dX0_fillMatrix_84 : decode cX0_fillMatrix 84 = .ok (.iload 9, 2) := by decide +kernel
theorem dX0_fillMatrix_86 : decode cX0_fillMatrix 86 = .ok (.if_icmp .ge 34, 3) := by decide +kernel
theorem dX0_fillMatrix_89 : decode cX0_fillMatrix 89 = .ok (.aload 8, 2) := by decide +kernel
theorem dX0_fillMatrix_91 : decode cX0_fillMatrix 91 = .ok (.iload 10, 2) := by decide +kernel
theorem dX0_fillMatrix_93 : decode cX0_fillMatrix 93 = .ok (.baload, 1) := by decide +kernel
theorem dX0_fillMatrix_94 : decode cX0_fillMatrix 94 = .ok (.istore 11, 2) := by decide +kernel
theorem dX0_fillMatrix_96 : decode cX0_fillMatrix 96 = .ok (.iload 11, 2) := by decide +kernel
theorem dX0_fillMatrix_98 : decode cX0_fillMatrix 98 = .ok (.ifCond .lt 16, 3) := by decide +kernel
theorem dX0_fillMatrix_101 : decode cX0_fillMatrix 101 = .ok (.aload_n 0, 1) := by decide +kernel
theorem dX0_fillMatrix_102 : decode cX0_fillMatrix 102 = .ok (.getfield 41, 3) := by decide +kernel
theorem dX0_fillMatrix_105 : decode cX0_fillMatrix 105 = .ok (.iload_n 2, 1) := by decide +kernel
theorem dX0_fillMatrix_106 : decode cX0_fillMatrix 106 = .ok (.aaload, 1) := by decide +kernel
theorem dX0_fillMatrix_107 : decode cX0_fillMatrix 107 = .ok (.iload 11, 2) := by decide +kernel
theorem dX0_fillMatrix_109 : decode cX0_fillMatrix 109 = .ok (.dup2, 1) := by decide +kernel
theorem dX0_fillMatrix_110 : decode cX0_fillMatrix 110 = .ok (.laload, 1) := by decide +kernel
theorem dX0_fillMatrix_111 : decode cX0_fillMatrix 111 = .ok (.lconst 1, 1) := by decide +kernel
theorem dX0_fillMatrix_112 : decode cX0_fillMatrix 112 = .ok (.ladd, 1) := by decide +kernel
theorem dX0_fillMatrix_113 : decode cX0_fillMatrix 113 = .ok (.lastore, 1) := by decide +kernel
theorem dX0_fillMatrix_114 : decode cX0_fillMatrix 114 = .ok (.iinc 10 1, 3) := by decide +kernel
theorem dX0_fillMatrix_117 : decode cX0_fillMatrix 117 = .ok (.goto (-35), 3) := by decide +kernel
theorem dX0_fillMatrix_120 : decode cX0_fillMatrix 120 = .ok (.iinc 6 1, 3) := by decide +kernel
theorem dX0_fillMatrix_123 : decode cX0_fillMatrix 123 = .ok (.goto (-67), 3) := by decide +kernel
theorem dX0_fillMatrix_126 : decode cX0_fillMatrix 126 = .ok (.iinc 2 1, 3) := by decide +kernel
theorem dX0_fillMatrix_129 : decode cX0_fillMatrix 129 = .ok (.goto (-127), 3) := by decide +kernel
theorem dX0_fillMatrix_132 : decode cX0_fillMatrix 132 = .ok (.return_, 1) := by decide +kernel
theorem dX0_fillLeads_0 : decode cX0_fillLeads 0 = .ok (.aload_n 0, 1) := by decide +kernel
theorem dX0_fillLeads_1 : decode cX0_fillLeads 1 = .ok (.getfield 10, 3) := by decide +kernel
theorem dX0_fillLeads_4 : decode cX0_fillLeads 4 = .ok (.invokevirtual 54, 3) := by decide +kernel
theorem dX0_fillLeads_7 : decode cX0_fillLeads 7 = .ok (.istore_n 3, 1) := by decide +kernel
theorem dX0_fillLeads_8 : decode cX0_fillLeads 8 = .ok (.iconst 0, 1) := by decide +kernel
theorem dX0_fillLeads_9 : decode cX0_fillLeads 9 = .ok (.istore 4, 2) := by decide +kernel
theorem dX0_fillLeads_11 : decode cX0_fillLeads 11 = .ok (.iload 4, 2) := by decide +kernel
theorem dX0_fillLeads_13 : decode cX0_fillLeads 13 = .ok (.iload_n 3, 1) := by decide +kernel
theorem dX0_fillLeads_14 : decode cX0_fillLeads 14 = .ok (.if_icmp .ge 29, 3) := by decide +kernel
theorem dX0_fillLeads_17 : decode cX0_fillLeads 17 = .ok (.aload_n 0, 1) := by decide +kernel
theorem dX0_fillLeads_18 : decode cX0_fillLeads 18 = .ok (.getfield 44, 3) := by decide +kernel
theorem dX0_fillLeads_21 : decode cX0_fillLeads 21 = .ok (.iload_n 1, 1) := by decide +kernel
theorem dX0_fillLeads_22 : decode cX0_fillLeads 22 = .ok (.aaload, 1) := by decide +kernel
theorem dX0_fillLeads_23 : decode cX0_fillLeads 23 = .ok (.iload 4, 2) := by decide +kernel
theorem dX0_fillLeads_25 : decode cX0_fillLeads 25 = .ok (.iload 4, 2) := by decide +kernel
theorem dX0_fillLeads_27 : decode cX0_fillLeads 27 = .ok (.iload_n 2, 1) := by decide +kernel
theorem dX0_fillLeads_28 : decode cX0_fillLeads 28 = .ok (.if_icmp .ne 7, 3) := by decide +kernel
theorem dX0_fillLeads_31 : decode cX0_fillLeads 31 = .ok (.iconst 1, 1) := by decide +kernel
theorem dX0_fillLeads_32 : decode cX0_fillLeads 32 = .ok (.goto 4, 3) := by decide +kernel
theorem dX0_fillLeads_35 : decode cX0_fillLeads 35 = .ok (.iconst 0, 1) := by decide +kernel
theorem dX0_fillLeads_36 : decode cX0_fillLeads 36 = .ok (.bastore, 1) := by decide +kernel
theorem dX0_fillLeads_37 : decode cX0_fillLeads 37 = .ok (.iinc 4 1, 3) := by decide +kernel
theorem dX0_fillLeads_40 : decode cX0_fillLeads 40 = .ok (.goto (-29), 3) := by decide +kernel
theorem dX0_fillLeads_43 : decode cX0_fillLeads 43 = .ok (.iload_n 1, 1) := by decide +kernel
theorem dX0_fillLeads_44 : decode cX0_fillLeads 44 = .ok (.iconst 1, 1) := by decide +kernel
theorem dX0_fillLeads_45 : decode cX0_fillLeads 45 = .ok (.isub, 1) := by decide +kernel
theorem dX0_fillLeads_46 : decode cX0_fillLeads 46 = .ok (.istore 4, 2) := by decide +kernel
theorem dX0_fillLeads_48 : decode cX0_fillLeads 48 = .ok (.iload 4, 2) := by decide +kernel
theorem dX0_fillLeads_50 : decode cX0_fillLeads 50 = .ok (.ifCond .lt 98, 3) := by decide +kernel
theorem dX0_fillLeads_53 : decode cX0_fillLeads 53 = .ok (.iconst 0, 1) := by decide +kernel
theorem dX0_fillLeads_54 : decode cX0_fillLeads 54 = .ok (.istore 5, 2) := by decide +kernel
theorem dX0_fillLeads_56 : decode cX0_fillLeads 56 = .ok (.iload 5, 2) := by decide +kernel
theorem dX0_fillLeads_58 : decode cX0_fillLeads 58 = .ok (.iload_n 3, 1) := by decide +kernel
theorem dX0_fillLeads_59 : decode cX0_fillLeads 59 = .ok (.if_icmp .ge 83, 3) := by decide +kernel
theorem dX0_fillLeads_62 : decode cX0_fillLeads 62 = .ok (.aload_n 0, 1) := by decide +kernel
theorem dX0_fillLeads_63 : decode cX0_fillLeads 63 = .ok (.getfield 44, 3) := by decide +kernel
theorem dX0_fillLeads_66 : decode cX0_fillLeads 66 = .ok (.iload 4, 2) := by decide +kernel
theorem dX0_fillLeads_68 : decode cX0_fillLeads 68 = .ok (.aaload, 1) := by decide +kernel
theorem dX0_fillLeads_69 : decode cX0_fillLeads 69 = .ok (.iload 5, 2) := by decide +kernel
theorem dX0_fillLeads_71 : decode cX0_fillLeads 71 = .ok (.iconst 0, 1) := by decide +kernel
theorem dX0_fillLeads_72 : decode cX0_fillLeads 72 = .ok (.bastore, 1) := by decide +kernel
theorem dX0_fillLeads_73 : decode cX0_fillLeads 73 = .ok (.iconst 0, 1) := by decide +kernel
theorem dX0_fillLeads_74 : decode cX0_fillLeads 74 = .ok (.istore 6, 2) := by decide +kernel
theorem dX0_fillLeads_76 : decode cX0_fillLeads 76 = .ok (.iload 6, 2) := by decide +kernel
theorem dX0_fillLeads_78 : decode cX0_fillLeads 78 = .ok (.iload_n 3, 1) := by decide +kernel
theorem dX0_fillLeads_79 : decode cX0_fillLeads 79 = .ok (.if_icmp .ge 57, 3) := by decide +kernel
theorem dX0_fillLeads_82 : decode cX0_fillLeads 82 = .ok (.aload_n 0, 1) := by decide +kernel
theorem dX0_fillLeads_83 : decode cX0_fillLeads 83 = .ok (.getfield 44, 3) := by decide +kernel
theorem dX0_fillLeads_86 : decode cX0_fillLeads 86 = .ok (.iload 4, 2) := by decide +kernel
theorem dX0_fillLeads_88 : decode cX0_fillLeads 88 = .ok (.aaload, 1) := by decide +kernel
theorem dX0_fillLeads_89 : decode cX0_fillLeads 89 = .ok (.iload 5, 2) := by decide +kernel
theorem dX0_fillLeads_91 : decode cX0_fillLeads 91 = .ok (.dup2, 1) := by decide +kernel
theorem dX0_fillLeads_92 : decode cX0_fillLeads 92 = .ok (.baload, 1) := by decide +kernel
theorem dX0_fillLeads_93 : decode cX0_fillLeads 93 = .ok (.aload_n 0, 1) := by decide +kernel
theorem dX0_fillLeads_94 : decode cX0_fillLeads 94 = .ok (.getfield 41, 3) := by decide +kernel
theorem dX0_fillLeads_97 : decode cX0_fillLeads 97 = .ok (.iload 5, 2) := by decide +kernel
theorem dX0_fillLeads_99 : decode cX0_fillLeads 99 = .ok (.aaload, 1) := by decide +kernel
theorem dX0_fillLeads_100 : decode cX0_fillLeads 100 = .ok (.iload 6, 2) := by decide +kernel
theorem dX0_fillLeads_102 : decode cX0_fillLeads 102 = .ok (.laload, 1) := by decide +kernel
theorem dX0_fillLeads_103 : decode cX0_fillLeads 103 = .ok (.lconst 0, 1) := by decide +kernel
theorem dX0_fillLeads_104 : decode cX0_fillLeads 104 = .ok (.lcmp, 1) := by decide +kernel
theorem dX0_fillLeads_105 : decode cX0_fillLeads 105 = .ok (.ifCond .le 22, 3) := by decide +kernel
theorem dX0_fillLeads_108 : decode cX0_fillLeads 108 = .ok (.aload_n 0, 1) := by decide +kernel
theorem dX0_fillLeads_109 : decode cX0_fillLeads 109 = .ok (.getfield 44, 3) := by decide +kernel
theorem dX0_fillLeads_112 : decode cX0_fillLeads 112 = .ok (.iload 4, 2) := by decide +kernel
theorem dX0_fillLeads_114 : decode cX0_fillLeads 114 = .ok (.iconst 1, 1) := by decide +kernel
theorem dX0_fillLeads_115 : decode cX0_fillLeads 115 = .ok (.iadd, 1) := by decide +kernel
theorem dX0_fillLeads_116 : decode cX0_fillLeads 116 = .ok (.aaload, 1) := by decide +kernel
theorem dX0_fillLeads_117 : decode cX0_fillLeads 117 = .ok (.iload 6, 2) := by decide +kernel
theorem dX0_fillLeads_119 : decode cX0_fillLeads 119 = .ok (.baload, 1) := by decide +kernel
theorem dX0_fillLeads_120 : decode cX0_fillLeads 120 = .ok (.ifCond .eq 7, 3) := by decide +kernel
theorem dX0_fillLeads_123 : decode cX0_fillLeads 123 = .ok (.iconst 1, 1) := by decide +kernel
theorem dX0_fillLeads_124 : decode cX0_fillLeads 124 = .ok (.goto 4, 3) := by decide +kernel
theorem dX0_fillLeads_127 : decode cX0_fillLeads 127 = .ok (.iconst 0, 1) := by decide +kernel
theorem dX0_fillLeads_128 : decode cX0_fillLeads 128 = .ok (.ior, 1) := by decide +kernel
theorem dX0_fillLeads_129 : decode cX0_fillLeads 129 = .ok (.bastore, 1) := by decide +kernel
theorem dX0_fillLeads_130 : decode cX0_fillLeads 130 = .ok (.iinc 6 1, 3) := by decide +kernel
theorem dX0_fillLeads_133 : decode cX0_fillLeads 133 = .ok (.goto (-57), 3) := by decide +kernel
theorem dX0_fillLeads_136 : decode cX0_fillLeads 136 = .ok (.iinc 5 1, 3) := by decide +kernel
theorem dX0_fillLeads_139 : decode cX0_fillLeads 139 = .ok (.goto (-83), 3) := by decide +kernel
theorem dX0_fillLeads_142 : decode cX0_fillLeads 142 = .ok (.iinc 4 (-1), 3) := by decide +kernel
theorem dX0_fillLeads_145 : decode cX0_fillLeads 145 = .ok (.goto (-97), 3) := by decide +kernel
theorem dX0_fillLeads_148 : decode cX0_fillLeads 148 = .ok (.return_, 1) := by decide +kernel
theorem dX0_multiply_0 : decode cX0_multiply 0 = .ok (.aload_n 0, 1) := by decide +kernel
theorem dX0_multiply_1 : decode cX0_multiply 1 = .ok (.getfield 10, 3) := by decide +kernel
theorem dX0_multiply_4 : decode cX0_multiply 4 = .ok (.invokevirtual 54, 3) := by decide +kernel
theorem dX0_multiply_7 : decode cX0_multiply 7 = .ok (.istore_n 2, 1) := by decide +kernel
theorem dX0_multiply_8 : decode cX0_multiply 8 = .ok (.iconst 0, 1) := by decide +kernel
theorem dX0_multiply_9 : decode cX0_multiply 9 = .ok (.istore_n 3, 1) := by decide +kernel
theorem dX0_multiply_10 : decode cX0_multiply 10 = .ok (.iload_n 3, 1) := by decide +kernel
theorem dX0_multiply_11 : decode cX0_multiply 11 = .ok (.iload_n 2, 1) := by decide +kernel
theorem dX0_multiply_12 : decode cX0_multiply 12 = .ok (.if_icmp .ge 16, 3) := by decide +kernel
theorem dX0_multiply_15 : decode cX0_multiply 15 = .ok (.aload_n 0, 1) := by decide +kernel
theorem dX0_multiply_16 : decode cX0_multiply 16 = .ok (.getfield 51, 3) := by decide +kernel
theorem dX0_multiply_19 : decode cX0_multiply 19 = .ok (.iload_n 3, 1) := by decide +kernel
theorem dX0_multiply_20 : decode cX0_multiply 20 = .ok (.lconst 0, 1) := by decide +kernel
theorem dX0_multiply_21 : decode cX0_multiply 21 = .ok (.lastore, 1) := by decide +kernel
theorem dX0_multiply_22 : decode cX0_multiply 22 = .ok (.iinc 3 1, 3) := by decide +kernel
theorem dX0_multiply_25 : decode cX0_multiply 25 = .ok (.goto (-15), 3) := by decide +kernel
theorem dX0_multiply_28 : decode cX0_multiply 28 = .ok (.iconst 0, 1) := by decide +kernel
theorem dX0_multiply_29 : decode cX0_multiply 29 = .ok (.istore_n 3, 1) := by decide +kernel
theorem dX0_multiply_30 : decode cX0_multiply 30 = .ok (.iload_n 3, 1) := by decide +kernel
theorem dX0_multiply_31 : decode cX0_multiply 31 = .ok (.iload_n 2, 1) := by decide +kernel
theorem dX0_multiply_32 : decode cX0_multiply 32 = .ok (.if_icmp .ge 84, 3) := by decide +kernel
theorem dX0_multiply_35 : decode cX0_multiply 35 = .ok (.iconst 0, 1) := by decide +kernel
theorem dX0_multiply_36 : decode cX0_multiply 36 = .ok (.istore 4, 2) := by decide +kernel
theorem dX0_multiply_38 : decode cX0_multiply 38 = .ok (.iload 4, 2) := by decide +kernel
theorem dX0_multiply_40 : decode cX0_multiply 40 = .ok (.iload_n 2, 1) := by decide +kernel
theorem dX0_multiply_41 : decode cX0_multiply 41 = .ok (.if_icmp .ge 69, 3) := by decide +kernel
theorem dX0_multiply_44 : decode cX0_multiply 44 = .ok (.aload_n 0, 1) := by decide +kernel
theorem dX0_multiply_45 : decode cX0_multiply 45 = .ok (.getfield 47, 3) := by decide +kernel
theorem dX0_multiply_48 : decode cX0_multiply 48 = .ok (.iload_n 3, 1) := by decide +kernel
theorem dX0_multiply_49 : decode cX0_multiply 49 = .ok (.laload, 1) := by decide +kernel
theorem dX0_multiply_50 : decode cX0_multiply 50 = .ok (.lconst 0, 1) := by decide +kernel
theorem dX0_multiply_51 : decode cX0_multiply 51 = .ok (.lcmp, 1) := by decide +kernel
theorem dX0_multiply_52 : decode cX0_multiply 52 = .ok (.ifCond .le 58, 3) := by decide +kernel
theorem dX0_multiply_55 : decode cX0_multiply 55 = .ok (.aload_n 0, 1) := by decide +kernel
theorem dX0_multiply_56 : decode cX0_multiply 56 = .ok (.getfield 44, 3) := by decide +kernel
theorem dX0_multiply_59 : decode cX0_multiply 59 = .ok (.iload_n 1, 1) := by decide +kernel
theorem dX0_multiply_60 : decode cX0_multiply 60 = .ok (.iconst 1, 1) := by decide +kernel
theorem dX0_multiply_61 : decode cX0_multiply 61 = .ok (.iadd, 1) := by decide +kernel
theorem dX0_multiply_62 : decode cX0_multiply 62 = .ok (.aaload, 1) := by decide +kernel
theorem dX0_multiply_63 : decode cX0_multiply 63 = .ok (.iload 4, 2) := by decide +kernel
theorem dX0_multiply_65 : decode cX0_multiply 65 = .ok (.baload, 1) := by decide +kernel
theorem dX0_multiply_66 : decode cX0_multiply 66 = .ok (.ifCond .eq 38, 3) := by decide +kernel
theorem dX0_multiply_69 : decode cX0_multiply 69 = .ok (.aload_n 0, 1) := by decide +kernel
theorem dX0_multiply_70 : decode cX0_multiply 70 = .ok (.getfield 51, 3) := by decide +kernel
theorem dX0_multiply_73 : decode cX0_multiply 73 = .ok (.iload 4, 2) := by decide +kernel
theorem dX0_multiply_75 : decode cX0_multiply 75 = .ok (.aload_n 0, 1) := by decide +kernel
theorem dX0_multiply_76 : decode cX0_multiply 76 = .ok (.getfield 51, 3) := by decide +kernel
theorem dX0_multiply_79 : decode cX0_multiply 79 = .ok (.iload 4, 2) := by decide +kernel
theorem dX0_multiply_81 : decode cX0_multiply 81 = .ok (.laload, 1) := by decide +kernel
theorem dX0_multiply_82 : decode cX0_multiply 82 = .ok (.aload_n 0, 1) := by decide +kernel
theorem dX0_multiply_83 : decode cX0_multiply 83 = .ok (.getfield 47, 3) := by decide +kernel
theorem dX0_multiply_86 : decode cX0_multiply 86 = .ok (.iload_n 3, 1) := by decide +kernel
theorem dX0_multiply_87 : decode cX0_multiply 87 = .ok (.laload, 1) := by decide +kernel
theorem dX0_multiply_88 : decode cX0_multiply 88 = .ok (.aload_n 0, 1) := by decide +kernel
theorem dX0_multiply_89 : decode cX0_multiply 89 = .ok (.getfield 41, 3) := by decide +kernel
theorem dX0_multiply_92 : decode cX0_multiply 92 = .ok (.iload_n 3, 1) := by decide +kernel
theorem dX0_multiply_93 : decode cX0_multiply 93 = .ok (.aaload, 1) := by decide +kernel
theorem dX0_multiply_94 : decode cX0_multiply 94 = .ok (.iload 4, 2) := by decide +kernel
theorem dX0_multiply_96 : decode cX0_multiply 96 = .ok (.laload, 1) := by decide +kernel
theorem dX0_multiply_97 : decode cX0_multiply 97 = .ok (.invokestatic 274, 3) := by decide +kernel
theorem dX0_multiply_100 : decode cX0_multiply 100 = .ok (.invokestatic 278, 3) := by decide +kernel
theorem dX0_multiply_103 : decode cX0_multiply 103 = .ok (.lastore, 1) := by decide +kernel
theorem dX0_multiply_104 : decode cX0_multiply 104 = .ok (.iinc 4 1, 3) := by decide +kernel
theorem dX0_multiply_107 : decode cX0_multiply 107 = .ok (.goto (-69), 3) := by decide +kernel
theorem dX0_multiply_110 : decode cX0_multiply 110 = .ok (.iinc 3 1, 3) := by decide +kernel
theorem dX0_multiply_113 : decode cX0_multiply 113 = .ok (.goto (-83), 3) := by decide +kernel
theorem dX0_multiply_116 : decode cX0_multiply 116 = .ok (.goto 13, 3) := by decide +kernel
theorem dX0_multiply_119 : decode cX0_multiply 119 = .ok (.astore_n 3, 1) := by decide +kernel
theorem dX0_multiply_120 : decode cX0_multiply 120 = .ok (.new 283, 3) := by decide +kernel
theorem dX0_multiply_123 : decode cX0_multiply 123 = .ok (.dup, 1) := by decide +kernel
theorem dX0_multiply_124 : decode cX0_multiply 124 = .ok (.aload_n 3, 1) := by decide +kernel
theorem dX0_multiply_125 : decode cX0_multiply 125 = .ok (.invokespecial 285, 3) := by decide +kernel
theorem dX0_multiply_128 : decode cX0_multiply 128 = .ok (.athrow, 1) := by decide +kernel
theorem dX0_multiply_129 : decode cX0_multiply 129 = .ok (.iconst 0, 1) := by decide +kernel
theorem dX0_multiply_130 : decode cX0_multiply 130 = .ok (.istore_n 3, 1) := by decide +kernel
theorem dX0_multiply_131 : decode cX0_multiply 131 = .ok (.iload_n 3, 1) := by decide +kernel
theorem dX0_multiply_132 : decode cX0_multiply 132 = .ok (.iload_n 2, 1) := by decide +kernel
theorem dX0_multiply_133 : decode cX0_multiply 133 = .ok (.if_icmp .ge 21, 3) := by decide +kernel
theorem dX0_multiply_136 : decode cX0_multiply 136 = .ok (.aload_n 0, 1) := by decide +kernel
theorem dX0_multiply_137 : decode cX0_multiply 137 = .ok (.getfield 47, 3) := by decide +kernel
theorem dX0_multiply_140 : decode cX0_multiply 140 = .ok (.iload_n 3, 1) := by decide +kernel
theorem dX0_multiply_141 : decode cX0_multiply 141 = .ok (.aload_n 0, 1) := by decide +kernel
theorem dX0_multiply_142 : decode cX0_multiply 142 = .ok (.getfield 51, 3) := by decide +kernel
theorem dX0_multiply_145 : decode cX0_multiply 145 = .ok (.iload_n 3, 1) := by decide +kernel
theorem dX0_multiply_146 : decode cX0_multiply 146 = .ok (.laload, 1) := by decide +kernel
theorem dX0_multiply_147 : decode cX0_multiply 147 = .ok (.lastore, 1) := by decide +kernel
theorem dX0_multiply_148 : decode cX0_multiply 148 = .ok (.iinc 3 1, 3) := by decide +kernel
theorem dX0_multiply_151 : decode cX0_multiply 151 = .ok (.goto (-20), 3) := by decide +kernel
theorem dX0_multiply_154 : decode cX0_multiply 154 = .ok (.return_, 1) := by decide +kernel
theorem dX0_count_0 : decode cX0_count 0 = .ok (.aload_n 0, 1) := by decide +kernel
theorem dX0_count_1 : decode cX0_count 1 = .ok (.iload_n 1, 1) := by decide +kernel
theorem dX0_count_2 : decode cX0_count 2 = .ok (.invokevirtual 150, 3) := by decide +kernel
theorem dX0_count_5 : decode cX0_count 5 = .ok (.astore_n 3, 1) := by decide +kernel
theorem dX0_count_6 : decode cX0_count 6 = .ok (.aload_n 3, 1) := by decide +kernel
theorem dX0_count_7 : decode cX0_count 7 = .ok (.ifnull 16, 3) := by decide +kernel
theorem dX0_count_10 : decode cX0_count 10 = .ok (.iload_n 2, 1) := by decide +kernel
theorem dX0_count_11 : decode cX0_count 11 = .ok (.iconst (-1), 1) := by decide +kernel
theorem dX0_count_12 : decode cX0_count 12 = .ok (.if_icmp .eq 13, 3) := by decide +kernel
theorem dX0_count_15 : decode cX0_count 15 = .ok (.aload_n 0, 1) := by decide +kernel
theorem dX0_count_16 : decode cX0_count 16 = .ok (.iload_n 2, 1) := by decide +kernel
theorem dX0_count_17 : decode cX0_count 17 = .ok (.invokevirtual 102, 3) := by decide +kernel
theorem dX0_count_20 : decode cX0_count 20 = .ok (.ifCond .ne 5, 3) := by decide +kernel
theorem dX0_count_23 : decode cX0_count 23 = .ok (.iconst (-1), 1) := by decide +kernel
theorem dX0_count_24 : decode cX0_count 24 = .ok (.ireturn, 1) := by decide +kernel
theorem dX0_count_25 : decode cX0_count 25 = .ok (.iconst 0, 1) := by decide +kernel
theorem dX0_count_26 : decode cX0_count 26 = .ok (.istore 4, 2) := by decide +kernel
theorem dX0_count_28 : decode cX0_count 28 = .ok (.iconst 0, 1) := by decide +kernel
theorem dX0_count_29 : decode cX0_count 29 = .ok (.istore 5, 2) := by decide +kernel
theorem dX0_count_31 : decode cX0_count 31 = .ok (.iload 5, 2) := by decide +kernel
theorem dX0_count_33 : decode cX0_count 33 = .ok (.aload_n 3, 1) := by decide +kernel
theorem dX0_count_34 : decode cX0_count 34 = .ok (.getfield 140, 3) := by decide +kernel
theorem dX0_count_37 : decode cX0_count 37 = .ok (.invokevirtual 54, 3) := by decide +kernel
theorem dX0_count_40 : decode cX0_count 40 = .ok (.if_icmp .ge 70, 3) := by decide +kernel
theorem dX0_count_43 : decode cX0_count 43 = .ok (.aload_n 3, 1) := by decide +kernel
theorem dX0_count_44 : decode cX0_count 44 = .ok (.getfield 140, 3) := by decide +kernel
theorem dX0_count_47 : decode cX0_count 47 = .ok (.iload 5, 2) := by decide +kernel
theorem dX0_count_49 : decode cX0_count 49 = .ok (.invokevirtual 58, 3) := by decide +kernel
theorem dX0_count_52 : decode cX0_count 52 = .ok (.checkcast 138, 3) := by decide +kernel
theorem dX0_count_55 : decode cX0_count 55 = .ok (.getfield 187, 3) := by decide +kernel
theorem dX0_count_58 : decode cX0_count 58 = .ok (.astore 6, 2) := by decide +kernel
theorem dX0_count_60 : decode cX0_count 60 = .ok (.aload 6, 2) := by decide +kernel
theorem dX0_count_62 : decode cX0_count 62 = .ok (.arraylength, 1) := by decide +kernel
theorem dX0_count_63 : decode cX0_count 63 = .ok (.istore 7, 2) := by decide +kernel
theorem dX0_count_65 : decode cX0_count 65 = .ok (.iconst 0, 1) := by decide +kernel
theorem dX0_count_66 : decode cX0_count 66 = .ok (.istore 8, 2) := by decide +kernel
theorem dX0_count_68 : decode cX0_count 68 = .ok (.iload 8, 2) := by decide +kernel
theorem dX0_count_70 : decode cX0_count 70 = .ok (.iload 7, 2) := by decide +kernel
theorem dX0_count_72 : decode cX0_count 72 = .ok (.if_icmp .ge 32, 3) := by decide +kernel
theorem dX0_count_75 : decode cX0_count 75 = .ok (.aload 6, 2) := by decide +kernel
theorem dX0_count_77 : decode cX0_count 77 = .ok (.iload 8, 2) := by decide +kernel
theorem dX0_count_79 : decode cX0_count 79 = .ok (.baload, 1) := by decide +kernel
theorem dX0_count_80 : decode cX0_count 80 = .ok (.istore 9, 2) := by decide +kernel
theorem dX0_count_82 : decode cX0_count 82 = .ok (.iload 4, 2) := by decide +kernel
theorem dX0_count_84 : decode cX0_count 84 = .ok (.iload 9, 2) := by decide +kernel
theorem dX0_count_86 : decode cX0_count 86 = .ok (.iload_n 2, 1) := by decide +kernel
theorem dX0_count_87 : decode cX0_count 87 = .ok (.if_icmp .ne 7, 3) := by decide +kernel
theorem dX0_count_90 : decode cX0_count 90 = .ok (.iconst 1, 1) := by decide +kernel
theorem dX0_count_91 : decode cX0_count 91 = .ok (.goto 4, 3) := by decide +kernel
theorem dX0_count_94 : decode cX0_count 94 = .ok (.iconst 0, 1) := by decide +kernel
theorem dX0_count_95 : decode cX0_count 95 = .ok (.iadd, 1) := by decide +kernel
theorem dX0_count_96 : decode cX0_count 96 = .ok (.istore 4, 2) := by decide +kernel
theorem dX0_count_98 : decode cX0_count 98 = .ok (.iinc 8 1, 3) := by decide +kernel
theorem dX0_count_101 : decode cX0_count 101 = .ok (.goto (-33), 3) := by decide +kernel
theorem dX0_count_104 : decode cX0_count 104 = .ok (.iinc 5 1, 3) := by decide +kernel
theorem dX0_count_107 : decode cX0_count 107 = .ok (.goto (-76), 3) := by decide +kernel
theorem dX0_count_110 : decode cX0_count 110 = .ok (.iload 4, 2) := by decide +kernel
theorem dX0_count_112 : decode cX0_count 112 = .ok (.ireturn, 1) := by decide +kernel
theorem dX0_fits_0 : decode cX0_fits 0 = .ok (.aload_n 0, 1) := by decide +kernel
theorem dX0_fits_1 : decode cX0_fits 1 = .ok (.iload_n 1, 1) := by decide +kernel
theorem dX0_fits_2 : decode cX0_fits 2 = .ok (.invokevirtual 150, 3) := by decide +kernel
theorem dX0_fits_5 : decode cX0_fits 5 = .ok (.astore_n 2, 1) := by decide +kernel
theorem dX0_fits_6 : decode cX0_fits 6 = .ok (.aload_n 2, 1) := by decide +kernel
theorem dX0_fits_7 : decode cX0_fits 7 = .ok (.ifnonnull 5, 3) := by decide +kernel
theorem dX0_fits_10 : decode cX0_fits 10 = .ok (.iconst (-1), 1) := by decide +kernel
theorem dX0_fits_11 : decode cX0_fits 11 = .ok (.ireturn, 1) := by decide +kernel
theorem dX0_fits_12 : decode cX0_fits 12 = .ok (.iconst 0, 1) := by decide +kernel
theorem dX0_fits_13 : decode cX0_fits 13 = .ok (.istore_n 3, 1) := by decide +kernel
theorem dX0_fits_14 : decode cX0_fits 14 = .ok (.iconst 0, 1) := by decide +kernel
theorem dX0_fits_15 : decode cX0_fits 15 = .ok (.istore 4, 2) := by decide +kernel
theorem dX0_fits_17 : decode cX0_fits 17 = .ok (.iload 4, 2) := by decide +kernel
theorem dX0_fits_19 : decode cX0_fits 19 = .ok (.aload_n 2, 1) := by decide +kernel
theorem dX0_fits_20 : decode cX0_fits 20 = .ok (.getfield 140, 3) := by decide +kernel
theorem dX0_fits_23 : decode cX0_fits 23 = .ok (.invokevirtual 54, 3) := by decide +kernel
theorem dX0_fits_26 : decode cX0_fits 26 = .ok (.if_icmp .ge 185, 3) := by decide +kernel
theorem dX0_fits_29 : decode cX0_fits 29 = .ok (.aload_n 2, 1) := by decide +kernel
theorem dX0_fits_30 : decode cX0_fits 30 = .ok (.getfield 140, 3) := by decide +kernel
theorem dX0_fits_33 : decode cX0_fits 33 = .ok (.iload 4, 2) := by decide +kernel
theorem dX0_fits_35 : decode cX0_fits 35 = .ok (.invokevirtual 58, 3) := by decide +kernel
theorem dX0_fits_38 : decode cX0_fits 38 = .ok (.checkcast 138, 3) := by decide +kernel
theorem dX0_fits_41 : decode cX0_fits 41 = .ok (.astore 5, 2) := by decide +kernel
theorem dX0_fits_43 : decode cX0_fits 43 = .ok (.aload_n 2, 1) := by decide +kernel
theorem dX0_fits_44 : decode cX0_fits 44 = .ok (.iload 4, 2) := by decide +kernel
theorem dX0_fits_46 : decode cX0_fits 46 = .ok (.iconst 1, 1) := by decide +kernel
theorem dX0_fits_47 : decode cX0_fits 47 = .ok (.iadd, 1) := by decide +kernel
theorem dX0_fits_48 : decode cX0_fits 48 = .ok (.invokevirtual 166, 3) := by decide +kernel
theorem dX0_fits_51 : decode cX0_fits 51 = .ok (.astore 6, 2) := by decide +kernel
theorem dX0_fits_53 : decode cX0_fits 53 = .ok (.iconst 0, 1) := by decide +kernel
theorem dX0_fits_54 : decode cX0_fits 54 = .ok (.istore 7, 2) := by decide +kernel
theorem dX0_fits_56 : decode cX0_fits 56 = .ok (.iload 7, 2) := by decide +kernel
theorem dX0_fits_58 : decode cX0_fits 58 = .ok (.aload 5, 2) := by decide +kernel
theorem dX0_fits_60 : decode cX0_fits 60 = .ok (.getfield 187, 3) := by decide +kernel
theorem dX0_fits_63 : decode cX0_fits 63 = .ok (.arraylength, 1) := by decide +kernel
theorem dX0_fits_64 : decode cX0_fits 64 = .ok (.if_icmp .ge 141, 3) := by decide +kernel
theorem dX0_fits_67 : decode cX0_fits 67 = .ok (.iload 7, 2) := by decide +kernel
theorem dX0_fits_69 : decode cX0_fits 69 = .ok (.iconst 1, 1) := by decide +kernel
theorem dX0_fits_70 : decode cX0_fits 70 = .ok (.iadd, 1) := by decide +kernel
theorem dX0_fits_71 : decode cX0_fits 71 = .ok (.aload 5, 2) := by decide +kernel
theorem dX0_fits_73 : decode cX0_fits 73 = .ok (.getfield 187, 3) := by decide +kernel
theorem dX0_fits_76 : decode cX0_fits 76 = .ok (.arraylength, 1) := by decide +kernel
theorem dX0_fits_77 : decode cX0_fits 77 = .ok (.if_icmp .eq 21, 3) := by decide +kernel
theorem dX0_fits_80 : decode cX0_fits 80 = .ok (.aload_n 0, 1) := by decide +kernel
theorem dX0_fits_81 : decode cX0_fits 81 = .ok (.aload 5, 2) := by decide +kernel
theorem dX0_fits_83 : decode cX0_fits 83 = .ok (.iload 7, 2) := by decide +kernel
theorem dX0_fits_85 : decode cX0_fits 85 = .ok (.aload 5, 2) := by decide +kernel
theorem dX0_fits_87 : decode cX0_fits 87 = .ok (.iload 7, 2) := by decide +kernel
theorem dX0_fits_89 : decode cX0_fits 89 = .ok (.iconst 1, 1) := by decide +kernel
theorem dX0_fits_90 : decode cX0_fits 90 = .ok (.iadd, 1) := by decide +kernel
theorem dX0_fits_91 : decode cX0_fits 91 = .ok (.iconst 1, 1) := by decide +kernel
theorem dX0_fits_92 : decode cX0_fits 92 = .ok (.invokevirtual 299, 3) := by decide +kernel
theorem dX0_fits_95 : decode cX0_fits 95 = .ok (.ifCond .eq 7, 3) := by decide +kernel
theorem dX0_fits_98 : decode cX0_fits 98 = .ok (.iconst 1, 1) := by decide +kernel
theorem dX0_fits_99 : decode cX0_fits 99 = .ok (.goto 4, 3) := by decide +kernel
theorem dX0_fits_102 : decode cX0_fits 102 = .ok (.iconst 0, 1) := by decide +kernel
theorem dX0_fits_103 : decode cX0_fits 103 = .ok (.istore 8, 2) := by decide +kernel
theorem dX0_fits_105 : decode cX0_fits 105 = .ok (.aload 6, 2) := by decide +kernel
theorem dX0_fits_107 : decode cX0_fits 107 = .ok (.ifnonnull 7, 3) := by decide +kernel
theorem dX0_fits_110 : decode cX0_fits 110 = .ok (.iconst (-1), 1) := by decide +kernel
theorem dX0_fits_111 : decode cX0_fits 111 = .ok (.goto 17, 3) := by decide +kernel
theorem dX0_fits_114 : decode cX0_fits 114 = .ok (.aload 5, 2) := by decide +kernel
theorem dX0_fits_116 : decode cX0_fits 116 = .ok (.getfield 181, 3) := by decide +kernel
theorem dX0_fits_119 : decode cX0_fits 119 = .ok (.iload 7, 2) := by decide +kernel
theorem dX0_fits_121 : decode cX0_fits 121 = .ok (.iadd, 1) := by decide +kernel
theorem dX0_fits_122 : decode cX0_fits 122 = .ok (.aload 6, 2) := by decide +kernel
theorem dX0_fits_124 : decode cX0_fits 124 = .ok (.getfield 181, 3) := by decide +kernel
theorem dX0_fits_127 : decode cX0_fits 127 = .ok (.isub, 1) := by decide +kernel
theorem dX0_fits_128 : decode cX0_fits 128 = .ok (.istore 9, 2) := by decide +kernel
theorem dX0_fits_130 : decode cX0_fits 130 = .ok (.iload 9, 2) := by decide +kernel
theorem dX0_fits_132 : decode cX0_fits 132 = .ok (.ifCond .lt 30, 3) := by decide +kernel
theorem dX0_fits_135 : decode cX0_fits 135 = .ok (.iload 9, 2) := by decide +kernel
theorem dX0_fits_137 : decode cX0_fits 137 = .ok (.aload 6, 2) := by decide +kernel
theorem dX0_fits_139 : decode cX0_fits 139 = .ok (.getfield 187, 3) := by decide +kernel
theorem dX0_fits_142 : decode cX0_fits 142 = .ok (.arraylength, 1) := by decide +kernel
theorem dX0_fits_143 : decode cX0_fits 143 = .ok (.if_icmp .ge 19, 3) := by decide +kernel
theorem dX0_fits_146 : decode cX0_fits 146 = .ok (.aload_n 0, 1) := by decide +kernel
theorem dX0_fits_147 : decode cX0_fits 147 = .ok (.aload 5, 2) := by decide +kernel
theorem dX0_fits_149 : decode cX0_fits 149 = .ok (.iload 7, 2) := by decide +kernel
theorem dX0_fits_151 : decode cX0_fits 151 = .ok (.aload 6, 2) := by decide +kernel
theorem dX0_fits_153 : decode cX0_fits 153 = .ok (.iload 9, 2) := by decide +kernel
theorem dX0_fits_155 : decode cX0_fits 155 = .ok (.iconst 2, 1) := by decide +kernel
theorem dX0_fits_156 : decode cX0_fits 156 = .ok (.invokevirtual 299, 3) := by decide +kernel
theorem dX0_fits_159 : decode cX0_fits 159 = .ok (.ifCond .eq 7, 3) := by decide +kernel
theorem dX0_fits_162 : decode cX0_fits 162 = .ok (.iconst 1, 1) := by decide +kernel
theorem dX0_fits_163 : decode cX0_fits 163 = .ok (.goto 4, 3) := by decide +kernel
theorem dX0_fits_166 : decode cX0_fits 166 = .ok (.iconst 0, 1) := by decide +kernel
theorem dX0_fits_167 : decode cX0_fits 167 = .ok (.istore 10, 2) := by decide +kernel
theorem dX0_fits_169 : decode cX0_fits 169 = .ok (.iload 8, 2) := by decide +kernel
theorem dX0_fits_171 : decode cX0_fits 171 = .ok (.ifCond .eq 8, 3) := by decide +kernel
theorem dX0_fits_174 : decode cX0_fits 174 = .ok (.iload 10, 2) := by decide +kernel
theorem dX0_fits_176 : decode cX0_fits 176 = .ok (.ifCond .ne 20, 3) := by decide +kernel
theorem dX0_fits_179 : decode cX0_fits 179 = .ok (.iconst 1, 1) := by decide +kernel
theorem dX0_fits_180 : decode cX0_fits 180 = .ok (.iconst 2, 1) := by decide +kernel
theorem dX0_fits_181 : decode cX0_fits 181 = .ok (.iload_n 3, 1) := by decide +kernel
theorem dX0_fits_182 : decode cX0_fits 182 = .ok (.imul, 1) := by decide +kernel
theorem dX0_fits_183 : decode cX0_fits 183 = .ok (.iadd, 1) := by decide +kernel
theorem dX0_fits_184 : decode cX0_fits 184 = .ok (.iload 8, 2) := by decide +kernel
theorem dX0_fits_186 : decode cX0_fits 186 = .ok (.ifCond .eq 7, 3) := by decide +kernel
theorem dX0_fits_189 : decode cX0_fits 189 = .ok (.iconst 1, 1) := by decide +kernel
theorem dX0_fits_190 : decode cX0_fits 190 = .ok (.goto 4, 3) := by decide +kernel
theorem dX0_fits_193 : decode cX0_fits 193 = .ok (.iconst 0, 1) := by decide +kernel
theorem dX0_fits_194 : decode cX0_fits 194 = .ok (.iadd, 1) := by decide +kernel
theorem dX0_fits_195 : decode cX0_fits 195 = .ok (.ireturn, 1) := by decide +kernel
theorem dX0_fits_196 : decode cX0_fits 196 = .ok (.iinc 7 1, 3) := by decide +kernel
theorem dX0_fits_199 : decode cX0_fits 199 = .ok (.iinc 3 1, 3) := by decide +kernel
theorem dX0_fits_202 : decode cX0_fits 202 = .ok (.goto (-146), 3) := by decide +kernel
theorem dX0_fits_205 : decode cX0_fits 205 = .ok (.iinc 4 1, 3) := by decide +kernel
theorem dX0_fits_208 : decode cX0_fits 208 = .ok (.goto (-191), 3) := by decide +kernel
theorem dX0_fits_211 : decode cX0_fits 211 = .ok (.iconst 0, 1) := by decide +kernel
theorem dX0_fits_212 : decode cX0_fits 212 = .ok (.ireturn, 1) := by decide +kernel
theorem dX0_fit_0 : decode cX0_fit 0 = .ok (.aload_n 1, 1) := by decide +kernel
theorem dX0_fit_1 : decode cX0_fit 1 = .ok (.getfield 187, 3) := by decide +kernel
theorem dX0_fit_4 : decode cX0_fit 4 = .ok (.iload_n 2, 1) := by decide +kernel
theorem dX0_fit_5 : decode cX0_fit 5 = .ok (.baload, 1) := by decide +kernel
theorem dX0_fit_6 : decode cX0_fit 6 = .ok (.istore 6, 2) := by decide +kernel
theorem dX0_fit_8 : decode cX0_fit 8 = .ok (.aload_n 3, 1) := by decide +kernel
theorem dX0_fit_9 : decode cX0_fit 9 = .ok (.getfield 187, 3) := by decide +kernel
theorem dX0_fit_12 : decode cX0_fit 12 = .ok (.iload 4, 2) := by decide +kernel
theorem dX0_fit_14 : decode cX0_fit 14 = .ok (.baload, 1) := by decide +kernel
theorem dX0_fit_15 : decode cX0_fit 15 = .ok (.istore 7, 2) := by decide +kernel
theorem dX0_fit_17 : decode cX0_fit 17 = .ok (.iload 6, 2) := by decide +kernel
theorem dX0_fit_19 : decode cX0_fit 19 = .ok (.ifCond .lt 62, 3) := by decide +kernel
theorem dX0_fit_22 : decode cX0_fit 22 = .ok (.iload 7, 2) := by decide +kernel
theorem dX0_fit_24 : decode cX0_fit 24 = .ok (.ifCond .lt 57, 3) := by decide +kernel
theorem dX0_fit_27 : decode cX0_fit 27 = .ok (.aload_n 0, 1) := by decide +kernel
theorem dX0_fit_28 : decode cX0_fit 28 = .ok (.getfield 10, 3) := by decide +kernel
theorem dX0_fit_31 : decode cX0_fit 31 = .ok (.iload 6, 2) := by decide +kernel
theorem dX0_fit_33 : decode cX0_fit 33 = .ok (.invokevirtual 58, 3) := by decide +kernel
theorem dX0_fit_36 : decode cX0_fit 36 = .ok (.checkcast 80, 3) := by decide +kernel
theorem dX0_fit_39 : decode cX0_fit 39 = .ok (.aload_n 1, 1) := by decide +kernel
theorem dX0_fit_40 : decode cX0_fit 40 = .ok (.getfield 194, 3) := by decide +kernel
theorem dX0_fit_43 : decode cX0_fit 43 = .ok (.iload_n 2, 1) := by decide +kernel
theorem dX0_fit_44 : decode cX0_fit 44 = .ok (.baload, 1) := by decide +kernel
theorem dX0_fit_45 : decode cX0_fit 45 = .ok (.iload 5, 2) := by decide +kernel
theorem dX0_fit_47 : decode cX0_fit 47 = .ok (.invokevirtual 113, 3) := by decide +kernel
theorem dX0_fit_50 : decode cX0_fit 50 = .ok (.aload_n 0, 1) := by decide +kernel
theorem dX0_fit_51 : decode cX0_fit 51 = .ok (.getfield 10, 3) := by decide +kernel
theorem dX0_fit_54 : decode cX0_fit 54 = .ok (.iload 7, 2) := by decide +kernel
theorem dX0_fit_56 : decode cX0_fit 56 = .ok (.invokevirtual 58, 3) := by decide +kernel
theorem dX0_fit_59 : decode cX0_fit 59 = .ok (.checkcast 80, 3) := by decide +kernel
theorem dX0_fit_62 : decode cX0_fit 62 = .ok (.aload_n 3, 1) := by decide +kernel
theorem dX0_fit_63 : decode cX0_fit 63 = .ok (.getfield 194, 3) := by decide +kernel
theorem dX0_fit_66 : decode cX0_fit 66 = .ok (.iload 4, 2) := by decide +kernel
theorem dX0_fit_68 : decode cX0_fit 68 = .ok (.baload, 1) := by decide +kernel
theorem dX0_fit_69 : decode cX0_fit 69 = .ok (.iload 5, 2) := by decide +kernel
theorem dX0_fit_71 : decode cX0_fit 71 = .ok (.iconst 2, 1) := by decide +kernel
theorem dX0_fit_72 : decode cX0_fit 72 = .ok (.iadd, 1) := by decide +kernel
theorem dX0_fit_73 : decode cX0_fit 73 = .ok (.iconst 3, 1) := by decide +kernel
theorem dX0_fit_74 : decode cX0_fit 74 = .ok (.iand, 1) := by decide +kernel
theorem dX0_fit_75 : decode cX0_fit 75 = .ok (.invokevirtual 113, 3) := by decide +kernel
theorem dX0_fit_78 : decode cX0_fit 78 = .ok (.if_icmp .ne 7, 3) := by decide +kernel
theorem dX0_fit_81 : decode cX0_fit 81 = .ok (.iconst 1, 1) := by decide +kernel
theorem dX0_fit_82 : decode cX0_fit 82 = .ok (.goto 4, 3) := by decide +kernel
theorem dX0_fit_85 : decode cX0_fit 85 = .ok (.iconst 0, 1) := by decide +kernel
theorem dX0_fit_86 : decode cX0_fit 86 = .ok (.ireturn, 1) := by decide +kernel
theorem dX0_period_0 : decode cX0_period 0 = .ok (.aload_n 0, 1) := by decide +kernel
theorem dX0_period_1 : decode cX0_period 1 = .ok (.iload_n 1, 1) := by decide +kernel
theorem dX0_period_2 : decode cX0_period 2 = .ok (.invokevirtual 150, 3) := by decide +kernel
theorem dX0_period_5 : decode cX0_period 5 = .ok (.astore_n 3, 1) := by decide +kernel
theorem dX0_period_6 : decode cX0_period 6 = .ok (.aload_n 3, 1) := by decide +kernel
theorem dX0_period_7 : decode cX0_period 7 = .ok (.ifnull 12, 3) := by decide +kernel
theorem dX0_period_10 : decode cX0_period 10 = .ok (.iload_n 2, 1) := by decide +kernel
theorem dX0_period_11 : decode cX0_period 11 = .ok (.ifCond .lt 8, 3) := by decide +kernel
theorem dX0_period_14 : decode cX0_period 14 = .ok (.iload_n 2, 1) := by decide +kernel
theorem dX0_period_15 : decode cX0_period 15 = .ok (.iconst 1, 1) := by decide +kernel
theorem dX0_period_16 : decode cX0_period 16 = .ok (.if_icmp .le 5, 3) := by decide +kernel
theorem dX0_period_19 : decode cX0_period 19 = .ok (.iconst (-1), 1) := by decide +kernel
theorem dX0_period_20 : decode cX0_period 20 = .ok (.ireturn, 1) := by decide +kernel
theorem dX0_period_21 : decode cX0_period 21 = .ok (.iconst 1, 1) := by decide +kernel
theorem dX0_period_22 : decode cX0_period 22 = .ok (.istore 4, 2) := by decide +kernel
theorem dX0_period_24 : decode cX0_period 24 = .ok (.aload_n 3, 1) := by decide +kernel
theorem dX0_period_25 : decode cX0_period 25 = .ok (.iload_n 2, 1) := by decide +kernel
theorem dX0_period_26 : decode cX0_period 26 = .ok (.ifCond .ne 8, 3) := by decide +kernel
theorem dX0_period_29 : decode cX0_period 29 = .ok (.iload 4, 2) := by decide +kernel
theorem dX0_period_31 : decode cX0_period 31 = .ok (.goto 4, 3) := by decide +kernel
theorem dX0_period_34 : decode cX0_period 34 = .ok (.iconst 0, 1) := by decide +kernel
theorem dX0_period_35 : decode cX0_period 35 = .ok (.iload_n 2, 1) := by decide +kernel
theorem dX0_period_36 : decode cX0_period 36 = .ok (.ifCond .ne 7, 3) := by decide +kernel
theorem dX0_period_39 : decode cX0_period 39 = .ok (.iconst 0, 1) := by decide +kernel
theorem dX0_period_40 : decode cX0_period 40 = .ok (.goto 5, 3) := by decide +kernel
theorem dX0_period_43 : decode cX0_period 43 = .ok (.iload 4, 2) := by decide +kernel
theorem dX0_period_45 : decode cX0_period 45 = .ok (.invokestatic 307, 3) := by decide +kernel
theorem dX0_period_48 : decode cX0_period 48 = .ok (.ifCond .ne 9, 3) := by decide +kernel
theorem dX0_period_51 : decode cX0_period 51 = .ok (.iinc 4 1, 3) := by decide +kernel
theorem dX0_period_54 : decode cX0_period 54 = .ok (.goto (-30), 3) := by decide +kernel
theorem dX0_period_57 : decode cX0_period 57 = .ok (.iload 4, 2) := by decide +kernel
theorem dX0_period_59 : decode cX0_period 59 = .ok (.ireturn, 1) := by decide +kernel
theorem dX0_repeats_0 : decode cX0_repeats 0 = .ok (.iconst 0, 1) := by decide +kernel
theorem dX0_repeats_1 : decode cX0_repeats 1 = .ok (.istore_n 3, 1) := by decide +kernel
theorem dX0_repeats_2 : decode cX0_repeats 2 = .ok (.iload_n 3, 1) := by decide +kernel
theorem dX0_repeats_3 : decode cX0_repeats 3 = .ok (.iload_n 1, 1) := by decide +kernel
theorem dX0_repeats_4 : decode cX0_repeats 4 = .ok (.iadd, 1) := by decide +kernel
theorem dX0_repeats_5 : decode cX0_repeats 5 = .ok (.aload_n 0, 1) := by decide +kernel
theorem dX0_repeats_6 : decode cX0_repeats 6 = .ok (.getfield 140, 3) := by decide +kernel
theorem dX0_repeats_9 : decode cX0_repeats 9 = .ok (.invokevirtual 54, 3) := by decide +kernel
theorem dX0_repeats_12 : decode cX0_repeats 12 = .ok (.if_icmp .ge 107, 3) := by decide +kernel
theorem dX0_repeats_15 : decode cX0_repeats 15 = .ok (.aload_n 0, 1) := by decide +kernel
theorem dX0_repeats_16 : decode cX0_repeats 16 = .ok (.getfield 140, 3) := by decide +kernel
theorem dX0_repeats_19 : decode cX0_repeats 19 = .ok (.iload_n 3, 1) := by decide +kernel
theorem dX0_repeats_20 : decode cX0_repeats 20 = .ok (.invokevirtual 58, 3) := by decide +kernel
theorem dX0_repeats_23 : decode cX0_repeats 23 = .ok (.checkcast 138, 3) := by decide +kernel
theorem dX0_repeats_26 : decode cX0_repeats 26 = .ok (.astore 4, 2) := by decide +kernel
theorem dX0_repeats_28 : decode cX0_repeats 28 = .ok (.aload_n 0, 1) := by decide +kernel
theorem dX0_repeats_29 : decode cX0_repeats 29 = .ok (.getfield 140, 3) := by decide +kernel
theorem dX0_repeats_32 : decode cX0_repeats 32 = .ok (.iload_n 3, 1) := by decide +kernel
theorem dX0_repeats_33 : decode cX0_repeats 33 = .ok (.iload_n 1, 1) := by decide +kernel
theorem dX0_repeats_34 : decode cX0_repeats 34 = .ok (.iadd, 1) := by decide +kernel
theorem dX0_repeats_35 : decode cX0_repeats 35 = .ok (.invokevirtual 58, 3) := by decide +kernel
theorem dX0_repeats_38 : decode cX0_repeats 38 = .ok (.checkcast 138, 3) := by decide +kernel
theorem dX0_repeats_41 : decode cX0_repeats 41 = .ok (.astore 5, 2) := by decide +kernel
theorem dX0_repeats_43 : decode cX0_repeats 43 = .ok (.iconst 0, 1) := by decide +kernel
theorem dX0_repeats_44 : decode cX0_repeats 44 = .ok (.istore 6, 2) := by decide +kernel
theorem dX0_repeats_46 : decode cX0_repeats 46 = .ok (.iload 6, 2) := by decide +kernel
theorem dX0_repeats_48 : decode cX0_repeats 48 = .ok (.aload 4, 2) := by decide +kernel
theorem dX0_repeats_50 : decode cX0_repeats 50 = .ok (.getfield 187, 3) := by decide +kernel
theorem dX0_repeats_53 : decode cX0_repeats 53 = .ok (.arraylength, 1) := by decide +kernel
theorem dX0_repeats_54 : decode cX0_repeats 54 = .ok (.if_icmp .ge 59, 3) := by decide +kernel
theorem dX0_repeats_57 : decode cX0_repeats 57 = .ok (.aload 4, 2) := by decide +kernel
theorem dX0_repeats_59 : decode cX0_repeats 59 = .ok (.getfield 181, 3) := by decide +kernel
theorem dX0_repeats_62 : decode cX0_repeats 62 = .ok (.iload 6, 2) := by decide +kernel
theorem dX0_repeats_64 : decode cX0_repeats 64 = .ok (.iadd, 1) := by decide +kernel
theorem dX0_repeats_65 : decode cX0_repeats 65 = .ok (.iload_n 2, 1) := by decide +kernel
theorem dX0_repeats_66 : decode cX0_repeats 66 = .ok (.iadd, 1) := by decide +kernel
theorem dX0_repeats_67 : decode cX0_repeats 67 = .ok (.aload 5, 2) := by decide +kernel
theorem dX0_repeats_69 : decode cX0_repeats 69 = .ok (.getfield 181, 3) := by decide +kernel
theorem dX0_repeats_72 : decode cX0_repeats 72 = .ok (.isub, 1) := by decide +kernel
theorem dX0_repeats_73 : decode cX0_repeats 73 = .ok (.istore 7, 2) := by decide +kernel
theorem dX0_repeats_75 : decode cX0_repeats 75 = .ok (.iload 7, 2) := by decide +kernel
theorem dX0_repeats_77 : decode cX0_repeats 77 = .ok (.ifCond .lt 30, 3) := by decide +kernel
theorem dX0_repeats_80 : decode cX0_repeats 80 = .ok (.iload 7, 2) := by decide +kernel
theorem dX0_repeats_82 : decode cX0_repeats 82 = .ok (.aload 5, 2) := by decide +kernel
theorem dX0_repeats_84 : decode cX0_repeats 84 = .ok (.getfield 187, 3) := by decide +kernel
theorem dX0_repeats_87 : decode cX0_repeats 87 = .ok (.arraylength, 1) := by decide +kernel
theorem dX0_repeats_88 : decode cX0_repeats 88 = .ok (.if_icmp .ge 19, 3) := by decide +kernel
theorem dX0_repeats_91 : decode cX0_repeats 91 = .ok (.aload 4, 2) := by decide +kernel
theorem dX0_repeats_93 : decode cX0_repeats 93 = .ok (.iload 6, 2) := by decide +kernel
theorem dX0_repeats_95 : decode cX0_repeats 95 = .ok (.aload 5, 2) := by decide +kernel
theorem dX0_repeats_97 : decode cX0_repeats 97 = .ok (.iload 7, 2) := by decide +kernel
theorem dX0_repeats_99 : decode cX0_repeats 99 = .ok (.invokestatic 303, 3) := by decide +kernel
theorem dX0_repeats_102 : decode cX0_repeats 102 = .ok (.ifCond .ne 5, 3) := by decide +kernel
theorem dX0_repeats_105 : decode cX0_repeats 105 = .ok (.iconst 0, 1) := by decide +kernel
theorem dX0_repeats_106 : decode cX0_repeats 106 = .ok (.ireturn, 1) := by decide +kernel
theorem dX0_repeats_107 : decode cX0_repeats 107 = .ok (.iinc 6 1, 3) := by decide +kernel
theorem dX0_repeats_110 : decode cX0_repeats 110 = .ok (.goto (-64), 3) := by decide +kernel
theorem dX0_repeats_113 : decode cX0_repeats 113 = .ok (.iinc 3 1, 3) := by decide +kernel
theorem dX0_repeats_116 : decode cX0_repeats 116 = .ok (.goto (-114), 3) := by decide +kernel
theorem dX0_repeats_119 : decode cX0_repeats 119 = .ok (.iconst 1, 1) := by decide +kernel
theorem dX0_repeats_120 : decode cX0_repeats 120 = .ok (.ireturn, 1) := by decide +kernel
theorem dX0_isAlike_0 : decode cX0_isAlike 0 = .ok (.aload_n 0, 1) := by decide +kernel
theorem dX0_isAlike_1 : decode cX0_isAlike 1 = .ok (.getfield 187, 3) := by decide +kernel
theorem dX0_isAlike_4 : decode cX0_isAlike 4 = .ok (.iload_n 1, 1) := by decide +kernel
theorem dX0_isAlike_5 : decode cX0_isAlike 5 = .ok (.baload, 1) := by decide +kernel
theorem dX0_isAlike_6 : decode cX0_isAlike 6 = .ok (.aload_n 2, 1) := by decide +kernel
theorem dX0_isAlike_7 : decode cX0_isAlike 7 = .ok (.getfield 187, 3) := by decide +kernel
theorem dX0_isAlike_10 : decode cX0_isAlike 10 = .ok (.iload_n 3, 1) := by decide +kernel
theorem dX0_isAlike_11 : decode cX0_isAlike 11 = .ok (.baload, 1) := by decide +kernel
theorem dX0_isAlike_12 : decode cX0_isAlike 12 = .ok (.if_icmp .ne 37, 3) := by decide +kernel
theorem dX0_isAlike_15 : decode cX0_isAlike 15 = .ok (.aload_n 0, 1) := by decide +kernel
theorem dX0_isAlike_16 : decode cX0_isAlike 16 = .ok (.getfield 194, 3) := by decide +kernel
theorem dX0_isAlike_19 : decode cX0_isAlike 19 = .ok (.iload_n 1, 1) := by decide +kernel
theorem dX0_isAlike_20 : decode cX0_isAlike 20 = .ok (.baload, 1) := by decide +kernel
theorem dX0_isAlike_21 : decode cX0_isAlike 21 = .ok (.aload_n 2, 1) := by decide +kernel
theorem dX0_isAlike_22 : decode cX0_isAlike 22 = .ok (.getfield 194, 3) := by decide +kernel
theorem dX0_isAlike_25 : decode cX0_isAlike 25 = .ok (.iload_n 3, 1) := by decide +kernel
theorem dX0_isAlike_26 : decode cX0_isAlike 26 = .ok (.baload, 1) := by decide +kernel
theorem dX0_isAlike_27 : decode cX0_isAlike 27 = .ok (.if_icmp .ne 22, 3) := by decide +kernel
theorem dX0_isAlike_30 : decode cX0_isAlike 30 = .ok (.aload_n 0, 1) := by decide +kernel
theorem dX0_isAlike_31 : decode cX0_isAlike 31 = .ok (.getfield 190, 3) := by decide +kernel
theorem dX0_isAlike_34 : decode cX0_isAlike 34 = .ok (.iload_n 1, 1) := by decide +kernel
theorem dX0_isAlike_35 : decode cX0_isAlike 35 = .ok (.saload, 1) := by decide +kernel
theorem dX0_isAlike_36 : decode cX0_isAlike 36 = .ok (.aload_n 2, 1) := by decide +kernel
theorem dX0_isAlike_37 : decode cX0_isAlike 37 = .ok (.getfield 190, 3) := by decide +kernel
theorem dX0_isAlike_40 : decode cX0_isAlike 40 = .ok (.iload_n 3, 1) := by decide +kernel
theorem dX0_isAlike_41 : decode cX0_isAlike 41 = .ok (.saload, 1) := by decide +kernel
theorem dX0_isAlike_42 : decode cX0_isAlike 42 = .ok (.if_icmp .ne 7, 3) := by decide +kernel
theorem dX0_isAlike_45 : decode cX0_isAlike 45 = .ok (.iconst 1, 1) := by decide +kernel
theorem dX0_isAlike_46 : decode cX0_isAlike 46 = .ok (.goto 4, 3) := by decide +kernel
theorem dX0_isAlike_49 : decode cX0_isAlike 49 = .ok (.iconst 0, 1) := by decide +kernel
theorem dX0_isAlike_50 : decode cX0_isAlike 50 = .ok (.ireturn, 1) := by decide +kernel
theorem dX0_kept_0 : decode cX0_kept 0 = .ok (.aload_n 0, 1) := by decide +kernel
theorem dX0_kept_1 : decode cX0_kept 1 = .ok (.iload_n 1, 1) := by decide +kernel
theorem dX0_kept_2 : decode cX0_kept 2 = .ok (.invokevirtual 150, 3) := by decide +kernel
theorem dX0_kept_5 : decode cX0_kept 5 = .ok (.astore_n 2, 1) := by decide +kernel
theorem dX0_kept_6 : decode cX0_kept 6 = .ok (.aload_n 2, 1) := by decide +kernel
theorem dX0_kept_7 : decode cX0_kept 7 = .ok (.ifnonnull 5, 3) := by decide +kernel
theorem dX0_kept_10 : decode cX0_kept 10 = .ok (.iconst (-1), 1) := by decide +kernel
theorem dX0_kept_11 : decode cX0_kept 11 = .ok (.ireturn, 1) := by decide +kernel
theorem dX0_kept_12 : decode cX0_kept 12 = .ok (.iconst 0, 1) := by decide +kernel
theorem dX0_kept_13 : decode cX0_kept 13 = .ok (.istore_n 3, 1) := by decide +kernel
theorem dX0_kept_14 : decode cX0_kept 14 = .ok (.iconst 0, 1) := by decide +kernel
theorem dX0_kept_15 : decode cX0_kept 15 = .ok (.istore 4, 2) := by decide +kernel
theorem dX0_kept_17 : decode cX0_kept 17 = .ok (.iload 4, 2) := by decide +kernel
theorem dX0_kept_19 : decode cX0_kept 19 = .ok (.bipush 8, 2) := by decide +kernel
theorem dX0_kept_21 : decode cX0_kept 21 = .ok (.if_icmp .ge 34, 3) := by decide +kernel
theorem dX0_kept_24 : decode cX0_kept 24 = .ok (.aload_n 2, 1) := by decide +kernel
theorem dX0_kept_25 : decode cX0_kept 25 = .ok (.invokevirtual 323, 3) := by decide +kernel
theorem dX0_kept_28 : decode cX0_kept 28 = .ok (.ifCond .eq 27, 3) := by decide +kernel
theorem dX0_kept_31 : decode cX0_kept 31 = .ok (.aload_n 0, 1) := by decide +kernel
theorem dX0_kept_32 : decode cX0_kept 32 = .ok (.aload_n 2, 1) := by decide +kernel
theorem dX0_kept_33 : decode cX0_kept 33 = .ok (.iload 4, 2) := by decide +kernel
theorem dX0_kept_35 : decode cX0_kept 35 = .ok (.aload_n 2, 1) := by decide +kernel
theorem dX0_kept_36 : decode cX0_kept 36 = .ok (.invokevirtual 327, 3) := by decide +kernel
theorem dX0_kept_39 : decode cX0_kept 39 = .ok (.ifCond .eq 10, 3) := by decide +kernel
theorem dX0_kept_42 : decode cX0_kept 42 = .ok (.iload_n 3, 1) := by decide +kernel
theorem dX0_kept_43 : decode cX0_kept 43 = .ok (.iconst 1, 1) := by decide +kernel
theorem dX0_kept_44 : decode cX0_kept 44 = .ok (.iload 4, 2) := by decide +kernel
theorem dX0_kept_46 : decode cX0_kept 46 = .ok (.ishl, 1) := by decide +kernel
theorem dX0_kept_47 : decode cX0_kept 47 = .ok (.ior, 1) := by decide +kernel
theorem dX0_kept_48 : decode cX0_kept 48 = .ok (.istore_n 3, 1) := by decide +kernel
theorem dX0_kept_49 : decode cX0_kept 49 = .ok (.iinc 4 1, 3) := by decide +kernel
theorem dX0_kept_52 : decode cX0_kept 52 = .ok (.goto (-35), 3) := by decide +kernel
theorem dX0_kept_55 : decode cX0_kept 55 = .ok (.iload_n 3, 1) := by decide +kernel
theorem dX0_kept_56 : decode cX0_kept 56 = .ok (.ireturn, 1) := by decide +kernel
theorem dX0_isMoved_0 : decode cX0_isMoved 0 = .ok (.aload_n 1, 1) := by decide +kernel
theorem dX0_isMoved_1 : decode cX0_isMoved 1 = .ok (.iload_n 2, 1) := by decide +kernel
theorem dX0_isMoved_2 : decode cX0_isMoved 2 = .ok (.invokestatic 312, 3) := by decide +kernel
theorem dX0_isMoved_5 : decode cX0_isMoved 5 = .ok (.aload_n 3, 1) := by decide +kernel
theorem dX0_isMoved_6 : decode cX0_isMoved 6 = .ok (.getfield 140, 3) := by decide +kernel
theorem dX0_isMoved_9 : decode cX0_isMoved 9 = .ok (.invokevirtual 54, 3) := by decide +kernel
theorem dX0_isMoved_12 : decode cX0_isMoved 12 = .ok (.if_icmp .ne 19, 3) := by decide +kernel
theorem dX0_isMoved_15 : decode cX0_isMoved 15 = .ok (.aload_n 1, 1) := by decide +kernel
theorem dX0_isMoved_16 : decode cX0_isMoved 16 = .ok (.iload_n 2, 1) := by decide +kernel
theorem dX0_isMoved_17 : decode cX0_isMoved 17 = .ok (.invokestatic 316, 3) := by decide +kernel
theorem dX0_isMoved_20 : decode cX0_isMoved 20 = .ok (.aload_n 3, 1) := by decide +kernel
theorem dX0_isMoved_21 : decode cX0_isMoved 21 = .ok (.invokevirtual 311, 3) := by decide +kernel
theorem dX0_isMoved_24 : decode cX0_isMoved 24 = .ok (.if_icmp .ne 7, 3) := by decide +kernel
theorem dX0_isMoved_27 : decode cX0_isMoved 27 = .ok (.iconst 1, 1) := by decide +kernel
theorem dX0_isMoved_28 : decode cX0_isMoved 28 = .ok (.goto 4, 3) := by decide +kernel
theorem dX0_isMoved_31 : decode cX0_isMoved 31 = .ok (.iconst 0, 1) := by decide +kernel
theorem dX0_isMoved_32 : decode cX0_isMoved 32 = .ok (.istore 4, 2) := by decide +kernel
theorem dX0_isMoved_34 : decode cX0_isMoved 34 = .ok (.iconst 0, 1) := by decide +kernel
theorem dX0_isMoved_35 : decode cX0_isMoved 35 = .ok (.istore 5, 2) := by decide +kernel
theorem dX0_isMoved_37 : decode cX0_isMoved 37 = .ok (.iload 5, 2) := by decide +kernel
theorem dX0_isMoved_39 : decode cX0_isMoved 39 = .ok (.aload_n 3, 1) := by decide +kernel
theorem dX0_isMoved_40 : decode cX0_isMoved 40 = .ok (.getfield 140, 3) := by decide +kernel
theorem dX0_isMoved_43 : decode cX0_isMoved 43 = .ok (.invokevirtual 54, 3) := by decide +kernel
theorem dX0_isMoved_46 : decode cX0_isMoved 46 = .ok (.if_icmp .ge 63, 3) := by decide +kernel
theorem dX0_isMoved_49 : decode cX0_isMoved 49 = .ok (.iload 4, 2) := by decide +kernel
theorem dX0_isMoved_51 : decode cX0_isMoved 51 = .ok (.ifCond .eq 58, 3) := by decide +kernel
theorem dX0_isMoved_54 : decode cX0_isMoved 54 = .ok (.iconst 0, 1) := by decide +kernel
theorem dX0_isMoved_55 : decode cX0_isMoved 55 = .ok (.istore 6, 2) := by decide +kernel
theorem dX0_isMoved_57 : decode cX0_isMoved 57 = .ok (.iload 6, 2) := by decide +kernel
theorem dX0_isMoved_59 : decode cX0_isMoved 59 = .ok (.aload_n 3, 1) := by decide +kernel
theorem dX0_isMoved_60 : decode cX0_isMoved 60 = .ok (.invokevirtual 311, 3) := by decide +kernel
theorem dX0_isMoved_63 : decode cX0_isMoved 63 = .ok (.if_icmp .ge 40, 3) := by decide +kernel
theorem dX0_isMoved_66 : decode cX0_isMoved 66 = .ok (.iload 4, 2) := by decide +kernel
theorem dX0_isMoved_68 : decode cX0_isMoved 68 = .ok (.ifCond .eq 35, 3) := by decide +kernel
theorem dX0_isMoved_71 : decode cX0_isMoved 71 = .ok (.aload_n 0, 1) := by decide +kernel
theorem dX0_isMoved_72 : decode cX0_isMoved 72 = .ok (.aload_n 1, 1) := by decide +kernel
theorem dX0_isMoved_73 : decode cX0_isMoved 73 = .ok (.iload_n 2, 1) := by decide +kernel
theorem dX0_isMoved_74 : decode cX0_isMoved 74 = .ok (.iload 5, 2) := by decide +kernel
theorem dX0_isMoved_76 : decode cX0_isMoved 76 = .ok (.iload 6, 2) := by decide +kernel
theorem dX0_isMoved_78 : decode cX0_isMoved 78 = .ok (.aload_n 3, 1) := by decide +kernel
theorem dX0_isMoved_79 : decode cX0_isMoved 79 = .ok (.getfield 140, 3) := by decide +kernel
theorem dX0_isMoved_82 : decode cX0_isMoved 82 = .ok (.iload 5, 2) := by decide +kernel
theorem dX0_isMoved_84 : decode cX0_isMoved 84 = .ok (.invokevirtual 58, 3) := by decide +kernel
theorem dX0_isMoved_87 : decode cX0_isMoved 87 = .ok (.checkcast 138, 3) := by decide +kernel
theorem dX0_isMoved_90 : decode cX0_isMoved 90 = .ok (.iload 6, 2) := by decide +kernel
theorem dX0_isMoved_92 : decode cX0_isMoved 92 = .ok (.invokevirtual 319, 3) := by decide +kernel
theorem dX0_isMoved_95 : decode cX0_isMoved 95 = .ok (.istore 4, 2) := by decide +kernel
theorem dX0_isMoved_97 : decode cX0_isMoved 97 = .ok (.iinc 6 1, 3) := by decide +kernel
theorem dX0_isMoved_100 : decode cX0_isMoved 100 = .ok (.goto (-43), 3) := by decide +kernel
theorem dX0_isMoved_103 : decode cX0_isMoved 103 = .ok (.iinc 5 1, 3) := by decide +kernel
theorem dX0_isMoved_106 : decode cX0_isMoved 106 = .ok (.goto (-69), 3) := by decide +kernel
theorem dX0_isMoved_109 : decode cX0_isMoved 109 = .ok (.iload 4, 2) := by decide +kernel
theorem dX0_isMoved_111 : decode cX0_isMoved 111 = .ok (.ireturn, 1) := by decide +kernel
theorem dX0_high_0 : decode cX0_high 0 = .ok (.iload_n 1, 1) := by decide +kernel
theorem dX0_high_1 : decode cX0_high 1 = .ok (.iconst 1, 1) := by decide +kernel
theorem dX0_high_2 : decode cX0_high 2 = .ok (.iand, 1) := by decide +kernel
theorem dX0_high_3 : decode cX0_high 3 = .ok (.iconst 1, 1) := by decide +kernel
theorem dX0_high_4 : decode cX0_high 4 = .ok (.if_icmp .ne 10, 3) := by decide +kernel
theorem dX0_high_7 : decode cX0_high 7 = .ok (.aload_n 0, 1) := by decide +kernel
theorem dX0_high_8 : decode cX0_high 8 = .ok (.invokevirtual 311, 3) := by decide +kernel
theorem dX0_high_11 : decode cX0_high 11 = .ok (.goto 10, 3) := by decide +kernel
theorem dX0_high_14 : decode cX0_high 14 = .ok (.aload_n 0, 1) := by decide +kernel
theorem dX0_high_15 : decode cX0_high 15 = .ok (.getfield 140, 3) := by decide +kernel
theorem dX0_high_18 : decode cX0_high 18 = .ok (.invokevirtual 54, 3) := by decide +kernel
theorem dX0_high_21 : decode cX0_high 21 = .ok (.ireturn, 1) := by decide +kernel
theorem dX0_wide_0 : decode cX0_wide 0 = .ok (.iload_n 1, 1) := by decide +kernel
theorem dX0_wide_1 : decode cX0_wide 1 = .ok (.iconst 1, 1) := by decide +kernel
theorem dX0_wide_2 : decode cX0_wide 2 = .ok (.iand, 1) := by decide +kernel
theorem dX0_wide_3 : decode cX0_wide 3 = .ok (.iconst 1, 1) := by decide +kernel
theorem dX0_wide_4 : decode cX0_wide 4 = .ok (.if_icmp .ne 13, 3) := by decide +kernel
theorem dX0_wide_7 : decode cX0_wide 7 = .ok (.aload_n 0, 1) := by decide +kernel
theorem dX0_wide_8 : decode cX0_wide 8 = .ok (.getfield 140, 3) := by decide +kernel
theorem dX0_wide_11 : decode cX0_wide 11 = .ok (.invokevirtual 54, 3) := by decide +kernel
theorem dX0_wide_14 : decode cX0_wide 14 = .ok (.goto 7, 3) := by decide +kernel
theorem dX0_wide_17 : decode cX0_wide 17 = .ok (.aload_n 0, 1) := by decide +kernel
theorem dX0_wide_18 : decode cX0_wide 18 = .ok (.invokevirtual 311, 3) := by decide +kernel
theorem dX0_wide_21 : decode cX0_wide 21 = .ok (.ireturn, 1) := by decide +kernel
theorem dX0_isMoved_2_0 : decode cX0_isMoved_2 0 = .ok (.aload_n 1, 1) := by decide +kernel
theorem dX0_isMoved_2_1 : decode cX0_isMoved_2 1 = .ok (.getfield 140, 3) := by decide +kernel
theorem dX0_isMoved_2_4 : decode cX0_isMoved_2 4 = .ok (.iload_n 2, 1) := by decide +kernel
theorem dX0_isMoved_2_5 : decode cX0_isMoved_2 5 = .ok (.aload_n 1, 1) := by decide +kernel
theorem dX0_isMoved_2_6 : decode cX0_isMoved_2 6 = .ok (.getfield 140, 3) := by decide +kernel
theorem dX0_isMoved_2_9 : decode cX0_isMoved_2 9 = .ok (.invokevirtual 54, 3) := by decide +kernel
theorem dX0_isMoved_2_12 : decode cX0_isMoved_2 12 = .ok (.iload_n 3, 1) := by decide +kernel
theorem dX0_isMoved_2_13 : decode cX0_isMoved_2 13 = .ok (.iload 4, 2) := by decide +kernel
theorem dX0_isMoved_2_15 : decode cX0_isMoved_2 15 = .ok (.invokestatic 261, 3) := by decide +kernel
theorem dX0_isMoved_2_18 : decode cX0_isMoved_2 18 = .ok (.invokevirtual 58, 3) := by decide +kernel
theorem dX0_isMoved_2_21 : decode cX0_isMoved_2 21 = .ok (.checkcast 138, 3) := by decide +kernel
theorem dX0_isMoved_2_24 : decode cX0_isMoved_2 24 = .ok (.astore 7, 2) := by decide +kernel
theorem dX0_isMoved_2_26 : decode cX0_isMoved_2 26 = .ok (.iload_n 2, 1) := by decide +kernel
theorem dX0_isMoved_2_27 : decode cX0_isMoved_2 27 = .ok (.aload_n 1, 1) := by decide +kernel
theorem dX0_isMoved_2_28 : decode cX0_isMoved_2 28 = .ok (.invokevirtual 311, 3) := by decide +kernel
theorem dX0_isMoved_2_31 : decode cX0_isMoved_2 31 = .ok (.iload_n 3, 1) := by decide +kernel
theorem dX0_isMoved_2_32 : decode cX0_isMoved_2 32 = .ok (.iload 4, 2) := by decide +kernel
theorem dX0_isMoved_2_34 : decode cX0_isMoved_2 34 = .ok (.invokestatic 264, 3) := by decide +kernel
theorem dX0_isMoved_2_37 : decode cX0_isMoved_2 37 = .ok (.istore 8, 2) := by decide +kernel
theorem dX0_isMoved_2_39 : decode cX0_isMoved_2 39 = .ok (.aload 7, 2) := by decide +kernel
theorem dX0_isMoved_2_41 : decode cX0_isMoved_2 41 = .ok (.getfield 187, 3) := by decide +kernel
theorem dX0_isMoved_2_44 : decode cX0_isMoved_2 44 = .ok (.iload 8, 2) := by decide +kernel
theorem dX0_isMoved_2_46 : decode cX0_isMoved_2 46 = .ok (.baload, 1) := by decide +kernel
theorem dX0_isMoved_2_47 : decode cX0_isMoved_2 47 = .ok (.istore 9, 2) := by decide +kernel
theorem dX0_isMoved_2_49 : decode cX0_isMoved_2 49 = .ok (.iload 9, 2) := by decide +kernel
theorem dX0_isMoved_2_51 : decode cX0_isMoved_2 51 = .ok (.aload 5, 2) := by decide +kernel
theorem dX0_isMoved_2_53 : decode cX0_isMoved_2 53 = .ok (.getfield 187, 3) := by decide +kernel
theorem dX0_isMoved_2_56 : decode cX0_isMoved_2 56 = .ok (.iload 6, 2) := by decide +kernel
theorem dX0_isMoved_2_58 : decode cX0_isMoved_2 58 = .ok (.baload, 1) := by decide +kernel
theorem dX0_isMoved_2_59 : decode cX0_isMoved_2 59 = .ok (.if_icmp .ne 69, 3) := by decide +kernel
theorem dX0_isMoved_2_62 : decode cX0_isMoved_2 62 = .ok (.iload 9, 2) := by decide +kernel
theorem dX0_isMoved_2_64 : decode cX0_isMoved_2 64 = .ok (.ifCond .lt 60, 3) := by decide +kernel
theorem dX0_isMoved_2_67 : decode cX0_isMoved_2 67 = .ok (.aload_n 0, 1) := by decide +kernel
theorem dX0_isMoved_2_68 : decode cX0_isMoved_2 68 = .ok (.getfield 10, 3) := by decide +kernel
theorem dX0_isMoved_2_71 : decode cX0_isMoved_2 71 = .ok (.iload 9, 2) := by decide +kernel
theorem dX0_isMoved_2_73 : decode cX0_isMoved_2 73 = .ok (.invokevirtual 58, 3) := by decide +kernel
theorem dX0_isMoved_2_76 : decode cX0_isMoved_2 76 = .ok (.checkcast 80, 3) := by decide +kernel
theorem dX0_isMoved_2_79 : decode cX0_isMoved_2 79 = .ok (.aload 7, 2) := by decide +kernel
theorem dX0_isMoved_2_81 : decode cX0_isMoved_2 81 = .ok (.getfield 194, 3) := by decide +kernel
theorem dX0_isMoved_2_84 : decode cX0_isMoved_2 84 = .ok (.iload 8, 2) := by decide +kernel
theorem dX0_isMoved_2_86 : decode cX0_isMoved_2 86 = .ok (.baload, 1) := by decide +kernel
theorem dX0_isMoved_2_87 : decode cX0_isMoved_2 87 = .ok (.iload_n 2, 1) := by decide +kernel
theorem dX0_isMoved_2_88 : decode cX0_isMoved_2 88 = .ok (.invokestatic 117, 3) := by decide +kernel
theorem dX0_isMoved_2_91 : decode cX0_isMoved_2 91 = .ok (.invokevirtual 109, 3) := by decide +kernel
theorem dX0_isMoved_2_94 : decode cX0_isMoved_2 94 = .ok (.aload 5, 2) := by decide +kernel
theorem dX0_isMoved_2_96 : decode cX0_isMoved_2 96 = .ok (.getfield 194, 3) := by decide +kernel
theorem dX0_isMoved_2_99 : decode cX0_isMoved_2 99 = .ok (.iload 6, 2) := by decide +kernel
theorem dX0_isMoved_2_101 : decode cX0_isMoved_2 101 = .ok (.baload, 1) := by decide +kernel
theorem dX0_isMoved_2_102 : decode cX0_isMoved_2 102 = .ok (.if_icmp .ne 26, 3) := by decide +kernel
theorem dX0_isMoved_2_105 : decode cX0_isMoved_2 105 = .ok (.aload 7, 2) := by decide +kernel
theorem dX0_isMoved_2_107 : decode cX0_isMoved_2 107 = .ok (.getfield 190, 3) := by decide +kernel
theorem dX0_isMoved_2_110 : decode cX0_isMoved_2 110 = .ok (.iload 8, 2) := by decide +kernel
theorem dX0_isMoved_2_112 : decode cX0_isMoved_2 112 = .ok (.saload, 1) := by decide +kernel
theorem dX0_isMoved_2_113 : decode cX0_isMoved_2 113 = .ok (.aload 5, 2) := by decide +kernel
theorem dX0_isMoved_2_115 : decode cX0_isMoved_2 115 = .ok (.getfield 190, 3) := by decide +kernel
theorem dX0_isMoved_2_118 : decode cX0_isMoved_2 118 = .ok (.iload 6, 2) := by decide +kernel
theorem dX0_isMoved_2_120 : decode cX0_isMoved_2 120 = .ok (.saload, 1) := by decide +kernel
theorem dX0_isMoved_2_121 : decode cX0_isMoved_2 121 = .ok (.if_icmp .ne 7, 3) := by decide +kernel
theorem dX0_isMoved_2_124 : decode cX0_isMoved_2 124 = .ok (.iconst 1, 1) := by decide +kernel
theorem dX0_isMoved_2_125 : decode cX0_isMoved_2 125 = .ok (.goto 4, 3) := by decide +kernel
theorem dX0_isMoved_2_128 : decode cX0_isMoved_2 128 = .ok (.iconst 0, 1) := by decide +kernel
theorem dX0_isMoved_2_129 : decode cX0_isMoved_2 129 = .ok (.ireturn, 1) := by decide +kernel
theorem dX0_congruent_0 : decode cX0_congruent 0 = .ok (.aload_n 0, 1) := by decide +kernel
theorem dX0_congruent_1 : decode cX0_congruent 1 = .ok (.iload_n 1, 1) := by decide +kernel
theorem dX0_congruent_2 : decode cX0_congruent 2 = .ok (.invokevirtual 150, 3) := by decide +kernel
theorem dX0_congruent_5 : decode cX0_congruent 5 = .ok (.astore_n 3, 1) := by decide +kernel
theorem dX0_congruent_6 : decode cX0_congruent 6 = .ok (.aload_n 0, 1) := by decide +kernel
theorem dX0_congruent_7 : decode cX0_congruent 7 = .ok (.iload_n 2, 1) := by decide +kernel
theorem dX0_congruent_8 : decode cX0_congruent 8 = .ok (.invokevirtual 150, 3) := by decide +kernel
theorem dX0_congruent_11 : decode cX0_congruent 11 = .ok (.astore 4, 2) := by decide +kernel
theorem dX0_congruent_13 : decode cX0_congruent 13 = .ok (.aload_n 3, 1) := by decide +kernel
theorem dX0_congruent_14 : decode cX0_congruent 14 = .ok (.ifnull 23, 3) := by decide +kernel
theorem dX0_congruent_17 : decode cX0_congruent 17 = .ok (.aload 4, 2) := by decide +kernel
theorem dX0_congruent_19 : decode cX0_congruent 19 = .ok (.ifnull 18, 3) := by decide +kernel
theorem dX0_congruent_22 : decode cX0_congruent 22 = .ok (.aload_n 3, 1) := by decide +kernel
theorem dX0_congruent_23 : decode cX0_congruent 23 = .ok (.invokevirtual 323, 3) := by decide +kernel
theorem dX0_congruent_26 : decode cX0_congruent 26 = .ok (.ifCond .eq 11, 3) := by decide +kernel
theorem dX0_congruent_29 : decode cX0_congruent 29 = .ok (.aload 4, 2) := by decide +kernel
theorem dX0_congruent_31 : decode cX0_congruent 31 = .ok (.invokevirtual 323, 3) := by decide +kernel
theorem dX0_congruent_34 : decode cX0_congruent 34 = .ok (.ifCond .ne 5, 3) := by decide +kernel
theorem dX0_congruent_37 : decode cX0_congruent 37 = .ok (.iconst (-1), 1) := by decide +kernel
theorem dX0_congruent_38 : decode cX0_congruent 38 = .ok (.ireturn, 1) := by decide +kernel
theorem dX0_congruent_39 : decode cX0_congruent 39 = .ok (.iconst 0, 1) := by decide +kernel
theorem dX0_congruent_40 : decode cX0_congruent 40 = .ok (.istore 5, 2) := by decide +kernel
theorem dX0_congruent_42 : decode cX0_congruent 42 = .ok (.iload 5, 2) := by decide +kernel
theorem dX0_congruent_44 : decode cX0_congruent 44 = .ok (.bipush 8, 2) := by decide +kernel
theorem dX0_congruent_46 : decode cX0_congruent 46 = .ok (.if_icmp .ge 24, 3) := by decide +kernel
theorem dX0_congruent_49 : decode cX0_congruent 49 = .ok (.aload_n 0, 1) := by decide +kernel
theorem dX0_congruent_50 : decode cX0_congruent 50 = .ok (.aload_n 3, 1) := by decide +kernel
theorem dX0_congruent_51 : decode cX0_congruent 51 = .ok (.iload 5, 2) := by decide +kernel
theorem dX0_congruent_53 : decode cX0_congruent 53 = .ok (.aload 4, 2) := by decide +kernel
theorem dX0_congruent_55 : decode cX0_congruent 55 = .ok (.invokevirtual 327, 3) := by decide +kernel
theorem dX0_congruent_58 : decode cX0_congruent 58 = .ok (.ifCond .eq 6, 3) := by decide +kernel
theorem dX0_congruent_61 : decode cX0_congruent 61 = .ok (.iload 5, 2) := by decide +kernel
theorem dX0_congruent_63 : decode cX0_congruent 63 = .ok (.ireturn, 1) := by decide +kernel
theorem dX0_congruent_64 : decode cX0_congruent 64 = .ok (.iinc 5 1, 3) := by decide +kernel
theorem dX0_congruent_67 : decode cX0_congruent 67 = .ok (.goto (-25), 3) := by decide +kernel
theorem dX0_congruent_70 : decode cX0_congruent 70 = .ok (.iconst (-1), 1) := by decide +kernel
theorem dX0_congruent_71 : decode cX0_congruent 71 = .ok (.ireturn, 1) := by decide +kernel
theorem dX0_find_0 : decode cX0_find 0 = .ok (.aload_n 0, 1) := by decide +kernel
theorem dX0_find_1 : decode cX0_find 1 = .ok (.iload_n 1, 1) := by decide +kernel
theorem dX0_find_2 : decode cX0_find 2 = .ok (.invokevirtual 150, 3) := by decide +kernel
theorem dX0_find_5 : decode cX0_find 5 = .ok (.astore 4, 2) := by decide +kernel
theorem dX0_find_7 : decode cX0_find 7 = .ok (.aload_n 0, 1) := by decide +kernel
theorem dX0_find_8 : decode cX0_find 8 = .ok (.iload_n 2, 1) := by decide +kernel
theorem dX0_find_9 : decode cX0_find 9 = .ok (.invokevirtual 150, 3) := by decide +kernel
theorem dX0_find_12 : decode cX0_find 12 = .ok (.astore 5, 2) := by decide +kernel
theorem dX0_find_14 : decode cX0_find 14 = .ok (.aload 4, 2) := by decide +kernel
theorem dX0_find_16 : decode cX0_find 16 = .ok (.ifnull 20, 3) := by decide +kernel
theorem dX0_find_19 : decode cX0_find 19 = .ok (.aload 5, 2) := by decide +kernel
theorem dX0_find_21 : decode cX0_find 21 = .ok (.ifnull 15, 3) := by decide +kernel
theorem dX0_find_24 : decode cX0_find 24 = .ok (.aload 5, 2) := by decide +kernel
theorem dX0_find_26 : decode cX0_find 26 = .ok (.invokevirtual 323, 3) := by decide +kernel
theorem dX0_find_29 : decode cX0_find 29 = .ok (.ifCond .eq 7, 3) := by decide +kernel
theorem dX0_find_32 : decode cX0_find 32 = .ok (.iload_n 3, 1) := by decide +kernel
theorem dX0_find_33 : decode cX0_find 33 = .ok (.ifCond .ge 5, 3) := by decide +kernel
theorem dX0_find_36 : decode cX0_find 36 = .ok (.iconst (-1), 1) := by decide +kernel
theorem dX0_find_37 : decode cX0_find 37 = .ok (.ireturn, 1) := by decide +kernel
theorem dX0_find_38 : decode cX0_find 38 = .ok (.iconst 0, 1) := by decide +kernel
theorem dX0_find_39 : decode cX0_find 39 = .ok (.istore 6, 2) := by decide +kernel
theorem dX0_find_41 : decode cX0_find 41 = .ok (.iconst 0, 1) := by decide +kernel
theorem dX0_find_42 : decode cX0_find 42 = .ok (.istore 7, 2) := by decide +kernel
theorem dX0_find_44 : decode cX0_find 44 = .ok (.iload 7, 2) := by decide +kernel
theorem dX0_find_46 : decode cX0_find 46 = .ok (.aload 4, 2) := by decide +kernel
theorem dX0_find_48 : decode cX0_find 48 = .ok (.getfield 140, 3) := by decide +kernel
theorem dX0_find_51 : decode cX0_find 51 = .ok (.invokevirtual 54, 3) := by decide +kernel
theorem dX0_find_54 : decode cX0_find 54 = .ok (.if_icmp .ge 101, 3) := by decide +kernel
theorem dX0_find_57 : decode cX0_find 57 = .ok (.iconst 0, 1) := by decide +kernel
theorem dX0_find_58 : decode cX0_find 58 = .ok (.istore 8, 2) := by decide +kernel
theorem dX0_find_60 : decode cX0_find 60 = .ok (.iload 8, 2) := by decide +kernel
theorem dX0_find_62 : decode cX0_find 62 = .ok (.aload 4, 2) := by decide +kernel
theorem dX0_find_64 : decode cX0_find 64 = .ok (.getfield 140, 3) := by decide +kernel
theorem dX0_find_67 : decode cX0_find 67 = .ok (.iload 7, 2) := by decide +kernel
theorem dX0_find_69 : decode cX0_find 69 = .ok (.invokevirtual 58, 3) := by decide +kernel
theorem dX0_find_72 : decode cX0_find 72 = .ok (.checkcast 138, 3) := by decide +kernel
theorem dX0_find_75 : decode cX0_find 75 = .ok (.getfield 187, 3) := by decide +kernel
theorem dX0_find_78 : decode cX0_find 78 = .ok (.arraylength, 1) := by decide +kernel
theorem dX0_find_79 : decode cX0_find 79 = .ok (.if_icmp .ge 70, 3) := by decide +kernel
theorem dX0_find_82 : decode cX0_find 82 = .ok (.iconst 0, 1) := by decide +kernel
theorem dX0_find_83 : decode cX0_find 83 = .ok (.istore 9, 2) := by decide +kernel
theorem dX0_find_85 : decode cX0_find 85 = .ok (.iload 9, 2) := by decide +kernel
theorem dX0_find_87 : decode cX0_find 87 = .ok (.bipush 8, 2) := by decide +kernel
theorem dX0_find_89 : decode cX0_find 89 = .ok (.if_icmp .ge 54, 3) := by decide +kernel
theorem dX0_find_92 : decode cX0_find 92 = .ok (.aload_n 0, 1) := by decide +kernel
theorem dX0_find_93 : decode cX0_find 93 = .ok (.aload 4, 2) := by decide +kernel
theorem dX0_find_95 : decode cX0_find 95 = .ok (.iload 7, 2) := by decide +kernel
theorem dX0_find_97 : decode cX0_find 97 = .ok (.iload 8, 2) := by decide +kernel
theorem dX0_find_99 : decode cX0_find 99 = .ok (.aload 5, 2) := by decide +kernel
theorem dX0_find_101 : decode cX0_find 101 = .ok (.iload 9, 2) := by decide +kernel
theorem dX0_find_103 : decode cX0_find 103 = .ok (.invokevirtual 330, 3) := by decide +kernel
theorem dX0_find_106 : decode cX0_find 106 = .ok (.ifCond .ne 6, 3) := by decide +kernel
theorem dX0_find_109 : decode cX0_find 109 = .ok (.goto 28, 3) := by decide +kernel
theorem dX0_find_112 : decode cX0_find 112 = .ok (.iload 6, 2) := by decide +kernel
theorem dX0_find_114 : decode cX0_find 114 = .ok (.iload_n 3, 1) := by decide +kernel
theorem dX0_find_115 : decode cX0_find 115 = .ok (.if_icmp .ne 19, 3) := by decide +kernel
theorem dX0_find_118 : decode cX0_find 118 = .ok (.sipush 1000, 3) := by decide +kernel
theorem dX0_find_121 : decode cX0_find 121 = .ok (.iload 7, 2) := by decide +kernel
theorem dX0_find_123 : decode cX0_find 123 = .ok (.imul, 1) := by decide +kernel
theorem dX0_find_124 : decode cX0_find 124 = .ok (.bipush 10, 2) := by decide +kernel
theorem dX0_find_126 : decode cX0_find 126 = .ok (.iload 8, 2) := by decide +kernel
theorem dX0_find_128 : decode cX0_find 128 = .ok (.imul, 1) := by decide +kernel
theorem dX0_find_129 : decode cX0_find 129 = .ok (.iadd, 1) := by decide +kernel
theorem dX0_find_130 : decode cX0_find 130 = .ok (.iload 9, 2) := by decide +kernel
theorem dX0_find_132 : decode cX0_find 132 = .ok (.iadd, 1) := by decide +kernel
theorem dX0_find_133 : decode cX0_find 133 = .ok (.ireturn, 1) := by decide +kernel
theorem dX0_find_134 : decode cX0_find 134 = .ok (.iinc 6 1, 3) := by decide +kernel
theorem dX0_find_137 : decode cX0_find 137 = .ok (.iinc 9 1, 3) := by decide +kernel
theorem dX0_find_140 : decode cX0_find 140 = .ok (.goto (-55), 3) := by decide +kernel
theorem dX0_find_143 : decode cX0_find 143 = .ok (.iinc 8 1, 3) := by decide +kernel
theorem dX0_find_146 : decode cX0_find 146 = .ok (.goto (-86), 3) := by decide +kernel
theorem dX0_find_149 : decode cX0_find 149 = .ok (.iinc 7 1, 3) := by decide +kernel
theorem dX0_find_152 : decode cX0_find 152 = .ok (.goto (-108), 3) := by decide +kernel
theorem dX0_find_155 : decode cX0_find 155 = .ok (.iconst (-1), 1) := by decide +kernel
theorem dX0_find_156 : decode cX0_find 156 = .ok (.ireturn, 1) := by decide +kernel
theorem dX0_lies_0 : decode cX0_lies 0 = .ok (.aload 4, 2) := by decide +kernel
theorem dX0_lies_2 : decode cX0_lies 2 = .ok (.iload 5, 2) := by decide +kernel
theorem dX0_lies_4 : decode cX0_lies 4 = .ok (.invokestatic 312, 3) := by decide +kernel
theorem dX0_lies_7 : decode cX0_lies 7 = .ok (.istore 6, 2) := by decide +kernel
theorem dX0_lies_9 : decode cX0_lies 9 = .ok (.aload 4, 2) := by decide +kernel
theorem dX0_lies_11 : decode cX0_lies 11 = .ok (.iload 5, 2) := by decide +kernel
theorem dX0_lies_13 : decode cX0_lies 13 = .ok (.invokestatic 316, 3) := by decide +kernel
theorem dX0_lies_16 : decode cX0_lies 16 = .ok (.istore 7, 2) := by decide +kernel
theorem dX0_lies_18 : decode cX0_lies 18 = .ok (.iload_n 2, 1) := by decide +kernel
theorem dX0_lies_19 : decode cX0_lies 19 = .ok (.iload 6, 2) := by decide +kernel
theorem dX0_lies_21 : decode cX0_lies 21 = .ok (.iadd, 1) := by decide +kernel
theorem dX0_lies_22 : decode cX0_lies 22 = .ok (.aload_n 1, 1) := by decide +kernel
theorem dX0_lies_23 : decode cX0_lies 23 = .ok (.getfield 140, 3) := by decide +kernel
theorem dX0_lies_26 : decode cX0_lies 26 = .ok (.invokevirtual 54, 3) := by decide +kernel
theorem dX0_lies_29 : decode cX0_lies 29 = .ok (.if_icmp .le 5, 3) := by decide +kernel
theorem dX0_lies_32 : decode cX0_lies 32 = .ok (.iconst 0, 1) := by decide +kernel
theorem dX0_lies_33 : decode cX0_lies 33 = .ok (.ireturn, 1) := by decide +kernel
theorem dX0_lies_34 : decode cX0_lies 34 = .ok (.iconst 0, 1) := by decide +kernel
theorem dX0_lies_35 : decode cX0_lies 35 = .ok (.istore 8, 2) := by decide +kernel
theorem dX0_lies_37 : decode cX0_lies 37 = .ok (.iload 8, 2) := by decide +kernel
theorem dX0_lies_39 : decode cX0_lies 39 = .ok (.iload 6, 2) := by decide +kernel
theorem dX0_lies_41 : decode cX0_lies 41 = .ok (.if_icmp .ge 110, 3) := by decide +kernel
theorem dX0_lies_44 : decode cX0_lies 44 = .ok (.aload_n 1, 1) := by decide +kernel
theorem dX0_lies_45 : decode cX0_lies 45 = .ok (.getfield 140, 3) := by decide +kernel
theorem dX0_lies_48 : decode cX0_lies 48 = .ok (.iload_n 2, 1) := by decide +kernel
theorem dX0_lies_49 : decode cX0_lies 49 = .ok (.iload 8, 2) := by decide +kernel
theorem dX0_lies_51 : decode cX0_lies 51 = .ok (.iadd, 1) := by decide +kernel
theorem dX0_lies_52 : decode cX0_lies 52 = .ok (.invokevirtual 58, 3) := by decide +kernel
theorem dX0_lies_55 : decode cX0_lies 55 = .ok (.checkcast 138, 3) := by decide +kernel
theorem dX0_lies_58 : decode cX0_lies 58 = .ok (.astore 9, 2) := by decide +kernel
theorem dX0_lies_60 : decode cX0_lies 60 = .ok (.aload_n 1, 1) := by decide +kernel
theorem dX0_lies_61 : decode cX0_lies 61 = .ok (.getfield 140, 3) := by decide +kernel
theorem dX0_lies_64 : decode cX0_lies 64 = .ok (.iload_n 2, 1) := by decide +kernel
theorem dX0_lies_65 : decode cX0_lies 65 = .ok (.invokevirtual 58, 3) := by decide +kernel
theorem dX0_lies_68 : decode cX0_lies 68 = .ok (.checkcast 138, 3) := by decide +kernel
theorem dX0_lies_71 : decode cX0_lies 71 = .ok (.getfield 181, 3) := by decide +kernel
theorem dX0_lies_74 : decode cX0_lies 74 = .ok (.iload_n 3, 1) := by decide +kernel
theorem dX0_lies_75 : decode cX0_lies 75 = .ok (.iadd, 1) := by decide +kernel
theorem dX0_lies_76 : decode cX0_lies 76 = .ok (.aload 9, 2) := by decide +kernel
theorem dX0_lies_78 : decode cX0_lies 78 = .ok (.getfield 181, 3) := by decide +kernel
theorem dX0_lies_81 : decode cX0_lies 81 = .ok (.isub, 1) := by decide +kernel
theorem dX0_lies_82 : decode cX0_lies 82 = .ok (.istore 10, 2) := by decide +kernel
theorem dX0_lies_84 : decode cX0_lies 84 = .ok (.iload 10, 2) := by decide +kernel
theorem dX0_lies_86 : decode cX0_lies 86 = .ok (.ifCond .lt 17, 3) := by decide +kernel
theorem dX0_lies_89 : decode cX0_lies 89 = .ok (.iload 10, 2) := by decide +kernel
theorem dX0_lies_91 : decode cX0_lies 91 = .ok (.iload 7, 2) := by decide +kernel
theorem dX0_lies_93 : decode cX0_lies 93 = .ok (.iadd, 1) := by decide +kernel
theorem dX0_lies_94 : decode cX0_lies 94 = .ok (.aload 9, 2) := by decide +kernel
theorem dX0_lies_96 : decode cX0_lies 96 = .ok (.getfield 187, 3) := by decide +kernel
theorem dX0_lies_99 : decode cX0_lies 99 = .ok (.arraylength, 1) := by decide +kernel
theorem dX0_lies_100 : decode cX0_lies 100 = .ok (.if_icmp .le 5, 3) := by decide +kernel
theorem dX0_lies_103 : decode cX0_lies 103 = .ok (.iconst 0, 1) := by decide +kernel
theorem dX0_lies_104 : decode cX0_lies 104 = .ok (.ireturn, 1) := by decide +kernel
theorem dX0_lies_105 : decode cX0_lies 105 = .ok (.iconst 0, 1) := by decide +kernel
theorem dX0_lies_106 : decode cX0_lies 106 = .ok (.istore 11, 2) := by decide +kernel
theorem dX0_lies_108 : decode cX0_lies 108 = .ok (.iload 11, 2) := by decide +kernel
theorem dX0_lies_110 : decode cX0_lies 110 = .ok (.iload 7, 2) := by decide +kernel
theorem dX0_lies_112 : decode cX0_lies 112 = .ok (.if_icmp .ge 33, 3) := by decide +kernel
theorem dX0_lies_115 : decode cX0_lies 115 = .ok (.aload_n 0, 1) := by decide +kernel
theorem dX0_lies_116 : decode cX0_lies 116 = .ok (.aload 4, 2) := by decide +kernel
theorem dX0_lies_118 : decode cX0_lies 118 = .ok (.iload 5, 2) := by decide +kernel
theorem dX0_lies_120 : decode cX0_lies 120 = .ok (.iload 8, 2) := by decide +kernel
theorem dX0_lies_122 : decode cX0_lies 122 = .ok (.iload 11, 2) := by decide +kernel
theorem dX0_lies_124 : decode cX0_lies 124 = .ok (.aload 9, 2) := by decide +kernel
theorem dX0_lies_126 : decode cX0_lies 126 = .ok (.iload 10, 2) := by decide +kernel
theorem dX0_lies_128 : decode cX0_lies 128 = .ok (.iload 11, 2) := by decide +kernel
theorem dX0_lies_130 : decode cX0_lies 130 = .ok (.iadd, 1) := by decide +kernel
theorem dX0_lies_131 : decode cX0_lies 131 = .ok (.invokevirtual 319, 3) := by decide +kernel
theorem dX0_lies_134 : decode cX0_lies 134 = .ok (.ifCond .ne 5, 3) := by decide +kernel
theorem dX0_lies_137 : decode cX0_lies 137 = .ok (.iconst 0, 1) := by decide +kernel
theorem dX0_lies_138 : decode cX0_lies 138 = .ok (.ireturn, 1) := by decide +kernel
theorem dX0_lies_139 : decode cX0_lies 139 = .ok (.iinc 11 1, 3) := by decide +kernel
theorem dX0_lies_142 : decode cX0_lies 142 = .ok (.goto (-34), 3) := by decide +kernel
theorem dX0_lies_145 : decode cX0_lies 145 = .ok (.iinc 8 1, 3) := by decide +kernel
theorem dX0_lies_148 : decode cX0_lies 148 = .ok (.goto (-111), 3) := by decide +kernel
theorem dX0_lies_151 : decode cX0_lies 151 = .ok (.iconst 1, 1) := by decide +kernel
theorem dX0_lies_152 : decode cX0_lies 152 = .ok (.ireturn, 1) := by decide +kernel
theorem dX0_floor_0 : decode cX0_floor 0 = .ok (.aload_n 0, 1) := by decide +kernel
theorem dX0_floor_1 : decode cX0_floor 1 = .ok (.getfield 22, 3) := by decide +kernel
theorem dX0_floor_4 : decode cX0_floor 4 = .ok (.invokevirtual 54, 3) := by decide +kernel
theorem dX0_floor_7 : decode cX0_floor 7 = .ok (.bipush 6, 2) := by decide +kernel
theorem dX0_floor_9 : decode cX0_floor 9 = .ok (.if_icmp .eq 25, 3) := by decide +kernel
theorem dX0_floor_12 : decode cX0_floor 12 = .ok (.iload_n 1, 1) := by decide +kernel
theorem dX0_floor_13 : decode cX0_floor 13 = .ok (.iconst 1, 1) := by decide +kernel
theorem dX0_floor_14 : decode cX0_floor 14 = .ok (.if_icmp .lt 20, 3) := by decide +kernel
theorem dX0_floor_17 : decode cX0_floor 17 = .ok (.iload_n 1, 1) := by decide +kernel
theorem dX0_floor_18 : decode cX0_floor 18 = .ok (.bipush 8, 2) := by decide +kernel
theorem dX0_floor_20 : decode cX0_floor 20 = .ok (.if_icmp .gt 14, 3) := by decide +kernel
theorem dX0_floor_23 : decode cX0_floor 23 = .ok (.iload_n 2, 1) := by decide +kernel
theorem dX0_floor_24 : decode cX0_floor 24 = .ok (.iconst 1, 1) := by decide +kernel
theorem dX0_floor_25 : decode cX0_floor 25 = .ok (.if_icmp .lt 9, 3) := by decide +kernel
theorem dX0_floor_28 : decode cX0_floor 28 = .ok (.iload_n 2, 1) := by decide +kernel
theorem dX0_floor_29 : decode cX0_floor 29 = .ok (.bipush 8, 2) := by decide +kernel
theorem dX0_floor_31 : decode cX0_floor 31 = .ok (.if_icmp .le 5, 3) := by decide +kernel
theorem dX0_floor_34 : decode cX0_floor 34 = .ok (.iconst (-1), 1) := by decide +kernel
theorem dX0_floor_35 : decode cX0_floor 35 = .ok (.ireturn, 1) := by decide +kernel
theorem dX0_floor_36 : decode cX0_floor 36 = .ok (.aload_n 0, 1) := by decide +kernel
theorem dX0_floor_37 : decode cX0_floor 37 = .ok (.getfield 22, 3) := by decide +kernel
theorem dX0_floor_40 : decode cX0_floor 40 = .ok (.new 66, 3) := by decide +kernel
theorem dX0_floor_43 : decode cX0_floor 43 = .ok (.dup, 1) := by decide +kernel
theorem dX0_floor_44 : decode cX0_floor 44 = .ok (.aload_n 0, 1) := by decide +kernel
theorem dX0_floor_45 : decode cX0_floor 45 = .ok (.iload_n 1, 1) := by decide +kernel
theorem dX0_floor_46 : decode cX0_floor 46 = .ok (.iload_n 2, 1) := by decide +kernel
theorem dX0_floor_47 : decode cX0_floor 47 = .ok (.invokespecial 333, 3) := by decide +kernel
theorem dX0_floor_50 : decode cX0_floor 50 = .ok (.invokevirtual 98, 3) := by decide +kernel
theorem dX0_floor_53 : decode cX0_floor 53 = .ok (.pop, 1) := by decide +kernel
theorem dX0_floor_54 : decode cX0_floor 54 = .ok (.aload_n 0, 1) := by decide +kernel
theorem dX0_floor_55 : decode cX0_floor 55 = .ok (.getfield 22, 3) := by decide +kernel
theorem dX0_floor_58 : decode cX0_floor 58 = .ok (.invokevirtual 54, 3) := by decide +kernel
theorem dX0_floor_61 : decode cX0_floor 61 = .ok (.iconst 1, 1) := by decide +kernel
theorem dX0_floor_62 : decode cX0_floor 62 = .ok (.isub, 1) := by decide +kernel
theorem dX0_floor_63 : decode cX0_floor 63 = .ok (.ireturn, 1) := by decide +kernel
theorem dX0_place_0 : decode cX0_place 0 = .ok (.aload_n 0, 1) := by decide +kernel
theorem dX0_place_1 : decode cX0_place 1 = .ok (.iload_n 1, 1) := by decide +kernel
theorem dX0_place_2 : decode cX0_place 2 = .ok (.invokevirtual 336, 3) := by decide +kernel
theorem dX0_place_5 : decode cX0_place 5 = .ok (.astore 6, 2) := by decide +kernel
theorem dX0_place_7 : decode cX0_place 7 = .ok (.aload 6, 2) := by decide +kernel
theorem dX0_place_9 : decode cX0_place 9 = .ok (.ifnull 51, 3) := by decide +kernel
theorem dX0_place_12 : decode cX0_place 12 = .ok (.iload 4, 2) := by decide +kernel
theorem dX0_place_14 : decode cX0_place 14 = .ok (.bipush (-2), 2) := by decide +kernel
theorem dX0_place_16 : decode cX0_place 16 = .ok (.if_icmp .eq 26, 3) := by decide +kernel
theorem dX0_place_19 : decode cX0_place 19 = .ok (.iload 4, 2) := by decide +kernel
theorem dX0_place_21 : decode cX0_place 21 = .ok (.iconst (-1), 1) := by decide +kernel
theorem dX0_place_22 : decode cX0_place 22 = .ok (.if_icmp .eq 20, 3) := by decide +kernel
theorem dX0_place_25 : decode cX0_place 25 = .ok (.aload_n 0, 1) := by decide +kernel
theorem dX0_place_26 : decode cX0_place 26 = .ok (.iload 4, 2) := by decide +kernel
theorem dX0_place_28 : decode cX0_place 28 = .ok (.invokevirtual 102, 3) := by decide +kernel
theorem dX0_place_31 : decode cX0_place 31 = .ok (.ifCond .eq 29, 3) := by decide +kernel
theorem dX0_place_34 : decode cX0_place 34 = .ok (.iload 5, 2) := by decide +kernel
theorem dX0_place_36 : decode cX0_place 36 = .ok (.invokestatic 106, 3) := by decide +kernel
theorem dX0_place_39 : decode cX0_place 39 = .ok (.ifCond .eq 21, 3) := by decide +kernel
theorem dX0_place_42 : decode cX0_place 42 = .ok (.aload 6, 2) := by decide +kernel
theorem dX0_place_44 : decode cX0_place 44 = .ok (.iload_n 2, 1) := by decide +kernel
theorem dX0_place_45 : decode cX0_place 45 = .ok (.iload_n 3, 1) := by decide +kernel
theorem dX0_place_46 : decode cX0_place 46 = .ok (.iload 4, 2) := by decide +kernel
theorem dX0_place_48 : decode cX0_place 48 = .ok (.iload 5, 2) := by decide +kernel
theorem dX0_place_50 : decode cX0_place 50 = .ok (.invokevirtual 340, 3) := by decide +kernel
theorem dX0_place_53 : decode cX0_place 53 = .ok (.ifCond .eq 7, 3) := by decide +kernel
theorem dX0_place_56 : decode cX0_place 56 = .ok (.iconst 1, 1) := by decide +kernel
theorem dX0_place_57 : decode cX0_place 57 = .ok (.goto 4, 3) := by decide +kernel
theorem dX0_place_60 : decode cX0_place 60 = .ok (.iconst 0, 1) := by decide +kernel
theorem dX0_place_61 : decode cX0_place 61 = .ok (.ireturn, 1) := by decide +kernel
theorem dX0_floor_2_0 : decode cX0_floor_2 0 = .ok (.iload_n 1, 1) := by decide +kernel
theorem dX0_floor_2_1 : decode cX0_floor_2 1 = .ok (.ifCond .lt 28, 3) := by decide +kernel
theorem dX0_floor_2_4 : decode cX0_floor_2 4 = .ok (.iload_n 1, 1) := by decide +kernel
theorem dX0_floor_2_5 : decode cX0_floor_2 5 = .ok (.aload_n 0, 1) := by decide +kernel
theorem dX0_floor_2_6 : decode cX0_floor_2 6 = .ok (.getfield 22, 3) := by decide +kernel
theorem dX0_floor_2_9 : decode cX0_floor_2 9 = .ok (.invokevirtual 54, 3) := by decide +kernel
theorem dX0_floor_2_12 : decode cX0_floor_2 12 = .ok (.if_icmp .ge 17, 3) := by decide +kernel
theorem dX0_floor_2_15 : decode cX0_floor_2 15 = .ok (.aload_n 0, 1) := by decide +kernel
theorem dX0_floor_2_16 : decode cX0_floor_2 16 = .ok (.getfield 22, 3) := by decide +kernel
theorem dX0_floor_2_19 : decode cX0_floor_2 19 = .ok (.iload_n 1, 1) := by decide +kernel
theorem dX0_floor_2_20 : decode cX0_floor_2 20 = .ok (.invokevirtual 58, 3) := by decide +kernel
theorem dX0_floor_2_23 : decode cX0_floor_2 23 = .ok (.checkcast 66, 3) := by decide +kernel
theorem dX0_floor_2_26 : decode cX0_floor_2 26 = .ok (.goto 4, 3) := by decide +kernel
theorem dX0_floor_2_29 : decode cX0_floor_2 29 = .ok (.aconst_null, 1) := by decide +kernel
theorem dX0_floor_2_30 : decode cX0_floor_2 30 = .ok (.areturn, 1) := by decide +kernel
theorem dX0_stock_0 : decode cX0_stock 0 = .ok (.aload_n 0, 1) := by decide +kernel
theorem dX0_stock_1 : decode cX0_stock 1 = .ok (.iload_n 1, 1) := by decide +kernel
theorem dX0_stock_2 : decode cX0_stock 2 = .ok (.invokevirtual 336, 3) := by decide +kernel
theorem dX0_stock_5 : decode cX0_stock 5 = .ok (.astore 4, 2) := by decide +kernel
theorem dX0_stock_7 : decode cX0_stock 7 = .ok (.aload 4, 2) := by decide +kernel
theorem dX0_stock_9 : decode cX0_stock 9 = .ok (.ifnull 21, 3) := by decide +kernel
theorem dX0_stock_12 : decode cX0_stock 12 = .ok (.aload_n 0, 1) := by decide +kernel
theorem dX0_stock_13 : decode cX0_stock 13 = .ok (.iload_n 2, 1) := by decide +kernel
theorem dX0_stock_14 : decode cX0_stock 14 = .ok (.invokevirtual 102, 3) := by decide +kernel
theorem dX0_stock_17 : decode cX0_stock 17 = .ok (.ifCond .eq 13, 3) := by decide +kernel
theorem dX0_stock_20 : decode cX0_stock 20 = .ok (.iload_n 3, 1) := by decide +kernel
theorem dX0_stock_21 : decode cX0_stock 21 = .ok (.ifCond .lt 9, 3) := by decide +kernel
theorem dX0_stock_24 : decode cX0_stock 24 = .ok (.iload_n 3, 1) := by decide +kernel
theorem dX0_stock_25 : decode cX0_stock 25 = .ok (.bipush 99, 2) := by decide +kernel
theorem dX0_stock_27 : decode cX0_stock 27 = .ok (.if_icmp .le 5, 3) := by decide +kernel
theorem dX0_stock_30 : decode cX0_stock 30 = .ok (.iconst 0, 1) := by decide +kernel
theorem dX0_stock_31 : decode cX0_stock 31 = .ok (.ireturn, 1) := by decide +kernel
theorem dX0_stock_32 : decode cX0_stock 32 = .ok (.aload 4, 2) := by decide +kernel
theorem dX0_stock_34 : decode cX0_stock 34 = .ok (.getfield 344, 3) := by decide +kernel
theorem dX0_stock_37 : decode cX0_stock 37 = .ok (.iload_n 2, 1) := by decide +kernel
theorem dX0_stock_38 : decode cX0_stock 38 = .ok (.iload_n 3, 1) := by decide +kernel
theorem dX0_stock_39 : decode cX0_stock 39 = .ok (.iastore, 1) := by decide +kernel
theorem dX0_stock_40 : decode cX0_stock 40 = .ok (.iconst 1, 1) := by decide +kernel
theorem dX0_stock_41 : decode cX0_stock 41 = .ok (.ireturn, 1) := by decide +kernel
theorem dX0_fill_0 : decode cX0_fill 0 = .ok (.aload_n 0, 1) := by decide +kernel
theorem dX0_fill_1 : decode cX0_fill 1 = .ok (.iload_n 1, 1) := by decide +kernel
theorem dX0_fill_2 : decode cX0_fill 2 = .ok (.invokevirtual 336, 3) := by decide +kernel
theorem dX0_fill_5 : decode cX0_fill 5 = .ok (.astore_n 2, 1) := by decide +kernel
theorem dX0_fill_6 : decode cX0_fill 6 = .ok (.aload_n 2, 1) := by decide +kernel
theorem dX0_fill_7 : decode cX0_fill 7 = .ok (.ifnonnull 7, 3) := by decide +kernel
theorem dX0_fill_10 : decode cX0_fill 10 = .ok (.iconst (-1), 1) := by decide +kernel
theorem dX0_fill_11 : decode cX0_fill 11 = .ok (.goto 7, 3) := by decide +kernel
theorem dX0_fill_14 : decode cX0_fill 14 = .ok (.aload_n 2, 1) := by decide +kernel
theorem dX0_fill_15 : decode cX0_fill 15 = .ok (.invokevirtual 347, 3) := by decide +kernel
theorem dX0_fill_18 : decode cX0_fill 18 = .ok (.ireturn, 1) := by decide +kernel
theorem dX0_fills_0 : decode cX0_fills 0 = .ok (.aload_n 0, 1) := by decide +kernel
theorem dX0_fills_1 : decode cX0_fills 1 = .ok (.iload_n 1, 1) := by decide +kernel
theorem dX0_fills_2 : decode cX0_fills 2 = .ok (.invokevirtual 336, 3) := by decide +kernel
theorem dX0_fills_5 : decode cX0_fills 5 = .ok (.astore_n 3, 1) := by decide +kernel
theorem dX0_fills_6 : decode cX0_fills 6 = .ok (.aload_n 3, 1) := by decide +kernel
theorem dX0_fills_7 : decode cX0_fills 7 = .ok (.ifnull 15, 3) := by decide +kernel
theorem dX0_fills_10 : decode cX0_fills 10 = .ok (.iload_n 2, 1) := by decide +kernel
theorem dX0_fills_11 : decode cX0_fills 11 = .ok (.iconst 1, 1) := by decide +kernel
theorem dX0_fills_12 : decode cX0_fills 12 = .ok (.if_icmp .lt 10, 3) := by decide +kernel
theorem dX0_fills_15 : decode cX0_fills 15 = .ok (.iload_n 2, 1) := by decide +kernel
theorem dX0_fills_16 : decode cX0_fills 16 = .ok (.sipush 1000, 3) := by decide +kernel
theorem dX0_fills_19 : decode cX0_fills 19 = .ok (.if_icmp .le 7, 3) := by decide +kernel
theorem dX0_fills_22 : decode cX0_fills 22 = .ok (.iconst (-1), 1) := by decide +kernel
theorem dX0_fills_23 : decode cX0_fills 23 = .ok (.goto 8, 3) := by decide +kernel
theorem dX0_fills_26 : decode cX0_fills 26 = .ok (.aload_n 3, 1) := by decide +kernel
theorem dX0_fills_27 : decode cX0_fills 27 = .ok (.iload_n 2, 1) := by decide +kernel
theorem dX0_fills_28 : decode cX0_fills 28 = .ok (.invokevirtual 350, 3) := by decide +kernel
theorem dX0_fills_31 : decode cX0_fills 31 = .ok (.ireturn, 1) := by decide +kernel
theorem dX0_cheapest_0 : decode cX0_cheapest 0 = .ok (.aload_n 0, 1) := by decide +kernel
theorem dX0_cheapest_1 : decode cX0_cheapest 1 = .ok (.iload_n 1, 1) := by decide +kernel
theorem dX0_cheapest_2 : decode cX0_cheapest 2 = .ok (.invokevirtual 336, 3) := by decide +kernel
theorem dX0_cheapest_5 : decode cX0_cheapest 5 = .ok (.astore_n 2, 1) := by decide +kernel
theorem dX0_cheapest_6 : decode cX0_cheapest 6 = .ok (.aload_n 2, 1) := by decide +kernel
theorem dX0_cheapest_7 : decode cX0_cheapest 7 = .ok (.ifnonnull 7, 3) := by decide +kernel
theorem dX0_cheapest_10 : decode cX0_cheapest 10 = .ok (.iconst (-1), 1) := by decide +kernel
theorem dX0_cheapest_11 : decode cX0_cheapest 11 = .ok (.goto 7, 3) := by decide +kernel
theorem dX0_cheapest_14 : decode cX0_cheapest 14 = .ok (.aload_n 2, 1) := by decide +kernel
theorem dX0_cheapest_15 : decode cX0_cheapest 15 = .ok (.invokevirtual 353, 3) := by decide +kernel
theorem dX0_cheapest_18 : decode cX0_cheapest 18 = .ok (.ireturn, 1) := by decide +kernel
theorem dX0_forced_0 : decode cX0_forced 0 = .ok (.aload_n 0, 1) := by decide +kernel
theorem dX0_forced_1 : decode cX0_forced 1 = .ok (.iload_n 1, 1) := by decide +kernel
theorem dX0_forced_2 : decode cX0_forced 2 = .ok (.invokevirtual 336, 3) := by decide +kernel
theorem dX0_forced_5 : decode cX0_forced 5 = .ok (.astore_n 2, 1) := by decide +kernel
theorem dX0_forced_6 : decode cX0_forced 6 = .ok (.aload_n 2, 1) := by decide +kernel
theorem dX0_forced_7 : decode cX0_forced 7 = .ok (.ifnonnull 7, 3) := by decide +kernel
theorem dX0_forced_10 : decode cX0_forced 10 = .ok (.iconst (-1), 1) := by decide +kernel
theorem dX0_forced_11 : decode cX0_forced 11 = .ok (.goto 7, 3) := by decide +kernel
theorem dX0_forced_14 : decode cX0_forced 14 = .ok (.aload_n 2, 1) := by decide +kernel
theorem dX0_forced_15 : decode cX0_forced 15 = .ok (.invokevirtual 356, 3) := by decide +kernel
theorem dX0_forced_18 : decode cX0_forced 18 = .ok (.ireturn, 1) := by decide +kernel
theorem dX0_shown_0 : decode cX0_shown 0 = .ok (.aload_n 0, 1) := by decide +kernel
theorem dX0_shown_1 : decode cX0_shown 1 = .ok (.iload_n 1, 1) := by decide +kernel
theorem dX0_shown_2 : decode cX0_shown 2 = .ok (.invokevirtual 336, 3) := by decide +kernel
theorem dX0_shown_5 : decode cX0_shown 5 = .ok (.astore 4, 2) := by decide +kernel
theorem dX0_shown_7 : decode cX0_shown 7 = .ok (.aload 4, 2) := by decide +kernel
theorem dX0_shown_9 : decode cX0_shown 9 = .ok (.ifnonnull 8, 3) := by decide +kernel
theorem dX0_shown_12 : decode cX0_shown 12 = .ok (.bipush (-2), 2) := by decide +kernel
theorem dX0_shown_14 : decode cX0_shown 14 = .ok (.goto 10, 3) := by decide +kernel
theorem dX0_shown_17 : decode cX0_shown 17 = .ok (.aload 4, 2) := by decide +kernel
theorem dX0_shown_19 : decode cX0_shown 19 = .ok (.iload_n 2, 1) := by decide +kernel
theorem dX0_shown_20 : decode cX0_shown 20 = .ok (.iload_n 3, 1) := by decide +kernel
theorem dX0_shown_21 : decode cX0_shown 21 = .ok (.invokevirtual 359, 3) := by decide +kernel
theorem dX0_shown_24 : decode cX0_shown 24 = .ok (.ireturn, 1) := by decide +kernel
theorem dX0_undo_0 : decode cX0_undo 0 = .ok (.aload_n 0, 1) := by decide +kernel
theorem dX0_undo_1 : decode cX0_undo 1 = .ok (.getfield 122, 3) := by decide +kernel
theorem dX0_undo_4 : decode cX0_undo 4 = .ok (.ifCond .ne 5, 3) := by decide +kernel
theorem dX0_undo_7 : decode cX0_undo 7 = .ok (.iconst (-1), 1) := by decide +kernel
theorem dX0_undo_8 : decode cX0_undo 8 = .ok (.ireturn, 1) := by decide +kernel
theorem dX0_undo_9 : decode cX0_undo 9 = .ok (.aload_n 0, 1) := by decide +kernel
theorem dX0_undo_10 : decode cX0_undo 10 = .ok (.dup, 1) := by decide +kernel
theorem dX0_undo_11 : decode cX0_undo 11 = .ok (.getfield 122, 3) := by decide +kernel
theorem dX0_undo_14 : decode cX0_undo 14 = .ok (.iconst 1, 1) := by decide +kernel
theorem dX0_undo_15 : decode cX0_undo 15 = .ok (.isub, 1) := by decide +kernel
theorem dX0_undo_16 : decode cX0_undo 16 = .ok (.putfield 122, 3) := by decide +kernel
theorem dX0_undo_19 : decode cX0_undo 19 = .ok (.aload_n 0, 1) := by decide +kernel
theorem dX0_undo_20 : decode cX0_undo 20 = .ok (.getfield 27, 3) := by decide +kernel
theorem dX0_undo_23 : decode cX0_undo 23 = .ok (.aload_n 0, 1) := by decide +kernel
theorem dX0_undo_24 : decode cX0_undo 24 = .ok (.getfield 122, 3) := by decide +kernel
theorem dX0_undo_27 : decode cX0_undo 27 = .ok (.aaload, 1) := by decide +kernel
theorem dX0_undo_28 : decode cX0_undo 28 = .ok (.getfield 362, 3) := by decide +kernel
theorem dX0_undo_31 : decode cX0_undo 31 = .ok (.aload_n 0, 1) := by decide +kernel
theorem dX0_undo_32 : decode cX0_undo 32 = .ok (.getfield 27, 3) := by decide +kernel
theorem dX0_undo_35 : decode cX0_undo 35 = .ok (.aload_n 0, 1) := by decide +kernel
theorem dX0_undo_36 : decode cX0_undo 36 = .ok (.getfield 122, 3) := by decide +kernel
theorem dX0_undo_39 : decode cX0_undo 39 = .ok (.aaload, 1) := by decide +kernel
theorem dX0_undo_40 : decode cX0_undo 40 = .ok (.getfield 366, 3) := by decide +kernel
theorem dX0_undo_43 : decode cX0_undo 43 = .ok (.putfield 140, 3) := by decide +kernel
theorem dX0_undo_46 : decode cX0_undo 46 = .ok (.aload_n 0, 1) := by decide +kernel
theorem dX0_undo_47 : decode cX0_undo 47 = .ok (.getfield 27, 3) := by decide +kernel
theorem dX0_undo_50 : decode cX0_undo 50 = .ok (.aload_n 0, 1) := by decide +kernel
theorem dX0_undo_51 : decode cX0_undo 51 = .ok (.getfield 122, 3) := by decide +kernel
theorem dX0_undo_54 : decode cX0_undo 54 = .ok (.aconst_null, 1) := by decide +kernel
theorem dX0_undo_55 : decode cX0_undo 55 = .ok (.aastore, 1) := by decide +kernel
theorem dX0_undo_56 : decode cX0_undo 56 = .ok (.aload_n 0, 1) := by decide +kernel
theorem dX0_undo_57 : decode cX0_undo 57 = .ok (.getfield 122, 3) := by decide +kernel
theorem dX0_undo_60 : decode cX0_undo 60 = .ok (.ireturn, 1) := by decide +kernel
theorem dX0_about_0 : decode cX0_about 0 = .ok (.iload_n 1, 1) := by decide +kernel
theorem dX0_about_1 : decode cX0_about 1 = .ok (.tableswitch 136 0 8 #[51, 59, 67, 75, 83, 88, 107, 126, 131], 51) := by decide +kernel
theorem dX0_about_52 : decode cX0_about 52 = .ok (.aload_n 0, 1) := by decide +kernel
theorem dX0_about_53 : decode cX0_about 53 = .ok (.getfield 10, 3) := by decide +kernel
theorem dX0_about_56 : decode cX0_about 56 = .ok (.invokevirtual 54, 3) := by decide +kernel
theorem dX0_about_59 : decode cX0_about 59 = .ok (.ireturn, 1) := by decide +kernel
theorem dX0_about_60 : decode cX0_about 60 = .ok (.aload_n 0, 1) := by decide +kernel
theorem dX0_about_61 : decode cX0_about 61 = .ok (.getfield 16, 3) := by decide +kernel
theorem dX0_about_64 : decode cX0_about 64 = .ok (.invokevirtual 54, 3) := by decide +kernel
theorem dX0_about_67 : decode cX0_about 67 = .ok (.ireturn, 1) := by decide +kernel
theorem dX0_about_68 : decode cX0_about 68 = .ok (.aload_n 0, 1) := by decide +kernel
theorem dX0_about_69 : decode cX0_about 69 = .ok (.getfield 19, 3) := by decide +kernel
theorem dX0_about_72 : decode cX0_about 72 = .ok (.invokevirtual 54, 3) := by decide +kernel
theorem dX0_about_75 : decode cX0_about 75 = .ok (.ireturn, 1) := by decide +kernel
theorem dX0_about_76 : decode cX0_about 76 = .ok (.aload_n 0, 1) := by decide +kernel
theorem dX0_about_77 : decode cX0_about 77 = .ok (.getfield 22, 3) := by decide +kernel
theorem dX0_about_80 : decode cX0_about 80 = .ok (.invokevirtual 54, 3) := by decide +kernel
theorem dX0_about_83 : decode cX0_about 83 = .ok (.ireturn, 1) := by decide +kernel
theorem dX0_about_84 : decode cX0_about 84 = .ok (.aload_n 0, 1) := by decide +kernel
theorem dX0_about_85 : decode cX0_about 85 = .ok (.getfield 135, 3) := by decide +kernel
theorem dX0_about_88 : decode cX0_about 88 = .ok (.ireturn, 1) := by decide +kernel
theorem dX0_about_89 : decode cX0_about 89 = .ok (.aload_n 0, 1) := by decide +kernel
theorem dX0_about_90 : decode cX0_about 90 = .ok (.getfield 203, 3) := by decide +kernel
theorem dX0_about_93 : decode cX0_about 93 = .ok (.ifnonnull 7, 3) := by decide +kernel
theorem dX0_about_96 : decode cX0_about 96 = .ok (.iconst 0, 1) := by decide +kernel
theorem dX0_about_97 : decode cX0_about 97 = .ok (.goto 10, 3) := by decide +kernel
theorem dX0_about_100 : decode cX0_about 100 = .ok (.aload_n 0, 1) := by decide +kernel
theorem dX0_about_101 : decode cX0_about 101 = .ok (.getfield 203, 3) := by decide +kernel
theorem dX0_about_104 : decode cX0_about 104 = .ok (.invokevirtual 219, 3) := by decide +kernel
theorem dX0_about_107 : decode cX0_about 107 = .ok (.ireturn, 1) := by decide +kernel
theorem dX0_about_108 : decode cX0_about 108 = .ok (.aload_n 0, 1) := by decide +kernel
theorem dX0_about_109 : decode cX0_about 109 = .ok (.getfield 203, 3) := by decide +kernel
theorem dX0_about_112 : decode cX0_about 112 = .ok (.ifnonnull 7, 3) := by decide +kernel
theorem dX0_about_115 : decode cX0_about 115 = .ok (.iconst 0, 1) := by decide +kernel
theorem dX0_about_116 : decode cX0_about 116 = .ok (.goto 10, 3) := by decide +kernel
theorem dX0_about_119 : decode cX0_about 119 = .ok (.aload_n 0, 1) := by decide +kernel
theorem dX0_about_120 : decode cX0_about 120 = .ok (.getfield 203, 3) := by decide +kernel
theorem dX0_about_123 : decode cX0_about 123 = .ok (.invokevirtual 221, 3) := by decide +kernel
theorem dX0_about_126 : decode cX0_about 126 = .ok (.ireturn, 1) := by decide +kernel
theorem dX0_about_127 : decode cX0_about 127 = .ok (.aload_n 0, 1) := by decide +kernel
theorem dX0_about_128 : decode cX0_about 128 = .ok (.getfield 122, 3) := by decide +kernel
theorem dX0_about_131 : decode cX0_about 131 = .ok (.ireturn, 1) := by decide +kernel
theorem dX0_about_132 : decode cX0_about 132 = .ok (.aload_n 0, 1) := by decide +kernel
theorem dX0_about_133 : decode cX0_about 133 = .ok (.getfield 367, 3) := by decide +kernel
theorem dX0_about_136 : decode cX0_about 136 = .ok (.ireturn, 1) := by decide +kernel
theorem dX0_about_137 : decode cX0_about 137 = .ok (.iconst (-1), 1) := by decide +kernel
theorem dX0_about_138 : decode cX0_about 138 = .ok (.ireturn, 1) := by decide +kernel
