set_option maxRecDepth 100000
abbrev cX6_flow : ByteArray := prog_11_method_7_code
def yX6_flow : MethodName := ⟨RX6, "flow", "(IIID)V"⟩
theorem dX6_flow_0 : decode cX6_flow 0 = .ok (.aload_n 0, 1) := by decide +kernel
theorem dX6_flow_1 : decode cX6_flow 1 = .ok (.aload_n 0, 1) := by decide +kernel
theorem dX6_flow_2 : decode cX6_flow 2 = .ok (.iload_n 1, 1) := by decide +kernel
theorem dX6_flow_3 : decode cX6_flow 3 = .ok (.iconst 5, 1) := by decide +kernel
theorem dX6_flow_4 : decode cX6_flow 4 = .ok (.invokevirtual 81, 3) := by decide +kernel
theorem dX6_flow_7 : decode cX6_flow 7 = .ok (.ifCond .ne 37, 3) := by decide +kernel
theorem dX6_flow_10 : decode cX6_flow 10 = .ok (.aload_n 0, 1) := by decide +kernel
theorem dX6_flow_11 : decode cX6_flow 11 = .ok (.iload_n 2, 1) := by decide +kernel
theorem dX6_flow_12 : decode cX6_flow 12 = .ok (.iconst 1, 1) := by decide +kernel
theorem dX6_flow_13 : decode cX6_flow 13 = .ok (.invokevirtual 81, 3) := by decide +kernel
theorem dX6_flow_16 : decode cX6_flow 16 = .ok (.ifCond .ne 28, 3) := by decide +kernel
theorem dX6_flow_19 : decode cX6_flow 19 = .ok (.aload_n 0, 1) := by decide +kernel
theorem dX6_flow_20 : decode cX6_flow 20 = .ok (.iload_n 3, 1) := by decide +kernel
theorem dX6_flow_21 : decode cX6_flow 21 = .ok (.iconst 3, 1) := by decide +kernel
theorem dX6_flow_22 : decode cX6_flow 22 = .ok (.invokevirtual 81, 3) := by decide +kernel
theorem dX6_flow_25 : decode cX6_flow 25 = .ok (.ifCond .ne 19, 3) := by decide +kernel
theorem dX6_flow_28 : decode cX6_flow 28 = .ok (.dload 4, 2) := by decide +kernel
theorem dX6_flow_30 : decode cX6_flow 30 = .ok (.dconst 0, 1) := by decide +kernel
theorem dX6_flow_31 : decode cX6_flow 31 = .ok (.dcmp .l, 1) := by decide +kernel
theorem dX6_flow_32 : decode cX6_flow 32 = .ok (.ifCond .lt 12, 3) := by decide +kernel
theorem dX6_flow_35 : decode cX6_flow 35 = .ok (.dload 4, 2) := by decide +kernel
theorem dX6_flow_37 : decode cX6_flow 37 = .ok (.ldc2_w 91, 3) := by decide +kernel
theorem dX6_flow_40 : decode cX6_flow 40 = .ok (.dcmp .g, 1) := by decide +kernel
theorem dX6_flow_41 : decode cX6_flow 41 = .ok (.ifCond .le 7, 3) := by decide +kernel
theorem dX6_flow_44 : decode cX6_flow 44 = .ok (.iconst 1, 1) := by decide +kernel
theorem dX6_flow_45 : decode cX6_flow 45 = .ok (.goto 4, 3) := by decide +kernel
theorem dX6_flow_48 : decode cX6_flow 48 = .ok (.iconst 0, 1) := by decide +kernel
theorem dX6_flow_49 : decode cX6_flow 49 = .ok (.putfield 77, 3) := by decide +kernel
theorem dX6_flow_52 : decode cX6_flow 52 = .ok (.aload_n 0, 1) := by decide +kernel
theorem dX6_flow_53 : decode cX6_flow 53 = .ok (.getfield 77, 3) := by decide +kernel
theorem dX6_flow_56 : decode cX6_flow 56 = .ok (.ifCond .eq 4, 3) := by decide +kernel
theorem dX6_flow_59 : decode cX6_flow 59 = .ok (.return_, 1) := by decide +kernel
theorem dX6_flow_60 : decode cX6_flow 60 = .ok (.aload_n 0, 1) := by decide +kernel
theorem dX6_flow_61 : decode cX6_flow 61 = .ok (.getfield 47, 3) := by decide +kernel
theorem dX6_flow_64 : decode cX6_flow 64 = .ok (.iconst 2, 1) := by decide +kernel
theorem dX6_flow_65 : decode cX6_flow 65 = .ok (.iload_n 1, 1) := by decide +kernel
theorem dX6_flow_66 : decode cX6_flow 66 = .ok (.imul, 1) := by decide +kernel
theorem dX6_flow_67 : decode cX6_flow 67 = .ok (.iload_n 2, 1) := by decide +kernel
theorem dX6_flow_68 : decode cX6_flow 68 = .ok (.iadd, 1) := by decide +kernel
theorem dX6_flow_69 : decode cX6_flow 69 = .ok (.iload_n 3, 1) := by decide +kernel
theorem dX6_flow_70 : decode cX6_flow 70 = .ok (.iastore, 1) := by decide +kernel
theorem dX6_flow_71 : decode cX6_flow 71 = .ok (.aload_n 0, 1) := by decide +kernel
theorem dX6_flow_72 : decode cX6_flow 72 = .ok (.getfield 22, 3) := by decide +kernel
theorem dX6_flow_75 : decode cX6_flow 75 = .ok (.iconst 2, 1) := by decide +kernel
theorem dX6_flow_76 : decode cX6_flow 76 = .ok (.iload_n 1, 1) := by decide +kernel
theorem dX6_flow_77 : decode cX6_flow 77 = .ok (.imul, 1) := by decide +kernel
theorem dX6_flow_78 : decode cX6_flow 78 = .ok (.iload_n 2, 1) := by decide +kernel
theorem dX6_flow_79 : decode cX6_flow 79 = .ok (.iadd, 1) := by decide +kernel
theorem dX6_flow_80 : decode cX6_flow 80 = .ok (.dload 4, 2) := by decide +kernel
theorem dX6_flow_82 : decode cX6_flow 82 = .ok (.dastore, 1) := by decide +kernel
theorem dX6_flow_83 : decode cX6_flow 83 = .ok (.return_, 1) := by decide +kernel
abbrev cX6_packet : ByteArray := prog_11_method_8_code
def yX6_packet : MethodName := ⟨RX6, "packet", "(IIII)I"⟩
theorem dX6_packet_0 : decode cX6_packet 0 = .ok (.aload_n 0, 1) := by decide +kernel
theorem dX6_packet_1 : decode cX6_packet 1 = .ok (.aload_n 0, 1) := by decide +kernel
theorem dX6_packet_2 : decode cX6_packet 2 = .ok (.iload_n 1, 1) := by decide +kernel
theorem dX6_packet_3 : decode cX6_packet 3 = .ok (.iconst 5, 1) := by decide +kernel
theorem dX6_packet_4 : decode cX6_packet 4 = .ok (.invokevirtual 81, 3) := by decide +kernel
theorem dX6_packet_7 : decode cX6_packet 7 = .ok (.ifCond .ne 22, 3) := by decide +kernel
theorem dX6_packet_10 : decode cX6_packet 10 = .ok (.aload_n 0, 1) := by decide +kernel
theorem dX6_packet_11 : decode cX6_packet 11 = .ok (.iload_n 2, 1) := by decide +kernel
theorem dX6_packet_12 : decode cX6_packet 12 = .ok (.iconst 1, 1) := by decide +kernel
theorem dX6_packet_13 : decode cX6_packet 13 = .ok (.invokevirtual 81, 3) := by decide +kernel
theorem dX6_packet_16 : decode cX6_packet 16 = .ok (.ifCond .ne 13, 3) := by decide +kernel
theorem dX6_packet_19 : decode cX6_packet 19 = .ok (.iload_n 3, 1) := by decide +kernel
theorem dX6_packet_20 : decode cX6_packet 20 = .ok (.iconst 1, 1) := by decide +kernel
theorem dX6_packet_21 : decode cX6_packet 21 = .ok (.if_icmp .lt 8, 3) := by decide +kernel
theorem dX6_packet_24 : decode cX6_packet 24 = .ok (.iload_n 3, 1) := by decide +kernel
theorem dX6_packet_25 : decode cX6_packet 25 = .ok (.iconst 4, 1) := by decide +kernel
theorem dX6_packet_26 : decode cX6_packet 26 = .ok (.if_icmp .le 7, 3) := by decide +kernel
theorem dX6_packet_29 : decode cX6_packet 29 = .ok (.iconst 1, 1) := by decide +kernel
theorem dX6_packet_30 : decode cX6_packet 30 = .ok (.goto 35, 3) := by decide +kernel
theorem dX6_packet_33 : decode cX6_packet 33 = .ok (.aload_n 0, 1) := by decide +kernel
theorem dX6_packet_34 : decode cX6_packet 34 = .ok (.getfield 28, 3) := by decide +kernel
theorem dX6_packet_37 : decode cX6_packet 37 = .ok (.iload_n 1, 1) := by decide +kernel
theorem dX6_packet_38 : decode cX6_packet 38 = .ok (.iaload, 1) := by decide +kernel
theorem dX6_packet_39 : decode cX6_packet 39 = .ok (.ifCond .ne 7, 3) := by decide +kernel
theorem dX6_packet_42 : decode cX6_packet 42 = .ok (.iconst 2, 1) := by decide +kernel
theorem dX6_packet_43 : decode cX6_packet 43 = .ok (.goto 22, 3) := by decide +kernel
theorem dX6_packet_46 : decode cX6_packet 46 = .ok (.aload_n 0, 1) := by decide +kernel
theorem dX6_packet_47 : decode cX6_packet 47 = .ok (.getfield 50, 3) := by decide +kernel
theorem dX6_packet_50 : decode cX6_packet 50 = .ok (.iconst 2, 1) := by decide +kernel
theorem dX6_packet_51 : decode cX6_packet 51 = .ok (.iload_n 1, 1) := by decide +kernel
theorem dX6_packet_52 : decode cX6_packet 52 = .ok (.imul, 1) := by decide +kernel
theorem dX6_packet_53 : decode cX6_packet 53 = .ok (.iload_n 2, 1) := by decide +kernel
theorem dX6_packet_54 : decode cX6_packet 54 = .ok (.iadd, 1) := by decide +kernel
theorem dX6_packet_55 : decode cX6_packet 55 = .ok (.iaload, 1) := by decide +kernel
theorem dX6_packet_56 : decode cX6_packet 56 = .ok (.iconst 4, 1) := by decide +kernel
theorem dX6_packet_57 : decode cX6_packet 57 = .ok (.if_icmp .ne 7, 3) := by decide +kernel
theorem dX6_packet_60 : decode cX6_packet 60 = .ok (.iconst 3, 1) := by decide +kernel
theorem dX6_packet_61 : decode cX6_packet 61 = .ok (.goto 4, 3) := by decide +kernel
theorem dX6_packet_64 : decode cX6_packet 64 = .ok (.iconst 0, 1) := by decide +kernel
theorem dX6_packet_65 : decode cX6_packet 65 = .ok (.putfield 77, 3) := by decide +kernel
theorem dX6_packet_68 : decode cX6_packet 68 = .ok (.aload_n 0, 1) := by decide +kernel
theorem dX6_packet_69 : decode cX6_packet 69 = .ok (.getfield 77, 3) := by decide +kernel
theorem dX6_packet_72 : decode cX6_packet 72 = .ok (.ifCond .eq 5, 3) := by decide +kernel
theorem dX6_packet_75 : decode cX6_packet 75 = .ok (.iconst 0, 1) := by decide +kernel
theorem dX6_packet_76 : decode cX6_packet 76 = .ok (.ireturn, 1) := by decide +kernel
theorem dX6_packet_77 : decode cX6_packet 77 = .ok (.iconst 2, 1) := by decide +kernel
theorem dX6_packet_78 : decode cX6_packet 78 = .ok (.iload_n 1, 1) := by decide +kernel
theorem dX6_packet_79 : decode cX6_packet 79 = .ok (.imul, 1) := by decide +kernel
theorem dX6_packet_80 : decode cX6_packet 80 = .ok (.iload_n 2, 1) := by decide +kernel
theorem dX6_packet_81 : decode cX6_packet 81 = .ok (.iadd, 1) := by decide +kernel
theorem dX6_packet_82 : decode cX6_packet 82 = .ok (.istore 5, 2) := by decide +kernel
theorem dX6_packet_84 : decode cX6_packet 84 = .ok (.aload_n 0, 1) := by decide +kernel
theorem dX6_packet_85 : decode cX6_packet 85 = .ok (.getfield 53, 3) := by decide +kernel
theorem dX6_packet_88 : decode cX6_packet 88 = .ok (.iload 5, 2) := by decide +kernel
theorem dX6_packet_90 : decode cX6_packet 90 = .ok (.iconst 4, 1) := by decide +kernel
theorem dX6_packet_91 : decode cX6_packet 91 = .ok (.imul, 1) := by decide +kernel
theorem dX6_packet_92 : decode cX6_packet 92 = .ok (.aload_n 0, 1) := by decide +kernel
theorem dX6_packet_93 : decode cX6_packet 93 = .ok (.getfield 50, 3) := by decide +kernel
theorem dX6_packet_96 : decode cX6_packet 96 = .ok (.iload 5, 2) := by decide +kernel
theorem dX6_packet_98 : decode cX6_packet 98 = .ok (.iaload, 1) := by decide +kernel
theorem dX6_packet_99 : decode cX6_packet 99 = .ok (.iadd, 1) := by decide +kernel
theorem dX6_packet_100 : decode cX6_packet 100 = .ok (.iload_n 3, 1) := by decide +kernel
theorem dX6_packet_101 : decode cX6_packet 101 = .ok (.iastore, 1) := by decide +kernel
theorem dX6_packet_102 : decode cX6_packet 102 = .ok (.aload_n 0, 1) := by decide +kernel
theorem dX6_packet_103 : decode cX6_packet 103 = .ok (.getfield 56, 3) := by decide +kernel
theorem dX6_packet_106 : decode cX6_packet 106 = .ok (.iload 5, 2) := by decide +kernel
theorem dX6_packet_108 : decode cX6_packet 108 = .ok (.iconst 4, 1) := by decide +kernel
theorem dX6_packet_109 : decode cX6_packet 109 = .ok (.imul, 1) := by decide +kernel
theorem dX6_packet_110 : decode cX6_packet 110 = .ok (.aload_n 0, 1) := by decide +kernel
theorem dX6_packet_111 : decode cX6_packet 111 = .ok (.getfield 50, 3) := by decide +kernel
theorem dX6_packet_114 : decode cX6_packet 114 = .ok (.iload 5, 2) := by decide +kernel
theorem dX6_packet_116 : decode cX6_packet 116 = .ok (.iaload, 1) := by decide +kernel
theorem dX6_packet_117 : decode cX6_packet 117 = .ok (.iadd, 1) := by decide +kernel
theorem dX6_packet_118 : decode cX6_packet 118 = .ok (.iload 4, 2) := by decide +kernel
theorem dX6_packet_120 : decode cX6_packet 120 = .ok (.iastore, 1) := by decide +kernel
theorem dX6_packet_121 : decode cX6_packet 121 = .ok (.aload_n 0, 1) := by decide +kernel
theorem dX6_packet_122 : decode cX6_packet 122 = .ok (.getfield 50, 3) := by decide +kernel
theorem dX6_packet_125 : decode cX6_packet 125 = .ok (.iload 5, 2) := by decide +kernel
theorem dX6_packet_127 : decode cX6_packet 127 = .ok (.dup2, 1) := by decide +kernel
theorem dX6_packet_128 : decode cX6_packet 128 = .ok (.iaload, 1) := by decide +kernel
theorem dX6_packet_129 : decode cX6_packet 129 = .ok (.iconst 1, 1) := by decide +kernel
theorem dX6_packet_130 : decode cX6_packet 130 = .ok (.iadd, 1) := by decide +kernel
theorem dX6_packet_131 : decode cX6_packet 131 = .ok (.iastore, 1) := by decide +kernel
theorem dX6_packet_132 : decode cX6_packet 132 = .ok (.aload_n 0, 1) := by decide +kernel
theorem dX6_packet_133 : decode cX6_packet 133 = .ok (.getfield 50, 3) := by decide +kernel
theorem dX6_packet_136 : decode cX6_packet 136 = .ok (.iload 5, 2) := by decide +kernel
theorem dX6_packet_138 : decode cX6_packet 138 = .ok (.iaload, 1) := by decide +kernel
theorem dX6_packet_139 : decode cX6_packet 139 = .ok (.ireturn, 1) := by decide +kernel
abbrev cX6_round : ByteArray := prog_11_method_24_code
def yX6_round : MethodName := ⟨RX6, "round", "(I)I"⟩
theorem dX6_round_0 : decode cX6_round 0 = .ok (.aload_n 0, 1) := by decide +kernel
theorem dX6_round_1 : decode cX6_round 1 = .ok (.iload_n 1, 1) := by decide +kernel
theorem dX6_round_2 : decode cX6_round 2 = .ok (.iconst 1, 1) := by decide +kernel
theorem dX6_round_3 : decode cX6_round 3 = .ok (.if_icmp .lt 9, 3) := by decide +kernel
theorem dX6_round_6 : decode cX6_round 6 = .ok (.iload_n 1, 1) := by decide +kernel
theorem dX6_round_7 : decode cX6_round 7 = .ok (.bipush 50, 2) := by decide +kernel
theorem dX6_round_9 : decode cX6_round 9 = .ok (.if_icmp .le 7, 3) := by decide +kernel
theorem dX6_round_12 : decode cX6_round 12 = .ok (.iconst 1, 1) := by decide +kernel
theorem dX6_round_13 : decode cX6_round 13 = .ok (.goto 4, 3) := by decide +kernel
theorem dX6_round_16 : decode cX6_round 16 = .ok (.iconst 0, 1) := by decide +kernel
theorem dX6_round_17 : decode cX6_round 17 = .ok (.putfield 77, 3) := by decide +kernel
theorem dX6_round_20 : decode cX6_round 20 = .ok (.aload_n 0, 1) := by decide +kernel
theorem dX6_round_21 : decode cX6_round 21 = .ok (.getfield 153, 3) := by decide +kernel
theorem dX6_round_24 : decode cX6_round 24 = .ok (.istore_n 2, 1) := by decide +kernel
theorem dX6_round_25 : decode cX6_round 25 = .ok (.iconst 0, 1) := by decide +kernel
theorem dX6_round_26 : decode cX6_round 26 = .ok (.istore_n 3, 1) := by decide +kernel
theorem dX6_round_27 : decode cX6_round 27 = .ok (.iload_n 3, 1) := by decide +kernel
theorem dX6_round_28 : decode cX6_round 28 = .ok (.iload_n 1, 1) := by decide +kernel
theorem dX6_round_29 : decode cX6_round 29 = .ok (.if_icmp .ge 108, 3) := by decide +kernel
theorem dX6_round_32 : decode cX6_round 32 = .ok (.aload_n 0, 1) := by decide +kernel
theorem dX6_round_33 : decode cX6_round 33 = .ok (.getfield 77, 3) := by decide +kernel
theorem dX6_round_36 : decode cX6_round 36 = .ok (.ifCond .ne 101, 3) := by decide +kernel
theorem dX6_round_39 : decode cX6_round 39 = .ok (.aload_n 0, 1) := by decide +kernel
theorem dX6_round_40 : decode cX6_round 40 = .ok (.dup, 1) := by decide +kernel
theorem dX6_round_41 : decode cX6_round 41 = .ok (.getfield 169, 3) := by decide +kernel
theorem dX6_round_44 : decode cX6_round 44 = .ok (.iconst 1, 1) := by decide +kernel
theorem dX6_round_45 : decode cX6_round 45 = .ok (.iadd, 1) := by decide +kernel
theorem dX6_round_46 : decode cX6_round 46 = .ok (.putfield 169, 3) := by decide +kernel
theorem dX6_round_49 : decode cX6_round 49 = .ok (.iconst 0, 1) := by decide +kernel
theorem dX6_round_50 : decode cX6_round 50 = .ok (.istore 4, 2) := by decide +kernel
theorem dX6_round_52 : decode cX6_round 52 = .ok (.iload 4, 2) := by decide +kernel
theorem dX6_round_54 : decode cX6_round 54 = .ok (.bipush 12, 2) := by decide +kernel
theorem dX6_round_56 : decode cX6_round 56 = .ok (.if_icmp .ge 63, 3) := by decide +kernel
theorem dX6_round_59 : decode cX6_round 59 = .ok (.aload_n 0, 1) := by decide +kernel
theorem dX6_round_60 : decode cX6_round 60 = .ok (.getfield 25, 3) := by decide +kernel
theorem dX6_round_63 : decode cX6_round 63 = .ok (.iload 4, 2) := by decide +kernel
theorem dX6_round_65 : decode cX6_round 65 = .ok (.daload, 1) := by decide +kernel
theorem dX6_round_66 : decode cX6_round 66 = .ok (.aload_n 0, 1) := by decide +kernel
theorem dX6_round_67 : decode cX6_round 67 = .ok (.getfield 22, 3) := by decide +kernel
theorem dX6_round_70 : decode cX6_round 70 = .ok (.iload 4, 2) := by decide +kernel
theorem dX6_round_72 : decode cX6_round 72 = .ok (.daload, 1) := by decide +kernel
theorem dX6_round_73 : decode cX6_round 73 = .ok (.dadd, 1) := by decide +kernel
theorem dX6_round_74 : decode cX6_round 74 = .ok (.dstore 5, 2) := by decide +kernel
theorem dX6_round_76 : decode cX6_round 76 = .ok (.aload_n 0, 1) := by decide +kernel
theorem dX6_round_77 : decode cX6_round 77 = .ok (.getfield 28, 3) := by decide +kernel
theorem dX6_round_80 : decode cX6_round 80 = .ok (.iload 4, 2) := by decide +kernel
theorem dX6_round_82 : decode cX6_round 82 = .ok (.iconst 2, 1) := by decide +kernel
theorem dX6_round_83 : decode cX6_round 83 = .ok (.idiv, 1) := by decide +kernel
theorem dX6_round_84 : decode cX6_round 84 = .ok (.iaload, 1) := by decide +kernel
theorem dX6_round_85 : decode cX6_round 85 = .ok (.iconst 2, 1) := by decide +kernel
theorem dX6_round_86 : decode cX6_round 86 = .ok (.if_icmp .ne 27, 3) := by decide +kernel
theorem dX6_round_89 : decode cX6_round 89 = .ok (.aload_n 0, 1) := by decide +kernel
theorem dX6_round_90 : decode cX6_round 90 = .ok (.getfield 25, 3) := by decide +kernel
theorem dX6_round_93 : decode cX6_round 93 = .ok (.iload 4, 2) := by decide +kernel
theorem dX6_round_95 : decode cX6_round 95 = .ok (.dload 5, 2) := by decide +kernel
theorem dX6_round_97 : decode cX6_round 97 = .ok (.ldc2_w 91, 3) := by decide +kernel
theorem dX6_round_100 : decode cX6_round 100 = .ok (.dcmp .l, 1) := by decide +kernel
theorem dX6_round_101 : decode cX6_round 101 = .ok (.ifCond .le 9, 3) := by decide +kernel
theorem dX6_round_104 : decode cX6_round 104 = .ok (.ldc2_w 91, 3) := by decide +kernel
theorem dX6_round_107 : decode cX6_round 107 = .ok (.goto 5, 3) := by decide +kernel
theorem dX6_round_110 : decode cX6_round 110 = .ok (.dload 5, 2) := by decide +kernel
theorem dX6_round_112 : decode cX6_round 112 = .ok (.dastore, 1) := by decide +kernel
theorem dX6_round_113 : decode cX6_round 113 = .ok (.iinc 4 1, 3) := by decide +kernel
theorem dX6_round_116 : decode cX6_round 116 = .ok (.goto (-64), 3) := by decide +kernel
theorem dX6_round_119 : decode cX6_round 119 = .ok (.aload_n 0, 1) := by decide +kernel
theorem dX6_round_120 : decode cX6_round 120 = .ok (.invokevirtual 172, 3) := by decide +kernel
theorem dX6_round_123 : decode cX6_round 123 = .ok (.aload_n 0, 1) := by decide +kernel
theorem dX6_round_124 : decode cX6_round 124 = .ok (.invokevirtual 175, 3) := by decide +kernel
theorem dX6_round_127 : decode cX6_round 127 = .ok (.aload_n 0, 1) := by decide +kernel
theorem dX6_round_128 : decode cX6_round 128 = .ok (.invokevirtual 178, 3) := by decide +kernel
theorem dX6_round_131 : decode cX6_round 131 = .ok (.iinc 3 1, 3) := by decide +kernel
theorem dX6_round_134 : decode cX6_round 134 = .ok (.goto (-107), 3) := by decide +kernel
theorem dX6_round_137 : decode cX6_round 137 = .ok (.aload_n 0, 1) := by decide +kernel
theorem dX6_round_138 : decode cX6_round 138 = .ok (.getfield 153, 3) := by decide +kernel
theorem dX6_round_141 : decode cX6_round 141 = .ok (.iload_n 2, 1) := by decide +kernel
theorem dX6_round_142 : decode cX6_round 142 = .ok (.isub, 1) := by decide +kernel
theorem dX6_round_143 : decode cX6_round 143 = .ok (.ireturn, 1) := by decide +kernel
abbrev cX6_seeking : ByteArray := prog_11_method_16_code
def yX6_seeking : MethodName := ⟨RX6, "seeking", "()V"⟩
theorem dX6_seeking_0 : decode cX6_seeking 0 = .ok (.iconst 0, 1) := by decide +kernel
theorem dX6_seeking_1 : decode cX6_seeking 1 = .ok (.istore_n 1, 1) := by decide +kernel
theorem dX6_seeking_2 : decode cX6_seeking 2 = .ok (.iconst 0, 1) := by decide +kernel
theorem dX6_seeking_3 : decode cX6_seeking 3 = .ok (.istore_n 2, 1) := by decide +kernel
theorem dX6_seeking_4 : decode cX6_seeking 4 = .ok (.iconst 0, 1) := by decide +kernel
theorem dX6_seeking_5 : decode cX6_seeking 5 = .ok (.istore_n 3, 1) := by decide +kernel
theorem dX6_seeking_6 : decode cX6_seeking 6 = .ok (.iload_n 3, 1) := by decide +kernel
theorem dX6_seeking_7 : decode cX6_seeking 7 = .ok (.bipush 6, 2) := by decide +kernel
theorem dX6_seeking_9 : decode cX6_seeking 9 = .ok (.if_icmp .ge 70, 3) := by decide +kernel
theorem dX6_seeking_12 : decode cX6_seeking 12 = .ok (.aload_n 0, 1) := by decide +kernel
theorem dX6_seeking_13 : decode cX6_seeking 13 = .ok (.getfield 71, 3) := by decide +kernel
theorem dX6_seeking_16 : decode cX6_seeking 16 = .ok (.iload_n 3, 1) := by decide +kernel
theorem dX6_seeking_17 : decode cX6_seeking 17 = .ok (.iconst 0, 1) := by decide +kernel
theorem dX6_seeking_18 : decode cX6_seeking 18 = .ok (.iastore, 1) := by decide +kernel
theorem dX6_seeking_19 : decode cX6_seeking 19 = .ok (.aload_n 0, 1) := by decide +kernel
theorem dX6_seeking_20 : decode cX6_seeking 20 = .ok (.getfield 28, 3) := by decide +kernel
theorem dX6_seeking_23 : decode cX6_seeking 23 = .ok (.iload_n 3, 1) := by decide +kernel
theorem dX6_seeking_24 : decode cX6_seeking 24 = .ok (.iaload, 1) := by decide +kernel
theorem dX6_seeking_25 : decode cX6_seeking 25 = .ok (.iconst 1, 1) := by decide +kernel
theorem dX6_seeking_26 : decode cX6_seeking 26 = .ok (.if_icmp .ne 25, 3) := by decide +kernel
theorem dX6_seeking_29 : decode cX6_seeking 29 = .ok (.aload_n 0, 1) := by decide +kernel
theorem dX6_seeking_30 : decode cX6_seeking 30 = .ok (.getfield 38, 3) := by decide +kernel
theorem dX6_seeking_33 : decode cX6_seeking 33 = .ok (.iload_n 3, 1) := by decide +kernel
theorem dX6_seeking_34 : decode cX6_seeking 34 = .ok (.iaload, 1) := by decide +kernel
theorem dX6_seeking_35 : decode cX6_seeking 35 = .ok (.ifCond .le 16, 3) := by decide +kernel
theorem dX6_seeking_38 : decode cX6_seeking 38 = .ok (.aload_n 0, 1) := by decide +kernel
theorem dX6_seeking_39 : decode cX6_seeking 39 = .ok (.getfield 38, 3) := by decide +kernel
theorem dX6_seeking_42 : decode cX6_seeking 42 = .ok (.iload_n 3, 1) := by decide +kernel
theorem dX6_seeking_43 : decode cX6_seeking 43 = .ok (.dup2, 1) := by decide +kernel
theorem dX6_seeking_44 : decode cX6_seeking 44 = .ok (.iaload, 1) := by decide +kernel
theorem dX6_seeking_45 : decode cX6_seeking 45 = .ok (.iconst 1, 1) := by decide +kernel
theorem dX6_seeking_46 : decode cX6_seeking 46 = .ok (.isub, 1) := by decide +kernel
theorem dX6_seeking_47 : decode cX6_seeking 47 = .ok (.iastore, 1) := by decide +kernel
theorem dX6_seeking_48 : decode cX6_seeking 48 = .ok (.goto 25, 3) := by decide +kernel
theorem dX6_seeking_51 : decode cX6_seeking 51 = .ok (.aload_n 0, 1) := by decide +kernel
theorem dX6_seeking_52 : decode cX6_seeking 52 = .ok (.getfield 28, 3) := by decide +kernel
theorem dX6_seeking_55 : decode cX6_seeking 55 = .ok (.iload_n 3, 1) := by decide +kernel
theorem dX6_seeking_56 : decode cX6_seeking 56 = .ok (.iaload, 1) := by decide +kernel
theorem dX6_seeking_57 : decode cX6_seeking 57 = .ok (.iconst 1, 1) := by decide +kernel
theorem dX6_seeking_58 : decode cX6_seeking 58 = .ok (.if_icmp .ne 15, 3) := by decide +kernel
theorem dX6_seeking_61 : decode cX6_seeking 61 = .ok (.aload_n 0, 1) := by decide +kernel
theorem dX6_seeking_62 : decode cX6_seeking 62 = .ok (.getfield 71, 3) := by decide +kernel
theorem dX6_seeking_65 : decode cX6_seeking 65 = .ok (.iload_n 3, 1) := by decide +kernel
theorem dX6_seeking_66 : decode cX6_seeking 66 = .ok (.iconst 1, 1) := by decide +kernel
theorem dX6_seeking_67 : decode cX6_seeking 67 = .ok (.iastore, 1) := by decide +kernel
theorem dX6_seeking_68 : decode cX6_seeking 68 = .ok (.iinc 1 1, 3) := by decide +kernel
theorem dX6_seeking_71 : decode cX6_seeking 71 = .ok (.iload_n 3, 1) := by decide +kernel
theorem dX6_seeking_72 : decode cX6_seeking 72 = .ok (.istore_n 2, 1) := by decide +kernel
theorem dX6_seeking_73 : decode cX6_seeking 73 = .ok (.iinc 3 1, 3) := by decide +kernel
theorem dX6_seeking_76 : decode cX6_seeking 76 = .ok (.goto (-70), 3) := by decide +kernel
theorem dX6_seeking_79 : decode cX6_seeking 79 = .ok (.iload_n 1, 1) := by decide +kernel
theorem dX6_seeking_80 : decode cX6_seeking 80 = .ok (.iconst 1, 1) := by decide +kernel
theorem dX6_seeking_81 : decode cX6_seeking 81 = .ok (.if_icmp .ne 8, 3) := by decide +kernel
theorem dX6_seeking_84 : decode cX6_seeking 84 = .ok (.aload_n 0, 1) := by decide +kernel
theorem dX6_seeking_85 : decode cX6_seeking 85 = .ok (.iload_n 2, 1) := by decide +kernel
theorem dX6_seeking_86 : decode cX6_seeking 86 = .ok (.invokevirtual 121, 3) := by decide +kernel
theorem dX6_seeking_89 : decode cX6_seeking 89 = .ok (.iload_n 1, 1) := by decide +kernel
theorem dX6_seeking_90 : decode cX6_seeking 90 = .ok (.iconst 2, 1) := by decide +kernel
theorem dX6_seeking_91 : decode cX6_seeking 91 = .ok (.if_icmp .ge 4, 3) := by decide +kernel
theorem dX6_seeking_94 : decode cX6_seeking 94 = .ok (.return_, 1) := by decide +kernel
theorem dX6_seeking_95 : decode cX6_seeking 95 = .ok (.aload_n 0, 1) := by decide +kernel
theorem dX6_seeking_96 : decode cX6_seeking 96 = .ok (.dup, 1) := by decide +kernel
theorem dX6_seeking_97 : decode cX6_seeking 97 = .ok (.getfield 124, 3) := by decide +kernel
theorem dX6_seeking_100 : decode cX6_seeking 100 = .ok (.iconst 1, 1) := by decide +kernel
theorem dX6_seeking_101 : decode cX6_seeking 101 = .ok (.iadd, 1) := by decide +kernel
theorem dX6_seeking_102 : decode cX6_seeking 102 = .ok (.putfield 124, 3) := by decide +kernel
theorem dX6_seeking_105 : decode cX6_seeking 105 = .ok (.iconst 0, 1) := by decide +kernel
theorem dX6_seeking_106 : decode cX6_seeking 106 = .ok (.istore_n 3, 1) := by decide +kernel
theorem dX6_seeking_107 : decode cX6_seeking 107 = .ok (.iload_n 3, 1) := by decide +kernel
theorem dX6_seeking_108 : decode cX6_seeking 108 = .ok (.bipush 6, 2) := by decide +kernel
theorem dX6_seeking_110 : decode cX6_seeking 110 = .ok (.if_icmp .ge 31, 3) := by decide +kernel
theorem dX6_seeking_113 : decode cX6_seeking 113 = .ok (.aload_n 0, 1) := by decide +kernel
theorem dX6_seeking_114 : decode cX6_seeking 114 = .ok (.getfield 71, 3) := by decide +kernel
theorem dX6_seeking_117 : decode cX6_seeking 117 = .ok (.iload_n 3, 1) := by decide +kernel
theorem dX6_seeking_118 : decode cX6_seeking 118 = .ok (.iaload, 1) := by decide +kernel
theorem dX6_seeking_119 : decode cX6_seeking 119 = .ok (.iconst 1, 1) := by decide +kernel
theorem dX6_seeking_120 : decode cX6_seeking 120 = .ok (.if_icmp .ne 15, 3) := by decide +kernel
theorem dX6_seeking_123 : decode cX6_seeking 123 = .ok (.aload_n 0, 1) := by decide +kernel
theorem dX6_seeking_124 : decode cX6_seeking 124 = .ok (.getfield 38, 3) := by decide +kernel
theorem dX6_seeking_127 : decode cX6_seeking 127 = .ok (.iload_n 3, 1) := by decide +kernel
theorem dX6_seeking_128 : decode cX6_seeking 128 = .ok (.aload_n 0, 1) := by decide +kernel
theorem dX6_seeking_129 : decode cX6_seeking 129 = .ok (.iload_n 3, 1) := by decide +kernel
theorem dX6_seeking_130 : decode cX6_seeking 130 = .ok (.iconst 4, 1) := by decide +kernel
theorem dX6_seeking_131 : decode cX6_seeking 131 = .ok (.invokevirtual 127, 3) := by decide +kernel
theorem dX6_seeking_134 : decode cX6_seeking 134 = .ok (.iastore, 1) := by decide +kernel
theorem dX6_seeking_135 : decode cX6_seeking 135 = .ok (.iinc 3 1, 3) := by decide +kernel
theorem dX6_seeking_138 : decode cX6_seeking 138 = .ok (.goto (-31), 3) := by decide +kernel
theorem dX6_seeking_141 : decode cX6_seeking 141 = .ok (.return_, 1) := by decide +kernel
abbrev cX6_heard : ByteArray := prog_11_method_15_code
def yX6_heard : MethodName := ⟨RX6, "heard", "(I)V"⟩
theorem dX6_heard_0 : decode cX6_heard 0 = .ok (.aload_n 0, 1) := by decide +kernel
theorem dX6_heard_1 : decode cX6_heard 1 = .ok (.iload_n 1, 1) := by decide +kernel
theorem dX6_heard_2 : decode cX6_heard 2 = .ok (.invokevirtual 112, 3) := by decide +kernel
theorem dX6_heard_5 : decode cX6_heard 5 = .ok (.istore_n 2, 1) := by decide +kernel
theorem dX6_heard_6 : decode cX6_heard 6 = .ok (.aload_n 0, 1) := by decide +kernel
theorem dX6_heard_7 : decode cX6_heard 7 = .ok (.iload_n 1, 1) := by decide +kernel
theorem dX6_heard_8 : decode cX6_heard 8 = .ok (.invokevirtual 97, 3) := by decide +kernel
theorem dX6_heard_11 : decode cX6_heard 11 = .ok (.dstore_n 3, 1) := by decide +kernel
theorem dX6_heard_12 : decode cX6_heard 12 = .ok (.aload_n 0, 1) := by decide +kernel
theorem dX6_heard_13 : decode cX6_heard 13 = .ok (.iload_n 1, 1) := by decide +kernel
theorem dX6_heard_14 : decode cX6_heard 14 = .ok (.invokevirtual 105, 3) := by decide +kernel
theorem dX6_heard_17 : decode cX6_heard 17 = .ok (.dstore 5, 2) := by decide +kernel
theorem dX6_heard_19 : decode cX6_heard 19 = .ok (.aload_n 0, 1) := by decide +kernel
theorem dX6_heard_20 : decode cX6_heard 20 = .ok (.getfield 16, 3) := by decide +kernel
theorem dX6_heard_23 : decode cX6_heard 23 = .ok (.iload_n 1, 1) := by decide +kernel
theorem dX6_heard_24 : decode cX6_heard 24 = .ok (.aload_n 0, 1) := by decide +kernel
theorem dX6_heard_25 : decode cX6_heard 25 = .ok (.getfield 16, 3) := by decide +kernel
theorem dX6_heard_28 : decode cX6_heard 28 = .ok (.iload_n 1, 1) := by decide +kernel
theorem dX6_heard_29 : decode cX6_heard 29 = .ok (.daload, 1) := by decide +kernel
theorem dX6_heard_30 : decode cX6_heard 30 = .ok (.dload_n 3, 1) := by decide +kernel
theorem dX6_heard_31 : decode cX6_heard 31 = .ok (.ldc2_w 116, 3) := by decide +kernel
theorem dX6_heard_34 : decode cX6_heard 34 = .ok (.dmul, 1) := by decide +kernel
theorem dX6_heard_35 : decode cX6_heard 35 = .ok (.dadd, 1) := by decide +kernel
theorem dX6_heard_36 : decode cX6_heard 36 = .ok (.dastore, 1) := by decide +kernel
theorem dX6_heard_37 : decode cX6_heard 37 = .ok (.aload_n 0, 1) := by decide +kernel
theorem dX6_heard_38 : decode cX6_heard 38 = .ok (.getfield 19, 3) := by decide +kernel
theorem dX6_heard_41 : decode cX6_heard 41 = .ok (.iload_n 1, 1) := by decide +kernel
theorem dX6_heard_42 : decode cX6_heard 42 = .ok (.aload_n 0, 1) := by decide +kernel
theorem dX6_heard_43 : decode cX6_heard 43 = .ok (.getfield 19, 3) := by decide +kernel
theorem dX6_heard_46 : decode cX6_heard 46 = .ok (.iload_n 1, 1) := by decide +kernel
theorem dX6_heard_47 : decode cX6_heard 47 = .ok (.daload, 1) := by decide +kernel
theorem dX6_heard_48 : decode cX6_heard 48 = .ok (.dload 5, 2) := by decide +kernel
theorem dX6_heard_50 : decode cX6_heard 50 = .ok (.ldc2_w 116, 3) := by decide +kernel
theorem dX6_heard_53 : decode cX6_heard 53 = .ok (.dmul, 1) := by decide +kernel
theorem dX6_heard_54 : decode cX6_heard 54 = .ok (.dsub, 1) := by decide +kernel
theorem dX6_heard_55 : decode cX6_heard 55 = .ok (.dastore, 1) := by decide +kernel
theorem dX6_heard_56 : decode cX6_heard 56 = .ok (.iload_n 2, 1) := by decide +kernel
theorem dX6_heard_57 : decode cX6_heard 57 = .ok (.ifCond .ne 4, 3) := by decide +kernel
theorem dX6_heard_60 : decode cX6_heard 60 = .ok (.return_, 1) := by decide +kernel
theorem dX6_heard_61 : decode cX6_heard 61 = .ok (.aload_n 0, 1) := by decide +kernel
theorem dX6_heard_62 : decode cX6_heard 62 = .ok (.getfield 28, 3) := by decide +kernel
theorem dX6_heard_65 : decode cX6_heard 65 = .ok (.iload_n 1, 1) := by decide +kernel
theorem dX6_heard_66 : decode cX6_heard 66 = .ok (.iconst 2, 1) := by decide +kernel
theorem dX6_heard_67 : decode cX6_heard 67 = .ok (.iastore, 1) := by decide +kernel
theorem dX6_heard_68 : decode cX6_heard 68 = .ok (.aload_n 0, 1) := by decide +kernel
theorem dX6_heard_69 : decode cX6_heard 69 = .ok (.getfield 35, 3) := by decide +kernel
theorem dX6_heard_72 : decode cX6_heard 72 = .ok (.iload_n 1, 1) := by decide +kernel
theorem dX6_heard_73 : decode cX6_heard 73 = .ok (.aload_n 0, 1) := by decide +kernel
theorem dX6_heard_74 : decode cX6_heard 74 = .ok (.getfield 118, 3) := by decide +kernel
theorem dX6_heard_77 : decode cX6_heard 77 = .ok (.iastore, 1) := by decide +kernel
theorem dX6_heard_78 : decode cX6_heard 78 = .ok (.aload_n 0, 1) := by decide +kernel
theorem dX6_heard_79 : decode cX6_heard 79 = .ok (.getfield 41, 3) := by decide +kernel
theorem dX6_heard_82 : decode cX6_heard 82 = .ok (.iload_n 1, 1) := by decide +kernel
theorem dX6_heard_83 : decode cX6_heard 83 = .ok (.iconst 0, 1) := by decide +kernel
theorem dX6_heard_84 : decode cX6_heard 84 = .ok (.iastore, 1) := by decide +kernel
theorem dX6_heard_85 : decode cX6_heard 85 = .ok (.aload_n 0, 1) := by decide +kernel
theorem dX6_heard_86 : decode cX6_heard 86 = .ok (.getfield 44, 3) := by decide +kernel
theorem dX6_heard_89 : decode cX6_heard 89 = .ok (.iload_n 1, 1) := by decide +kernel
theorem dX6_heard_90 : decode cX6_heard 90 = .ok (.iconst 0, 1) := by decide +kernel
theorem dX6_heard_91 : decode cX6_heard 91 = .ok (.iastore, 1) := by decide +kernel
theorem dX6_heard_92 : decode cX6_heard 92 = .ok (.return_, 1) := by decide +kernel
