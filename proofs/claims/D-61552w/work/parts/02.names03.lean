set_option maxRecDepth 100000
abbrev cX1_ask : ByteArray := prog_1_method_18_code
def yX1_ask : MethodName := ⟨RX1, "ask", "()V"⟩
theorem dX1_ask_0 : decode cX1_ask 0 = .ok (.new 21, 3) := by decide +kernel
theorem dX1_ask_3 : decode cX1_ask 3 = .ok (.dup, 1) := by decide +kernel
theorem dX1_ask_4 : decode cX1_ask 4 = .ok (.bipush 6, 2) := by decide +kernel
theorem dX1_ask_6 : decode cX1_ask 6 = .ok (.invokespecial 23, 3) := by decide +kernel
theorem dX1_ask_9 : decode cX1_ask 9 = .ok (.astore_n 1, 1) := by decide +kernel
theorem dX1_ask_10 : decode cX1_ask 10 = .ok (.new 21, 3) := by decide +kernel
theorem dX1_ask_13 : decode cX1_ask 13 = .ok (.dup, 1) := by decide +kernel
theorem dX1_ask_14 : decode cX1_ask 14 = .ok (.bipush 6, 2) := by decide +kernel
theorem dX1_ask_16 : decode cX1_ask 16 = .ok (.invokespecial 23, 3) := by decide +kernel
theorem dX1_ask_19 : decode cX1_ask 19 = .ok (.astore_n 2, 1) := by decide +kernel
theorem dX1_ask_20 : decode cX1_ask 20 = .ok (.aload_n 0, 1) := by decide +kernel
theorem dX1_ask_21 : decode cX1_ask 21 = .ok (.getfield 17, 3) := by decide +kernel
theorem dX1_ask_24 : decode cX1_ask 24 = .ok (.astore_n 3, 1) := by decide +kernel
theorem dX1_ask_25 : decode cX1_ask 25 = .ok (.aload_n 3, 1) := by decide +kernel
theorem dX1_ask_26 : decode cX1_ask 26 = .ok (.arraylength, 1) := by decide +kernel
theorem dX1_ask_27 : decode cX1_ask 27 = .ok (.istore 4, 2) := by decide +kernel
theorem dX1_ask_29 : decode cX1_ask 29 = .ok (.iconst 0, 1) := by decide +kernel
theorem dX1_ask_30 : decode cX1_ask 30 = .ok (.istore 5, 2) := by decide +kernel
theorem dX1_ask_32 : decode cX1_ask 32 = .ok (.iload 5, 2) := by decide +kernel
theorem dX1_ask_34 : decode cX1_ask 34 = .ok (.iload 4, 2) := by decide +kernel
theorem dX1_ask_36 : decode cX1_ask 36 = .ok (.if_icmp .ge 100, 3) := by decide +kernel
theorem dX1_ask_39 : decode cX1_ask 39 = .ok (.aload_n 3, 1) := by decide +kernel
theorem dX1_ask_40 : decode cX1_ask 40 = .ok (.iload 5, 2) := by decide +kernel
theorem dX1_ask_42 : decode cX1_ask 42 = .ok (.aaload, 1) := by decide +kernel
theorem dX1_ask_43 : decode cX1_ask 43 = .ok (.astore 6, 2) := by decide +kernel
theorem dX1_ask_45 : decode cX1_ask 45 = .ok (.aload 6, 2) := by decide +kernel
theorem dX1_ask_47 : decode cX1_ask 47 = .ok (.getfield 88, 3) := by decide +kernel
theorem dX1_ask_50 : decode cX1_ask 50 = .ok (.instanceof 153, 3) := by decide +kernel
theorem dX1_ask_53 : decode cX1_ask 53 = .ok (.ifCond .eq 77, 3) := by decide +kernel
theorem dX1_ask_56 : decode cX1_ask 56 = .ok (.aload_n 0, 1) := by decide +kernel
theorem dX1_ask_57 : decode cX1_ask 57 = .ok (.aload 6, 2) := by decide +kernel
theorem dX1_ask_59 : decode cX1_ask 59 = .ok (.invokevirtual 63, 3) := by decide +kernel
theorem dX1_ask_62 : decode cX1_ask 62 = .ok (.ifnonnull 68, 3) := by decide +kernel
theorem dX1_ask_65 : decode cX1_ask 65 = .ok (.aload 6, 2) := by decide +kernel
theorem dX1_ask_67 : decode cX1_ask 67 = .ok (.invokevirtual 196, 3) := by decide +kernel
theorem dX1_ask_70 : decode cX1_ask 70 = .ok (.ifnonnull 6, 3) := by decide +kernel
theorem dX1_ask_73 : decode cX1_ask 73 = .ok (.goto 57, 3) := by decide +kernel
theorem dX1_ask_76 : decode cX1_ask 76 = .ok (.aload 6, 2) := by decide +kernel
theorem dX1_ask_78 : decode cX1_ask 78 = .ok (.getfield 88, 3) := by decide +kernel
theorem dX1_ask_81 : decode cX1_ask 81 = .ok (.getfield 158, 3) := by decide +kernel
theorem dX1_ask_84 : decode cX1_ask 84 = .ok (.ifCond .le 20, 3) := by decide +kernel
theorem dX1_ask_87 : decode cX1_ask 87 = .ok (.aload 6, 2) := by decide +kernel
theorem dX1_ask_89 : decode cX1_ask 89 = .ok (.getfield 88, 3) := by decide +kernel
theorem dX1_ask_92 : decode cX1_ask 92 = .ok (.dup, 1) := by decide +kernel
theorem dX1_ask_93 : decode cX1_ask 93 = .ok (.getfield 158, 3) := by decide +kernel
theorem dX1_ask_96 : decode cX1_ask 96 = .ok (.iconst 1, 1) := by decide +kernel
theorem dX1_ask_97 : decode cX1_ask 97 = .ok (.isub, 1) := by decide +kernel
theorem dX1_ask_98 : decode cX1_ask 98 = .ok (.putfield 158, 3) := by decide +kernel
theorem dX1_ask_101 : decode cX1_ask 101 = .ok (.goto 29, 3) := by decide +kernel
theorem dX1_ask_104 : decode cX1_ask 104 = .ok (.aload 6, 2) := by decide +kernel
theorem dX1_ask_106 : decode cX1_ask 106 = .ok (.iconst 2, 1) := by decide +kernel
theorem dX1_ask_107 : decode cX1_ask 107 = .ok (.invokevirtual 166, 3) := by decide +kernel
theorem dX1_ask_110 : decode cX1_ask 110 = .ok (.ifCond .ne 13, 3) := by decide +kernel
theorem dX1_ask_113 : decode cX1_ask 113 = .ok (.aload_n 1, 1) := by decide +kernel
theorem dX1_ask_114 : decode cX1_ask 114 = .ok (.aload 6, 2) := by decide +kernel
theorem dX1_ask_116 : decode cX1_ask 116 = .ok (.invokevirtual 150, 3) := by decide +kernel
theorem dX1_ask_119 : decode cX1_ask 119 = .ok (.pop, 1) := by decide +kernel
theorem dX1_ask_120 : decode cX1_ask 120 = .ok (.goto 10, 3) := by decide +kernel
theorem dX1_ask_123 : decode cX1_ask 123 = .ok (.aload_n 2, 1) := by decide +kernel
theorem dX1_ask_124 : decode cX1_ask 124 = .ok (.aload 6, 2) := by decide +kernel
theorem dX1_ask_126 : decode cX1_ask 126 = .ok (.invokevirtual 150, 3) := by decide +kernel
theorem dX1_ask_129 : decode cX1_ask 129 = .ok (.pop, 1) := by decide +kernel
theorem dX1_ask_130 : decode cX1_ask 130 = .ok (.iinc 5 1, 3) := by decide +kernel
theorem dX1_ask_133 : decode cX1_ask 133 = .ok (.goto (-101), 3) := by decide +kernel
theorem dX1_ask_136 : decode cX1_ask 136 = .ok (.aload_n 0, 1) := by decide +kernel
theorem dX1_ask_137 : decode cX1_ask 137 = .ok (.aload_n 1, 1) := by decide +kernel
theorem dX1_ask_138 : decode cX1_ask 138 = .ok (.invokevirtual 210, 3) := by decide +kernel
theorem dX1_ask_141 : decode cX1_ask 141 = .ok (.aload_n 0, 1) := by decide +kernel
theorem dX1_ask_142 : decode cX1_ask 142 = .ok (.aload_n 2, 1) := by decide +kernel
theorem dX1_ask_143 : decode cX1_ask 143 = .ok (.invokevirtual 210, 3) := by decide +kernel
theorem dX1_ask_146 : decode cX1_ask 146 = .ok (.return_, 1) := by decide +kernel
abbrev cX1_hear : ByteArray := prog_1_method_17_code
def yX1_hear : MethodName := ⟨RX1, "hear", "(Ljava/util/ArrayList;)V"⟩
theorem dX1_hear_0 : decode cX1_hear 0 = .ok (.aload_n 1, 1) := by decide +kernel
theorem dX1_hear_1 : decode cX1_hear 1 = .ok (.invokevirtual 138, 3) := by decide +kernel
theorem dX1_hear_4 : decode cX1_hear 4 = .ok (.iconst 1, 1) := by decide +kernel
theorem dX1_hear_5 : decode cX1_hear 5 = .ok (.if_icmp .le 55, 3) := by decide +kernel
theorem dX1_hear_8 : decode cX1_hear 8 = .ok (.aload_n 0, 1) := by decide +kernel
theorem dX1_hear_9 : decode cX1_hear 9 = .ok (.dup, 1) := by decide +kernel
theorem dX1_hear_10 : decode cX1_hear 10 = .ok (.getfield 193, 3) := by decide +kernel
theorem dX1_hear_13 : decode cX1_hear 13 = .ok (.iconst 1, 1) := by decide +kernel
theorem dX1_hear_14 : decode cX1_hear 14 = .ok (.iadd, 1) := by decide +kernel
theorem dX1_hear_15 : decode cX1_hear 15 = .ok (.putfield 193, 3) := by decide +kernel
theorem dX1_hear_18 : decode cX1_hear 18 = .ok (.aload_n 1, 1) := by decide +kernel
theorem dX1_hear_19 : decode cX1_hear 19 = .ok (.invokevirtual 43, 3) := by decide +kernel
theorem dX1_hear_22 : decode cX1_hear 22 = .ok (.astore_n 2, 1) := by decide +kernel
theorem dX1_hear_23 : decode cX1_hear 23 = .ok (.aload_n 2, 1) := by decide +kernel
theorem dX1_hear_24 : decode cX1_hear 24 = .ok (.invokeinterface 47 1, 5) := by decide +kernel
theorem dX1_hear_29 : decode cX1_hear 29 = .ok (.ifCond .eq 28, 3) := by decide +kernel
theorem dX1_hear_32 : decode cX1_hear 32 = .ok (.aload_n 2, 1) := by decide +kernel
theorem dX1_hear_33 : decode cX1_hear 33 = .ok (.invokeinterface 53 1, 5) := by decide +kernel
theorem dX1_hear_38 : decode cX1_hear 38 = .ok (.checkcast 15, 3) := by decide +kernel
theorem dX1_hear_41 : decode cX1_hear 41 = .ok (.astore_n 3, 1) := by decide +kernel
theorem dX1_hear_42 : decode cX1_hear 42 = .ok (.aload_n 3, 1) := by decide +kernel
theorem dX1_hear_43 : decode cX1_hear 43 = .ok (.getfield 88, 3) := by decide +kernel
theorem dX1_hear_46 : decode cX1_hear 46 = .ok (.aload_n 3, 1) := by decide +kernel
theorem dX1_hear_47 : decode cX1_hear 47 = .ok (.iconst 4, 1) := by decide +kernel
theorem dX1_hear_48 : decode cX1_hear 48 = .ok (.invokevirtual 166, 3) := by decide +kernel
theorem dX1_hear_51 : decode cX1_hear 51 = .ok (.putfield 158, 3) := by decide +kernel
theorem dX1_hear_54 : decode cX1_hear 54 = .ok (.goto (-31), 3) := by decide +kernel
theorem dX1_hear_57 : decode cX1_hear 57 = .ok (.goto 51, 3) := by decide +kernel
theorem dX1_hear_60 : decode cX1_hear 60 = .ok (.aload_n 1, 1) := by decide +kernel
theorem dX1_hear_61 : decode cX1_hear 61 = .ok (.invokevirtual 138, 3) := by decide +kernel
theorem dX1_hear_64 : decode cX1_hear 64 = .ok (.iconst 1, 1) := by decide +kernel
theorem dX1_hear_65 : decode cX1_hear 65 = .ok (.if_icmp .ne 43, 3) := by decide +kernel
theorem dX1_hear_68 : decode cX1_hear 68 = .ok (.aload_n 1, 1) := by decide +kernel
theorem dX1_hear_69 : decode cX1_hear 69 = .ok (.iconst 0, 1) := by decide +kernel
theorem dX1_hear_70 : decode cX1_hear 70 = .ok (.invokevirtual 170, 3) := by decide +kernel
theorem dX1_hear_73 : decode cX1_hear 73 = .ok (.checkcast 15, 3) := by decide +kernel
theorem dX1_hear_76 : decode cX1_hear 76 = .ok (.astore_n 2, 1) := by decide +kernel
theorem dX1_hear_77 : decode cX1_hear 77 = .ok (.aload_n 2, 1) := by decide +kernel
theorem dX1_hear_78 : decode cX1_hear 78 = .ok (.invokevirtual 174, 3) := by decide +kernel
theorem dX1_hear_81 : decode cX1_hear 81 = .ok (.ifCond .eq 22, 3) := by decide +kernel
theorem dX1_hear_84 : decode cX1_hear 84 = .ok (.aload_n 0, 1) := by decide +kernel
theorem dX1_hear_85 : decode cX1_hear 85 = .ok (.new 57, 3) := by decide +kernel
theorem dX1_hear_88 : decode cX1_hear 88 = .ok (.dup, 1) := by decide +kernel
theorem dX1_hear_89 : decode cX1_hear 89 = .ok (.aload_n 2, 1) := by decide +kernel
theorem dX1_hear_90 : decode cX1_hear 90 = .ok (.aload_n 2, 1) := by decide +kernel
theorem dX1_hear_91 : decode cX1_hear 91 = .ok (.invokevirtual 196, 3) := by decide +kernel
theorem dX1_hear_94 : decode cX1_hear 94 = .ok (.invokespecial 200, 3) := by decide +kernel
theorem dX1_hear_97 : decode cX1_hear 97 = .ok (.invokevirtual 203, 3) := by decide +kernel
theorem dX1_hear_100 : decode cX1_hear 100 = .ok (.goto 8, 3) := by decide +kernel
theorem dX1_hear_103 : decode cX1_hear 103 = .ok (.aload_n 0, 1) := by decide +kernel
theorem dX1_hear_104 : decode cX1_hear 104 = .ok (.aload_n 2, 1) := by decide +kernel
theorem dX1_hear_105 : decode cX1_hear 105 = .ok (.invokevirtual 207, 3) := by decide +kernel
theorem dX1_hear_108 : decode cX1_hear 108 = .ok (.return_, 1) := by decide +kernel
abbrev cX1_enter : ByteArray := prog_1_method_16_code
def yX1_enter : MethodName := ⟨RX1, "enter", "(LCablePlant$Request;)V"⟩
theorem dX1_enter_0 : decode cX1_enter 0 = .ok (.iconst 0, 1) := by decide +kernel
theorem dX1_enter_1 : decode cX1_enter 1 = .ok (.istore_n 2, 1) := by decide +kernel
theorem dX1_enter_2 : decode cX1_enter 2 = .ok (.iload_n 2, 1) := by decide +kernel
theorem dX1_enter_3 : decode cX1_enter 3 = .ok (.aload_n 0, 1) := by decide +kernel
theorem dX1_enter_4 : decode cX1_enter 4 = .ok (.getfield 26, 3) := by decide +kernel
theorem dX1_enter_7 : decode cX1_enter 7 = .ok (.invokevirtual 138, 3) := by decide +kernel
theorem dX1_enter_10 : decode cX1_enter 10 = .ok (.if_icmp .ge 30, 3) := by decide +kernel
theorem dX1_enter_13 : decode cX1_enter 13 = .ok (.aload_n 0, 1) := by decide +kernel
theorem dX1_enter_14 : decode cX1_enter 14 = .ok (.getfield 26, 3) := by decide +kernel
theorem dX1_enter_17 : decode cX1_enter 17 = .ok (.iload_n 2, 1) := by decide +kernel
theorem dX1_enter_18 : decode cX1_enter 18 = .ok (.invokevirtual 170, 3) := by decide +kernel
theorem dX1_enter_21 : decode cX1_enter 21 = .ok (.checkcast 57, 3) := by decide +kernel
theorem dX1_enter_24 : decode cX1_enter 24 = .ok (.getfield 189, 3) := by decide +kernel
theorem dX1_enter_27 : decode cX1_enter 27 = .ok (.aload_n 1, 1) := by decide +kernel
theorem dX1_enter_28 : decode cX1_enter 28 = .ok (.getfield 189, 3) := by decide +kernel
theorem dX1_enter_31 : decode cX1_enter 31 = .ok (.if_icmp .lt 9, 3) := by decide +kernel
theorem dX1_enter_34 : decode cX1_enter 34 = .ok (.iinc 2 1, 3) := by decide +kernel
theorem dX1_enter_37 : decode cX1_enter 37 = .ok (.goto (-35), 3) := by decide +kernel
theorem dX1_enter_40 : decode cX1_enter 40 = .ok (.aload_n 0, 1) := by decide +kernel
theorem dX1_enter_41 : decode cX1_enter 41 = .ok (.getfield 26, 3) := by decide +kernel
theorem dX1_enter_44 : decode cX1_enter 44 = .ok (.iload_n 2, 1) := by decide +kernel
theorem dX1_enter_45 : decode cX1_enter 45 = .ok (.aload_n 1, 1) := by decide +kernel
theorem dX1_enter_46 : decode cX1_enter 46 = .ok (.invokevirtual 190, 3) := by decide +kernel
theorem dX1_enter_49 : decode cX1_enter 49 = .ok (.return_, 1) := by decide +kernel
abbrev cX1_lose : ByteArray := prog_1_method_15_code
def yX1_lose : MethodName := ⟨RX1, "lose", "(LCablePlant$Modem;)V"⟩
theorem dX1_lose_0 : decode cX1_lose 0 = .ok (.aload_n 0, 1) := by decide +kernel
theorem dX1_lose_1 : decode cX1_lose 1 = .ok (.dup, 1) := by decide +kernel
theorem dX1_lose_2 : decode cX1_lose 2 = .ok (.getfield 185, 3) := by decide +kernel
theorem dX1_lose_5 : decode cX1_lose 5 = .ok (.iconst 1, 1) := by decide +kernel
theorem dX1_lose_6 : decode cX1_lose 6 = .ok (.iadd, 1) := by decide +kernel
theorem dX1_lose_7 : decode cX1_lose 7 = .ok (.putfield 185, 3) := by decide +kernel
theorem dX1_lose_10 : decode cX1_lose 10 = .ok (.aload_n 1, 1) := by decide +kernel
theorem dX1_lose_11 : decode cX1_lose 11 = .ok (.getfield 88, 3) := by decide +kernel
theorem dX1_lose_14 : decode cX1_lose 14 = .ok (.checkcast 153, 3) := by decide +kernel
theorem dX1_lose_17 : decode cX1_lose 17 = .ok (.astore_n 2, 1) := by decide +kernel
theorem dX1_lose_18 : decode cX1_lose 18 = .ok (.aload_n 2, 1) := by decide +kernel
theorem dX1_lose_19 : decode cX1_lose 19 = .ok (.dup, 1) := by decide +kernel
theorem dX1_lose_20 : decode cX1_lose 20 = .ok (.getfield 188, 3) := by decide +kernel
theorem dX1_lose_23 : decode cX1_lose 23 = .ok (.iconst 1, 1) := by decide +kernel
theorem dX1_lose_24 : decode cX1_lose 24 = .ok (.iadd, 1) := by decide +kernel
theorem dX1_lose_25 : decode cX1_lose 25 = .ok (.putfield 188, 3) := by decide +kernel
theorem dX1_lose_28 : decode cX1_lose 28 = .ok (.aload_n 2, 1) := by decide +kernel
theorem dX1_lose_29 : decode cX1_lose 29 = .ok (.getfield 188, 3) := by decide +kernel
theorem dX1_lose_32 : decode cX1_lose 32 = .ok (.iconst 3, 1) := by decide +kernel
theorem dX1_lose_33 : decode cX1_lose 33 = .ok (.if_icmp .ge 4, 3) := by decide +kernel
theorem dX1_lose_36 : decode cX1_lose 36 = .ok (.return_, 1) := by decide +kernel
theorem dX1_lose_37 : decode cX1_lose 37 = .ok (.aload_n 0, 1) := by decide +kernel
theorem dX1_lose_38 : decode cX1_lose 38 = .ok (.aload_n 1, 1) := by decide +kernel
theorem dX1_lose_39 : decode cX1_lose 39 = .ok (.invokevirtual 97, 3) := by decide +kernel
theorem dX1_lose_42 : decode cX1_lose 42 = .ok (.aload_n 1, 1) := by decide +kernel
theorem dX1_lose_43 : decode cX1_lose 43 = .ok (.new 102, 3) := by decide +kernel
theorem dX1_lose_46 : decode cX1_lose 46 = .ok (.dup, 1) := by decide +kernel
theorem dX1_lose_47 : decode cX1_lose 47 = .ok (.invokespecial 104, 3) := by decide +kernel
theorem dX1_lose_50 : decode cX1_lose 50 = .ok (.putfield 88, 3) := by decide +kernel
theorem dX1_lose_53 : decode cX1_lose 53 = .ok (.return_, 1) := by decide +kernel
abbrev cX1_grant : ByteArray := prog_1_method_21_code
def yX1_grant : MethodName := ⟨RX1, "grant", "()V"⟩
theorem dX1_grant_0 : decode cX1_grant 0 = .ok (.iconst 5, 1) := by decide +kernel
theorem dX1_grant_1 : decode cX1_grant 1 = .ok (.istore_n 1, 1) := by decide +kernel
theorem dX1_grant_2 : decode cX1_grant 2 = .ok (.new 21, 3) := by decide +kernel
theorem dX1_grant_5 : decode cX1_grant 5 = .ok (.dup, 1) := by decide +kernel
theorem dX1_grant_6 : decode cX1_grant 6 = .ok (.bipush 6, 2) := by decide +kernel
theorem dX1_grant_8 : decode cX1_grant 8 = .ok (.invokespecial 23, 3) := by decide +kernel
theorem dX1_grant_11 : decode cX1_grant 11 = .ok (.astore_n 2, 1) := by decide +kernel
theorem dX1_grant_12 : decode cX1_grant 12 = .ok (.aload_n 0, 1) := by decide +kernel
theorem dX1_grant_13 : decode cX1_grant 13 = .ok (.getfield 26, 3) := by decide +kernel
theorem dX1_grant_16 : decode cX1_grant 16 = .ok (.invokevirtual 43, 3) := by decide +kernel
theorem dX1_grant_19 : decode cX1_grant 19 = .ok (.astore_n 3, 1) := by decide +kernel
theorem dX1_grant_20 : decode cX1_grant 20 = .ok (.aload_n 3, 1) := by decide +kernel
theorem dX1_grant_21 : decode cX1_grant 21 = .ok (.invokeinterface 47 1, 5) := by decide +kernel
theorem dX1_grant_26 : decode cX1_grant 26 = .ok (.ifCond .eq 71, 3) := by decide +kernel
theorem dX1_grant_29 : decode cX1_grant 29 = .ok (.aload_n 3, 1) := by decide +kernel
theorem dX1_grant_30 : decode cX1_grant 30 = .ok (.invokeinterface 53 1, 5) := by decide +kernel
theorem dX1_grant_35 : decode cX1_grant 35 = .ok (.checkcast 57, 3) := by decide +kernel
theorem dX1_grant_38 : decode cX1_grant 38 = .ok (.astore 4, 2) := by decide +kernel
theorem dX1_grant_40 : decode cX1_grant 40 = .ok (.iload_n 1, 1) := by decide +kernel
theorem dX1_grant_41 : decode cX1_grant 41 = .ok (.aload 4, 2) := by decide +kernel
theorem dX1_grant_43 : decode cX1_grant 43 = .ok (.getfield 236, 3) := by decide +kernel
theorem dX1_grant_46 : decode cX1_grant 46 = .ok (.invokestatic 239, 3) := by decide +kernel
theorem dX1_grant_49 : decode cX1_grant 49 = .ok (.istore 5, 2) := by decide +kernel
theorem dX1_grant_51 : decode cX1_grant 51 = .ok (.iload_n 1, 1) := by decide +kernel
theorem dX1_grant_52 : decode cX1_grant 52 = .ok (.iload 5, 2) := by decide +kernel
theorem dX1_grant_54 : decode cX1_grant 54 = .ok (.isub, 1) := by decide +kernel
theorem dX1_grant_55 : decode cX1_grant 55 = .ok (.istore_n 1, 1) := by decide +kernel
theorem dX1_grant_56 : decode cX1_grant 56 = .ok (.aload_n 0, 1) := by decide +kernel
theorem dX1_grant_57 : decode cX1_grant 57 = .ok (.dup, 1) := by decide +kernel
theorem dX1_grant_58 : decode cX1_grant 58 = .ok (.getfield 245, 3) := by decide +kernel
theorem dX1_grant_61 : decode cX1_grant 61 = .ok (.iload 5, 2) := by decide +kernel
theorem dX1_grant_63 : decode cX1_grant 63 = .ok (.iadd, 1) := by decide +kernel
theorem dX1_grant_64 : decode cX1_grant 64 = .ok (.putfield 245, 3) := by decide +kernel
theorem dX1_grant_67 : decode cX1_grant 67 = .ok (.aload 4, 2) := by decide +kernel
theorem dX1_grant_69 : decode cX1_grant 69 = .ok (.dup, 1) := by decide +kernel
theorem dX1_grant_70 : decode cX1_grant 70 = .ok (.getfield 236, 3) := by decide +kernel
theorem dX1_grant_73 : decode cX1_grant 73 = .ok (.iload 5, 2) := by decide +kernel
theorem dX1_grant_75 : decode cX1_grant 75 = .ok (.isub, 1) := by decide +kernel
theorem dX1_grant_76 : decode cX1_grant 76 = .ok (.putfield 236, 3) := by decide +kernel
theorem dX1_grant_79 : decode cX1_grant 79 = .ok (.aload 4, 2) := by decide +kernel
theorem dX1_grant_81 : decode cX1_grant 81 = .ok (.getfield 236, 3) := by decide +kernel
theorem dX1_grant_84 : decode cX1_grant 84 = .ok (.ifCond .ne 10, 3) := by decide +kernel
theorem dX1_grant_87 : decode cX1_grant 87 = .ok (.aload_n 2, 1) := by decide +kernel
theorem dX1_grant_88 : decode cX1_grant 88 = .ok (.aload 4, 2) := by decide +kernel
theorem dX1_grant_90 : decode cX1_grant 90 = .ok (.invokevirtual 150, 3) := by decide +kernel
theorem dX1_grant_93 : decode cX1_grant 93 = .ok (.pop, 1) := by decide +kernel
theorem dX1_grant_94 : decode cX1_grant 94 = .ok (.goto (-74), 3) := by decide +kernel
theorem dX1_grant_97 : decode cX1_grant 97 = .ok (.aload_n 2, 1) := by decide +kernel
theorem dX1_grant_98 : decode cX1_grant 98 = .ok (.invokevirtual 43, 3) := by decide +kernel
theorem dX1_grant_101 : decode cX1_grant 101 = .ok (.astore_n 3, 1) := by decide +kernel
theorem dX1_grant_102 : decode cX1_grant 102 = .ok (.aload_n 3, 1) := by decide +kernel
theorem dX1_grant_103 : decode cX1_grant 103 = .ok (.invokeinterface 47 1, 5) := by decide +kernel
theorem dX1_grant_108 : decode cX1_grant 108 = .ok (.ifCond .eq 23, 3) := by decide +kernel
theorem dX1_grant_111 : decode cX1_grant 111 = .ok (.aload_n 3, 1) := by decide +kernel
theorem dX1_grant_112 : decode cX1_grant 112 = .ok (.invokeinterface 53 1, 5) := by decide +kernel
theorem dX1_grant_117 : decode cX1_grant 117 = .ok (.checkcast 57, 3) := by decide +kernel
theorem dX1_grant_120 : decode cX1_grant 120 = .ok (.astore 4, 2) := by decide +kernel
theorem dX1_grant_122 : decode cX1_grant 122 = .ok (.aload_n 0, 1) := by decide +kernel
theorem dX1_grant_123 : decode cX1_grant 123 = .ok (.aload 4, 2) := by decide +kernel
theorem dX1_grant_125 : decode cX1_grant 125 = .ok (.invokevirtual 248, 3) := by decide +kernel
theorem dX1_grant_128 : decode cX1_grant 128 = .ok (.goto (-26), 3) := by decide +kernel
theorem dX1_grant_131 : decode cX1_grant 131 = .ok (.return_, 1) := by decide +kernel
abbrev cX1_send : ByteArray := prog_1_method_20_code
def yX1_send : MethodName := ⟨RX1, "send", "(LCablePlant$Request;)V"⟩
theorem dX1_send_0 : decode cX1_send 0 = .ok (.aload_n 0, 1) := by decide +kernel
theorem dX1_send_1 : decode cX1_send 1 = .ok (.getfield 26, 3) := by decide +kernel
theorem dX1_send_4 : decode cX1_send 4 = .ok (.aload_n 1, 1) := by decide +kernel
theorem dX1_send_5 : decode cX1_send 5 = .ok (.invokevirtual 67, 3) := by decide +kernel
theorem dX1_send_8 : decode cX1_send 8 = .ok (.pop, 1) := by decide +kernel
theorem dX1_send_9 : decode cX1_send 9 = .ok (.aload_n 1, 1) := by decide +kernel
theorem dX1_send_10 : decode cX1_send 10 = .ok (.getfield 59, 3) := by decide +kernel
theorem dX1_send_13 : decode cX1_send 13 = .ok (.invokevirtual 174, 3) := by decide +kernel
theorem dX1_send_16 : decode cX1_send 16 = .ok (.ifCond .ne 12, 3) := by decide +kernel
theorem dX1_send_19 : decode cX1_send 19 = .ok (.aload_n 0, 1) := by decide +kernel
theorem dX1_send_20 : decode cX1_send 20 = .ok (.aload_n 1, 1) := by decide +kernel
theorem dX1_send_21 : decode cX1_send 21 = .ok (.getfield 59, 3) := by decide +kernel
theorem dX1_send_24 : decode cX1_send 24 = .ok (.invokevirtual 207, 3) := by decide +kernel
theorem dX1_send_27 : decode cX1_send 27 = .ok (.return_, 1) := by decide +kernel
theorem dX1_send_28 : decode cX1_send 28 = .ok (.aload_n 1, 1) := by decide +kernel
theorem dX1_send_29 : decode cX1_send 29 = .ok (.getfield 220, 3) := by decide +kernel
theorem dX1_send_32 : decode cX1_send 32 = .ok (.getfield 124, 3) := by decide +kernel
theorem dX1_send_35 : decode cX1_send 35 = .ok (.iconst 0, 1) := by decide +kernel
theorem dX1_send_36 : decode cX1_send 36 = .ok (.invokevirtual 224, 3) := by decide +kernel
theorem dX1_send_39 : decode cX1_send 39 = .ok (.checkcast 145, 3) := by decide +kernel
theorem dX1_send_42 : decode cX1_send 42 = .ok (.astore_n 2, 1) := by decide +kernel
theorem dX1_send_43 : decode cX1_send 43 = .ok (.aload_n 1, 1) := by decide +kernel
theorem dX1_send_44 : decode cX1_send 44 = .ok (.getfield 220, 3) := by decide +kernel
theorem dX1_send_47 : decode cX1_send 47 = .ok (.aload_n 1, 1) := by decide +kernel
theorem dX1_send_48 : decode cX1_send 48 = .ok (.getfield 220, 3) := by decide +kernel
theorem dX1_send_51 : decode cX1_send 51 = .ok (.getfield 119, 3) := by decide +kernel
theorem dX1_send_54 : decode cX1_send 54 = .ok (.aload_n 2, 1) := by decide +kernel
theorem dX1_send_55 : decode cX1_send 55 = .ok (.invokevirtual 226, 3) := by decide +kernel
theorem dX1_send_58 : decode cX1_send 58 = .ok (.i2d, 1) := by decide +kernel
theorem dX1_send_59 : decode cX1_send 59 = .ok (.dsub, 1) := by decide +kernel
theorem dX1_send_60 : decode cX1_send 60 = .ok (.putfield 119, 3) := by decide +kernel
theorem dX1_send_63 : decode cX1_send 63 = .ok (.aload_n 0, 1) := by decide +kernel
theorem dX1_send_64 : decode cX1_send 64 = .ok (.aload_n 2, 1) := by decide +kernel
theorem dX1_send_65 : decode cX1_send 65 = .ok (.invokevirtual 227, 3) := by decide +kernel
theorem dX1_send_68 : decode cX1_send 68 = .ok (.aload_n 1, 1) := by decide +kernel
theorem dX1_send_69 : decode cX1_send 69 = .ok (.getfield 59, 3) := by decide +kernel
theorem dX1_send_72 : decode cX1_send 72 = .ok (.getfield 184, 3) := by decide +kernel
theorem dX1_send_75 : decode cX1_send 75 = .ok (.ixor, 1) := by decide +kernel
theorem dX1_send_76 : decode cX1_send 76 = .ok (.aload_n 0, 1) := by decide +kernel
theorem dX1_send_77 : decode cX1_send 77 = .ok (.getfield 181, 3) := by decide +kernel
theorem dX1_send_80 : decode cX1_send 80 = .ok (.ixor, 1) := by decide +kernel
theorem dX1_send_81 : decode cX1_send 81 = .ok (.invokevirtual 230, 3) := by decide +kernel
theorem dX1_send_84 : decode cX1_send 84 = .ok (.aload_n 0, 1) := by decide +kernel
theorem dX1_send_85 : decode cX1_send 85 = .ok (.dup, 1) := by decide +kernel
theorem dX1_send_86 : decode cX1_send 86 = .ok (.getfield 233, 3) := by decide +kernel
theorem dX1_send_89 : decode cX1_send 89 = .ok (.iconst 1, 1) := by decide +kernel
theorem dX1_send_90 : decode cX1_send 90 = .ok (.iadd, 1) := by decide +kernel
theorem dX1_send_91 : decode cX1_send 91 = .ok (.putfield 233, 3) := by decide +kernel
theorem dX1_send_94 : decode cX1_send 94 = .ok (.return_, 1) := by decide +kernel
abbrev cX1_put : ByteArray := prog_1_method_19_code
def yX1_put : MethodName := ⟨RX1, "put", "(I)V"⟩
theorem dX1_put_0 : decode cX1_put 0 = .ok (.aload_n 0, 1) := by decide +kernel
theorem dX1_put_1 : decode cX1_put 1 = .ok (.getfield 214, 3) := by decide +kernel
theorem dX1_put_4 : decode cX1_put 4 = .ok (.bipush 6, 2) := by decide +kernel
theorem dX1_put_6 : decode cX1_put 6 = .ok (.if_icmp .ne 53, 3) := by decide +kernel
theorem dX1_put_9 : decode cX1_put 9 = .ok (.aload_n 0, 1) := by decide +kernel
theorem dX1_put_10 : decode cX1_put 10 = .ok (.dup, 1) := by decide +kernel
theorem dX1_put_11 : decode cX1_put 11 = .ok (.getfield 214, 3) := by decide +kernel
theorem dX1_put_14 : decode cX1_put 14 = .ok (.iconst 1, 1) := by decide +kernel
theorem dX1_put_15 : decode cX1_put 15 = .ok (.isub, 1) := by decide +kernel
theorem dX1_put_16 : decode cX1_put 16 = .ok (.putfield 214, 3) := by decide +kernel
theorem dX1_put_19 : decode cX1_put 19 = .ok (.iconst 0, 1) := by decide +kernel
theorem dX1_put_20 : decode cX1_put 20 = .ok (.istore_n 2, 1) := by decide +kernel
theorem dX1_put_21 : decode cX1_put 21 = .ok (.iload_n 2, 1) := by decide +kernel
theorem dX1_put_22 : decode cX1_put 22 = .ok (.aload_n 0, 1) := by decide +kernel
theorem dX1_put_23 : decode cX1_put 23 = .ok (.getfield 214, 3) := by decide +kernel
theorem dX1_put_26 : decode cX1_put 26 = .ok (.if_icmp .ge 23, 3) := by decide +kernel
theorem dX1_put_29 : decode cX1_put 29 = .ok (.aload_n 0, 1) := by decide +kernel
theorem dX1_put_30 : decode cX1_put 30 = .ok (.getfield 30, 3) := by decide +kernel
theorem dX1_put_33 : decode cX1_put 33 = .ok (.iload_n 2, 1) := by decide +kernel
theorem dX1_put_34 : decode cX1_put 34 = .ok (.aload_n 0, 1) := by decide +kernel
theorem dX1_put_35 : decode cX1_put 35 = .ok (.getfield 30, 3) := by decide +kernel
theorem dX1_put_38 : decode cX1_put 38 = .ok (.iload_n 2, 1) := by decide +kernel
theorem dX1_put_39 : decode cX1_put 39 = .ok (.iconst 1, 1) := by decide +kernel
theorem dX1_put_40 : decode cX1_put 40 = .ok (.iadd, 1) := by decide +kernel
theorem dX1_put_41 : decode cX1_put 41 = .ok (.iaload, 1) := by decide +kernel
theorem dX1_put_42 : decode cX1_put 42 = .ok (.iastore, 1) := by decide +kernel
theorem dX1_put_43 : decode cX1_put 43 = .ok (.iinc 2 1, 3) := by decide +kernel
theorem dX1_put_46 : decode cX1_put 46 = .ok (.goto (-25), 3) := by decide +kernel
theorem dX1_put_49 : decode cX1_put 49 = .ok (.aload_n 0, 1) := by decide +kernel
theorem dX1_put_50 : decode cX1_put 50 = .ok (.dup, 1) := by decide +kernel
theorem dX1_put_51 : decode cX1_put 51 = .ok (.getfield 217, 3) := by decide +kernel
theorem dX1_put_54 : decode cX1_put 54 = .ok (.iconst 1, 1) := by decide +kernel
theorem dX1_put_55 : decode cX1_put 55 = .ok (.iadd, 1) := by decide +kernel
theorem dX1_put_56 : decode cX1_put 56 = .ok (.putfield 217, 3) := by decide +kernel
theorem dX1_put_59 : decode cX1_put 59 = .ok (.aload_n 0, 1) := by decide +kernel
theorem dX1_put_60 : decode cX1_put 60 = .ok (.getfield 30, 3) := by decide +kernel
theorem dX1_put_63 : decode cX1_put 63 = .ok (.aload_n 0, 1) := by decide +kernel
theorem dX1_put_64 : decode cX1_put 64 = .ok (.getfield 214, 3) := by decide +kernel
theorem dX1_put_67 : decode cX1_put 67 = .ok (.iload_n 1, 1) := by decide +kernel
theorem dX1_put_68 : decode cX1_put 68 = .ok (.iastore, 1) := by decide +kernel
theorem dX1_put_69 : decode cX1_put 69 = .ok (.aload_n 0, 1) := by decide +kernel
theorem dX1_put_70 : decode cX1_put 70 = .ok (.dup, 1) := by decide +kernel
theorem dX1_put_71 : decode cX1_put 71 = .ok (.getfield 214, 3) := by decide +kernel
theorem dX1_put_74 : decode cX1_put 74 = .ok (.iconst 1, 1) := by decide +kernel
theorem dX1_put_75 : decode cX1_put 75 = .ok (.iadd, 1) := by decide +kernel
theorem dX1_put_76 : decode cX1_put 76 = .ok (.putfield 214, 3) := by decide +kernel
theorem dX1_put_79 : decode cX1_put 79 = .ok (.return_, 1) := by decide +kernel
abbrev cX1_take : ByteArray := prog_1_method_24_code
def yX1_take : MethodName := ⟨RX1, "take", "()I"⟩
theorem dX1_take_0 : decode cX1_take 0 = .ok (.aload_n 0, 1) := by decide +kernel
theorem dX1_take_1 : decode cX1_take 1 = .ok (.getfield 214, 3) := by decide +kernel
theorem dX1_take_4 : decode cX1_take 4 = .ok (.ifCond .ne 11, 3) := by decide +kernel
theorem dX1_take_7 : decode cX1_take 7 = .ok (.new 264, 3) := by decide +kernel
theorem dX1_take_10 : decode cX1_take 10 = .ok (.dup, 1) := by decide +kernel
theorem dX1_take_11 : decode cX1_take 11 = .ok (.invokespecial 266, 3) := by decide +kernel
theorem dX1_take_14 : decode cX1_take 14 = .ok (.athrow, 1) := by decide +kernel
theorem dX1_take_15 : decode cX1_take 15 = .ok (.aload_n 0, 1) := by decide +kernel
theorem dX1_take_16 : decode cX1_take 16 = .ok (.getfield 30, 3) := by decide +kernel
theorem dX1_take_19 : decode cX1_take 19 = .ok (.iconst 0, 1) := by decide +kernel
theorem dX1_take_20 : decode cX1_take 20 = .ok (.iaload, 1) := by decide +kernel
theorem dX1_take_21 : decode cX1_take 21 = .ok (.istore_n 1, 1) := by decide +kernel
theorem dX1_take_22 : decode cX1_take 22 = .ok (.aload_n 0, 1) := by decide +kernel
theorem dX1_take_23 : decode cX1_take 23 = .ok (.dup, 1) := by decide +kernel
theorem dX1_take_24 : decode cX1_take 24 = .ok (.getfield 214, 3) := by decide +kernel
theorem dX1_take_27 : decode cX1_take 27 = .ok (.iconst 1, 1) := by decide +kernel
theorem dX1_take_28 : decode cX1_take 28 = .ok (.isub, 1) := by decide +kernel
theorem dX1_take_29 : decode cX1_take 29 = .ok (.putfield 214, 3) := by decide +kernel
theorem dX1_take_32 : decode cX1_take 32 = .ok (.iconst 0, 1) := by decide +kernel
theorem dX1_take_33 : decode cX1_take 33 = .ok (.istore_n 2, 1) := by decide +kernel
theorem dX1_take_34 : decode cX1_take 34 = .ok (.iload_n 2, 1) := by decide +kernel
theorem dX1_take_35 : decode cX1_take 35 = .ok (.aload_n 0, 1) := by decide +kernel
theorem dX1_take_36 : decode cX1_take 36 = .ok (.getfield 214, 3) := by decide +kernel
theorem dX1_take_39 : decode cX1_take 39 = .ok (.if_icmp .ge 23, 3) := by decide +kernel
theorem dX1_take_42 : decode cX1_take 42 = .ok (.aload_n 0, 1) := by decide +kernel
theorem dX1_take_43 : decode cX1_take 43 = .ok (.getfield 30, 3) := by decide +kernel
theorem dX1_take_46 : decode cX1_take 46 = .ok (.iload_n 2, 1) := by decide +kernel
theorem dX1_take_47 : decode cX1_take 47 = .ok (.aload_n 0, 1) := by decide +kernel
theorem dX1_take_48 : decode cX1_take 48 = .ok (.getfield 30, 3) := by decide +kernel
theorem dX1_take_51 : decode cX1_take 51 = .ok (.iload_n 2, 1) := by decide +kernel
theorem dX1_take_52 : decode cX1_take 52 = .ok (.iconst 1, 1) := by decide +kernel
theorem dX1_take_53 : decode cX1_take 53 = .ok (.iadd, 1) := by decide +kernel
theorem dX1_take_54 : decode cX1_take 54 = .ok (.iaload, 1) := by decide +kernel
theorem dX1_take_55 : decode cX1_take 55 = .ok (.iastore, 1) := by decide +kernel
theorem dX1_take_56 : decode cX1_take 56 = .ok (.iinc 2 1, 3) := by decide +kernel
theorem dX1_take_59 : decode cX1_take 59 = .ok (.goto (-25), 3) := by decide +kernel
theorem dX1_take_62 : decode cX1_take 62 = .ok (.iload_n 1, 1) := by decide +kernel
theorem dX1_take_63 : decode cX1_take 63 = .ok (.ireturn, 1) := by decide +kernel
