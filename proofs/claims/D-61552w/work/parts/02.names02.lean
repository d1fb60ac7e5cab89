set_option maxRecDepth 100000
abbrev cX1_in : ByteArray := prog_1_method_3_code
def yX1_in : MethodName := ⟨RX1, "in", "(III)Z"⟩
theorem dX1_in_0 : decode cX1_in 0 = .ok (.iload_n 0, 1) := by decide +kernel
theorem dX1_in_1 : decode cX1_in 1 = .ok (.iload_n 1, 1) := by decide +kernel
theorem dX1_in_2 : decode cX1_in 2 = .ok (.if_icmp .lt 12, 3) := by decide +kernel
theorem dX1_in_5 : decode cX1_in 5 = .ok (.iload_n 0, 1) := by decide +kernel
theorem dX1_in_6 : decode cX1_in 6 = .ok (.iload_n 2, 1) := by decide +kernel
theorem dX1_in_7 : decode cX1_in 7 = .ok (.if_icmp .gt 7, 3) := by decide +kernel
theorem dX1_in_10 : decode cX1_in 10 = .ok (.iconst 1, 1) := by decide +kernel
theorem dX1_in_11 : decode cX1_in 11 = .ok (.goto 4, 3) := by decide +kernel
theorem dX1_in_14 : decode cX1_in 14 = .ok (.iconst 0, 1) := by decide +kernel
theorem dX1_in_15 : decode cX1_in 15 = .ok (.ireturn, 1) := by decide +kernel
abbrev cX1_numberOf : ByteArray := prog_1_method_27_code
def yX1_numberOf : MethodName := ⟨RX1, "numberOf", "(LCablePlant$Modem;)I"⟩
theorem dX1_numberOf_0 : decode cX1_numberOf 0 = .ok (.iconst 0, 1) := by decide +kernel
theorem dX1_numberOf_1 : decode cX1_numberOf 1 = .ok (.istore_n 2, 1) := by decide +kernel
theorem dX1_numberOf_2 : decode cX1_numberOf 2 = .ok (.iload_n 2, 1) := by decide +kernel
theorem dX1_numberOf_3 : decode cX1_numberOf 3 = .ok (.bipush 6, 2) := by decide +kernel
theorem dX1_numberOf_5 : decode cX1_numberOf 5 = .ok (.if_icmp .ge 21, 3) := by decide +kernel
theorem dX1_numberOf_8 : decode cX1_numberOf 8 = .ok (.aload_n 0, 1) := by decide +kernel
theorem dX1_numberOf_9 : decode cX1_numberOf 9 = .ok (.getfield 17, 3) := by decide +kernel
theorem dX1_numberOf_12 : decode cX1_numberOf 12 = .ok (.iload_n 2, 1) := by decide +kernel
theorem dX1_numberOf_13 : decode cX1_numberOf 13 = .ok (.aaload, 1) := by decide +kernel
theorem dX1_numberOf_14 : decode cX1_numberOf 14 = .ok (.aload_n 1, 1) := by decide +kernel
theorem dX1_numberOf_15 : decode cX1_numberOf 15 = .ok (.if_acmp .ne 5, 3) := by decide +kernel
theorem dX1_numberOf_18 : decode cX1_numberOf 18 = .ok (.iload_n 2, 1) := by decide +kernel
theorem dX1_numberOf_19 : decode cX1_numberOf 19 = .ok (.ireturn, 1) := by decide +kernel
theorem dX1_numberOf_20 : decode cX1_numberOf 20 = .ok (.iinc 2 1, 3) := by decide +kernel
theorem dX1_numberOf_23 : decode cX1_numberOf 23 = .ok (.goto (-21), 3) := by decide +kernel
theorem dX1_numberOf_26 : decode cX1_numberOf 26 = .ok (.iconst (-1), 1) := by decide +kernel
theorem dX1_numberOf_27 : decode cX1_numberOf 27 = .ok (.ireturn, 1) := by decide +kernel
abbrev cX1_place : ByteArray := prog_1_method_9_code
def yX1_place : MethodName := ⟨RX1, "place", "(IDD)V"⟩
theorem dX1_place_0 : decode cX1_place 0 = .ok (.aload_n 0, 1) := by decide +kernel
theorem dX1_place_1 : decode cX1_place 1 = .ok (.iload_n 1, 1) := by decide +kernel
theorem dX1_place_2 : decode cX1_place 2 = .ok (.invokevirtual 71, 3) := by decide +kernel
theorem dX1_place_5 : decode cX1_place 5 = .ok (.astore 6, 2) := by decide +kernel
theorem dX1_place_7 : decode cX1_place 7 = .ok (.dload_n 2, 1) := by decide +kernel
theorem dX1_place_8 : decode cX1_place 8 = .ok (.dconst 0, 1) := by decide +kernel
theorem dX1_place_9 : decode cX1_place 9 = .ok (.ldc2_w 75, 3) := by decide +kernel
theorem dX1_place_12 : decode cX1_place 12 = .ok (.invokestatic 77, 3) := by decide +kernel
theorem dX1_place_15 : decode cX1_place 15 = .ok (.ifCond .eq 19, 3) := by decide +kernel
theorem dX1_place_18 : decode cX1_place 18 = .ok (.dload 4, 2) := by decide +kernel
theorem dX1_place_20 : decode cX1_place 20 = .ok (.dconst 0, 1) := by decide +kernel
theorem dX1_place_21 : decode cX1_place 21 = .ok (.ldc2_w 75, 3) := by decide +kernel
theorem dX1_place_24 : decode cX1_place 24 = .ok (.invokestatic 77, 3) := by decide +kernel
theorem dX1_place_27 : decode cX1_place 27 = .ok (.ifCond .eq 7, 3) := by decide +kernel
theorem dX1_place_30 : decode cX1_place 30 = .ok (.iconst 1, 1) := by decide +kernel
theorem dX1_place_31 : decode cX1_place 31 = .ok (.goto 4, 3) := by decide +kernel
theorem dX1_place_34 : decode cX1_place 34 = .ok (.iconst 0, 1) := by decide +kernel
theorem dX1_place_35 : decode cX1_place 35 = .ok (.invokestatic 39, 3) := by decide +kernel
theorem dX1_place_38 : decode cX1_place 38 = .ok (.aload 6, 2) := by decide +kernel
theorem dX1_place_40 : decode cX1_place 40 = .ok (.dload_n 2, 1) := by decide +kernel
theorem dX1_place_41 : decode cX1_place 41 = .ok (.putfield 81, 3) := by decide +kernel
theorem dX1_place_44 : decode cX1_place 44 = .ok (.aload 6, 2) := by decide +kernel
theorem dX1_place_46 : decode cX1_place 46 = .ok (.dload 4, 2) := by decide +kernel
theorem dX1_place_48 : decode cX1_place 48 = .ok (.putfield 85, 3) := by decide +kernel
theorem dX1_place_51 : decode cX1_place 51 = .ok (.return_, 1) := by decide +kernel
abbrev cX1_there : ByteArray := prog_1_method_6_code
def yX1_there : MethodName := ⟨RX1, "there", "(I)LCablePlant$Modem;"⟩
theorem dX1_there_0 : decode cX1_there 0 = .ok (.iload_n 1, 1) := by decide +kernel
theorem dX1_there_1 : decode cX1_there 1 = .ok (.iconst 0, 1) := by decide +kernel
theorem dX1_there_2 : decode cX1_there 2 = .ok (.iconst 5, 1) := by decide +kernel
theorem dX1_there_3 : decode cX1_there 3 = .ok (.invokestatic 35, 3) := by decide +kernel
theorem dX1_there_6 : decode cX1_there 6 = .ok (.invokestatic 39, 3) := by decide +kernel
theorem dX1_there_9 : decode cX1_there 9 = .ok (.aload_n 0, 1) := by decide +kernel
theorem dX1_there_10 : decode cX1_there 10 = .ok (.getfield 17, 3) := by decide +kernel
theorem dX1_there_13 : decode cX1_there 13 = .ok (.iload_n 1, 1) := by decide +kernel
theorem dX1_there_14 : decode cX1_there 14 = .ok (.aaload, 1) := by decide +kernel
theorem dX1_there_15 : decode cX1_there 15 = .ok (.areturn, 1) := by decide +kernel
abbrev cX1_good : ByteArray := prog_1_method_1_code
def yX1_good : MethodName := ⟨RX1, "good", "(Z)V"⟩
theorem dX1_good_0 : decode cX1_good 0 = .ok (.iload_n 0, 1) := by decide +kernel
theorem dX1_good_1 : decode cX1_good 1 = .ok (.ifCond .ne 11, 3) := by decide +kernel
theorem dX1_good_4 : decode cX1_good 4 = .ok (.new 1, 3) := by decide +kernel
theorem dX1_good_7 : decode cX1_good 7 = .ok (.dup, 1) := by decide +kernel
theorem dX1_good_8 : decode cX1_good 8 = .ok (.invokespecial 3, 3) := by decide +kernel
theorem dX1_good_11 : decode cX1_good 11 = .ok (.athrow, 1) := by decide +kernel
theorem dX1_good_12 : decode cX1_good 12 = .ok (.return_, 1) := by decide +kernel
abbrev cX1_power : ByteArray := prog_1_method_10_code
def yX1_power : MethodName := ⟨RX1, "power", "(IZ)V"⟩
theorem dX1_power_0 : decode cX1_power 0 = .ok (.aload_n 0, 1) := by decide +kernel
theorem dX1_power_1 : decode cX1_power 1 = .ok (.iload_n 1, 1) := by decide +kernel
theorem dX1_power_2 : decode cX1_power 2 = .ok (.invokevirtual 71, 3) := by decide +kernel
theorem dX1_power_5 : decode cX1_power 5 = .ok (.astore_n 3, 1) := by decide +kernel
theorem dX1_power_6 : decode cX1_power 6 = .ok (.aload_n 3, 1) := by decide +kernel
theorem dX1_power_7 : decode cX1_power 7 = .ok (.getfield 88, 3) := by decide +kernel
theorem dX1_power_10 : decode cX1_power 10 = .ok (.instanceof 92, 3) := by decide +kernel
theorem dX1_power_13 : decode cX1_power 13 = .ok (.iload_n 2, 1) := by decide +kernel
theorem dX1_power_14 : decode cX1_power 14 = .ok (.if_icmp .ne 7, 3) := by decide +kernel
theorem dX1_power_17 : decode cX1_power 17 = .ok (.iconst 1, 1) := by decide +kernel
theorem dX1_power_18 : decode cX1_power 18 = .ok (.goto 4, 3) := by decide +kernel
theorem dX1_power_21 : decode cX1_power 21 = .ok (.iconst 0, 1) := by decide +kernel
theorem dX1_power_22 : decode cX1_power 22 = .ok (.invokestatic 94, 3) := by decide +kernel
theorem dX1_power_25 : decode cX1_power 25 = .ok (.aload_n 0, 1) := by decide +kernel
theorem dX1_power_26 : decode cX1_power 26 = .ok (.aload_n 3, 1) := by decide +kernel
theorem dX1_power_27 : decode cX1_power 27 = .ok (.invokevirtual 97, 3) := by decide +kernel
theorem dX1_power_30 : decode cX1_power 30 = .ok (.iload_n 2, 1) := by decide +kernel
theorem dX1_power_31 : decode cX1_power 31 = .ok (.ifCond .ne 15, 3) := by decide +kernel
theorem dX1_power_34 : decode cX1_power 34 = .ok (.aload_n 3, 1) := by decide +kernel
theorem dX1_power_35 : decode cX1_power 35 = .ok (.new 92, 3) := by decide +kernel
theorem dX1_power_38 : decode cX1_power 38 = .ok (.dup, 1) := by decide +kernel
theorem dX1_power_39 : decode cX1_power 39 = .ok (.invokespecial 101, 3) := by decide +kernel
theorem dX1_power_42 : decode cX1_power 42 = .ok (.putfield 88, 3) := by decide +kernel
theorem dX1_power_45 : decode cX1_power 45 = .ok (.return_, 1) := by decide +kernel
theorem dX1_power_46 : decode cX1_power 46 = .ok (.aload_n 3, 1) := by decide +kernel
theorem dX1_power_47 : decode cX1_power 47 = .ok (.new 102, 3) := by decide +kernel
theorem dX1_power_50 : decode cX1_power 50 = .ok (.dup, 1) := by decide +kernel
theorem dX1_power_51 : decode cX1_power 51 = .ok (.invokespecial 104, 3) := by decide +kernel
theorem dX1_power_54 : decode cX1_power 54 = .ok (.putfield 88, 3) := by decide +kernel
theorem dX1_power_57 : decode cX1_power 57 = .ok (.aload_n 3, 1) := by decide +kernel
theorem dX1_power_58 : decode cX1_power 58 = .ok (.dconst 0, 1) := by decide +kernel
theorem dX1_power_59 : decode cX1_power 59 = .ok (.putfield 105, 3) := by decide +kernel
theorem dX1_power_62 : decode cX1_power 62 = .ok (.aload_n 3, 1) := by decide +kernel
theorem dX1_power_63 : decode cX1_power 63 = .ok (.dconst 0, 1) := by decide +kernel
theorem dX1_power_64 : decode cX1_power 64 = .ok (.putfield 108, 3) := by decide +kernel
theorem dX1_power_67 : decode cX1_power 67 = .ok (.aload_n 3, 1) := by decide +kernel
theorem dX1_power_68 : decode cX1_power 68 = .ok (.iload_n 1, 1) := by decide +kernel
theorem dX1_power_69 : decode cX1_power 69 = .ok (.iconst 1, 1) := by decide +kernel
theorem dX1_power_70 : decode cX1_power 70 = .ok (.iadd, 1) := by decide +kernel
theorem dX1_power_71 : decode cX1_power 71 = .ok (.putfield 111, 3) := by decide +kernel
theorem dX1_power_74 : decode cX1_power 74 = .ok (.aload_n 3, 1) := by decide +kernel
theorem dX1_power_75 : decode cX1_power 75 = .ok (.getfield 115, 3) := by decide +kernel
theorem dX1_power_78 : decode cX1_power 78 = .ok (.astore 4, 2) := by decide +kernel
theorem dX1_power_80 : decode cX1_power 80 = .ok (.aload 4, 2) := by decide +kernel
theorem dX1_power_82 : decode cX1_power 82 = .ok (.arraylength, 1) := by decide +kernel
theorem dX1_power_83 : decode cX1_power 83 = .ok (.istore 5, 2) := by decide +kernel
theorem dX1_power_85 : decode cX1_power 85 = .ok (.iconst 0, 1) := by decide +kernel
theorem dX1_power_86 : decode cX1_power 86 = .ok (.istore 6, 2) := by decide +kernel
theorem dX1_power_88 : decode cX1_power 88 = .ok (.iload 6, 2) := by decide +kernel
theorem dX1_power_90 : decode cX1_power 90 = .ok (.iload 5, 2) := by decide +kernel
theorem dX1_power_92 : decode cX1_power 92 = .ok (.if_icmp .ge 30, 3) := by decide +kernel
theorem dX1_power_95 : decode cX1_power 95 = .ok (.aload 4, 2) := by decide +kernel
theorem dX1_power_97 : decode cX1_power 97 = .ok (.iload 6, 2) := by decide +kernel
theorem dX1_power_99 : decode cX1_power 99 = .ok (.aaload, 1) := by decide +kernel
theorem dX1_power_100 : decode cX1_power 100 = .ok (.astore 7, 2) := by decide +kernel
theorem dX1_power_102 : decode cX1_power 102 = .ok (.aload 7, 2) := by decide +kernel
theorem dX1_power_104 : decode cX1_power 104 = .ok (.dconst 0, 1) := by decide +kernel
theorem dX1_power_105 : decode cX1_power 105 = .ok (.putfield 119, 3) := by decide +kernel
theorem dX1_power_108 : decode cX1_power 108 = .ok (.aload 7, 2) := by decide +kernel
theorem dX1_power_110 : decode cX1_power 110 = .ok (.getfield 124, 3) := by decide +kernel
theorem dX1_power_113 : decode cX1_power 113 = .ok (.invokevirtual 127, 3) := by decide +kernel
theorem dX1_power_116 : decode cX1_power 116 = .ok (.iinc 6 1, 3) := by decide +kernel
theorem dX1_power_119 : decode cX1_power 119 = .ok (.goto (-31), 3) := by decide +kernel
theorem dX1_power_122 : decode cX1_power 122 = .ok (.return_, 1) := by decide +kernel
abbrev cX1_now : ByteArray := prog_1_method_2_code
def yX1_now : MethodName := ⟨RX1, "now", "(Z)V"⟩
theorem dX1_now_0 : decode cX1_now 0 = .ok (.iload_n 0, 1) := by decide +kernel
theorem dX1_now_1 : decode cX1_now 1 = .ok (.ifCond .ne 11, 3) := by decide +kernel
theorem dX1_now_4 : decode cX1_now 4 = .ok (.new 7, 3) := by decide +kernel
theorem dX1_now_7 : decode cX1_now 7 = .ok (.dup, 1) := by decide +kernel
theorem dX1_now_8 : decode cX1_now 8 = .ok (.invokespecial 9, 3) := by decide +kernel
theorem dX1_now_11 : decode cX1_now 11 = .ok (.athrow, 1) := by decide +kernel
theorem dX1_now_12 : decode cX1_now 12 = .ok (.return_, 1) := by decide +kernel
abbrev cX1_withdraw : ByteArray := prog_1_method_8_code
def yX1_withdraw : MethodName := ⟨RX1, "withdraw", "(LCablePlant$Modem;)V"⟩
theorem dX1_withdraw_0 : decode cX1_withdraw 0 = .ok (.aload_n 0, 1) := by decide +kernel
theorem dX1_withdraw_1 : decode cX1_withdraw 1 = .ok (.aload_n 1, 1) := by decide +kernel
theorem dX1_withdraw_2 : decode cX1_withdraw 2 = .ok (.invokevirtual 63, 3) := by decide +kernel
theorem dX1_withdraw_5 : decode cX1_withdraw 5 = .ok (.astore_n 2, 1) := by decide +kernel
theorem dX1_withdraw_6 : decode cX1_withdraw 6 = .ok (.aload_n 2, 1) := by decide +kernel
theorem dX1_withdraw_7 : decode cX1_withdraw 7 = .ok (.ifnull 12, 3) := by decide +kernel
theorem dX1_withdraw_10 : decode cX1_withdraw 10 = .ok (.aload_n 0, 1) := by decide +kernel
theorem dX1_withdraw_11 : decode cX1_withdraw 11 = .ok (.getfield 26, 3) := by decide +kernel
theorem dX1_withdraw_14 : decode cX1_withdraw 14 = .ok (.aload_n 2, 1) := by decide +kernel
theorem dX1_withdraw_15 : decode cX1_withdraw 15 = .ok (.invokevirtual 67, 3) := by decide +kernel
theorem dX1_withdraw_18 : decode cX1_withdraw 18 = .ok (.pop, 1) := by decide +kernel
theorem dX1_withdraw_19 : decode cX1_withdraw 19 = .ok (.return_, 1) := by decide +kernel
abbrev cX1_requestOf : ByteArray := prog_1_method_7_code
def yX1_requestOf : MethodName := ⟨RX1, "requestOf", "(LCablePlant$Modem;)LCablePlant$Request;"⟩
theorem dX1_requestOf_0 : decode cX1_requestOf 0 = .ok (.aload_n 0, 1) := by decide +kernel
theorem dX1_requestOf_1 : decode cX1_requestOf 1 = .ok (.getfield 26, 3) := by decide +kernel
theorem dX1_requestOf_4 : decode cX1_requestOf 4 = .ok (.invokevirtual 43, 3) := by decide +kernel
theorem dX1_requestOf_7 : decode cX1_requestOf 7 = .ok (.astore_n 2, 1) := by decide +kernel
theorem dX1_requestOf_8 : decode cX1_requestOf 8 = .ok (.aload_n 2, 1) := by decide +kernel
theorem dX1_requestOf_9 : decode cX1_requestOf 9 = .ok (.invokeinterface 47 1, 5) := by decide +kernel
theorem dX1_requestOf_14 : decode cX1_requestOf 14 = .ok (.ifCond .eq 26, 3) := by decide +kernel
theorem dX1_requestOf_17 : decode cX1_requestOf 17 = .ok (.aload_n 2, 1) := by decide +kernel
theorem dX1_requestOf_18 : decode cX1_requestOf 18 = .ok (.invokeinterface 53 1, 5) := by decide +kernel
theorem dX1_requestOf_23 : decode cX1_requestOf 23 = .ok (.checkcast 57, 3) := by decide +kernel
theorem dX1_requestOf_26 : decode cX1_requestOf 26 = .ok (.astore_n 3, 1) := by decide +kernel
theorem dX1_requestOf_27 : decode cX1_requestOf 27 = .ok (.aload_n 3, 1) := by decide +kernel
theorem dX1_requestOf_28 : decode cX1_requestOf 28 = .ok (.getfield 59, 3) := by decide +kernel
theorem dX1_requestOf_31 : decode cX1_requestOf 31 = .ok (.aload_n 1, 1) := by decide +kernel
theorem dX1_requestOf_32 : decode cX1_requestOf 32 = .ok (.if_acmp .ne 5, 3) := by decide +kernel
theorem dX1_requestOf_35 : decode cX1_requestOf 35 = .ok (.aload_n 3, 1) := by decide +kernel
theorem dX1_requestOf_36 : decode cX1_requestOf 36 = .ok (.areturn, 1) := by decide +kernel
theorem dX1_requestOf_37 : decode cX1_requestOf 37 = .ok (.goto (-29), 3) := by decide +kernel
theorem dX1_requestOf_40 : decode cX1_requestOf 40 = .ok (.aconst_null, 1) := by decide +kernel
theorem dX1_requestOf_41 : decode cX1_requestOf 41 = .ok (.areturn, 1) := by decide +kernel
abbrev cX1_flow : ByteArray := prog_1_method_11_code
def yX1_flow : MethodName := ⟨RX1, "flow", "(IIID)V"⟩
theorem dX1_flow_0 : decode cX1_flow 0 = .ok (.aload_n 0, 1) := by decide +kernel
theorem dX1_flow_1 : decode cX1_flow 1 = .ok (.iload_n 1, 1) := by decide +kernel
theorem dX1_flow_2 : decode cX1_flow 2 = .ok (.invokevirtual 71, 3) := by decide +kernel
theorem dX1_flow_5 : decode cX1_flow 5 = .ok (.astore 6, 2) := by decide +kernel
theorem dX1_flow_7 : decode cX1_flow 7 = .ok (.iload_n 2, 1) := by decide +kernel
theorem dX1_flow_8 : decode cX1_flow 8 = .ok (.iconst 0, 1) := by decide +kernel
theorem dX1_flow_9 : decode cX1_flow 9 = .ok (.iconst 1, 1) := by decide +kernel
theorem dX1_flow_10 : decode cX1_flow 10 = .ok (.invokestatic 35, 3) := by decide +kernel
theorem dX1_flow_13 : decode cX1_flow 13 = .ok (.ifCond .eq 28, 3) := by decide +kernel
theorem dX1_flow_16 : decode cX1_flow 16 = .ok (.iload_n 3, 1) := by decide +kernel
theorem dX1_flow_17 : decode cX1_flow 17 = .ok (.iconst 0, 1) := by decide +kernel
theorem dX1_flow_18 : decode cX1_flow 18 = .ok (.iconst 3, 1) := by decide +kernel
theorem dX1_flow_19 : decode cX1_flow 19 = .ok (.invokestatic 35, 3) := by decide +kernel
theorem dX1_flow_22 : decode cX1_flow 22 = .ok (.ifCond .eq 19, 3) := by decide +kernel
theorem dX1_flow_25 : decode cX1_flow 25 = .ok (.dload 4, 2) := by decide +kernel
theorem dX1_flow_27 : decode cX1_flow 27 = .ok (.dconst 0, 1) := by decide +kernel
theorem dX1_flow_28 : decode cX1_flow 28 = .ok (.ldc2_w 130, 3) := by decide +kernel
theorem dX1_flow_31 : decode cX1_flow 31 = .ok (.invokestatic 77, 3) := by decide +kernel
theorem dX1_flow_34 : decode cX1_flow 34 = .ok (.ifCond .eq 7, 3) := by decide +kernel
theorem dX1_flow_37 : decode cX1_flow 37 = .ok (.iconst 1, 1) := by decide +kernel
theorem dX1_flow_38 : decode cX1_flow 38 = .ok (.goto 4, 3) := by decide +kernel
theorem dX1_flow_41 : decode cX1_flow 41 = .ok (.iconst 0, 1) := by decide +kernel
theorem dX1_flow_42 : decode cX1_flow 42 = .ok (.invokestatic 39, 3) := by decide +kernel
theorem dX1_flow_45 : decode cX1_flow 45 = .ok (.aload 6, 2) := by decide +kernel
theorem dX1_flow_47 : decode cX1_flow 47 = .ok (.getfield 115, 3) := by decide +kernel
theorem dX1_flow_50 : decode cX1_flow 50 = .ok (.iload_n 2, 1) := by decide +kernel
theorem dX1_flow_51 : decode cX1_flow 51 = .ok (.aaload, 1) := by decide +kernel
theorem dX1_flow_52 : decode cX1_flow 52 = .ok (.iload_n 3, 1) := by decide +kernel
theorem dX1_flow_53 : decode cX1_flow 53 = .ok (.putfield 132, 3) := by decide +kernel
theorem dX1_flow_56 : decode cX1_flow 56 = .ok (.aload 6, 2) := by decide +kernel
theorem dX1_flow_58 : decode cX1_flow 58 = .ok (.getfield 115, 3) := by decide +kernel
theorem dX1_flow_61 : decode cX1_flow 61 = .ok (.iload_n 2, 1) := by decide +kernel
theorem dX1_flow_62 : decode cX1_flow 62 = .ok (.aaload, 1) := by decide +kernel
theorem dX1_flow_63 : decode cX1_flow 63 = .ok (.dload 4, 2) := by decide +kernel
theorem dX1_flow_65 : decode cX1_flow 65 = .ok (.putfield 135, 3) := by decide +kernel
theorem dX1_flow_68 : decode cX1_flow 68 = .ok (.return_, 1) := by decide +kernel
abbrev cX1_packet : ByteArray := prog_1_method_12_code
def yX1_packet : MethodName := ⟨RX1, "packet", "(IIII)I"⟩
theorem dX1_packet_0 : decode cX1_packet 0 = .ok (.aload_n 0, 1) := by decide +kernel
theorem dX1_packet_1 : decode cX1_packet 1 = .ok (.iload_n 1, 1) := by decide +kernel
theorem dX1_packet_2 : decode cX1_packet 2 = .ok (.invokevirtual 71, 3) := by decide +kernel
theorem dX1_packet_5 : decode cX1_packet 5 = .ok (.astore 5, 2) := by decide +kernel
theorem dX1_packet_7 : decode cX1_packet 7 = .ok (.iload_n 2, 1) := by decide +kernel
theorem dX1_packet_8 : decode cX1_packet 8 = .ok (.iconst 0, 1) := by decide +kernel
theorem dX1_packet_9 : decode cX1_packet 9 = .ok (.iconst 1, 1) := by decide +kernel
theorem dX1_packet_10 : decode cX1_packet 10 = .ok (.invokestatic 35, 3) := by decide +kernel
theorem dX1_packet_13 : decode cX1_packet 13 = .ok (.ifCond .eq 16, 3) := by decide +kernel
theorem dX1_packet_16 : decode cX1_packet 16 = .ok (.iload_n 3, 1) := by decide +kernel
theorem dX1_packet_17 : decode cX1_packet 17 = .ok (.iconst 1, 1) := by decide +kernel
theorem dX1_packet_18 : decode cX1_packet 18 = .ok (.iconst 4, 1) := by decide +kernel
theorem dX1_packet_19 : decode cX1_packet 19 = .ok (.invokestatic 35, 3) := by decide +kernel
theorem dX1_packet_22 : decode cX1_packet 22 = .ok (.ifCond .eq 7, 3) := by decide +kernel
theorem dX1_packet_25 : decode cX1_packet 25 = .ok (.iconst 1, 1) := by decide +kernel
theorem dX1_packet_26 : decode cX1_packet 26 = .ok (.goto 4, 3) := by decide +kernel
theorem dX1_packet_29 : decode cX1_packet 29 = .ok (.iconst 0, 1) := by decide +kernel
theorem dX1_packet_30 : decode cX1_packet 30 = .ok (.invokestatic 39, 3) := by decide +kernel
theorem dX1_packet_33 : decode cX1_packet 33 = .ok (.aload 5, 2) := by decide +kernel
theorem dX1_packet_35 : decode cX1_packet 35 = .ok (.getfield 88, 3) := by decide +kernel
theorem dX1_packet_38 : decode cX1_packet 38 = .ok (.instanceof 92, 3) := by decide +kernel
theorem dX1_packet_41 : decode cX1_packet 41 = .ok (.ifCond .ne 7, 3) := by decide +kernel
theorem dX1_packet_44 : decode cX1_packet 44 = .ok (.iconst 1, 1) := by decide +kernel
theorem dX1_packet_45 : decode cX1_packet 45 = .ok (.goto 4, 3) := by decide +kernel
theorem dX1_packet_48 : decode cX1_packet 48 = .ok (.iconst 0, 1) := by decide +kernel
theorem dX1_packet_49 : decode cX1_packet 49 = .ok (.invokestatic 94, 3) := by decide +kernel
theorem dX1_packet_52 : decode cX1_packet 52 = .ok (.aload 5, 2) := by decide +kernel
theorem dX1_packet_54 : decode cX1_packet 54 = .ok (.getfield 115, 3) := by decide +kernel
theorem dX1_packet_57 : decode cX1_packet 57 = .ok (.iload_n 2, 1) := by decide +kernel
theorem dX1_packet_58 : decode cX1_packet 58 = .ok (.aaload, 1) := by decide +kernel
theorem dX1_packet_59 : decode cX1_packet 59 = .ok (.getfield 124, 3) := by decide +kernel
theorem dX1_packet_62 : decode cX1_packet 62 = .ok (.astore 6, 2) := by decide +kernel
theorem dX1_packet_64 : decode cX1_packet 64 = .ok (.aload 6, 2) := by decide +kernel
theorem dX1_packet_66 : decode cX1_packet 66 = .ok (.invokevirtual 138, 3) := by decide +kernel
theorem dX1_packet_69 : decode cX1_packet 69 = .ok (.iconst 4, 1) := by decide +kernel
theorem dX1_packet_70 : decode cX1_packet 70 = .ok (.if_icmp .ne 11, 3) := by decide +kernel
theorem dX1_packet_73 : decode cX1_packet 73 = .ok (.new 142, 3) := by decide +kernel
theorem dX1_packet_76 : decode cX1_packet 76 = .ok (.dup, 1) := by decide +kernel
theorem dX1_packet_77 : decode cX1_packet 77 = .ok (.invokespecial 144, 3) := by decide +kernel
theorem dX1_packet_80 : decode cX1_packet 80 = .ok (.athrow, 1) := by decide +kernel
theorem dX1_packet_81 : decode cX1_packet 81 = .ok (.aload 6, 2) := by decide +kernel
theorem dX1_packet_83 : decode cX1_packet 83 = .ok (.new 145, 3) := by decide +kernel
theorem dX1_packet_86 : decode cX1_packet 86 = .ok (.dup, 1) := by decide +kernel
theorem dX1_packet_87 : decode cX1_packet 87 = .ok (.iload_n 3, 1) := by decide +kernel
theorem dX1_packet_88 : decode cX1_packet 88 = .ok (.iload 4, 2) := by decide +kernel
theorem dX1_packet_90 : decode cX1_packet 90 = .ok (.invokespecial 147, 3) := by decide +kernel
theorem dX1_packet_93 : decode cX1_packet 93 = .ok (.invokevirtual 150, 3) := by decide +kernel
theorem dX1_packet_96 : decode cX1_packet 96 = .ok (.pop, 1) := by decide +kernel
theorem dX1_packet_97 : decode cX1_packet 97 = .ok (.aload 6, 2) := by decide +kernel
theorem dX1_packet_99 : decode cX1_packet 99 = .ok (.invokevirtual 138, 3) := by decide +kernel
theorem dX1_packet_102 : decode cX1_packet 102 = .ok (.ireturn, 1) := by decide +kernel
abbrev cX1_round : ByteArray := prog_1_method_22_code
def yX1_round : MethodName := ⟨RX1, "round", "(I)I"⟩
theorem dX1_round_0 : decode cX1_round 0 = .ok (.iload_n 1, 1) := by decide +kernel
theorem dX1_round_1 : decode cX1_round 1 = .ok (.iconst 1, 1) := by decide +kernel
theorem dX1_round_2 : decode cX1_round 2 = .ok (.bipush 50, 2) := by decide +kernel
theorem dX1_round_4 : decode cX1_round 4 = .ok (.invokestatic 35, 3) := by decide +kernel
theorem dX1_round_7 : decode cX1_round 7 = .ok (.invokestatic 39, 3) := by decide +kernel
theorem dX1_round_10 : decode cX1_round 10 = .ok (.aload_n 0, 1) := by decide +kernel
theorem dX1_round_11 : decode cX1_round 11 = .ok (.getfield 233, 3) := by decide +kernel
theorem dX1_round_14 : decode cX1_round 14 = .ok (.istore_n 2, 1) := by decide +kernel
theorem dX1_round_15 : decode cX1_round 15 = .ok (.iconst 0, 1) := by decide +kernel
theorem dX1_round_16 : decode cX1_round 16 = .ok (.istore_n 3, 1) := by decide +kernel
theorem dX1_round_17 : decode cX1_round 17 = .ok (.iload_n 3, 1) := by decide +kernel
theorem dX1_round_18 : decode cX1_round 18 = .ok (.iload_n 1, 1) := by decide +kernel
theorem dX1_round_19 : decode cX1_round 19 = .ok (.if_icmp .ge 35, 3) := by decide +kernel
theorem dX1_round_22 : decode cX1_round 22 = .ok (.aload_n 0, 1) := by decide +kernel
theorem dX1_round_23 : decode cX1_round 23 = .ok (.dup, 1) := by decide +kernel
theorem dX1_round_24 : decode cX1_round 24 = .ok (.getfield 251, 3) := by decide +kernel
theorem dX1_round_27 : decode cX1_round 27 = .ok (.iconst 1, 1) := by decide +kernel
theorem dX1_round_28 : decode cX1_round 28 = .ok (.iadd, 1) := by decide +kernel
theorem dX1_round_29 : decode cX1_round 29 = .ok (.putfield 251, 3) := by decide +kernel
theorem dX1_round_32 : decode cX1_round 32 = .ok (.aload_n 0, 1) := by decide +kernel
theorem dX1_round_33 : decode cX1_round 33 = .ok (.invokevirtual 254, 3) := by decide +kernel
theorem dX1_round_36 : decode cX1_round 36 = .ok (.aload_n 0, 1) := by decide +kernel
theorem dX1_round_37 : decode cX1_round 37 = .ok (.invokevirtual 255, 3) := by decide +kernel
theorem dX1_round_40 : decode cX1_round 40 = .ok (.aload_n 0, 1) := by decide +kernel
theorem dX1_round_41 : decode cX1_round 41 = .ok (.invokevirtual 258, 3) := by decide +kernel
theorem dX1_round_44 : decode cX1_round 44 = .ok (.aload_n 0, 1) := by decide +kernel
theorem dX1_round_45 : decode cX1_round 45 = .ok (.invokevirtual 261, 3) := by decide +kernel
theorem dX1_round_48 : decode cX1_round 48 = .ok (.iinc 3 1, 3) := by decide +kernel
theorem dX1_round_51 : decode cX1_round 51 = .ok (.goto (-34), 3) := by decide +kernel
theorem dX1_round_54 : decode cX1_round 54 = .ok (.aload_n 0, 1) := by decide +kernel
theorem dX1_round_55 : decode cX1_round 55 = .ok (.getfield 233, 3) := by decide +kernel
theorem dX1_round_58 : decode cX1_round 58 = .ok (.iload_n 2, 1) := by decide +kernel
theorem dX1_round_59 : decode cX1_round 59 = .ok (.isub, 1) := by decide +kernel
theorem dX1_round_60 : decode cX1_round 60 = .ok (.ireturn, 1) := by decide +kernel
abbrev cX1_earn : ByteArray := prog_1_method_13_code
def yX1_earn : MethodName := ⟨RX1, "earn", "()V"⟩
theorem dX1_earn_0 : decode cX1_earn 0 = .ok (.aload_n 0, 1) := by decide +kernel
theorem dX1_earn_1 : decode cX1_earn 1 = .ok (.getfield 17, 3) := by decide +kernel
theorem dX1_earn_4 : decode cX1_earn 4 = .ok (.astore_n 1, 1) := by decide +kernel
theorem dX1_earn_5 : decode cX1_earn 5 = .ok (.aload_n 1, 1) := by decide +kernel
theorem dX1_earn_6 : decode cX1_earn 6 = .ok (.arraylength, 1) := by decide +kernel
theorem dX1_earn_7 : decode cX1_earn 7 = .ok (.istore_n 2, 1) := by decide +kernel
theorem dX1_earn_8 : decode cX1_earn 8 = .ok (.iconst 0, 1) := by decide +kernel
theorem dX1_earn_9 : decode cX1_earn 9 = .ok (.istore_n 3, 1) := by decide +kernel
theorem dX1_earn_10 : decode cX1_earn 10 = .ok (.iload_n 3, 1) := by decide +kernel
theorem dX1_earn_11 : decode cX1_earn 11 = .ok (.iload_n 2, 1) := by decide +kernel
theorem dX1_earn_12 : decode cX1_earn 12 = .ok (.if_icmp .ge 68, 3) := by decide +kernel
theorem dX1_earn_15 : decode cX1_earn 15 = .ok (.aload_n 1, 1) := by decide +kernel
theorem dX1_earn_16 : decode cX1_earn 16 = .ok (.iload_n 3, 1) := by decide +kernel
theorem dX1_earn_17 : decode cX1_earn 17 = .ok (.aaload, 1) := by decide +kernel
theorem dX1_earn_18 : decode cX1_earn 18 = .ok (.astore 4, 2) := by decide +kernel
theorem dX1_earn_20 : decode cX1_earn 20 = .ok (.aload 4, 2) := by decide +kernel
theorem dX1_earn_22 : decode cX1_earn 22 = .ok (.getfield 88, 3) := by decide +kernel
theorem dX1_earn_25 : decode cX1_earn 25 = .ok (.instanceof 153, 3) := by decide +kernel
theorem dX1_earn_28 : decode cX1_earn 28 = .ok (.ifCond .ne 6, 3) := by decide +kernel
theorem dX1_earn_31 : decode cX1_earn 31 = .ok (.goto 43, 3) := by decide +kernel
theorem dX1_earn_34 : decode cX1_earn 34 = .ok (.aload 4, 2) := by decide +kernel
theorem dX1_earn_36 : decode cX1_earn 36 = .ok (.getfield 115, 3) := by decide +kernel
theorem dX1_earn_39 : decode cX1_earn 39 = .ok (.astore 5, 2) := by decide +kernel
theorem dX1_earn_41 : decode cX1_earn 41 = .ok (.aload 5, 2) := by decide +kernel
theorem dX1_earn_43 : decode cX1_earn 43 = .ok (.arraylength, 1) := by decide +kernel
theorem dX1_earn_44 : decode cX1_earn 44 = .ok (.istore 6, 2) := by decide +kernel
theorem dX1_earn_46 : decode cX1_earn 46 = .ok (.iconst 0, 1) := by decide +kernel
theorem dX1_earn_47 : decode cX1_earn 47 = .ok (.istore 7, 2) := by decide +kernel
theorem dX1_earn_49 : decode cX1_earn 49 = .ok (.iload 7, 2) := by decide +kernel
theorem dX1_earn_51 : decode cX1_earn 51 = .ok (.iload 6, 2) := by decide +kernel
theorem dX1_earn_53 : decode cX1_earn 53 = .ok (.if_icmp .ge 21, 3) := by decide +kernel
theorem dX1_earn_56 : decode cX1_earn 56 = .ok (.aload 5, 2) := by decide +kernel
theorem dX1_earn_58 : decode cX1_earn 58 = .ok (.iload 7, 2) := by decide +kernel
theorem dX1_earn_60 : decode cX1_earn 60 = .ok (.aaload, 1) := by decide +kernel
theorem dX1_earn_61 : decode cX1_earn 61 = .ok (.astore 8, 2) := by decide +kernel
theorem dX1_earn_63 : decode cX1_earn 63 = .ok (.aload 8, 2) := by decide +kernel
theorem dX1_earn_65 : decode cX1_earn 65 = .ok (.invokevirtual 155, 3) := by decide +kernel
theorem dX1_earn_68 : decode cX1_earn 68 = .ok (.iinc 7 1, 3) := by decide +kernel
theorem dX1_earn_71 : decode cX1_earn 71 = .ok (.goto (-22), 3) := by decide +kernel
theorem dX1_earn_74 : decode cX1_earn 74 = .ok (.iinc 3 1, 3) := by decide +kernel
theorem dX1_earn_77 : decode cX1_earn 77 = .ok (.goto (-67), 3) := by decide +kernel
theorem dX1_earn_80 : decode cX1_earn 80 = .ok (.return_, 1) := by decide +kernel
abbrev cX1_seek : ByteArray := prog_1_method_14_code
def yX1_seek : MethodName := ⟨RX1, "seek", "()V"⟩
theorem dX1_seek_0 : decode cX1_seek 0 = .ok (.new 21, 3) := by decide +kernel
theorem dX1_seek_3 : decode cX1_seek 3 = .ok (.dup, 1) := by decide +kernel
theorem dX1_seek_4 : decode cX1_seek 4 = .ok (.bipush 6, 2) := by decide +kernel
theorem dX1_seek_6 : decode cX1_seek 6 = .ok (.invokespecial 23, 3) := by decide +kernel
theorem dX1_seek_9 : decode cX1_seek 9 = .ok (.astore_n 1, 1) := by decide +kernel
theorem dX1_seek_10 : decode cX1_seek 10 = .ok (.aload_n 0, 1) := by decide +kernel
theorem dX1_seek_11 : decode cX1_seek 11 = .ok (.getfield 17, 3) := by decide +kernel
theorem dX1_seek_14 : decode cX1_seek 14 = .ok (.astore_n 2, 1) := by decide +kernel
theorem dX1_seek_15 : decode cX1_seek 15 = .ok (.aload_n 2, 1) := by decide +kernel
theorem dX1_seek_16 : decode cX1_seek 16 = .ok (.arraylength, 1) := by decide +kernel
theorem dX1_seek_17 : decode cX1_seek 17 = .ok (.istore_n 3, 1) := by decide +kernel
theorem dX1_seek_18 : decode cX1_seek 18 = .ok (.iconst 0, 1) := by decide +kernel
theorem dX1_seek_19 : decode cX1_seek 19 = .ok (.istore 4, 2) := by decide +kernel
theorem dX1_seek_21 : decode cX1_seek 21 = .ok (.iload 4, 2) := by decide +kernel
theorem dX1_seek_23 : decode cX1_seek 23 = .ok (.iload_n 3, 1) := by decide +kernel
theorem dX1_seek_24 : decode cX1_seek 24 = .ok (.if_icmp .ge 64, 3) := by decide +kernel
theorem dX1_seek_27 : decode cX1_seek 27 = .ok (.aload_n 2, 1) := by decide +kernel
theorem dX1_seek_28 : decode cX1_seek 28 = .ok (.iload 4, 2) := by decide +kernel
theorem dX1_seek_30 : decode cX1_seek 30 = .ok (.aaload, 1) := by decide +kernel
theorem dX1_seek_31 : decode cX1_seek 31 = .ok (.astore 5, 2) := by decide +kernel
theorem dX1_seek_33 : decode cX1_seek 33 = .ok (.aload 5, 2) := by decide +kernel
theorem dX1_seek_35 : decode cX1_seek 35 = .ok (.getfield 88, 3) := by decide +kernel
theorem dX1_seek_38 : decode cX1_seek 38 = .ok (.instanceof 102, 3) := by decide +kernel
theorem dX1_seek_41 : decode cX1_seek 41 = .ok (.ifCond .ne 6, 3) := by decide +kernel
theorem dX1_seek_44 : decode cX1_seek 44 = .ok (.goto 38, 3) := by decide +kernel
theorem dX1_seek_47 : decode cX1_seek 47 = .ok (.aload 5, 2) := by decide +kernel
theorem dX1_seek_49 : decode cX1_seek 49 = .ok (.getfield 88, 3) := by decide +kernel
theorem dX1_seek_52 : decode cX1_seek 52 = .ok (.getfield 158, 3) := by decide +kernel
theorem dX1_seek_55 : decode cX1_seek 55 = .ok (.ifCond .le 20, 3) := by decide +kernel
theorem dX1_seek_58 : decode cX1_seek 58 = .ok (.aload 5, 2) := by decide +kernel
theorem dX1_seek_60 : decode cX1_seek 60 = .ok (.getfield 88, 3) := by decide +kernel
theorem dX1_seek_63 : decode cX1_seek 63 = .ok (.dup, 1) := by decide +kernel
theorem dX1_seek_64 : decode cX1_seek 64 = .ok (.getfield 158, 3) := by decide +kernel
theorem dX1_seek_67 : decode cX1_seek 67 = .ok (.iconst 1, 1) := by decide +kernel
theorem dX1_seek_68 : decode cX1_seek 68 = .ok (.isub, 1) := by decide +kernel
theorem dX1_seek_69 : decode cX1_seek 69 = .ok (.putfield 158, 3) := by decide +kernel
theorem dX1_seek_72 : decode cX1_seek 72 = .ok (.goto 10, 3) := by decide +kernel
theorem dX1_seek_75 : decode cX1_seek 75 = .ok (.aload_n 1, 1) := by decide +kernel
theorem dX1_seek_76 : decode cX1_seek 76 = .ok (.aload 5, 2) := by decide +kernel
theorem dX1_seek_78 : decode cX1_seek 78 = .ok (.invokevirtual 150, 3) := by decide +kernel
theorem dX1_seek_81 : decode cX1_seek 81 = .ok (.pop, 1) := by decide +kernel
theorem dX1_seek_82 : decode cX1_seek 82 = .ok (.iinc 4 1, 3) := by decide +kernel
theorem dX1_seek_85 : decode cX1_seek 85 = .ok (.goto (-64), 3) := by decide +kernel
theorem dX1_seek_88 : decode cX1_seek 88 = .ok (.aload_n 1, 1) := by decide +kernel
theorem dX1_seek_89 : decode cX1_seek 89 = .ok (.invokevirtual 138, 3) := by decide +kernel
theorem dX1_seek_92 : decode cX1_seek 92 = .ok (.iconst 1, 1) := by decide +kernel
theorem dX1_seek_93 : decode cX1_seek 93 = .ok (.if_icmp .le 55, 3) := by decide +kernel
theorem dX1_seek_96 : decode cX1_seek 96 = .ok (.aload_n 0, 1) := by decide +kernel
theorem dX1_seek_97 : decode cX1_seek 97 = .ok (.dup, 1) := by decide +kernel
theorem dX1_seek_98 : decode cX1_seek 98 = .ok (.getfield 163, 3) := by decide +kernel
theorem dX1_seek_101 : decode cX1_seek 101 = .ok (.iconst 1, 1) := by decide +kernel
theorem dX1_seek_102 : decode cX1_seek 102 = .ok (.iadd, 1) := by decide +kernel
theorem dX1_seek_103 : decode cX1_seek 103 = .ok (.putfield 163, 3) := by decide +kernel
theorem dX1_seek_106 : decode cX1_seek 106 = .ok (.aload_n 1, 1) := by decide +kernel
theorem dX1_seek_107 : decode cX1_seek 107 = .ok (.invokevirtual 43, 3) := by decide +kernel
theorem dX1_seek_110 : decode cX1_seek 110 = .ok (.astore_n 2, 1) := by decide +kernel
theorem dX1_seek_111 : decode cX1_seek 111 = .ok (.aload_n 2, 1) := by decide +kernel
theorem dX1_seek_112 : decode cX1_seek 112 = .ok (.invokeinterface 47 1, 5) := by decide +kernel
theorem dX1_seek_117 : decode cX1_seek 117 = .ok (.ifCond .eq 28, 3) := by decide +kernel
theorem dX1_seek_120 : decode cX1_seek 120 = .ok (.aload_n 2, 1) := by decide +kernel
theorem dX1_seek_121 : decode cX1_seek 121 = .ok (.invokeinterface 53 1, 5) := by decide +kernel
theorem dX1_seek_126 : decode cX1_seek 126 = .ok (.checkcast 15, 3) := by decide +kernel
theorem dX1_seek_129 : decode cX1_seek 129 = .ok (.astore_n 3, 1) := by decide +kernel
theorem dX1_seek_130 : decode cX1_seek 130 = .ok (.aload_n 3, 1) := by decide +kernel
theorem dX1_seek_131 : decode cX1_seek 131 = .ok (.getfield 88, 3) := by decide +kernel
theorem dX1_seek_134 : decode cX1_seek 134 = .ok (.aload_n 3, 1) := by decide +kernel
theorem dX1_seek_135 : decode cX1_seek 135 = .ok (.iconst 4, 1) := by decide +kernel
theorem dX1_seek_136 : decode cX1_seek 136 = .ok (.invokevirtual 166, 3) := by decide +kernel
theorem dX1_seek_139 : decode cX1_seek 139 = .ok (.putfield 158, 3) := by decide +kernel
theorem dX1_seek_142 : decode cX1_seek 142 = .ok (.goto (-31), 3) := by decide +kernel
theorem dX1_seek_145 : decode cX1_seek 145 = .ok (.goto 53, 3) := by decide +kernel
theorem dX1_seek_148 : decode cX1_seek 148 = .ok (.aload_n 1, 1) := by decide +kernel
theorem dX1_seek_149 : decode cX1_seek 149 = .ok (.invokevirtual 138, 3) := by decide +kernel
theorem dX1_seek_152 : decode cX1_seek 152 = .ok (.iconst 1, 1) := by decide +kernel
theorem dX1_seek_153 : decode cX1_seek 153 = .ok (.if_icmp .ne 45, 3) := by decide +kernel
theorem dX1_seek_156 : decode cX1_seek 156 = .ok (.aload_n 1, 1) := by decide +kernel
theorem dX1_seek_157 : decode cX1_seek 157 = .ok (.iconst 0, 1) := by decide +kernel
theorem dX1_seek_158 : decode cX1_seek 158 = .ok (.invokevirtual 170, 3) := by decide +kernel
theorem dX1_seek_161 : decode cX1_seek 161 = .ok (.checkcast 15, 3) := by decide +kernel
theorem dX1_seek_164 : decode cX1_seek 164 = .ok (.astore_n 2, 1) := by decide +kernel
theorem dX1_seek_165 : decode cX1_seek 165 = .ok (.aload_n 2, 1) := by decide +kernel
theorem dX1_seek_166 : decode cX1_seek 166 = .ok (.invokevirtual 174, 3) := by decide +kernel
theorem dX1_seek_169 : decode cX1_seek 169 = .ok (.istore_n 3, 1) := by decide +kernel
theorem dX1_seek_170 : decode cX1_seek 170 = .ok (.aload_n 2, 1) := by decide +kernel
theorem dX1_seek_171 : decode cX1_seek 171 = .ok (.invokevirtual 177, 3) := by decide +kernel
theorem dX1_seek_174 : decode cX1_seek 174 = .ok (.iload_n 3, 1) := by decide +kernel
theorem dX1_seek_175 : decode cX1_seek 175 = .ok (.ifCond .ne 4, 3) := by decide +kernel
theorem dX1_seek_178 : decode cX1_seek 178 = .ok (.return_, 1) := by decide +kernel
theorem dX1_seek_179 : decode cX1_seek 179 = .ok (.aload_n 2, 1) := by decide +kernel
theorem dX1_seek_180 : decode cX1_seek 180 = .ok (.new 153, 3) := by decide +kernel
theorem dX1_seek_183 : decode cX1_seek 183 = .ok (.dup, 1) := by decide +kernel
theorem dX1_seek_184 : decode cX1_seek 184 = .ok (.invokespecial 180, 3) := by decide +kernel
theorem dX1_seek_187 : decode cX1_seek 187 = .ok (.putfield 88, 3) := by decide +kernel
theorem dX1_seek_190 : decode cX1_seek 190 = .ok (.aload_n 2, 1) := by decide +kernel
theorem dX1_seek_191 : decode cX1_seek 191 = .ok (.aload_n 0, 1) := by decide +kernel
theorem dX1_seek_192 : decode cX1_seek 192 = .ok (.getfield 181, 3) := by decide +kernel
theorem dX1_seek_195 : decode cX1_seek 195 = .ok (.putfield 184, 3) := by decide +kernel
theorem dX1_seek_198 : decode cX1_seek 198 = .ok (.return_, 1) := by decide +kernel
