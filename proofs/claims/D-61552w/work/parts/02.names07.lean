set_option maxRecDepth 100000
abbrev cX6_requests : ByteArray := prog_11_method_21_code
def yX6_requests : MethodName := ⟨RX6, "requests", "()I"⟩
theorem dX6_requests_0 : decode cX6_requests 0 = .ok (.iconst 0, 1) := by decide +kernel
theorem dX6_requests_1 : decode cX6_requests 1 = .ok (.istore_n 1, 1) := by decide +kernel
theorem dX6_requests_2 : decode cX6_requests 2 = .ok (.iconst 0, 1) := by decide +kernel
theorem dX6_requests_3 : decode cX6_requests 3 = .ok (.istore_n 2, 1) := by decide +kernel
theorem dX6_requests_4 : decode cX6_requests 4 = .ok (.iload_n 2, 1) := by decide +kernel
theorem dX6_requests_5 : decode cX6_requests 5 = .ok (.bipush 6, 2) := by decide +kernel
theorem dX6_requests_7 : decode cX6_requests 7 = .ok (.if_icmp .ge 21, 3) := by decide +kernel
theorem dX6_requests_10 : decode cX6_requests 10 = .ok (.aload_n 0, 1) := by decide +kernel
theorem dX6_requests_11 : decode cX6_requests 11 = .ok (.getfield 59, 3) := by decide +kernel
theorem dX6_requests_14 : decode cX6_requests 14 = .ok (.iload_n 2, 1) := by decide +kernel
theorem dX6_requests_15 : decode cX6_requests 15 = .ok (.iaload, 1) := by decide +kernel
theorem dX6_requests_16 : decode cX6_requests 16 = .ok (.ifCond .le 6, 3) := by decide +kernel
theorem dX6_requests_19 : decode cX6_requests 19 = .ok (.iinc 1 1, 3) := by decide +kernel
theorem dX6_requests_22 : decode cX6_requests 22 = .ok (.iinc 2 1, 3) := by decide +kernel
theorem dX6_requests_25 : decode cX6_requests 25 = .ok (.goto (-21), 3) := by decide +kernel
theorem dX6_requests_28 : decode cX6_requests 28 = .ok (.iload_n 1, 1) := by decide +kernel
theorem dX6_requests_29 : decode cX6_requests 29 = .ok (.ireturn, 1) := by decide +kernel
abbrev cX6_request : ByteArray := prog_11_method_20_code
def yX6_request : MethodName := ⟨RX6, "request", "(I)I"⟩
theorem dX6_request_0 : decode cX6_request 0 = .ok (.iconst 0, 1) := by decide +kernel
theorem dX6_request_1 : decode cX6_request 1 = .ok (.istore_n 2, 1) := by decide +kernel
theorem dX6_request_2 : decode cX6_request 2 = .ok (.iload_n 2, 1) := by decide +kernel
theorem dX6_request_3 : decode cX6_request 3 = .ok (.bipush 6, 2) := by decide +kernel
theorem dX6_request_5 : decode cX6_request 5 = .ok (.if_icmp .ge 72, 3) := by decide +kernel
theorem dX6_request_8 : decode cX6_request 8 = .ok (.iconst 0, 1) := by decide +kernel
theorem dX6_request_9 : decode cX6_request 9 = .ok (.istore_n 3, 1) := by decide +kernel
theorem dX6_request_10 : decode cX6_request 10 = .ok (.iconst 0, 1) := by decide +kernel
theorem dX6_request_11 : decode cX6_request 11 = .ok (.istore 4, 2) := by decide +kernel
theorem dX6_request_13 : decode cX6_request 13 = .ok (.iload 4, 2) := by decide +kernel
theorem dX6_request_15 : decode cX6_request 15 = .ok (.bipush 6, 2) := by decide +kernel
theorem dX6_request_17 : decode cX6_request 17 = .ok (.if_icmp .ge 38, 3) := by decide +kernel
theorem dX6_request_20 : decode cX6_request 20 = .ok (.aload_n 0, 1) := by decide +kernel
theorem dX6_request_21 : decode cX6_request 21 = .ok (.getfield 59, 3) := by decide +kernel
theorem dX6_request_24 : decode cX6_request 24 = .ok (.iload 4, 2) := by decide +kernel
theorem dX6_request_26 : decode cX6_request 26 = .ok (.iaload, 1) := by decide +kernel
theorem dX6_request_27 : decode cX6_request 27 = .ok (.ifCond .le 22, 3) := by decide +kernel
theorem dX6_request_30 : decode cX6_request 30 = .ok (.iload 4, 2) := by decide +kernel
theorem dX6_request_32 : decode cX6_request 32 = .ok (.iload_n 2, 1) := by decide +kernel
theorem dX6_request_33 : decode cX6_request 33 = .ok (.if_icmp .eq 16, 3) := by decide +kernel
theorem dX6_request_36 : decode cX6_request 36 = .ok (.aload_n 0, 1) := by decide +kernel
theorem dX6_request_37 : decode cX6_request 37 = .ok (.iload 4, 2) := by decide +kernel
theorem dX6_request_39 : decode cX6_request 39 = .ok (.iload_n 2, 1) := by decide +kernel
theorem dX6_request_40 : decode cX6_request 40 = .ok (.invokevirtual 144, 3) := by decide +kernel
theorem dX6_request_43 : decode cX6_request 43 = .ok (.ifCond .eq 6, 3) := by decide +kernel
theorem dX6_request_46 : decode cX6_request 46 = .ok (.iinc 3 1, 3) := by decide +kernel
theorem dX6_request_49 : decode cX6_request 49 = .ok (.iinc 4 1, 3) := by decide +kernel
theorem dX6_request_52 : decode cX6_request 52 = .ok (.goto (-39), 3) := by decide +kernel
theorem dX6_request_55 : decode cX6_request 55 = .ok (.aload_n 0, 1) := by decide +kernel
theorem dX6_request_56 : decode cX6_request 56 = .ok (.getfield 59, 3) := by decide +kernel
theorem dX6_request_59 : decode cX6_request 59 = .ok (.iload_n 2, 1) := by decide +kernel
theorem dX6_request_60 : decode cX6_request 60 = .ok (.iaload, 1) := by decide +kernel
theorem dX6_request_61 : decode cX6_request 61 = .ok (.ifCond .le 10, 3) := by decide +kernel
theorem dX6_request_64 : decode cX6_request 64 = .ok (.iload_n 3, 1) := by decide +kernel
theorem dX6_request_65 : decode cX6_request 65 = .ok (.iload_n 1, 1) := by decide +kernel
theorem dX6_request_66 : decode cX6_request 66 = .ok (.if_icmp .ne 5, 3) := by decide +kernel
theorem dX6_request_69 : decode cX6_request 69 = .ok (.iload_n 2, 1) := by decide +kernel
theorem dX6_request_70 : decode cX6_request 70 = .ok (.ireturn, 1) := by decide +kernel
theorem dX6_request_71 : decode cX6_request 71 = .ok (.iinc 2 1, 3) := by decide +kernel
theorem dX6_request_74 : decode cX6_request 74 = .ok (.goto (-72), 3) := by decide +kernel
theorem dX6_request_77 : decode cX6_request 77 = .ok (.iconst (-1), 1) := by decide +kernel
theorem dX6_request_78 : decode cX6_request 78 = .ok (.ireturn, 1) := by decide +kernel
abbrev cX6_before : ByteArray := prog_11_method_19_code
def yX6_before : MethodName := ⟨RX6, "before", "(II)Z"⟩
theorem dX6_before_0 : decode cX6_before 0 = .ok (.aload_n 0, 1) := by decide +kernel
theorem dX6_before_1 : decode cX6_before 1 = .ok (.getfield 65, 3) := by decide +kernel
theorem dX6_before_4 : decode cX6_before 4 = .ok (.iload_n 1, 1) := by decide +kernel
theorem dX6_before_5 : decode cX6_before 5 = .ok (.iaload, 1) := by decide +kernel
theorem dX6_before_6 : decode cX6_before 6 = .ok (.aload_n 0, 1) := by decide +kernel
theorem dX6_before_7 : decode cX6_before 7 = .ok (.getfield 65, 3) := by decide +kernel
theorem dX6_before_10 : decode cX6_before 10 = .ok (.iload_n 2, 1) := by decide +kernel
theorem dX6_before_11 : decode cX6_before 11 = .ok (.iaload, 1) := by decide +kernel
theorem dX6_before_12 : decode cX6_before 12 = .ok (.if_icmp .gt 33, 3) := by decide +kernel
theorem dX6_before_15 : decode cX6_before 15 = .ok (.aload_n 0, 1) := by decide +kernel
theorem dX6_before_16 : decode cX6_before 16 = .ok (.getfield 65, 3) := by decide +kernel
theorem dX6_before_19 : decode cX6_before 19 = .ok (.iload_n 1, 1) := by decide +kernel
theorem dX6_before_20 : decode cX6_before 20 = .ok (.iaload, 1) := by decide +kernel
theorem dX6_before_21 : decode cX6_before 21 = .ok (.aload_n 0, 1) := by decide +kernel
theorem dX6_before_22 : decode cX6_before 22 = .ok (.getfield 65, 3) := by decide +kernel
theorem dX6_before_25 : decode cX6_before 25 = .ok (.iload_n 2, 1) := by decide +kernel
theorem dX6_before_26 : decode cX6_before 26 = .ok (.iaload, 1) := by decide +kernel
theorem dX6_before_27 : decode cX6_before 27 = .ok (.if_icmp .ne 22, 3) := by decide +kernel
theorem dX6_before_30 : decode cX6_before 30 = .ok (.aload_n 0, 1) := by decide +kernel
theorem dX6_before_31 : decode cX6_before 31 = .ok (.getfield 68, 3) := by decide +kernel
theorem dX6_before_34 : decode cX6_before 34 = .ok (.iload_n 1, 1) := by decide +kernel
theorem dX6_before_35 : decode cX6_before 35 = .ok (.iaload, 1) := by decide +kernel
theorem dX6_before_36 : decode cX6_before 36 = .ok (.aload_n 0, 1) := by decide +kernel
theorem dX6_before_37 : decode cX6_before 37 = .ok (.getfield 68, 3) := by decide +kernel
theorem dX6_before_40 : decode cX6_before 40 = .ok (.iload_n 2, 1) := by decide +kernel
theorem dX6_before_41 : decode cX6_before 41 = .ok (.iaload, 1) := by decide +kernel
theorem dX6_before_42 : decode cX6_before 42 = .ok (.if_icmp .ge 7, 3) := by decide +kernel
theorem dX6_before_45 : decode cX6_before 45 = .ok (.iconst 1, 1) := by decide +kernel
theorem dX6_before_46 : decode cX6_before 46 = .ok (.goto 4, 3) := by decide +kernel
theorem dX6_before_49 : decode cX6_before 49 = .ok (.iconst 0, 1) := by decide +kernel
theorem dX6_before_50 : decode cX6_before 50 = .ok (.ireturn, 1) := by decide +kernel
abbrev cX6_deliver : ByteArray := prog_11_method_22_code
def yX6_deliver : MethodName := ⟨RX6, "deliver", "(I)V"⟩
theorem dX6_deliver_0 : decode cX6_deliver 0 = .ok (.aload_n 0, 1) := by decide +kernel
theorem dX6_deliver_1 : decode cX6_deliver 1 = .ok (.iload_n 1, 1) := by decide +kernel
theorem dX6_deliver_2 : decode cX6_deliver 2 = .ok (.invokevirtual 112, 3) := by decide +kernel
theorem dX6_deliver_5 : decode cX6_deliver 5 = .ok (.ifCond .ne 9, 3) := by decide +kernel
theorem dX6_deliver_8 : decode cX6_deliver 8 = .ok (.aload_n 0, 1) := by decide +kernel
theorem dX6_deliver_9 : decode cX6_deliver 9 = .ok (.iload_n 1, 1) := by decide +kernel
theorem dX6_deliver_10 : decode cX6_deliver 10 = .ok (.invokevirtual 138, 3) := by decide +kernel
theorem dX6_deliver_13 : decode cX6_deliver 13 = .ok (.return_, 1) := by decide +kernel
theorem dX6_deliver_14 : decode cX6_deliver 14 = .ok (.aload_n 0, 1) := by decide +kernel
theorem dX6_deliver_15 : decode cX6_deliver 15 = .ok (.getfield 62, 3) := by decide +kernel
theorem dX6_deliver_18 : decode cX6_deliver 18 = .ok (.iload_n 1, 1) := by decide +kernel
theorem dX6_deliver_19 : decode cX6_deliver 19 = .ok (.iaload, 1) := by decide +kernel
theorem dX6_deliver_20 : decode cX6_deliver 20 = .ok (.istore_n 2, 1) := by decide +kernel
theorem dX6_deliver_21 : decode cX6_deliver 21 = .ok (.aload_n 0, 1) := by decide +kernel
theorem dX6_deliver_22 : decode cX6_deliver 22 = .ok (.getfield 147, 3) := by decide +kernel
theorem dX6_deliver_25 : decode cX6_deliver 25 = .ok (.bipush 6, 2) := by decide +kernel
theorem dX6_deliver_27 : decode cX6_deliver 27 = .ok (.if_icmp .ne 50, 3) := by decide +kernel
theorem dX6_deliver_30 : decode cX6_deliver 30 = .ok (.iconst 0, 1) := by decide +kernel
theorem dX6_deliver_31 : decode cX6_deliver 31 = .ok (.istore_n 3, 1) := by decide +kernel
theorem dX6_deliver_32 : decode cX6_deliver 32 = .ok (.iload_n 3, 1) := by decide +kernel
theorem dX6_deliver_33 : decode cX6_deliver 33 = .ok (.iconst 5, 1) := by decide +kernel
theorem dX6_deliver_34 : decode cX6_deliver 34 = .ok (.if_icmp .ge 23, 3) := by decide +kernel
theorem dX6_deliver_37 : decode cX6_deliver 37 = .ok (.aload_n 0, 1) := by decide +kernel
theorem dX6_deliver_38 : decode cX6_deliver 38 = .ok (.getfield 74, 3) := by decide +kernel
theorem dX6_deliver_41 : decode cX6_deliver 41 = .ok (.iload_n 3, 1) := by decide +kernel
theorem dX6_deliver_42 : decode cX6_deliver 42 = .ok (.aload_n 0, 1) := by decide +kernel
theorem dX6_deliver_43 : decode cX6_deliver 43 = .ok (.getfield 74, 3) := by decide +kernel
theorem dX6_deliver_46 : decode cX6_deliver 46 = .ok (.iload_n 3, 1) := by decide +kernel
theorem dX6_deliver_47 : decode cX6_deliver 47 = .ok (.iconst 1, 1) := by decide +kernel
theorem dX6_deliver_48 : decode cX6_deliver 48 = .ok (.iadd, 1) := by decide +kernel
theorem dX6_deliver_49 : decode cX6_deliver 49 = .ok (.iaload, 1) := by decide +kernel
theorem dX6_deliver_50 : decode cX6_deliver 50 = .ok (.iastore, 1) := by decide +kernel
theorem dX6_deliver_51 : decode cX6_deliver 51 = .ok (.iinc 3 1, 3) := by decide +kernel
theorem dX6_deliver_54 : decode cX6_deliver 54 = .ok (.goto (-22), 3) := by decide +kernel
theorem dX6_deliver_57 : decode cX6_deliver 57 = .ok (.aload_n 0, 1) := by decide +kernel
theorem dX6_deliver_58 : decode cX6_deliver 58 = .ok (.dup, 1) := by decide +kernel
theorem dX6_deliver_59 : decode cX6_deliver 59 = .ok (.getfield 147, 3) := by decide +kernel
theorem dX6_deliver_62 : decode cX6_deliver 62 = .ok (.iconst 1, 1) := by decide +kernel
theorem dX6_deliver_63 : decode cX6_deliver 63 = .ok (.isub, 1) := by decide +kernel
theorem dX6_deliver_64 : decode cX6_deliver 64 = .ok (.putfield 147, 3) := by decide +kernel
theorem dX6_deliver_67 : decode cX6_deliver 67 = .ok (.aload_n 0, 1) := by decide +kernel
theorem dX6_deliver_68 : decode cX6_deliver 68 = .ok (.dup, 1) := by decide +kernel
theorem dX6_deliver_69 : decode cX6_deliver 69 = .ok (.getfield 150, 3) := by decide +kernel
theorem dX6_deliver_72 : decode cX6_deliver 72 = .ok (.iconst 1, 1) := by decide +kernel
theorem dX6_deliver_73 : decode cX6_deliver 73 = .ok (.iadd, 1) := by decide +kernel
theorem dX6_deliver_74 : decode cX6_deliver 74 = .ok (.putfield 150, 3) := by decide +kernel
theorem dX6_deliver_77 : decode cX6_deliver 77 = .ok (.aload_n 0, 1) := by decide +kernel
theorem dX6_deliver_78 : decode cX6_deliver 78 = .ok (.getfield 74, 3) := by decide +kernel
theorem dX6_deliver_81 : decode cX6_deliver 81 = .ok (.aload_n 0, 1) := by decide +kernel
theorem dX6_deliver_82 : decode cX6_deliver 82 = .ok (.dup, 1) := by decide +kernel
theorem dX6_deliver_83 : decode cX6_deliver 83 = .ok (.getfield 147, 3) := by decide +kernel
theorem dX6_deliver_86 : decode cX6_deliver 86 = .ok (.dup_x1, 1) := by decide +kernel
theorem dX6_deliver_87 : decode cX6_deliver 87 = .ok (.iconst 1, 1) := by decide +kernel
theorem dX6_deliver_88 : decode cX6_deliver 88 = .ok (.iadd, 1) := by decide +kernel
theorem dX6_deliver_89 : decode cX6_deliver 89 = .ok (.putfield 147, 3) := by decide +kernel
theorem dX6_deliver_92 : decode cX6_deliver 92 = .ok (.aload_n 0, 1) := by decide +kernel
theorem dX6_deliver_93 : decode cX6_deliver 93 = .ok (.getfield 56, 3) := by decide +kernel
theorem dX6_deliver_96 : decode cX6_deliver 96 = .ok (.iload_n 2, 1) := by decide +kernel
theorem dX6_deliver_97 : decode cX6_deliver 97 = .ok (.iconst 4, 1) := by decide +kernel
theorem dX6_deliver_98 : decode cX6_deliver 98 = .ok (.imul, 1) := by decide +kernel
theorem dX6_deliver_99 : decode cX6_deliver 99 = .ok (.iaload, 1) := by decide +kernel
theorem dX6_deliver_100 : decode cX6_deliver 100 = .ok (.aload_n 0, 1) := by decide +kernel
theorem dX6_deliver_101 : decode cX6_deliver 101 = .ok (.getfield 35, 3) := by decide +kernel
theorem dX6_deliver_104 : decode cX6_deliver 104 = .ok (.iload_n 1, 1) := by decide +kernel
theorem dX6_deliver_105 : decode cX6_deliver 105 = .ok (.iaload, 1) := by decide +kernel
theorem dX6_deliver_106 : decode cX6_deliver 106 = .ok (.ixor, 1) := by decide +kernel
theorem dX6_deliver_107 : decode cX6_deliver 107 = .ok (.aload_n 0, 1) := by decide +kernel
theorem dX6_deliver_108 : decode cX6_deliver 108 = .ok (.getfield 118, 3) := by decide +kernel
theorem dX6_deliver_111 : decode cX6_deliver 111 = .ok (.ixor, 1) := by decide +kernel
theorem dX6_deliver_112 : decode cX6_deliver 112 = .ok (.iastore, 1) := by decide +kernel
theorem dX6_deliver_113 : decode cX6_deliver 113 = .ok (.aload_n 0, 1) := by decide +kernel
theorem dX6_deliver_114 : decode cX6_deliver 114 = .ok (.getfield 25, 3) := by decide +kernel
theorem dX6_deliver_117 : decode cX6_deliver 117 = .ok (.iload_n 2, 1) := by decide +kernel
theorem dX6_deliver_118 : decode cX6_deliver 118 = .ok (.aload_n 0, 1) := by decide +kernel
theorem dX6_deliver_119 : decode cX6_deliver 119 = .ok (.getfield 25, 3) := by decide +kernel
theorem dX6_deliver_122 : decode cX6_deliver 122 = .ok (.iload_n 2, 1) := by decide +kernel
theorem dX6_deliver_123 : decode cX6_deliver 123 = .ok (.daload, 1) := by decide +kernel
theorem dX6_deliver_124 : decode cX6_deliver 124 = .ok (.aload_n 0, 1) := by decide +kernel
theorem dX6_deliver_125 : decode cX6_deliver 125 = .ok (.getfield 53, 3) := by decide +kernel
theorem dX6_deliver_128 : decode cX6_deliver 128 = .ok (.iload_n 2, 1) := by decide +kernel
theorem dX6_deliver_129 : decode cX6_deliver 129 = .ok (.iconst 4, 1) := by decide +kernel
theorem dX6_deliver_130 : decode cX6_deliver 130 = .ok (.imul, 1) := by decide +kernel
theorem dX6_deliver_131 : decode cX6_deliver 131 = .ok (.iaload, 1) := by decide +kernel
theorem dX6_deliver_132 : decode cX6_deliver 132 = .ok (.i2d, 1) := by decide +kernel
theorem dX6_deliver_133 : decode cX6_deliver 133 = .ok (.dsub, 1) := by decide +kernel
theorem dX6_deliver_134 : decode cX6_deliver 134 = .ok (.dastore, 1) := by decide +kernel
theorem dX6_deliver_135 : decode cX6_deliver 135 = .ok (.aload_n 0, 1) := by decide +kernel
theorem dX6_deliver_136 : decode cX6_deliver 136 = .ok (.getfield 50, 3) := by decide +kernel
theorem dX6_deliver_139 : decode cX6_deliver 139 = .ok (.iload_n 2, 1) := by decide +kernel
theorem dX6_deliver_140 : decode cX6_deliver 140 = .ok (.dup2, 1) := by decide +kernel
theorem dX6_deliver_141 : decode cX6_deliver 141 = .ok (.iaload, 1) := by decide +kernel
theorem dX6_deliver_142 : decode cX6_deliver 142 = .ok (.iconst 1, 1) := by decide +kernel
theorem dX6_deliver_143 : decode cX6_deliver 143 = .ok (.isub, 1) := by decide +kernel
theorem dX6_deliver_144 : decode cX6_deliver 144 = .ok (.iastore, 1) := by decide +kernel
theorem dX6_deliver_145 : decode cX6_deliver 145 = .ok (.iconst 0, 1) := by decide +kernel
theorem dX6_deliver_146 : decode cX6_deliver 146 = .ok (.istore_n 3, 1) := by decide +kernel
theorem dX6_deliver_147 : decode cX6_deliver 147 = .ok (.iload_n 3, 1) := by decide +kernel
theorem dX6_deliver_148 : decode cX6_deliver 148 = .ok (.aload_n 0, 1) := by decide +kernel
theorem dX6_deliver_149 : decode cX6_deliver 149 = .ok (.getfield 50, 3) := by decide +kernel
theorem dX6_deliver_152 : decode cX6_deliver 152 = .ok (.iload_n 2, 1) := by decide +kernel
theorem dX6_deliver_153 : decode cX6_deliver 153 = .ok (.iaload, 1) := by decide +kernel
theorem dX6_deliver_154 : decode cX6_deliver 154 = .ok (.if_icmp .ge 53, 3) := by decide +kernel
theorem dX6_deliver_157 : decode cX6_deliver 157 = .ok (.aload_n 0, 1) := by decide +kernel
theorem dX6_deliver_158 : decode cX6_deliver 158 = .ok (.getfield 53, 3) := by decide +kernel
theorem dX6_deliver_161 : decode cX6_deliver 161 = .ok (.iload_n 2, 1) := by decide +kernel
theorem dX6_deliver_162 : decode cX6_deliver 162 = .ok (.iconst 4, 1) := by decide +kernel
theorem dX6_deliver_163 : decode cX6_deliver 163 = .ok (.imul, 1) := by decide +kernel
theorem dX6_deliver_164 : decode cX6_deliver 164 = .ok (.iload_n 3, 1) := by decide +kernel
theorem dX6_deliver_165 : decode cX6_deliver 165 = .ok (.iadd, 1) := by decide +kernel
theorem dX6_deliver_166 : decode cX6_deliver 166 = .ok (.aload_n 0, 1) := by decide +kernel
theorem dX6_deliver_167 : decode cX6_deliver 167 = .ok (.getfield 53, 3) := by decide +kernel
theorem dX6_deliver_170 : decode cX6_deliver 170 = .ok (.iload_n 2, 1) := by decide +kernel
theorem dX6_deliver_171 : decode cX6_deliver 171 = .ok (.iconst 4, 1) := by decide +kernel
theorem dX6_deliver_172 : decode cX6_deliver 172 = .ok (.imul, 1) := by decide +kernel
theorem dX6_deliver_173 : decode cX6_deliver 173 = .ok (.iload_n 3, 1) := by decide +kernel
theorem dX6_deliver_174 : decode cX6_deliver 174 = .ok (.iadd, 1) := by decide +kernel
theorem dX6_deliver_175 : decode cX6_deliver 175 = .ok (.iconst 1, 1) := by decide +kernel
theorem dX6_deliver_176 : decode cX6_deliver 176 = .ok (.iadd, 1) := by decide +kernel
theorem dX6_deliver_177 : decode cX6_deliver 177 = .ok (.iaload, 1) := by decide +kernel
theorem dX6_deliver_178 : decode cX6_deliver 178 = .ok (.iastore, 1) := by decide +kernel
theorem dX6_deliver_179 : decode cX6_deliver 179 = .ok (.aload_n 0, 1) := by decide +kernel
theorem dX6_deliver_180 : decode cX6_deliver 180 = .ok (.getfield 56, 3) := by decide +kernel
theorem dX6_deliver_183 : decode cX6_deliver 183 = .ok (.iload_n 2, 1) := by decide +kernel
theorem dX6_deliver_184 : decode cX6_deliver 184 = .ok (.iconst 4, 1) := by decide +kernel
theorem dX6_deliver_185 : decode cX6_deliver 185 = .ok (.imul, 1) := by decide +kernel
theorem dX6_deliver_186 : decode cX6_deliver 186 = .ok (.iload_n 3, 1) := by decide +kernel
theorem dX6_deliver_187 : decode cX6_deliver 187 = .ok (.iadd, 1) := by decide +kernel
theorem dX6_deliver_188 : decode cX6_deliver 188 = .ok (.aload_n 0, 1) := by decide +kernel
theorem dX6_deliver_189 : decode cX6_deliver 189 = .ok (.getfield 56, 3) := by decide +kernel
theorem dX6_deliver_192 : decode cX6_deliver 192 = .ok (.iload_n 2, 1) := by decide +kernel
theorem dX6_deliver_193 : decode cX6_deliver 193 = .ok (.iconst 4, 1) := by decide +kernel
theorem dX6_deliver_194 : decode cX6_deliver 194 = .ok (.imul, 1) := by decide +kernel
theorem dX6_deliver_195 : decode cX6_deliver 195 = .ok (.iload_n 3, 1) := by decide +kernel
theorem dX6_deliver_196 : decode cX6_deliver 196 = .ok (.iadd, 1) := by decide +kernel
theorem dX6_deliver_197 : decode cX6_deliver 197 = .ok (.iconst 1, 1) := by decide +kernel
theorem dX6_deliver_198 : decode cX6_deliver 198 = .ok (.iadd, 1) := by decide +kernel
theorem dX6_deliver_199 : decode cX6_deliver 199 = .ok (.iaload, 1) := by decide +kernel
theorem dX6_deliver_200 : decode cX6_deliver 200 = .ok (.iastore, 1) := by decide +kernel
theorem dX6_deliver_201 : decode cX6_deliver 201 = .ok (.iinc 3 1, 3) := by decide +kernel
theorem dX6_deliver_204 : decode cX6_deliver 204 = .ok (.goto (-57), 3) := by decide +kernel
theorem dX6_deliver_207 : decode cX6_deliver 207 = .ok (.aload_n 0, 1) := by decide +kernel
theorem dX6_deliver_208 : decode cX6_deliver 208 = .ok (.dup, 1) := by decide +kernel
theorem dX6_deliver_209 : decode cX6_deliver 209 = .ok (.getfield 153, 3) := by decide +kernel
theorem dX6_deliver_212 : decode cX6_deliver 212 = .ok (.iconst 1, 1) := by decide +kernel
theorem dX6_deliver_213 : decode cX6_deliver 213 = .ok (.iadd, 1) := by decide +kernel
theorem dX6_deliver_214 : decode cX6_deliver 214 = .ok (.putfield 153, 3) := by decide +kernel
theorem dX6_deliver_217 : decode cX6_deliver 217 = .ok (.return_, 1) := by decide +kernel
abbrev cX6_key : ByteArray := prog_11_method_25_code
def yX6_key : MethodName := ⟨RX6, "key", "(I)I"⟩
theorem dX6_key_0 : decode cX6_key 0 = .ok (.aload_n 0, 1) := by decide +kernel
theorem dX6_key_1 : decode cX6_key 1 = .ok (.iconst 0, 1) := by decide +kernel
theorem dX6_key_2 : decode cX6_key 2 = .ok (.putfield 77, 3) := by decide +kernel
theorem dX6_key_5 : decode cX6_key 5 = .ok (.aload_n 0, 1) := by decide +kernel
theorem dX6_key_6 : decode cX6_key 6 = .ok (.iload_n 1, 1) := by decide +kernel
theorem dX6_key_7 : decode cX6_key 7 = .ok (.putfield 118, 3) := by decide +kernel
theorem dX6_key_10 : decode cX6_key 10 = .ok (.iconst 0, 1) := by decide +kernel
theorem dX6_key_11 : decode cX6_key 11 = .ok (.istore_n 2, 1) := by decide +kernel
theorem dX6_key_12 : decode cX6_key 12 = .ok (.iconst 0, 1) := by decide +kernel
theorem dX6_key_13 : decode cX6_key 13 = .ok (.istore_n 3, 1) := by decide +kernel
theorem dX6_key_14 : decode cX6_key 14 = .ok (.iload_n 3, 1) := by decide +kernel
theorem dX6_key_15 : decode cX6_key 15 = .ok (.bipush 6, 2) := by decide +kernel
theorem dX6_key_17 : decode cX6_key 17 = .ok (.if_icmp .ge 37, 3) := by decide +kernel
theorem dX6_key_20 : decode cX6_key 20 = .ok (.aload_n 0, 1) := by decide +kernel
theorem dX6_key_21 : decode cX6_key 21 = .ok (.getfield 28, 3) := by decide +kernel
theorem dX6_key_24 : decode cX6_key 24 = .ok (.iload_n 3, 1) := by decide +kernel
theorem dX6_key_25 : decode cX6_key 25 = .ok (.iaload, 1) := by decide +kernel
theorem dX6_key_26 : decode cX6_key 26 = .ok (.iconst 2, 1) := by decide +kernel
theorem dX6_key_27 : decode cX6_key 27 = .ok (.if_icmp .ne 21, 3) := by decide +kernel
theorem dX6_key_30 : decode cX6_key 30 = .ok (.aload_n 0, 1) := by decide +kernel
theorem dX6_key_31 : decode cX6_key 31 = .ok (.iload_n 3, 1) := by decide +kernel
theorem dX6_key_32 : decode cX6_key 32 = .ok (.invokevirtual 112, 3) := by decide +kernel
theorem dX6_key_35 : decode cX6_key 35 = .ok (.ifCond .eq 13, 3) := by decide +kernel
theorem dX6_key_38 : decode cX6_key 38 = .ok (.aload_n 0, 1) := by decide +kernel
theorem dX6_key_39 : decode cX6_key 39 = .ok (.getfield 35, 3) := by decide +kernel
theorem dX6_key_42 : decode cX6_key 42 = .ok (.iload_n 3, 1) := by decide +kernel
theorem dX6_key_43 : decode cX6_key 43 = .ok (.iload_n 1, 1) := by decide +kernel
theorem dX6_key_44 : decode cX6_key 44 = .ok (.iastore, 1) := by decide +kernel
theorem dX6_key_45 : decode cX6_key 45 = .ok (.iinc 2 1, 3) := by decide +kernel
theorem dX6_key_48 : decode cX6_key 48 = .ok (.iinc 3 1, 3) := by decide +kernel
theorem dX6_key_51 : decode cX6_key 51 = .ok (.goto (-37), 3) := by decide +kernel
theorem dX6_key_54 : decode cX6_key 54 = .ok (.iload_n 2, 1) := by decide +kernel
theorem dX6_key_55 : decode cX6_key 55 = .ok (.ireturn, 1) := by decide +kernel
abbrev cX6_take : ByteArray := prog_11_method_26_code
def yX6_take : MethodName := ⟨RX6, "take", "()I"⟩
theorem dX6_take_0 : decode cX6_take 0 = .ok (.aload_n 0, 1) := by decide +kernel
theorem dX6_take_1 : decode cX6_take 1 = .ok (.aload_n 0, 1) := by decide +kernel
theorem dX6_take_2 : decode cX6_take 2 = .ok (.getfield 147, 3) := by decide +kernel
theorem dX6_take_5 : decode cX6_take 5 = .ok (.ifCond .ne 7, 3) := by decide +kernel
theorem dX6_take_8 : decode cX6_take 8 = .ok (.iconst 1, 1) := by decide +kernel
theorem dX6_take_9 : decode cX6_take 9 = .ok (.goto 4, 3) := by decide +kernel
theorem dX6_take_12 : decode cX6_take 12 = .ok (.iconst 0, 1) := by decide +kernel
theorem dX6_take_13 : decode cX6_take 13 = .ok (.putfield 77, 3) := by decide +kernel
theorem dX6_take_16 : decode cX6_take 16 = .ok (.aload_n 0, 1) := by decide +kernel
theorem dX6_take_17 : decode cX6_take 17 = .ok (.getfield 77, 3) := by decide +kernel
theorem dX6_take_20 : decode cX6_take 20 = .ok (.ifCond .eq 5, 3) := by decide +kernel
theorem dX6_take_23 : decode cX6_take 23 = .ok (.iconst 0, 1) := by decide +kernel
theorem dX6_take_24 : decode cX6_take 24 = .ok (.ireturn, 1) := by decide +kernel
theorem dX6_take_25 : decode cX6_take 25 = .ok (.aload_n 0, 1) := by decide +kernel
theorem dX6_take_26 : decode cX6_take 26 = .ok (.getfield 74, 3) := by decide +kernel
theorem dX6_take_29 : decode cX6_take 29 = .ok (.iconst 0, 1) := by decide +kernel
theorem dX6_take_30 : decode cX6_take 30 = .ok (.iaload, 1) := by decide +kernel
theorem dX6_take_31 : decode cX6_take 31 = .ok (.istore_n 1, 1) := by decide +kernel
theorem dX6_take_32 : decode cX6_take 32 = .ok (.aload_n 0, 1) := by decide +kernel
theorem dX6_take_33 : decode cX6_take 33 = .ok (.dup, 1) := by decide +kernel
theorem dX6_take_34 : decode cX6_take 34 = .ok (.getfield 147, 3) := by decide +kernel
theorem dX6_take_37 : decode cX6_take 37 = .ok (.iconst 1, 1) := by decide +kernel
theorem dX6_take_38 : decode cX6_take 38 = .ok (.isub, 1) := by decide +kernel
theorem dX6_take_39 : decode cX6_take 39 = .ok (.putfield 147, 3) := by decide +kernel
theorem dX6_take_42 : decode cX6_take 42 = .ok (.iconst 0, 1) := by decide +kernel
theorem dX6_take_43 : decode cX6_take 43 = .ok (.istore_n 2, 1) := by decide +kernel
theorem dX6_take_44 : decode cX6_take 44 = .ok (.iload_n 2, 1) := by decide +kernel
theorem dX6_take_45 : decode cX6_take 45 = .ok (.aload_n 0, 1) := by decide +kernel
theorem dX6_take_46 : decode cX6_take 46 = .ok (.getfield 147, 3) := by decide +kernel
theorem dX6_take_49 : decode cX6_take 49 = .ok (.if_icmp .ge 23, 3) := by decide +kernel
theorem dX6_take_52 : decode cX6_take 52 = .ok (.aload_n 0, 1) := by decide +kernel
theorem dX6_take_53 : decode cX6_take 53 = .ok (.getfield 74, 3) := by decide +kernel
theorem dX6_take_56 : decode cX6_take 56 = .ok (.iload_n 2, 1) := by decide +kernel
theorem dX6_take_57 : decode cX6_take 57 = .ok (.aload_n 0, 1) := by decide +kernel
theorem dX6_take_58 : decode cX6_take 58 = .ok (.getfield 74, 3) := by decide +kernel
theorem dX6_take_61 : decode cX6_take 61 = .ok (.iload_n 2, 1) := by decide +kernel
theorem dX6_take_62 : decode cX6_take 62 = .ok (.iconst 1, 1) := by decide +kernel
theorem dX6_take_63 : decode cX6_take 63 = .ok (.iadd, 1) := by decide +kernel
theorem dX6_take_64 : decode cX6_take 64 = .ok (.iaload, 1) := by decide +kernel
theorem dX6_take_65 : decode cX6_take 65 = .ok (.iastore, 1) := by decide +kernel
theorem dX6_take_66 : decode cX6_take 66 = .ok (.iinc 2 1, 3) := by decide +kernel
theorem dX6_take_69 : decode cX6_take 69 = .ok (.goto (-25), 3) := by decide +kernel
theorem dX6_take_72 : decode cX6_take 72 = .ok (.iload_n 1, 1) := by decide +kernel
theorem dX6_take_73 : decode cX6_take 73 = .ok (.ireturn, 1) := by decide +kernel
abbrev cX6_level : ByteArray := prog_11_method_27_code
def yX6_level : MethodName := ⟨RX6, "level", "(II)D"⟩
theorem dX6_level_0 : decode cX6_level 0 = .ok (.aload_n 0, 1) := by decide +kernel
theorem dX6_level_1 : decode cX6_level 1 = .ok (.aload_n 0, 1) := by decide +kernel
theorem dX6_level_2 : decode cX6_level 2 = .ok (.iload_n 1, 1) := by decide +kernel
theorem dX6_level_3 : decode cX6_level 3 = .ok (.iconst 5, 1) := by decide +kernel
theorem dX6_level_4 : decode cX6_level 4 = .ok (.invokevirtual 81, 3) := by decide +kernel
theorem dX6_level_7 : decode cX6_level 7 = .ok (.ifCond .ne 12, 3) := by decide +kernel
theorem dX6_level_10 : decode cX6_level 10 = .ok (.aload_n 0, 1) := by decide +kernel
theorem dX6_level_11 : decode cX6_level 11 = .ok (.iload_n 2, 1) := by decide +kernel
theorem dX6_level_12 : decode cX6_level 12 = .ok (.iconst 3, 1) := by decide +kernel
theorem dX6_level_13 : decode cX6_level 13 = .ok (.invokevirtual 81, 3) := by decide +kernel
theorem dX6_level_16 : decode cX6_level 16 = .ok (.ifCond .eq 7, 3) := by decide +kernel
theorem dX6_level_19 : decode cX6_level 19 = .ok (.iconst 1, 1) := by decide +kernel
theorem dX6_level_20 : decode cX6_level 20 = .ok (.goto 4, 3) := by decide +kernel
theorem dX6_level_23 : decode cX6_level 23 = .ok (.iconst 0, 1) := by decide +kernel
theorem dX6_level_24 : decode cX6_level 24 = .ok (.putfield 77, 3) := by decide +kernel
theorem dX6_level_27 : decode cX6_level 27 = .ok (.aload_n 0, 1) := by decide +kernel
theorem dX6_level_28 : decode cX6_level 28 = .ok (.getfield 77, 3) := by decide +kernel
theorem dX6_level_31 : decode cX6_level 31 = .ok (.ifCond .eq 5, 3) := by decide +kernel
theorem dX6_level_34 : decode cX6_level 34 = .ok (.dconst 0, 1) := by decide +kernel
theorem dX6_level_35 : decode cX6_level 35 = .ok (.dreturn, 1) := by decide +kernel
theorem dX6_level_36 : decode cX6_level 36 = .ok (.iload_n 2, 1) := by decide +kernel
theorem dX6_level_37 : decode cX6_level 37 = .ok (.ifCond .ne 11, 3) := by decide +kernel
theorem dX6_level_40 : decode cX6_level 40 = .ok (.aload_n 0, 1) := by decide +kernel
theorem dX6_level_41 : decode cX6_level 41 = .ok (.iload_n 1, 1) := by decide +kernel
theorem dX6_level_42 : decode cX6_level 42 = .ok (.invokevirtual 97, 3) := by decide +kernel
theorem dX6_level_45 : decode cX6_level 45 = .ok (.goto 28, 3) := by decide +kernel
theorem dX6_level_48 : decode cX6_level 48 = .ok (.iload_n 2, 1) := by decide +kernel
theorem dX6_level_49 : decode cX6_level 49 = .ok (.iconst 1, 1) := by decide +kernel
theorem dX6_level_50 : decode cX6_level 50 = .ok (.if_icmp .ne 11, 3) := by decide +kernel
theorem dX6_level_53 : decode cX6_level 53 = .ok (.aload_n 0, 1) := by decide +kernel
theorem dX6_level_54 : decode cX6_level 54 = .ok (.iload_n 1, 1) := by decide +kernel
theorem dX6_level_55 : decode cX6_level 55 = .ok (.invokevirtual 105, 3) := by decide +kernel
theorem dX6_level_58 : decode cX6_level 58 = .ok (.goto 15, 3) := by decide +kernel
theorem dX6_level_61 : decode cX6_level 61 = .ok (.aload_n 0, 1) := by decide +kernel
theorem dX6_level_62 : decode cX6_level 62 = .ok (.getfield 25, 3) := by decide +kernel
theorem dX6_level_65 : decode cX6_level 65 = .ok (.iconst 2, 1) := by decide +kernel
theorem dX6_level_66 : decode cX6_level 66 = .ok (.iload_n 1, 1) := by decide +kernel
theorem dX6_level_67 : decode cX6_level 67 = .ok (.imul, 1) := by decide +kernel
theorem dX6_level_68 : decode cX6_level 68 = .ok (.iload_n 2, 1) := by decide +kernel
theorem dX6_level_69 : decode cX6_level 69 = .ok (.iadd, 1) := by decide +kernel
theorem dX6_level_70 : decode cX6_level 70 = .ok (.iconst 2, 1) := by decide +kernel
theorem dX6_level_71 : decode cX6_level 71 = .ok (.isub, 1) := by decide +kernel
theorem dX6_level_72 : decode cX6_level 72 = .ok (.daload, 1) := by decide +kernel
theorem dX6_level_73 : decode cX6_level 73 = .ok (.dreturn, 1) := by decide +kernel
