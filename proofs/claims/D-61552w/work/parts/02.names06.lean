set_option maxRecDepth 100000
abbrev cX6_fine : ByteArray := prog_11_method_12_code
def yX6_fine : MethodName := ⟨RX6, "fine", "(I)Z"⟩
theorem dX6_fine_0 : decode cX6_fine 0 = .ok (.aload_n 0, 1) := by decide +kernel
theorem dX6_fine_1 : decode cX6_fine 1 = .ok (.aload_n 0, 1) := by decide +kernel
theorem dX6_fine_2 : decode cX6_fine 2 = .ok (.iload_n 1, 1) := by decide +kernel
theorem dX6_fine_3 : decode cX6_fine 3 = .ok (.invokevirtual 97, 3) := by decide +kernel
theorem dX6_fine_6 : decode cX6_fine 6 = .ok (.invokevirtual 101, 3) := by decide +kernel
theorem dX6_fine_9 : decode cX6_fine 9 = .ok (.ifCond .eq 19, 3) := by decide +kernel
theorem dX6_fine_12 : decode cX6_fine 12 = .ok (.aload_n 0, 1) := by decide +kernel
theorem dX6_fine_13 : decode cX6_fine 13 = .ok (.aload_n 0, 1) := by decide +kernel
theorem dX6_fine_14 : decode cX6_fine 14 = .ok (.iload_n 1, 1) := by decide +kernel
theorem dX6_fine_15 : decode cX6_fine 15 = .ok (.invokevirtual 105, 3) := by decide +kernel
theorem dX6_fine_18 : decode cX6_fine 18 = .ok (.invokevirtual 101, 3) := by decide +kernel
theorem dX6_fine_21 : decode cX6_fine 21 = .ok (.ifCond .eq 7, 3) := by decide +kernel
theorem dX6_fine_24 : decode cX6_fine 24 = .ok (.iconst 1, 1) := by decide +kernel
theorem dX6_fine_25 : decode cX6_fine 25 = .ok (.goto 4, 3) := by decide +kernel
theorem dX6_fine_28 : decode cX6_fine 28 = .ok (.iconst 0, 1) := by decide +kernel
theorem dX6_fine_29 : decode cX6_fine 29 = .ok (.ireturn, 1) := by decide +kernel
abbrev cX6_late : ByteArray := prog_11_method_9_code
def yX6_late : MethodName := ⟨RX6, "late", "(I)D"⟩
theorem dX6_late_0 : decode cX6_late 0 = .ok (.aload_n 0, 1) := by decide +kernel
theorem dX6_late_1 : decode cX6_late 1 = .ok (.getfield 7, 3) := by decide +kernel
theorem dX6_late_4 : decode cX6_late 4 = .ok (.iload_n 1, 1) := by decide +kernel
theorem dX6_late_5 : decode cX6_late 5 = .ok (.daload, 1) := by decide +kernel
theorem dX6_late_6 : decode cX6_late 6 = .ok (.ldc2_w 93, 3) := by decide +kernel
theorem dX6_late_9 : decode cX6_late 9 = .ok (.dmul, 1) := by decide +kernel
theorem dX6_late_10 : decode cX6_late 10 = .ok (.aload_n 0, 1) := by decide +kernel
theorem dX6_late_11 : decode cX6_late 11 = .ok (.getfield 16, 3) := by decide +kernel
theorem dX6_late_14 : decode cX6_late 14 = .ok (.iload_n 1, 1) := by decide +kernel
theorem dX6_late_15 : decode cX6_late 15 = .ok (.daload, 1) := by decide +kernel
theorem dX6_late_16 : decode cX6_late 16 = .ok (.dsub, 1) := by decide +kernel
theorem dX6_late_17 : decode cX6_late 17 = .ok (.dreturn, 1) := by decide +kernel
abbrev cX6_within : ByteArray := prog_11_method_11_code
def yX6_within : MethodName := ⟨RX6, "within", "(D)Z"⟩
theorem dX6_within_0 : decode cX6_within 0 = .ok (.dload_n 1, 1) := by decide +kernel
theorem dX6_within_1 : decode cX6_within 1 = .ok (.ldc2_w 95, 3) := by decide +kernel
theorem dX6_within_4 : decode cX6_within 4 = .ok (.dcmp .l, 1) := by decide +kernel
theorem dX6_within_5 : decode cX6_within 5 = .ok (.ifCond .lt 15, 3) := by decide +kernel
theorem dX6_within_8 : decode cX6_within 8 = .ok (.dload_n 1, 1) := by decide +kernel
theorem dX6_within_9 : decode cX6_within 9 = .ok (.ldc2_w 93, 3) := by decide +kernel
theorem dX6_within_12 : decode cX6_within 12 = .ok (.dcmp .g, 1) := by decide +kernel
theorem dX6_within_13 : decode cX6_within 13 = .ok (.ifCond .gt 7, 3) := by decide +kernel
theorem dX6_within_16 : decode cX6_within 16 = .ok (.iconst 1, 1) := by decide +kernel
theorem dX6_within_17 : decode cX6_within 17 = .ok (.goto 4, 3) := by decide +kernel
theorem dX6_within_20 : decode cX6_within 20 = .ok (.iconst 0, 1) := by decide +kernel
theorem dX6_within_21 : decode cX6_within 21 = .ok (.ireturn, 1) := by decide +kernel
abbrev cX6_strong : ByteArray := prog_11_method_10_code
def yX6_strong : MethodName := ⟨RX6, "strong", "(I)D"⟩
theorem dX6_strong_0 : decode cX6_strong 0 = .ok (.aload_n 0, 1) := by decide +kernel
theorem dX6_strong_1 : decode cX6_strong 1 = .ok (.getfield 19, 3) := by decide +kernel
theorem dX6_strong_4 : decode cX6_strong 4 = .ok (.iload_n 1, 1) := by decide +kernel
theorem dX6_strong_5 : decode cX6_strong 5 = .ok (.daload, 1) := by decide +kernel
theorem dX6_strong_6 : decode cX6_strong 6 = .ok (.aload_n 0, 1) := by decide +kernel
theorem dX6_strong_7 : decode cX6_strong 7 = .ok (.getfield 13, 3) := by decide +kernel
theorem dX6_strong_10 : decode cX6_strong 10 = .ok (.iload_n 1, 1) := by decide +kernel
theorem dX6_strong_11 : decode cX6_strong 11 = .ok (.daload, 1) := by decide +kernel
theorem dX6_strong_12 : decode cX6_strong 12 = .ok (.dsub, 1) := by decide +kernel
theorem dX6_strong_13 : decode cX6_strong 13 = .ok (.dreturn, 1) := by decide +kernel
abbrev cX6_draw : ByteArray := prog_11_method_13_code
def yX6_draw : MethodName := ⟨RX6, "draw", "(II)I"⟩
theorem dX6_draw_0 : decode cX6_draw 0 = .ok (.aload_n 0, 1) := by decide +kernel
theorem dX6_draw_1 : decode cX6_draw 1 = .ok (.getfield 32, 3) := by decide +kernel
theorem dX6_draw_4 : decode cX6_draw 4 = .ok (.iload_n 1, 1) := by decide +kernel
theorem dX6_draw_5 : decode cX6_draw 5 = .ok (.aload_n 0, 1) := by decide +kernel
theorem dX6_draw_6 : decode cX6_draw 6 = .ok (.getfield 32, 3) := by decide +kernel
theorem dX6_draw_9 : decode cX6_draw 9 = .ok (.iload_n 1, 1) := by decide +kernel
theorem dX6_draw_10 : decode cX6_draw 10 = .ok (.iaload, 1) := by decide +kernel
theorem dX6_draw_11 : decode cX6_draw 11 = .ok (.ldc 108, 2) := by decide +kernel
theorem dX6_draw_13 : decode cX6_draw 13 = .ok (.imul, 1) := by decide +kernel
theorem dX6_draw_14 : decode cX6_draw 14 = .ok (.sipush 12345, 3) := by decide +kernel
theorem dX6_draw_17 : decode cX6_draw 17 = .ok (.iadd, 1) := by decide +kernel
theorem dX6_draw_18 : decode cX6_draw 18 = .ok (.iastore, 1) := by decide +kernel
theorem dX6_draw_19 : decode cX6_draw 19 = .ok (.aload_n 0, 1) := by decide +kernel
theorem dX6_draw_20 : decode cX6_draw 20 = .ok (.getfield 32, 3) := by decide +kernel
theorem dX6_draw_23 : decode cX6_draw 23 = .ok (.iload_n 1, 1) := by decide +kernel
theorem dX6_draw_24 : decode cX6_draw 24 = .ok (.iaload, 1) := by decide +kernel
theorem dX6_draw_25 : decode cX6_draw 25 = .ok (.bipush 16, 2) := by decide +kernel
theorem dX6_draw_27 : decode cX6_draw 27 = .ok (.iushr, 1) := by decide +kernel
theorem dX6_draw_28 : decode cX6_draw 28 = .ok (.iload_n 2, 1) := by decide +kernel
theorem dX6_draw_29 : decode cX6_draw 29 = .ok (.irem, 1) := by decide +kernel
theorem dX6_draw_30 : decode cX6_draw 30 = .ok (.ireturn, 1) := by decide +kernel
abbrev cX6_asking : ByteArray := prog_11_method_18_code
def yX6_asking : MethodName := ⟨RX6, "asking", "()V"⟩
theorem dX6_asking_0 : decode cX6_asking 0 = .ok (.iconst 0, 1) := by decide +kernel
theorem dX6_asking_1 : decode cX6_asking 1 = .ok (.istore_n 1, 1) := by decide +kernel
theorem dX6_asking_2 : decode cX6_asking 2 = .ok (.iload_n 1, 1) := by decide +kernel
theorem dX6_asking_3 : decode cX6_asking 3 = .ok (.bipush 6, 2) := by decide +kernel
theorem dX6_asking_5 : decode cX6_asking 5 = .ok (.if_icmp .ge 93, 3) := by decide +kernel
theorem dX6_asking_8 : decode cX6_asking 8 = .ok (.aload_n 0, 1) := by decide +kernel
theorem dX6_asking_9 : decode cX6_asking 9 = .ok (.getfield 71, 3) := by decide +kernel
theorem dX6_asking_12 : decode cX6_asking 12 = .ok (.iload_n 1, 1) := by decide +kernel
theorem dX6_asking_13 : decode cX6_asking 13 = .ok (.iconst 0, 1) := by decide +kernel
theorem dX6_asking_14 : decode cX6_asking 14 = .ok (.iastore, 1) := by decide +kernel
theorem dX6_asking_15 : decode cX6_asking 15 = .ok (.aload_n 0, 1) := by decide +kernel
theorem dX6_asking_16 : decode cX6_asking 16 = .ok (.getfield 28, 3) := by decide +kernel
theorem dX6_asking_19 : decode cX6_asking 19 = .ok (.iload_n 1, 1) := by decide +kernel
theorem dX6_asking_20 : decode cX6_asking 20 = .ok (.iaload, 1) := by decide +kernel
theorem dX6_asking_21 : decode cX6_asking 21 = .ok (.iconst 2, 1) := by decide +kernel
theorem dX6_asking_22 : decode cX6_asking 22 = .ok (.if_icmp .ne 24, 3) := by decide +kernel
theorem dX6_asking_25 : decode cX6_asking 25 = .ok (.aload_n 0, 1) := by decide +kernel
theorem dX6_asking_26 : decode cX6_asking 26 = .ok (.getfield 59, 3) := by decide +kernel
theorem dX6_asking_29 : decode cX6_asking 29 = .ok (.iload_n 1, 1) := by decide +kernel
theorem dX6_asking_30 : decode cX6_asking 30 = .ok (.iaload, 1) := by decide +kernel
theorem dX6_asking_31 : decode cX6_asking 31 = .ok (.ifCond .ne 15, 3) := by decide +kernel
theorem dX6_asking_34 : decode cX6_asking 34 = .ok (.aload_n 0, 1) := by decide +kernel
theorem dX6_asking_35 : decode cX6_asking 35 = .ok (.iload_n 1, 1) := by decide +kernel
theorem dX6_asking_36 : decode cX6_asking 36 = .ok (.invokevirtual 131, 3) := by decide +kernel
theorem dX6_asking_39 : decode cX6_asking 39 = .ok (.ifCond .lt 7, 3) := by decide +kernel
theorem dX6_asking_42 : decode cX6_asking 42 = .ok (.iconst 1, 1) := by decide +kernel
theorem dX6_asking_43 : decode cX6_asking 43 = .ok (.goto 4, 3) := by decide +kernel
theorem dX6_asking_46 : decode cX6_asking 46 = .ok (.iconst 0, 1) := by decide +kernel
theorem dX6_asking_47 : decode cX6_asking 47 = .ok (.istore_n 2, 1) := by decide +kernel
theorem dX6_asking_48 : decode cX6_asking 48 = .ok (.iload_n 2, 1) := by decide +kernel
theorem dX6_asking_49 : decode cX6_asking 49 = .ok (.ifCond .eq 25, 3) := by decide +kernel
theorem dX6_asking_52 : decode cX6_asking 52 = .ok (.aload_n 0, 1) := by decide +kernel
theorem dX6_asking_53 : decode cX6_asking 53 = .ok (.getfield 41, 3) := by decide +kernel
theorem dX6_asking_56 : decode cX6_asking 56 = .ok (.iload_n 1, 1) := by decide +kernel
theorem dX6_asking_57 : decode cX6_asking 57 = .ok (.iaload, 1) := by decide +kernel
theorem dX6_asking_58 : decode cX6_asking 58 = .ok (.ifCond .le 16, 3) := by decide +kernel
theorem dX6_asking_61 : decode cX6_asking 61 = .ok (.aload_n 0, 1) := by decide +kernel
theorem dX6_asking_62 : decode cX6_asking 62 = .ok (.getfield 41, 3) := by decide +kernel
theorem dX6_asking_65 : decode cX6_asking 65 = .ok (.iload_n 1, 1) := by decide +kernel
theorem dX6_asking_66 : decode cX6_asking 66 = .ok (.dup2, 1) := by decide +kernel
theorem dX6_asking_67 : decode cX6_asking 67 = .ok (.iaload, 1) := by decide +kernel
theorem dX6_asking_68 : decode cX6_asking 68 = .ok (.iconst 1, 1) := by decide +kernel
theorem dX6_asking_69 : decode cX6_asking 69 = .ok (.isub, 1) := by decide +kernel
theorem dX6_asking_70 : decode cX6_asking 70 = .ok (.iastore, 1) := by decide +kernel
theorem dX6_asking_71 : decode cX6_asking 71 = .ok (.goto 21, 3) := by decide +kernel
theorem dX6_asking_74 : decode cX6_asking 74 = .ok (.iload_n 2, 1) := by decide +kernel
theorem dX6_asking_75 : decode cX6_asking 75 = .ok (.ifCond .eq 17, 3) := by decide +kernel
theorem dX6_asking_78 : decode cX6_asking 78 = .ok (.aload_n 0, 1) := by decide +kernel
theorem dX6_asking_79 : decode cX6_asking 79 = .ok (.getfield 71, 3) := by decide +kernel
theorem dX6_asking_82 : decode cX6_asking 82 = .ok (.iload_n 1, 1) := by decide +kernel
theorem dX6_asking_83 : decode cX6_asking 83 = .ok (.iconst 1, 1) := by decide +kernel
theorem dX6_asking_84 : decode cX6_asking 84 = .ok (.aload_n 0, 1) := by decide +kernel
theorem dX6_asking_85 : decode cX6_asking 85 = .ok (.iload_n 1, 1) := by decide +kernel
theorem dX6_asking_86 : decode cX6_asking 86 = .ok (.iconst 2, 1) := by decide +kernel
theorem dX6_asking_87 : decode cX6_asking 87 = .ok (.invokevirtual 127, 3) := by decide +kernel
theorem dX6_asking_90 : decode cX6_asking 90 = .ok (.iadd, 1) := by decide +kernel
theorem dX6_asking_91 : decode cX6_asking 91 = .ok (.iastore, 1) := by decide +kernel
theorem dX6_asking_92 : decode cX6_asking 92 = .ok (.iinc 1 1, 3) := by decide +kernel
theorem dX6_asking_95 : decode cX6_asking 95 = .ok (.goto (-93), 3) := by decide +kernel
theorem dX6_asking_98 : decode cX6_asking 98 = .ok (.iconst 1, 1) := by decide +kernel
theorem dX6_asking_99 : decode cX6_asking 99 = .ok (.istore_n 1, 1) := by decide +kernel
theorem dX6_asking_100 : decode cX6_asking 100 = .ok (.iload_n 1, 1) := by decide +kernel
theorem dX6_asking_101 : decode cX6_asking 101 = .ok (.iconst 3, 1) := by decide +kernel
theorem dX6_asking_102 : decode cX6_asking 102 = .ok (.if_icmp .ge 195, 3) := by decide +kernel
theorem dX6_asking_105 : decode cX6_asking 105 = .ok (.iconst 0, 1) := by decide +kernel
theorem dX6_asking_106 : decode cX6_asking 106 = .ok (.istore_n 2, 1) := by decide +kernel
theorem dX6_asking_107 : decode cX6_asking 107 = .ok (.iconst 0, 1) := by decide +kernel
theorem dX6_asking_108 : decode cX6_asking 108 = .ok (.istore_n 3, 1) := by decide +kernel
theorem dX6_asking_109 : decode cX6_asking 109 = .ok (.iconst 0, 1) := by decide +kernel
theorem dX6_asking_110 : decode cX6_asking 110 = .ok (.istore 4, 2) := by decide +kernel
theorem dX6_asking_112 : decode cX6_asking 112 = .ok (.iload 4, 2) := by decide +kernel
theorem dX6_asking_114 : decode cX6_asking 114 = .ok (.bipush 6, 2) := by decide +kernel
theorem dX6_asking_116 : decode cX6_asking 116 = .ok (.if_icmp .ge 26, 3) := by decide +kernel
theorem dX6_asking_119 : decode cX6_asking 119 = .ok (.aload_n 0, 1) := by decide +kernel
theorem dX6_asking_120 : decode cX6_asking 120 = .ok (.getfield 71, 3) := by decide +kernel
theorem dX6_asking_123 : decode cX6_asking 123 = .ok (.iload 4, 2) := by decide +kernel
theorem dX6_asking_125 : decode cX6_asking 125 = .ok (.iaload, 1) := by decide +kernel
theorem dX6_asking_126 : decode cX6_asking 126 = .ok (.iload_n 1, 1) := by decide +kernel
theorem dX6_asking_127 : decode cX6_asking 127 = .ok (.if_icmp .ne 9, 3) := by decide +kernel
theorem dX6_asking_130 : decode cX6_asking 130 = .ok (.iinc 2 1, 3) := by decide +kernel
theorem dX6_asking_133 : decode cX6_asking 133 = .ok (.iload 4, 2) := by decide +kernel
theorem dX6_asking_135 : decode cX6_asking 135 = .ok (.istore_n 3, 1) := by decide +kernel
theorem dX6_asking_136 : decode cX6_asking 136 = .ok (.iinc 4 1, 3) := by decide +kernel
theorem dX6_asking_139 : decode cX6_asking 139 = .ok (.goto (-27), 3) := by decide +kernel
theorem dX6_asking_142 : decode cX6_asking 142 = .ok (.iload_n 2, 1) := by decide +kernel
theorem dX6_asking_143 : decode cX6_asking 143 = .ok (.iconst 1, 1) := by decide +kernel
theorem dX6_asking_144 : decode cX6_asking 144 = .ok (.if_icmp .ne 78, 3) := by decide +kernel
theorem dX6_asking_147 : decode cX6_asking 147 = .ok (.aload_n 0, 1) := by decide +kernel
theorem dX6_asking_148 : decode cX6_asking 148 = .ok (.iload_n 3, 1) := by decide +kernel
theorem dX6_asking_149 : decode cX6_asking 149 = .ok (.invokevirtual 112, 3) := by decide +kernel
theorem dX6_asking_152 : decode cX6_asking 152 = .ok (.ifCond .eq 70, 3) := by decide +kernel
theorem dX6_asking_155 : decode cX6_asking 155 = .ok (.aload_n 0, 1) := by decide +kernel
theorem dX6_asking_156 : decode cX6_asking 156 = .ok (.getfield 62, 3) := by decide +kernel
theorem dX6_asking_159 : decode cX6_asking 159 = .ok (.iload_n 3, 1) := by decide +kernel
theorem dX6_asking_160 : decode cX6_asking 160 = .ok (.aload_n 0, 1) := by decide +kernel
theorem dX6_asking_161 : decode cX6_asking 161 = .ok (.iload_n 3, 1) := by decide +kernel
theorem dX6_asking_162 : decode cX6_asking 162 = .ok (.invokevirtual 131, 3) := by decide +kernel
theorem dX6_asking_165 : decode cX6_asking 165 = .ok (.iastore, 1) := by decide +kernel
theorem dX6_asking_166 : decode cX6_asking 166 = .ok (.aload_n 0, 1) := by decide +kernel
theorem dX6_asking_167 : decode cX6_asking 167 = .ok (.getfield 59, 3) := by decide +kernel
theorem dX6_asking_170 : decode cX6_asking 170 = .ok (.iload_n 3, 1) := by decide +kernel
theorem dX6_asking_171 : decode cX6_asking 171 = .ok (.aload_n 0, 1) := by decide +kernel
theorem dX6_asking_172 : decode cX6_asking 172 = .ok (.getfield 53, 3) := by decide +kernel
theorem dX6_asking_175 : decode cX6_asking 175 = .ok (.aload_n 0, 1) := by decide +kernel
theorem dX6_asking_176 : decode cX6_asking 176 = .ok (.getfield 62, 3) := by decide +kernel
theorem dX6_asking_179 : decode cX6_asking 179 = .ok (.iload_n 3, 1) := by decide +kernel
theorem dX6_asking_180 : decode cX6_asking 180 = .ok (.iaload, 1) := by decide +kernel
theorem dX6_asking_181 : decode cX6_asking 181 = .ok (.iconst 4, 1) := by decide +kernel
theorem dX6_asking_182 : decode cX6_asking 182 = .ok (.imul, 1) := by decide +kernel
theorem dX6_asking_183 : decode cX6_asking 183 = .ok (.iaload, 1) := by decide +kernel
theorem dX6_asking_184 : decode cX6_asking 184 = .ok (.iastore, 1) := by decide +kernel
theorem dX6_asking_185 : decode cX6_asking 185 = .ok (.aload_n 0, 1) := by decide +kernel
theorem dX6_asking_186 : decode cX6_asking 186 = .ok (.getfield 65, 3) := by decide +kernel
theorem dX6_asking_189 : decode cX6_asking 189 = .ok (.iload_n 3, 1) := by decide +kernel
theorem dX6_asking_190 : decode cX6_asking 190 = .ok (.aload_n 0, 1) := by decide +kernel
theorem dX6_asking_191 : decode cX6_asking 191 = .ok (.getfield 47, 3) := by decide +kernel
theorem dX6_asking_194 : decode cX6_asking 194 = .ok (.aload_n 0, 1) := by decide +kernel
theorem dX6_asking_195 : decode cX6_asking 195 = .ok (.getfield 62, 3) := by decide +kernel
theorem dX6_asking_198 : decode cX6_asking 198 = .ok (.iload_n 3, 1) := by decide +kernel
theorem dX6_asking_199 : decode cX6_asking 199 = .ok (.iaload, 1) := by decide +kernel
theorem dX6_asking_200 : decode cX6_asking 200 = .ok (.iaload, 1) := by decide +kernel
theorem dX6_asking_201 : decode cX6_asking 201 = .ok (.iastore, 1) := by decide +kernel
theorem dX6_asking_202 : decode cX6_asking 202 = .ok (.aload_n 0, 1) := by decide +kernel
theorem dX6_asking_203 : decode cX6_asking 203 = .ok (.getfield 68, 3) := by decide +kernel
theorem dX6_asking_206 : decode cX6_asking 206 = .ok (.iload_n 3, 1) := by decide +kernel
theorem dX6_asking_207 : decode cX6_asking 207 = .ok (.aload_n 0, 1) := by decide +kernel
theorem dX6_asking_208 : decode cX6_asking 208 = .ok (.dup, 1) := by decide +kernel
theorem dX6_asking_209 : decode cX6_asking 209 = .ok (.getfield 135, 3) := by decide +kernel
theorem dX6_asking_212 : decode cX6_asking 212 = .ok (.dup_x1, 1) := by decide +kernel
theorem dX6_asking_213 : decode cX6_asking 213 = .ok (.iconst 1, 1) := by decide +kernel
theorem dX6_asking_214 : decode cX6_asking 214 = .ok (.iadd, 1) := by decide +kernel
theorem dX6_asking_215 : decode cX6_asking 215 = .ok (.putfield 135, 3) := by decide +kernel
theorem dX6_asking_218 : decode cX6_asking 218 = .ok (.iastore, 1) := by decide +kernel
theorem dX6_asking_219 : decode cX6_asking 219 = .ok (.goto 72, 3) := by decide +kernel
theorem dX6_asking_222 : decode cX6_asking 222 = .ok (.iload_n 2, 1) := by decide +kernel
theorem dX6_asking_223 : decode cX6_asking 223 = .ok (.iconst 1, 1) := by decide +kernel
theorem dX6_asking_224 : decode cX6_asking 224 = .ok (.if_icmp .ne 11, 3) := by decide +kernel
theorem dX6_asking_227 : decode cX6_asking 227 = .ok (.aload_n 0, 1) := by decide +kernel
theorem dX6_asking_228 : decode cX6_asking 228 = .ok (.iload_n 3, 1) := by decide +kernel
theorem dX6_asking_229 : decode cX6_asking 229 = .ok (.invokevirtual 138, 3) := by decide +kernel
theorem dX6_asking_232 : decode cX6_asking 232 = .ok (.goto 59, 3) := by decide +kernel
theorem dX6_asking_235 : decode cX6_asking 235 = .ok (.iload_n 2, 1) := by decide +kernel
theorem dX6_asking_236 : decode cX6_asking 236 = .ok (.iconst 1, 1) := by decide +kernel
theorem dX6_asking_237 : decode cX6_asking 237 = .ok (.if_icmp .le 54, 3) := by decide +kernel
theorem dX6_asking_240 : decode cX6_asking 240 = .ok (.aload_n 0, 1) := by decide +kernel
theorem dX6_asking_241 : decode cX6_asking 241 = .ok (.dup, 1) := by decide +kernel
theorem dX6_asking_242 : decode cX6_asking 242 = .ok (.getfield 141, 3) := by decide +kernel
theorem dX6_asking_245 : decode cX6_asking 245 = .ok (.iconst 1, 1) := by decide +kernel
theorem dX6_asking_246 : decode cX6_asking 246 = .ok (.iadd, 1) := by decide +kernel
theorem dX6_asking_247 : decode cX6_asking 247 = .ok (.putfield 141, 3) := by decide +kernel
theorem dX6_asking_250 : decode cX6_asking 250 = .ok (.iconst 0, 1) := by decide +kernel
theorem dX6_asking_251 : decode cX6_asking 251 = .ok (.istore 4, 2) := by decide +kernel
theorem dX6_asking_253 : decode cX6_asking 253 = .ok (.iload 4, 2) := by decide +kernel
theorem dX6_asking_255 : decode cX6_asking 255 = .ok (.bipush 6, 2) := by decide +kernel
theorem dX6_asking_257 : decode cX6_asking 257 = .ok (.if_icmp .ge 34, 3) := by decide +kernel
theorem dX6_asking_260 : decode cX6_asking 260 = .ok (.aload_n 0, 1) := by decide +kernel
theorem dX6_asking_261 : decode cX6_asking 261 = .ok (.getfield 71, 3) := by decide +kernel
theorem dX6_asking_264 : decode cX6_asking 264 = .ok (.iload 4, 2) := by decide +kernel
theorem dX6_asking_266 : decode cX6_asking 266 = .ok (.iaload, 1) := by decide +kernel
theorem dX6_asking_267 : decode cX6_asking 267 = .ok (.iload_n 1, 1) := by decide +kernel
theorem dX6_asking_268 : decode cX6_asking 268 = .ok (.if_icmp .ne 17, 3) := by decide +kernel
theorem dX6_asking_271 : decode cX6_asking 271 = .ok (.aload_n 0, 1) := by decide +kernel
theorem dX6_asking_272 : decode cX6_asking 272 = .ok (.getfield 41, 3) := by decide +kernel
theorem dX6_asking_275 : decode cX6_asking 275 = .ok (.iload 4, 2) := by decide +kernel
theorem dX6_asking_277 : decode cX6_asking 277 = .ok (.aload_n 0, 1) := by decide +kernel
theorem dX6_asking_278 : decode cX6_asking 278 = .ok (.iload 4, 2) := by decide +kernel
theorem dX6_asking_280 : decode cX6_asking 280 = .ok (.iconst 4, 1) := by decide +kernel
theorem dX6_asking_281 : decode cX6_asking 281 = .ok (.invokevirtual 127, 3) := by decide +kernel
theorem dX6_asking_284 : decode cX6_asking 284 = .ok (.iastore, 1) := by decide +kernel
theorem dX6_asking_285 : decode cX6_asking 285 = .ok (.iinc 4 1, 3) := by decide +kernel
theorem dX6_asking_288 : decode cX6_asking 288 = .ok (.goto (-35), 3) := by decide +kernel
theorem dX6_asking_291 : decode cX6_asking 291 = .ok (.iinc 1 1, 3) := by decide +kernel
theorem dX6_asking_294 : decode cX6_asking 294 = .ok (.goto (-194), 3) := by decide +kernel
theorem dX6_asking_297 : decode cX6_asking 297 = .ok (.return_, 1) := by decide +kernel
abbrev cX6_wanted : ByteArray := prog_11_method_17_code
def yX6_wanted : MethodName := ⟨RX6, "wanted", "(I)I"⟩
theorem dX6_wanted_0 : decode cX6_wanted 0 = .ok (.iconst 2, 1) := by decide +kernel
theorem dX6_wanted_1 : decode cX6_wanted 1 = .ok (.iload_n 1, 1) := by decide +kernel
theorem dX6_wanted_2 : decode cX6_wanted 2 = .ok (.imul, 1) := by decide +kernel
theorem dX6_wanted_3 : decode cX6_wanted 3 = .ok (.istore_n 2, 1) := by decide +kernel
theorem dX6_wanted_4 : decode cX6_wanted 4 = .ok (.iload_n 2, 1) := by decide +kernel
theorem dX6_wanted_5 : decode cX6_wanted 5 = .ok (.iconst 2, 1) := by decide +kernel
theorem dX6_wanted_6 : decode cX6_wanted 6 = .ok (.iload_n 1, 1) := by decide +kernel
theorem dX6_wanted_7 : decode cX6_wanted 7 = .ok (.imul, 1) := by decide +kernel
theorem dX6_wanted_8 : decode cX6_wanted 8 = .ok (.iconst 2, 1) := by decide +kernel
theorem dX6_wanted_9 : decode cX6_wanted 9 = .ok (.iadd, 1) := by decide +kernel
theorem dX6_wanted_10 : decode cX6_wanted 10 = .ok (.if_icmp .ge 39, 3) := by decide +kernel
theorem dX6_wanted_13 : decode cX6_wanted 13 = .ok (.aload_n 0, 1) := by decide +kernel
theorem dX6_wanted_14 : decode cX6_wanted 14 = .ok (.getfield 50, 3) := by decide +kernel
theorem dX6_wanted_17 : decode cX6_wanted 17 = .ok (.iload_n 2, 1) := by decide +kernel
theorem dX6_wanted_18 : decode cX6_wanted 18 = .ok (.iaload, 1) := by decide +kernel
theorem dX6_wanted_19 : decode cX6_wanted 19 = .ok (.ifCond .le 24, 3) := by decide +kernel
theorem dX6_wanted_22 : decode cX6_wanted 22 = .ok (.aload_n 0, 1) := by decide +kernel
theorem dX6_wanted_23 : decode cX6_wanted 23 = .ok (.getfield 25, 3) := by decide +kernel
theorem dX6_wanted_26 : decode cX6_wanted 26 = .ok (.iload_n 2, 1) := by decide +kernel
theorem dX6_wanted_27 : decode cX6_wanted 27 = .ok (.daload, 1) := by decide +kernel
theorem dX6_wanted_28 : decode cX6_wanted 28 = .ok (.aload_n 0, 1) := by decide +kernel
theorem dX6_wanted_29 : decode cX6_wanted 29 = .ok (.getfield 53, 3) := by decide +kernel
theorem dX6_wanted_32 : decode cX6_wanted 32 = .ok (.iload_n 2, 1) := by decide +kernel
theorem dX6_wanted_33 : decode cX6_wanted 33 = .ok (.iconst 4, 1) := by decide +kernel
theorem dX6_wanted_34 : decode cX6_wanted 34 = .ok (.imul, 1) := by decide +kernel
theorem dX6_wanted_35 : decode cX6_wanted 35 = .ok (.iaload, 1) := by decide +kernel
theorem dX6_wanted_36 : decode cX6_wanted 36 = .ok (.i2d, 1) := by decide +kernel
theorem dX6_wanted_37 : decode cX6_wanted 37 = .ok (.dcmp .l, 1) := by decide +kernel
theorem dX6_wanted_38 : decode cX6_wanted 38 = .ok (.ifCond .lt 5, 3) := by decide +kernel
theorem dX6_wanted_41 : decode cX6_wanted 41 = .ok (.iload_n 2, 1) := by decide +kernel
theorem dX6_wanted_42 : decode cX6_wanted 42 = .ok (.ireturn, 1) := by decide +kernel
theorem dX6_wanted_43 : decode cX6_wanted 43 = .ok (.iinc 2 1, 3) := by decide +kernel
theorem dX6_wanted_46 : decode cX6_wanted 46 = .ok (.goto (-42), 3) := by decide +kernel
theorem dX6_wanted_49 : decode cX6_wanted 49 = .ok (.iconst (-1), 1) := by decide +kernel
theorem dX6_wanted_50 : decode cX6_wanted 50 = .ok (.ireturn, 1) := by decide +kernel
abbrev cX6_missed : ByteArray := prog_11_method_14_code
def yX6_missed : MethodName := ⟨RX6, "missed", "(I)V"⟩
theorem dX6_missed_0 : decode cX6_missed 0 = .ok (.aload_n 0, 1) := by decide +kernel
theorem dX6_missed_1 : decode cX6_missed 1 = .ok (.dup, 1) := by decide +kernel
theorem dX6_missed_2 : decode cX6_missed 2 = .ok (.getfield 109, 3) := by decide +kernel
theorem dX6_missed_5 : decode cX6_missed 5 = .ok (.iconst 1, 1) := by decide +kernel
theorem dX6_missed_6 : decode cX6_missed 6 = .ok (.iadd, 1) := by decide +kernel
theorem dX6_missed_7 : decode cX6_missed 7 = .ok (.putfield 109, 3) := by decide +kernel
theorem dX6_missed_10 : decode cX6_missed 10 = .ok (.aload_n 0, 1) := by decide +kernel
theorem dX6_missed_11 : decode cX6_missed 11 = .ok (.getfield 44, 3) := by decide +kernel
theorem dX6_missed_14 : decode cX6_missed 14 = .ok (.iload_n 1, 1) := by decide +kernel
theorem dX6_missed_15 : decode cX6_missed 15 = .ok (.dup2, 1) := by decide +kernel
theorem dX6_missed_16 : decode cX6_missed 16 = .ok (.iaload, 1) := by decide +kernel
theorem dX6_missed_17 : decode cX6_missed 17 = .ok (.iconst 1, 1) := by decide +kernel
theorem dX6_missed_18 : decode cX6_missed 18 = .ok (.iadd, 1) := by decide +kernel
theorem dX6_missed_19 : decode cX6_missed 19 = .ok (.iastore, 1) := by decide +kernel
theorem dX6_missed_20 : decode cX6_missed 20 = .ok (.aload_n 0, 1) := by decide +kernel
theorem dX6_missed_21 : decode cX6_missed 21 = .ok (.getfield 44, 3) := by decide +kernel
theorem dX6_missed_24 : decode cX6_missed 24 = .ok (.iload_n 1, 1) := by decide +kernel
theorem dX6_missed_25 : decode cX6_missed 25 = .ok (.iaload, 1) := by decide +kernel
theorem dX6_missed_26 : decode cX6_missed 26 = .ok (.iconst 3, 1) := by decide +kernel
theorem dX6_missed_27 : decode cX6_missed 27 = .ok (.if_icmp .ne 8, 3) := by decide +kernel
theorem dX6_missed_30 : decode cX6_missed 30 = .ok (.aload_n 0, 1) := by decide +kernel
theorem dX6_missed_31 : decode cX6_missed 31 = .ok (.iload_n 1, 1) := by decide +kernel
theorem dX6_missed_32 : decode cX6_missed 32 = .ok (.invokevirtual 87, 3) := by decide +kernel
theorem dX6_missed_35 : decode cX6_missed 35 = .ok (.return_, 1) := by decide +kernel
abbrev cX6_granting : ByteArray := prog_11_method_23_code
def yX6_granting : MethodName := ⟨RX6, "granting", "()V"⟩
theorem dX6_granting_0 : decode cX6_granting 0 = .ok (.iconst 5, 1) := by decide +kernel
theorem dX6_granting_1 : decode cX6_granting 1 = .ok (.istore_n 1, 1) := by decide +kernel
theorem dX6_granting_2 : decode cX6_granting 2 = .ok (.iconst 0, 1) := by decide +kernel
theorem dX6_granting_3 : decode cX6_granting 3 = .ok (.istore_n 2, 1) := by decide +kernel
theorem dX6_granting_4 : decode cX6_granting 4 = .ok (.aload_n 0, 1) := by decide +kernel
theorem dX6_granting_5 : decode cX6_granting 5 = .ok (.invokevirtual 156, 3) := by decide +kernel
theorem dX6_granting_8 : decode cX6_granting 8 = .ok (.istore_n 3, 1) := by decide +kernel
theorem dX6_granting_9 : decode cX6_granting 9 = .ok (.iconst 0, 1) := by decide +kernel
theorem dX6_granting_10 : decode cX6_granting 10 = .ok (.istore 4, 2) := by decide +kernel
theorem dX6_granting_12 : decode cX6_granting 12 = .ok (.iload 4, 2) := by decide +kernel
theorem dX6_granting_14 : decode cX6_granting 14 = .ok (.iload_n 3, 1) := by decide +kernel
theorem dX6_granting_15 : decode cX6_granting 15 = .ok (.if_icmp .ge 22, 3) := by decide +kernel
theorem dX6_granting_18 : decode cX6_granting 18 = .ok (.aload_n 0, 1) := by decide +kernel
theorem dX6_granting_19 : decode cX6_granting 19 = .ok (.getfield 71, 3) := by decide +kernel
theorem dX6_granting_22 : decode cX6_granting 22 = .ok (.iload 4, 2) := by decide +kernel
theorem dX6_granting_24 : decode cX6_granting 24 = .ok (.aload_n 0, 1) := by decide +kernel
theorem dX6_granting_25 : decode cX6_granting 25 = .ok (.iload 4, 2) := by decide +kernel
theorem dX6_granting_27 : decode cX6_granting 27 = .ok (.invokevirtual 160, 3) := by decide +kernel
theorem dX6_granting_30 : decode cX6_granting 30 = .ok (.iastore, 1) := by decide +kernel
theorem dX6_granting_31 : decode cX6_granting 31 = .ok (.iinc 4 1, 3) := by decide +kernel
theorem dX6_granting_34 : decode cX6_granting 34 = .ok (.goto (-22), 3) := by decide +kernel
theorem dX6_granting_37 : decode cX6_granting 37 = .ok (.iconst 0, 1) := by decide +kernel
theorem dX6_granting_38 : decode cX6_granting 38 = .ok (.istore 4, 2) := by decide +kernel
theorem dX6_granting_40 : decode cX6_granting 40 = .ok (.iload 4, 2) := by decide +kernel
theorem dX6_granting_42 : decode cX6_granting 42 = .ok (.iload_n 3, 1) := by decide +kernel
theorem dX6_granting_43 : decode cX6_granting 43 = .ok (.if_icmp .ge 87, 3) := by decide +kernel
theorem dX6_granting_46 : decode cX6_granting 46 = .ok (.iload_n 1, 1) := by decide +kernel
theorem dX6_granting_47 : decode cX6_granting 47 = .ok (.ifCond .le 83, 3) := by decide +kernel
theorem dX6_granting_50 : decode cX6_granting 50 = .ok (.aload_n 0, 1) := by decide +kernel
theorem dX6_granting_51 : decode cX6_granting 51 = .ok (.getfield 71, 3) := by decide +kernel
theorem dX6_granting_54 : decode cX6_granting 54 = .ok (.iload 4, 2) := by decide +kernel
theorem dX6_granting_56 : decode cX6_granting 56 = .ok (.iaload, 1) := by decide +kernel
theorem dX6_granting_57 : decode cX6_granting 57 = .ok (.istore 5, 2) := by decide +kernel
theorem dX6_granting_59 : decode cX6_granting 59 = .ok (.aload_n 0, 1) := by decide +kernel
theorem dX6_granting_60 : decode cX6_granting 60 = .ok (.getfield 59, 3) := by decide +kernel
theorem dX6_granting_63 : decode cX6_granting 63 = .ok (.iload 5, 2) := by decide +kernel
theorem dX6_granting_65 : decode cX6_granting 65 = .ok (.iaload, 1) := by decide +kernel
theorem dX6_granting_66 : decode cX6_granting 66 = .ok (.iload_n 1, 1) := by decide +kernel
theorem dX6_granting_67 : decode cX6_granting 67 = .ok (.if_icmp .ge 13, 3) := by decide +kernel
theorem dX6_granting_70 : decode cX6_granting 70 = .ok (.aload_n 0, 1) := by decide +kernel
theorem dX6_granting_71 : decode cX6_granting 71 = .ok (.getfield 59, 3) := by decide +kernel
theorem dX6_granting_74 : decode cX6_granting 74 = .ok (.iload 5, 2) := by decide +kernel
theorem dX6_granting_76 : decode cX6_granting 76 = .ok (.iaload, 1) := by decide +kernel
theorem dX6_granting_77 : decode cX6_granting 77 = .ok (.goto 4, 3) := by decide +kernel
theorem dX6_granting_80 : decode cX6_granting 80 = .ok (.iload_n 1, 1) := by decide +kernel
theorem dX6_granting_81 : decode cX6_granting 81 = .ok (.istore 6, 2) := by decide +kernel
theorem dX6_granting_83 : decode cX6_granting 83 = .ok (.aload_n 0, 1) := by decide +kernel
theorem dX6_granting_84 : decode cX6_granting 84 = .ok (.getfield 59, 3) := by decide +kernel
theorem dX6_granting_87 : decode cX6_granting 87 = .ok (.iload 5, 2) := by decide +kernel
theorem dX6_granting_89 : decode cX6_granting 89 = .ok (.dup2, 1) := by decide +kernel
theorem dX6_granting_90 : decode cX6_granting 90 = .ok (.iaload, 1) := by decide +kernel
theorem dX6_granting_91 : decode cX6_granting 91 = .ok (.iload 6, 2) := by decide +kernel
theorem dX6_granting_93 : decode cX6_granting 93 = .ok (.isub, 1) := by decide +kernel
theorem dX6_granting_94 : decode cX6_granting 94 = .ok (.iastore, 1) := by decide +kernel
theorem dX6_granting_95 : decode cX6_granting 95 = .ok (.iload_n 1, 1) := by decide +kernel
theorem dX6_granting_96 : decode cX6_granting 96 = .ok (.iload 6, 2) := by decide +kernel
theorem dX6_granting_98 : decode cX6_granting 98 = .ok (.isub, 1) := by decide +kernel
theorem dX6_granting_99 : decode cX6_granting 99 = .ok (.istore_n 1, 1) := by decide +kernel
theorem dX6_granting_100 : decode cX6_granting 100 = .ok (.aload_n 0, 1) := by decide +kernel
theorem dX6_granting_101 : decode cX6_granting 101 = .ok (.dup, 1) := by decide +kernel
theorem dX6_granting_102 : decode cX6_granting 102 = .ok (.getfield 163, 3) := by decide +kernel
theorem dX6_granting_105 : decode cX6_granting 105 = .ok (.iload 6, 2) := by decide +kernel
theorem dX6_granting_107 : decode cX6_granting 107 = .ok (.iadd, 1) := by decide +kernel
theorem dX6_granting_108 : decode cX6_granting 108 = .ok (.putfield 163, 3) := by decide +kernel
theorem dX6_granting_111 : decode cX6_granting 111 = .ok (.aload_n 0, 1) := by decide +kernel
theorem dX6_granting_112 : decode cX6_granting 112 = .ok (.getfield 59, 3) := by decide +kernel
theorem dX6_granting_115 : decode cX6_granting 115 = .ok (.iload 5, 2) := by decide +kernel
theorem dX6_granting_117 : decode cX6_granting 117 = .ok (.iaload, 1) := by decide +kernel
theorem dX6_granting_118 : decode cX6_granting 118 = .ok (.ifCond .ne 6, 3) := by decide +kernel
theorem dX6_granting_121 : decode cX6_granting 121 = .ok (.iinc 2 1, 3) := by decide +kernel
theorem dX6_granting_124 : decode cX6_granting 124 = .ok (.iinc 4 1, 3) := by decide +kernel
theorem dX6_granting_127 : decode cX6_granting 127 = .ok (.goto (-87), 3) := by decide +kernel
theorem dX6_granting_130 : decode cX6_granting 130 = .ok (.iconst 0, 1) := by decide +kernel
theorem dX6_granting_131 : decode cX6_granting 131 = .ok (.istore 4, 2) := by decide +kernel
theorem dX6_granting_133 : decode cX6_granting 133 = .ok (.iload 4, 2) := by decide +kernel
theorem dX6_granting_135 : decode cX6_granting 135 = .ok (.iload_n 2, 1) := by decide +kernel
theorem dX6_granting_136 : decode cX6_granting 136 = .ok (.if_icmp .ge 20, 3) := by decide +kernel
theorem dX6_granting_139 : decode cX6_granting 139 = .ok (.aload_n 0, 1) := by decide +kernel
theorem dX6_granting_140 : decode cX6_granting 140 = .ok (.aload_n 0, 1) := by decide +kernel
theorem dX6_granting_141 : decode cX6_granting 141 = .ok (.getfield 71, 3) := by decide +kernel
theorem dX6_granting_144 : decode cX6_granting 144 = .ok (.iload 4, 2) := by decide +kernel
theorem dX6_granting_146 : decode cX6_granting 146 = .ok (.iaload, 1) := by decide +kernel
theorem dX6_granting_147 : decode cX6_granting 147 = .ok (.invokevirtual 166, 3) := by decide +kernel
theorem dX6_granting_150 : decode cX6_granting 150 = .ok (.iinc 4 1, 3) := by decide +kernel
theorem dX6_granting_153 : decode cX6_granting 153 = .ok (.goto (-20), 3) := by decide +kernel
theorem dX6_granting_156 : decode cX6_granting 156 = .ok (.return_, 1) := by decide +kernel
