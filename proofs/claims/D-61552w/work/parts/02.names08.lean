set_option maxRecDepth 100000
abbrev cX6_told : ByteArray := prog_11_method_28_code
def yX6_told : MethodName := ⟨RX6, "told", "(II)I"⟩
theorem dX6_told_0 : decode cX6_told 0 = .ok (.aload_n 0, 1) := by decide +kernel
theorem dX6_told_1 : decode cX6_told 1 = .ok (.aload_n 0, 1) := by decide +kernel
theorem dX6_told_2 : decode cX6_told 2 = .ok (.iload_n 1, 1) := by decide +kernel
theorem dX6_told_3 : decode cX6_told 3 = .ok (.iconst 5, 1) := by decide +kernel
theorem dX6_told_4 : decode cX6_told 4 = .ok (.invokevirtual 81, 3) := by decide +kernel
theorem dX6_told_7 : decode cX6_told 7 = .ok (.ifCond .ne 13, 3) := by decide +kernel
theorem dX6_told_10 : decode cX6_told 10 = .ok (.aload_n 0, 1) := by decide +kernel
theorem dX6_told_11 : decode cX6_told 11 = .ok (.iload_n 2, 1) := by decide +kernel
theorem dX6_told_12 : decode cX6_told 12 = .ok (.bipush 9, 2) := by decide +kernel
theorem dX6_told_14 : decode cX6_told 14 = .ok (.invokevirtual 81, 3) := by decide +kernel
theorem dX6_told_17 : decode cX6_told 17 = .ok (.ifCond .eq 7, 3) := by decide +kernel
theorem dX6_told_20 : decode cX6_told 20 = .ok (.iconst 1, 1) := by decide +kernel
theorem dX6_told_21 : decode cX6_told 21 = .ok (.goto 4, 3) := by decide +kernel
theorem dX6_told_24 : decode cX6_told 24 = .ok (.iconst 0, 1) := by decide +kernel
theorem dX6_told_25 : decode cX6_told 25 = .ok (.putfield 77, 3) := by decide +kernel
theorem dX6_told_28 : decode cX6_told 28 = .ok (.aload_n 0, 1) := by decide +kernel
theorem dX6_told_29 : decode cX6_told 29 = .ok (.getfield 77, 3) := by decide +kernel
theorem dX6_told_32 : decode cX6_told 32 = .ok (.ifCond .eq 5, 3) := by decide +kernel
theorem dX6_told_35 : decode cX6_told 35 = .ok (.iconst 0, 1) := by decide +kernel
theorem dX6_told_36 : decode cX6_told 36 = .ok (.ireturn, 1) := by decide +kernel
theorem dX6_told_37 : decode cX6_told 37 = .ok (.iload_n 2, 1) := by decide +kernel
theorem dX6_told_38 : decode cX6_told 38 = .ok (.tableswitch 162 0 8 #[50, 57, 71, 92, 113, 120, 141, 141, 155], 50) := by decide +kernel
theorem dX6_told_88 : decode cX6_told 88 = .ok (.aload_n 0, 1) := by decide +kernel
theorem dX6_told_89 : decode cX6_told 89 = .ok (.getfield 28, 3) := by decide +kernel
theorem dX6_told_92 : decode cX6_told 92 = .ok (.iload_n 1, 1) := by decide +kernel
theorem dX6_told_93 : decode cX6_told 93 = .ok (.iaload, 1) := by decide +kernel
theorem dX6_told_94 : decode cX6_told 94 = .ok (.ireturn, 1) := by decide +kernel
theorem dX6_told_95 : decode cX6_told 95 = .ok (.aload_n 0, 1) := by decide +kernel
theorem dX6_told_96 : decode cX6_told 96 = .ok (.iload_n 1, 1) := by decide +kernel
theorem dX6_told_97 : decode cX6_told 97 = .ok (.invokevirtual 112, 3) := by decide +kernel
theorem dX6_told_100 : decode cX6_told 100 = .ok (.ifCond .eq 7, 3) := by decide +kernel
theorem dX6_told_103 : decode cX6_told 103 = .ok (.iconst 1, 1) := by decide +kernel
theorem dX6_told_104 : decode cX6_told 104 = .ok (.goto 4, 3) := by decide +kernel
theorem dX6_told_107 : decode cX6_told 107 = .ok (.iconst 0, 1) := by decide +kernel
theorem dX6_told_108 : decode cX6_told 108 = .ok (.ireturn, 1) := by decide +kernel
theorem dX6_told_109 : decode cX6_told 109 = .ok (.aload_n 0, 1) := by decide +kernel
theorem dX6_told_110 : decode cX6_told 110 = .ok (.getfield 28, 3) := by decide +kernel
theorem dX6_told_113 : decode cX6_told 113 = .ok (.iload_n 1, 1) := by decide +kernel
theorem dX6_told_114 : decode cX6_told 114 = .ok (.iaload, 1) := by decide +kernel
theorem dX6_told_115 : decode cX6_told 115 = .ok (.iconst 1, 1) := by decide +kernel
theorem dX6_told_116 : decode cX6_told 116 = .ok (.if_icmp .ne 12, 3) := by decide +kernel
theorem dX6_told_119 : decode cX6_told 119 = .ok (.aload_n 0, 1) := by decide +kernel
theorem dX6_told_120 : decode cX6_told 120 = .ok (.getfield 38, 3) := by decide +kernel
theorem dX6_told_123 : decode cX6_told 123 = .ok (.iload_n 1, 1) := by decide +kernel
theorem dX6_told_124 : decode cX6_told 124 = .ok (.iaload, 1) := by decide +kernel
theorem dX6_told_125 : decode cX6_told 125 = .ok (.goto 4, 3) := by decide +kernel
theorem dX6_told_128 : decode cX6_told 128 = .ok (.iconst 0, 1) := by decide +kernel
theorem dX6_told_129 : decode cX6_told 129 = .ok (.ireturn, 1) := by decide +kernel
theorem dX6_told_130 : decode cX6_told 130 = .ok (.aload_n 0, 1) := by decide +kernel
theorem dX6_told_131 : decode cX6_told 131 = .ok (.getfield 28, 3) := by decide +kernel
theorem dX6_told_134 : decode cX6_told 134 = .ok (.iload_n 1, 1) := by decide +kernel
theorem dX6_told_135 : decode cX6_told 135 = .ok (.iaload, 1) := by decide +kernel
theorem dX6_told_136 : decode cX6_told 136 = .ok (.iconst 2, 1) := by decide +kernel
theorem dX6_told_137 : decode cX6_told 137 = .ok (.if_icmp .ne 12, 3) := by decide +kernel
theorem dX6_told_140 : decode cX6_told 140 = .ok (.aload_n 0, 1) := by decide +kernel
theorem dX6_told_141 : decode cX6_told 141 = .ok (.getfield 41, 3) := by decide +kernel
theorem dX6_told_144 : decode cX6_told 144 = .ok (.iload_n 1, 1) := by decide +kernel
theorem dX6_told_145 : decode cX6_told 145 = .ok (.iaload, 1) := by decide +kernel
theorem dX6_told_146 : decode cX6_told 146 = .ok (.goto 4, 3) := by decide +kernel
theorem dX6_told_149 : decode cX6_told 149 = .ok (.iconst 0, 1) := by decide +kernel
theorem dX6_told_150 : decode cX6_told 150 = .ok (.ireturn, 1) := by decide +kernel
theorem dX6_told_151 : decode cX6_told 151 = .ok (.aload_n 0, 1) := by decide +kernel
theorem dX6_told_152 : decode cX6_told 152 = .ok (.getfield 59, 3) := by decide +kernel
theorem dX6_told_155 : decode cX6_told 155 = .ok (.iload_n 1, 1) := by decide +kernel
theorem dX6_told_156 : decode cX6_told 156 = .ok (.iaload, 1) := by decide +kernel
theorem dX6_told_157 : decode cX6_told 157 = .ok (.ireturn, 1) := by decide +kernel
theorem dX6_told_158 : decode cX6_told 158 = .ok (.aload_n 0, 1) := by decide +kernel
theorem dX6_told_159 : decode cX6_told 159 = .ok (.getfield 28, 3) := by decide +kernel
theorem dX6_told_162 : decode cX6_told 162 = .ok (.iload_n 1, 1) := by decide +kernel
theorem dX6_told_163 : decode cX6_told 163 = .ok (.iaload, 1) := by decide +kernel
theorem dX6_told_164 : decode cX6_told 164 = .ok (.iconst 2, 1) := by decide +kernel
theorem dX6_told_165 : decode cX6_told 165 = .ok (.if_icmp .ne 12, 3) := by decide +kernel
theorem dX6_told_168 : decode cX6_told 168 = .ok (.aload_n 0, 1) := by decide +kernel
theorem dX6_told_169 : decode cX6_told 169 = .ok (.getfield 44, 3) := by decide +kernel
theorem dX6_told_172 : decode cX6_told 172 = .ok (.iload_n 1, 1) := by decide +kernel
theorem dX6_told_173 : decode cX6_told 173 = .ok (.iaload, 1) := by decide +kernel
theorem dX6_told_174 : decode cX6_told 174 = .ok (.goto 4, 3) := by decide +kernel
theorem dX6_told_177 : decode cX6_told 177 = .ok (.iconst 0, 1) := by decide +kernel
theorem dX6_told_178 : decode cX6_told 178 = .ok (.ireturn, 1) := by decide +kernel
theorem dX6_told_179 : decode cX6_told 179 = .ok (.aload_n 0, 1) := by decide +kernel
theorem dX6_told_180 : decode cX6_told 180 = .ok (.getfield 50, 3) := by decide +kernel
theorem dX6_told_183 : decode cX6_told 183 = .ok (.iconst 2, 1) := by decide +kernel
theorem dX6_told_184 : decode cX6_told 184 = .ok (.iload_n 1, 1) := by decide +kernel
theorem dX6_told_185 : decode cX6_told 185 = .ok (.imul, 1) := by decide +kernel
theorem dX6_told_186 : decode cX6_told 186 = .ok (.iload_n 2, 1) := by decide +kernel
theorem dX6_told_187 : decode cX6_told 187 = .ok (.iadd, 1) := by decide +kernel
theorem dX6_told_188 : decode cX6_told 188 = .ok (.bipush 6, 2) := by decide +kernel
theorem dX6_told_190 : decode cX6_told 190 = .ok (.isub, 1) := by decide +kernel
theorem dX6_told_191 : decode cX6_told 191 = .ok (.iaload, 1) := by decide +kernel
theorem dX6_told_192 : decode cX6_told 192 = .ok (.ireturn, 1) := by decide +kernel
theorem dX6_told_193 : decode cX6_told 193 = .ok (.aload_n 0, 1) := by decide +kernel
theorem dX6_told_194 : decode cX6_told 194 = .ok (.getfield 32, 3) := by decide +kernel
theorem dX6_told_197 : decode cX6_told 197 = .ok (.iload_n 1, 1) := by decide +kernel
theorem dX6_told_198 : decode cX6_told 198 = .ok (.iaload, 1) := by decide +kernel
theorem dX6_told_199 : decode cX6_told 199 = .ok (.ireturn, 1) := by decide +kernel
theorem dX6_told_200 : decode cX6_told 200 = .ok (.aload_n 0, 1) := by decide +kernel
theorem dX6_told_201 : decode cX6_told 201 = .ok (.getfield 35, 3) := by decide +kernel
theorem dX6_told_204 : decode cX6_told 204 = .ok (.iload_n 1, 1) := by decide +kernel
theorem dX6_told_205 : decode cX6_told 205 = .ok (.iaload, 1) := by decide +kernel
theorem dX6_told_206 : decode cX6_told 206 = .ok (.ireturn, 1) := by decide +kernel
abbrev cX6_count : ByteArray := prog_11_method_29_code
def yX6_count : MethodName := ⟨RX6, "count", "(I)I"⟩
theorem dX6_count_0 : decode cX6_count 0 = .ok (.aload_n 0, 1) := by decide +kernel
theorem dX6_count_1 : decode cX6_count 1 = .ok (.iconst 0, 1) := by decide +kernel
theorem dX6_count_2 : decode cX6_count 2 = .ok (.putfield 77, 3) := by decide +kernel
theorem dX6_count_5 : decode cX6_count 5 = .ok (.iload_n 1, 1) := by decide +kernel
theorem dX6_count_6 : decode cX6_count 6 = .ok (.tableswitch 95 0 8 #[50, 55, 60, 65, 70, 75, 80, 85, 90], 50) := by decide +kernel
theorem dX6_count_56 : decode cX6_count 56 = .ok (.aload_n 0, 1) := by decide +kernel
theorem dX6_count_57 : decode cX6_count 57 = .ok (.getfield 169, 3) := by decide +kernel
theorem dX6_count_60 : decode cX6_count 60 = .ok (.ireturn, 1) := by decide +kernel
theorem dX6_count_61 : decode cX6_count 61 = .ok (.aload_n 0, 1) := by decide +kernel
theorem dX6_count_62 : decode cX6_count 62 = .ok (.getfield 124, 3) := by decide +kernel
theorem dX6_count_65 : decode cX6_count 65 = .ok (.ireturn, 1) := by decide +kernel
theorem dX6_count_66 : decode cX6_count 66 = .ok (.aload_n 0, 1) := by decide +kernel
theorem dX6_count_67 : decode cX6_count 67 = .ok (.getfield 141, 3) := by decide +kernel
theorem dX6_count_70 : decode cX6_count 70 = .ok (.ireturn, 1) := by decide +kernel
theorem dX6_count_71 : decode cX6_count 71 = .ok (.aload_n 0, 1) := by decide +kernel
theorem dX6_count_72 : decode cX6_count 72 = .ok (.getfield 109, 3) := by decide +kernel
theorem dX6_count_75 : decode cX6_count 75 = .ok (.ireturn, 1) := by decide +kernel
theorem dX6_count_76 : decode cX6_count 76 = .ok (.aload_n 0, 1) := by decide +kernel
theorem dX6_count_77 : decode cX6_count 77 = .ok (.getfield 153, 3) := by decide +kernel
theorem dX6_count_80 : decode cX6_count 80 = .ok (.ireturn, 1) := by decide +kernel
theorem dX6_count_81 : decode cX6_count 81 = .ok (.aload_n 0, 1) := by decide +kernel
theorem dX6_count_82 : decode cX6_count 82 = .ok (.getfield 163, 3) := by decide +kernel
theorem dX6_count_85 : decode cX6_count 85 = .ok (.ireturn, 1) := by decide +kernel
theorem dX6_count_86 : decode cX6_count 86 = .ok (.aload_n 0, 1) := by decide +kernel
theorem dX6_count_87 : decode cX6_count 87 = .ok (.invokevirtual 156, 3) := by decide +kernel
theorem dX6_count_90 : decode cX6_count 90 = .ok (.ireturn, 1) := by decide +kernel
theorem dX6_count_91 : decode cX6_count 91 = .ok (.aload_n 0, 1) := by decide +kernel
theorem dX6_count_92 : decode cX6_count 92 = .ok (.getfield 147, 3) := by decide +kernel
theorem dX6_count_95 : decode cX6_count 95 = .ok (.ireturn, 1) := by decide +kernel
theorem dX6_count_96 : decode cX6_count 96 = .ok (.aload_n 0, 1) := by decide +kernel
theorem dX6_count_97 : decode cX6_count 97 = .ok (.getfield 150, 3) := by decide +kernel
theorem dX6_count_100 : decode cX6_count 100 = .ok (.ireturn, 1) := by decide +kernel
theorem dX6_count_101 : decode cX6_count 101 = .ok (.iload_n 1, 1) := by decide +kernel
theorem dX6_count_102 : decode cX6_count 102 = .ok (.bipush 10, 2) := by decide +kernel
theorem dX6_count_104 : decode cX6_count 104 = .ok (.if_icmp .lt 20, 3) := by decide +kernel
theorem dX6_count_107 : decode cX6_count 107 = .ok (.iload_n 1, 1) := by decide +kernel
theorem dX6_count_108 : decode cX6_count 108 = .ok (.bipush 15, 2) := by decide +kernel
theorem dX6_count_110 : decode cX6_count 110 = .ok (.if_icmp .gt 14, 3) := by decide +kernel
theorem dX6_count_113 : decode cX6_count 113 = .ok (.aload_n 0, 1) := by decide +kernel
theorem dX6_count_114 : decode cX6_count 114 = .ok (.iload_n 1, 1) := by decide +kernel
theorem dX6_count_115 : decode cX6_count 115 = .ok (.bipush 10, 2) := by decide +kernel
theorem dX6_count_117 : decode cX6_count 117 = .ok (.isub, 1) := by decide +kernel
theorem dX6_count_118 : decode cX6_count 118 = .ok (.invokevirtual 160, 3) := by decide +kernel
theorem dX6_count_121 : decode cX6_count 121 = .ok (.goto 5, 3) := by decide +kernel
theorem dX6_count_124 : decode cX6_count 124 = .ok (.bipush (-2), 2) := by decide +kernel
theorem dX6_count_126 : decode cX6_count 126 = .ok (.ireturn, 1) := by decide +kernel
theorem q61 : (Jvm.Cond.initialized "CablePlantModel") ∈ lw_all := lw_g (lw_at lw_m1 25 rfl) rfl
theorem q732 : (Jvm.Cond.selects "CablePlantModel" ({ cls := "java/lang/Object", name := "equals", desc := "(Ljava/lang/Object;)Z" } : Jvm.MethodName) ({ cls := "java/lang/Object", name := "equals", desc := "(Ljava/lang/Object;)Z" } : Jvm.MethodName)) ∈ lw_all := lw_g (lw_at lw_m3 216 rfl) rfl
theorem q843 : (Jvm.Cond.selects "CablePlantModel" ({ cls := "java/lang/Object", name := "getClass", desc := "()Ljava/lang/Class;" } : Jvm.MethodName) ({ cls := "java/lang/Object", name := "getClass", desc := "()Ljava/lang/Class;" } : Jvm.MethodName)) ∈ lw_all := lw_g (lw_at lw_m4 87 rfl) rfl
theorem q1027 : (Jvm.Cond.instantiable "CablePlantModel" (33 : Nat)) ∈ lw_all := lw_g (lw_at lw_m5 31 rfl) rfl
theorem q1029 : (Jvm.Cond.instanceMethod ({ cls := "CablePlantModel", name := "<init>", desc := "()V" } : Jvm.MethodName)) ∈ lw_all := lw_g (lw_at lw_m5 33 rfl) rfl
theorem q1030 : (Jvm.Cond.code ({ cls := "CablePlantModel", name := "<init>", desc := "()V" } : Jvm.MethodName) prog_11_method_1_code (2 : Nat) (Option.none : Option Jvm.ClassFile.FieldType)) ∈ lw_all := lw_g (lw_at lw_m5 34 rfl) rfl
theorem q1031 : (Jvm.Cond.methodLink "CablePlantModel" (1 : Nat) ({ cls := "java/lang/Object", name := "<init>", desc := "()V" } : Jvm.MethodName)) ∈ lw_all := lw_g (lw_at lw_m5 35 rfl) rfl
theorem q1032 : (Jvm.Cond.fieldLink "CablePlantModel" (7 : Nat) "CablePlantModel" "distance" "[D") ∈ lw_all := lw_g (lw_at lw_m5 36 rfl) rfl
theorem q1033 : (Jvm.Cond.fieldLink "CablePlantModel" (13 : Nat) "CablePlantModel" "loss" "[D") ∈ lw_all := lw_g (lw_at lw_m5 37 rfl) rfl
theorem q1034 : (Jvm.Cond.fieldLink "CablePlantModel" (16 : Nat) "CablePlantModel" "offset" "[D") ∈ lw_all := lw_g (lw_at lw_m5 38 rfl) rfl
theorem q1035 : (Jvm.Cond.fieldLink "CablePlantModel" (19 : Nat) "CablePlantModel" "gain" "[D") ∈ lw_all := lw_g (lw_at lw_m5 39 rfl) rfl
theorem q1036 : (Jvm.Cond.fieldLink "CablePlantModel" (22 : Nat) "CablePlantModel" "rate" "[D") ∈ lw_all := lw_g (lw_at lw_m5 40 rfl) rfl
theorem q1037 : (Jvm.Cond.fieldLink "CablePlantModel" (25 : Nat) "CablePlantModel" "credit" "[D") ∈ lw_all := lw_g (lw_at lw_m5 41 rfl) rfl
theorem q1038 : (Jvm.Cond.fieldLink "CablePlantModel" (28 : Nat) "CablePlantModel" "state" "[I") ∈ lw_all := lw_g (lw_at lw_m5 42 rfl) rfl
theorem q1039 : (Jvm.Cond.fieldLink "CablePlantModel" (32 : Nat) "CablePlantModel" "chance" "[I") ∈ lw_all := lw_g (lw_at lw_m5 43 rfl) rfl
theorem q1040 : (Jvm.Cond.fieldLink "CablePlantModel" (35 : Nat) "CablePlantModel" "key" "[I") ∈ lw_all := lw_g (lw_at lw_m5 44 rfl) rfl
theorem q1041 : (Jvm.Cond.fieldLink "CablePlantModel" (38 : Nat) "CablePlantModel" "hold" "[I") ∈ lw_all := lw_g (lw_at lw_m5 45 rfl) rfl
theorem q1042 : (Jvm.Cond.fieldLink "CablePlantModel" (41 : Nat) "CablePlantModel" "wait" "[I") ∈ lw_all := lw_g (lw_at lw_m5 46 rfl) rfl
theorem q1043 : (Jvm.Cond.fieldLink "CablePlantModel" (44 : Nat) "CablePlantModel" "unheard" "[I") ∈ lw_all := lw_g (lw_at lw_m5 47 rfl) rfl
theorem q1044 : (Jvm.Cond.fieldLink "CablePlantModel" (47 : Nat) "CablePlantModel" "priority" "[I") ∈ lw_all := lw_g (lw_at lw_m5 48 rfl) rfl
theorem q1045 : (Jvm.Cond.fieldLink "CablePlantModel" (50 : Nat) "CablePlantModel" "packets" "[I") ∈ lw_all := lw_g (lw_at lw_m5 49 rfl) rfl
theorem q1046 : (Jvm.Cond.fieldLink "CablePlantModel" (53 : Nat) "CablePlantModel" "sizes" "[I") ∈ lw_all := lw_g (lw_at lw_m5 50 rfl) rfl
theorem q1047 : (Jvm.Cond.fieldLink "CablePlantModel" (56 : Nat) "CablePlantModel" "values" "[I") ∈ lw_all := lw_g (lw_at lw_m5 51 rfl) rfl
theorem q1048 : (Jvm.Cond.fieldLink "CablePlantModel" (59 : Nat) "CablePlantModel" "need" "[I") ∈ lw_all := lw_g (lw_at lw_m5 52 rfl) rfl
theorem q1049 : (Jvm.Cond.fieldLink "CablePlantModel" (62 : Nat) "CablePlantModel" "asked" "[I") ∈ lw_all := lw_g (lw_at lw_m5 53 rfl) rfl
theorem q1050 : (Jvm.Cond.fieldLink "CablePlantModel" (65 : Nat) "CablePlantModel" "urgent" "[I") ∈ lw_all := lw_g (lw_at lw_m5 54 rfl) rfl
theorem q1051 : (Jvm.Cond.fieldLink "CablePlantModel" (68 : Nat) "CablePlantModel" "came" "[I") ∈ lw_all := lw_g (lw_at lw_m5 55 rfl) rfl
theorem q1052 : (Jvm.Cond.fieldLink "CablePlantModel" (71 : Nat) "CablePlantModel" "sends" "[I") ∈ lw_all := lw_g (lw_at lw_m5 56 rfl) rfl
theorem q1053 : (Jvm.Cond.fieldLink "CablePlantModel" (74 : Nat) "CablePlantModel" "list" "[I") ∈ lw_all := lw_g (lw_at lw_m5 57 rfl) rfl
theorem q1054 : (Jvm.Cond.fieldLink "CablePlantModel" (118 : Nat) "CablePlantModel" "headKey" "I") ∈ lw_all := lw_g (lw_at lw_m5 58 rfl) rfl
theorem q1055 : (Jvm.Cond.fieldLink "CablePlantModel" (147 : Nat) "CablePlantModel" "listSize" "I") ∈ lw_all := lw_g (lw_at lw_m5 59 rfl) rfl
theorem q1056 : (Jvm.Cond.fieldLink "CablePlantModel" (135 : Nat) "CablePlantModel" "arrivals" "I") ∈ lw_all := lw_g (lw_at lw_m5 60 rfl) rfl
theorem q1057 : (Jvm.Cond.fieldLink "CablePlantModel" (169 : Nat) "CablePlantModel" "rounds" "I") ∈ lw_all := lw_g (lw_at lw_m5 61 rfl) rfl
theorem q1058 : (Jvm.Cond.fieldLink "CablePlantModel" (124 : Nat) "CablePlantModel" "clashes" "I") ∈ lw_all := lw_g (lw_at lw_m5 62 rfl) rfl
theorem q1059 : (Jvm.Cond.fieldLink "CablePlantModel" (141 : Nat) "CablePlantModel" "collisions" "I") ∈ lw_all := lw_g (lw_at lw_m5 63 rfl) rfl
theorem q1060 : (Jvm.Cond.fieldLink "CablePlantModel" (109 : Nat) "CablePlantModel" "lost" "I") ∈ lw_all := lw_g (lw_at lw_m5 64 rfl) rfl
theorem q1061 : (Jvm.Cond.fieldLink "CablePlantModel" (153 : Nat) "CablePlantModel" "delivered" "I") ∈ lw_all := lw_g (lw_at lw_m5 65 rfl) rfl
theorem q1062 : (Jvm.Cond.fieldLink "CablePlantModel" (163 : Nat) "CablePlantModel" "granted" "I") ∈ lw_all := lw_g (lw_at lw_m5 66 rfl) rfl
theorem q1063 : (Jvm.Cond.fieldLink "CablePlantModel" (150 : Nat) "CablePlantModel" "dropped" "I") ∈ lw_all := lw_g (lw_at lw_m5 67 rfl) rfl
theorem q1064 : (Jvm.Cond.fieldLink "CablePlantModel" (77 : Nat) "CablePlantModel" "thrown" "I") ∈ lw_all := lw_g (lw_at lw_m5 68 rfl) rfl
theorem q1065 : (Jvm.Cond.laysFinal "CablePlantModel" "CablePlantModel" "distance" "[D") ∈ lw_all := lw_g (lw_at lw_m5 69 rfl) rfl
theorem q1066 : (Jvm.Cond.soleField "CablePlantModel" "distance") ∈ lw_all := lw_g (lw_at lw_m5 70 rfl) rfl
theorem q1067 : (Jvm.Cond.laysFinal "CablePlantModel" "CablePlantModel" "loss" "[D") ∈ lw_all := lw_g (lw_at lw_m5 71 rfl) rfl
theorem q1068 : (Jvm.Cond.soleField "CablePlantModel" "loss") ∈ lw_all := lw_g (lw_at lw_m5 72 rfl) rfl
theorem q1069 : (Jvm.Cond.laysFinal "CablePlantModel" "CablePlantModel" "offset" "[D") ∈ lw_all := lw_g (lw_at lw_m5 73 rfl) rfl
theorem q1070 : (Jvm.Cond.soleField "CablePlantModel" "offset") ∈ lw_all := lw_g (lw_at lw_m5 74 rfl) rfl
theorem q1071 : (Jvm.Cond.laysFinal "CablePlantModel" "CablePlantModel" "gain" "[D") ∈ lw_all := lw_g (lw_at lw_m5 75 rfl) rfl
theorem q1072 : (Jvm.Cond.soleField "CablePlantModel" "gain") ∈ lw_all := lw_g (lw_at lw_m5 76 rfl) rfl
theorem q1073 : (Jvm.Cond.laysFinal "CablePlantModel" "CablePlantModel" "rate" "[D") ∈ lw_all := lw_g (lw_at lw_m5 77 rfl) rfl
theorem q1074 : (Jvm.Cond.soleField "CablePlantModel" "rate") ∈ lw_all := lw_g (lw_at lw_m5 78 rfl) rfl
theorem q1075 : (Jvm.Cond.laysFinal "CablePlantModel" "CablePlantModel" "credit" "[D") ∈ lw_all := lw_g (lw_at lw_m5 79 rfl) rfl
theorem q1076 : (Jvm.Cond.soleField "CablePlantModel" "credit") ∈ lw_all := lw_g (lw_at lw_m5 80 rfl) rfl
theorem q1077 : (Jvm.Cond.laysFinal "CablePlantModel" "CablePlantModel" "state" "[I") ∈ lw_all := lw_g (lw_at lw_m5 81 rfl) rfl
theorem q1078 : (Jvm.Cond.soleField "CablePlantModel" "state") ∈ lw_all := lw_g (lw_at lw_m5 82 rfl) rfl
theorem q1079 : (Jvm.Cond.laysFinal "CablePlantModel" "CablePlantModel" "chance" "[I") ∈ lw_all := lw_g (lw_at lw_m5 83 rfl) rfl
theorem q1080 : (Jvm.Cond.soleField "CablePlantModel" "chance") ∈ lw_all := lw_g (lw_at lw_m5 84 rfl) rfl
theorem q1081 : (Jvm.Cond.laysFinal "CablePlantModel" "CablePlantModel" "key" "[I") ∈ lw_all := lw_g (lw_at lw_m5 85 rfl) rfl
theorem q1082 : (Jvm.Cond.soleField "CablePlantModel" "key") ∈ lw_all := lw_g (lw_at lw_m5 86 rfl) rfl
theorem q1083 : (Jvm.Cond.laysFinal "CablePlantModel" "CablePlantModel" "hold" "[I") ∈ lw_all := lw_g (lw_at lw_m5 87 rfl) rfl
theorem q1084 : (Jvm.Cond.soleField "CablePlantModel" "hold") ∈ lw_all := lw_g (lw_at lw_m5 88 rfl) rfl
theorem q1085 : (Jvm.Cond.laysFinal "CablePlantModel" "CablePlantModel" "wait" "[I") ∈ lw_all := lw_g (lw_at lw_m5 89 rfl) rfl
theorem q1086 : (Jvm.Cond.soleField "CablePlantModel" "wait") ∈ lw_all := lw_g (lw_at lw_m5 90 rfl) rfl
theorem q1087 : (Jvm.Cond.laysFinal "CablePlantModel" "CablePlantModel" "unheard" "[I") ∈ lw_all := lw_g (lw_at lw_m5 91 rfl) rfl
theorem q1088 : (Jvm.Cond.soleField "CablePlantModel" "unheard") ∈ lw_all := lw_g (lw_at lw_m5 92 rfl) rfl
theorem q1089 : (Jvm.Cond.laysFinal "CablePlantModel" "CablePlantModel" "priority" "[I") ∈ lw_all := lw_g (lw_at lw_m5 93 rfl) rfl
theorem q1090 : (Jvm.Cond.soleField "CablePlantModel" "priority") ∈ lw_all := lw_g (lw_at lw_m5 94 rfl) rfl
theorem q1091 : (Jvm.Cond.laysFinal "CablePlantModel" "CablePlantModel" "packets" "[I") ∈ lw_all := lw_g (lw_at lw_m5 95 rfl) rfl
theorem q1092 : (Jvm.Cond.soleField "CablePlantModel" "packets") ∈ lw_all := lw_g (lw_at lw_m5 96 rfl) rfl
theorem q1093 : (Jvm.Cond.laysFinal "CablePlantModel" "CablePlantModel" "sizes" "[I") ∈ lw_all := lw_g (lw_at lw_m5 97 rfl) rfl
theorem q1094 : (Jvm.Cond.soleField "CablePlantModel" "sizes") ∈ lw_all := lw_g (lw_at lw_m5 98 rfl) rfl
theorem q1095 : (Jvm.Cond.laysFinal "CablePlantModel" "CablePlantModel" "values" "[I") ∈ lw_all := lw_g (lw_at lw_m5 99 rfl) rfl
theorem q1096 : (Jvm.Cond.soleField "CablePlantModel" "values") ∈ lw_all := lw_g (lw_at lw_m5 100 rfl) rfl
theorem q1097 : (Jvm.Cond.laysFinal "CablePlantModel" "CablePlantModel" "need" "[I") ∈ lw_all := lw_g (lw_at lw_m5 101 rfl) rfl
theorem q1098 : (Jvm.Cond.soleField "CablePlantModel" "need") ∈ lw_all := lw_g (lw_at lw_m5 102 rfl) rfl
theorem q1099 : (Jvm.Cond.laysFinal "CablePlantModel" "CablePlantModel" "asked" "[I") ∈ lw_all := lw_g (lw_at lw_m5 103 rfl) rfl
theorem q1100 : (Jvm.Cond.soleField "CablePlantModel" "asked") ∈ lw_all := lw_g (lw_at lw_m5 104 rfl) rfl
theorem q1101 : (Jvm.Cond.laysFinal "CablePlantModel" "CablePlantModel" "urgent" "[I") ∈ lw_all := lw_g (lw_at lw_m5 105 rfl) rfl
theorem q1102 : (Jvm.Cond.soleField "CablePlantModel" "urgent") ∈ lw_all := lw_g (lw_at lw_m5 106 rfl) rfl
theorem q1103 : (Jvm.Cond.laysFinal "CablePlantModel" "CablePlantModel" "came" "[I") ∈ lw_all := lw_g (lw_at lw_m5 107 rfl) rfl
theorem q1104 : (Jvm.Cond.soleField "CablePlantModel" "came") ∈ lw_all := lw_g (lw_at lw_m5 108 rfl) rfl
theorem q1105 : (Jvm.Cond.laysFinal "CablePlantModel" "CablePlantModel" "sends" "[I") ∈ lw_all := lw_g (lw_at lw_m5 109 rfl) rfl
theorem q1106 : (Jvm.Cond.soleField "CablePlantModel" "sends") ∈ lw_all := lw_g (lw_at lw_m5 110 rfl) rfl
theorem q1107 : (Jvm.Cond.laysFinal "CablePlantModel" "CablePlantModel" "list" "[I") ∈ lw_all := lw_g (lw_at lw_m5 111 rfl) rfl
theorem q1108 : (Jvm.Cond.soleField "CablePlantModel" "list") ∈ lw_all := lw_g (lw_at lw_m5 112 rfl) rfl
theorem q1109 : (Jvm.Cond.lays "CablePlantModel" "CablePlantModel" "headKey" "I") ∈ lw_all := lw_g (lw_at lw_m5 113 rfl) rfl
theorem q1110 : (Jvm.Cond.soleField "CablePlantModel" "headKey") ∈ lw_all := lw_g (lw_at lw_m5 114 rfl) rfl
theorem q1111 : (Jvm.Cond.lays "CablePlantModel" "CablePlantModel" "listSize" "I") ∈ lw_all := lw_g (lw_at lw_m5 115 rfl) rfl
theorem q1112 : (Jvm.Cond.soleField "CablePlantModel" "listSize") ∈ lw_all := lw_g (lw_at lw_m5 116 rfl) rfl
theorem q1113 : (Jvm.Cond.lays "CablePlantModel" "CablePlantModel" "arrivals" "I") ∈ lw_all := lw_g (lw_at lw_m5 117 rfl) rfl
theorem q1114 : (Jvm.Cond.soleField "CablePlantModel" "arrivals") ∈ lw_all := lw_g (lw_at lw_m5 118 rfl) rfl
theorem q1115 : (Jvm.Cond.lays "CablePlantModel" "CablePlantModel" "rounds" "I") ∈ lw_all := lw_g (lw_at lw_m5 119 rfl) rfl
theorem q1116 : (Jvm.Cond.soleField "CablePlantModel" "rounds") ∈ lw_all := lw_g (lw_at lw_m5 120 rfl) rfl
theorem q1117 : (Jvm.Cond.lays "CablePlantModel" "CablePlantModel" "clashes" "I") ∈ lw_all := lw_g (lw_at lw_m5 121 rfl) rfl
theorem q1118 : (Jvm.Cond.soleField "CablePlantModel" "clashes") ∈ lw_all := lw_g (lw_at lw_m5 122 rfl) rfl
theorem q1119 : (Jvm.Cond.lays "CablePlantModel" "CablePlantModel" "collisions" "I") ∈ lw_all := lw_g (lw_at lw_m5 123 rfl) rfl
theorem q1120 : (Jvm.Cond.soleField "CablePlantModel" "collisions") ∈ lw_all := lw_g (lw_at lw_m5 124 rfl) rfl
theorem q1121 : (Jvm.Cond.lays "CablePlantModel" "CablePlantModel" "lost" "I") ∈ lw_all := lw_g (lw_at lw_m5 125 rfl) rfl
theorem q1122 : (Jvm.Cond.soleField "CablePlantModel" "lost") ∈ lw_all := lw_g (lw_at lw_m5 126 rfl) rfl
theorem q1123 : (Jvm.Cond.lays "CablePlantModel" "CablePlantModel" "delivered" "I") ∈ lw_all := lw_g (lw_at lw_m5 127 rfl) rfl
theorem q1124 : (Jvm.Cond.soleField "CablePlantModel" "delivered") ∈ lw_all := lw_g (lw_at lw_m5 128 rfl) rfl
theorem q1125 : (Jvm.Cond.lays "CablePlantModel" "CablePlantModel" "granted" "I") ∈ lw_all := lw_g (lw_at lw_m5 129 rfl) rfl
theorem q1126 : (Jvm.Cond.soleField "CablePlantModel" "granted") ∈ lw_all := lw_g (lw_at lw_m5 130 rfl) rfl
theorem q1127 : (Jvm.Cond.lays "CablePlantModel" "CablePlantModel" "dropped" "I") ∈ lw_all := lw_g (lw_at lw_m5 131 rfl) rfl
theorem q1128 : (Jvm.Cond.soleField "CablePlantModel" "dropped") ∈ lw_all := lw_g (lw_at lw_m5 132 rfl) rfl
theorem q1129 : (Jvm.Cond.lays "CablePlantModel" "CablePlantModel" "thrown" "I") ∈ lw_all := lw_g (lw_at lw_m5 133 rfl) rfl
theorem q1130 : (Jvm.Cond.soleField "CablePlantModel" "thrown") ∈ lw_all := lw_g (lw_at lw_m5 134 rfl) rfl
theorem q1131 : (Jvm.Cond.superclass "CablePlantModel" "java/lang/Object") ∈ lw_all := lw_g (lw_at lw_m5 135 rfl) rfl
theorem q1134 : (Jvm.Cond.instanceMethod ({ cls := "CablePlantModel", name := "thrown", desc := "()I" } : Jvm.MethodName)) ∈ lw_all := lw_g (lw_at lw_m5 138 rfl) rfl
theorem q1135 : (Jvm.Cond.selects "CablePlantModel" ({ cls := "CablePlantModel", name := "thrown", desc := "()I" } : Jvm.MethodName) ({ cls := "CablePlantModel", name := "thrown", desc := "()I" } : Jvm.MethodName)) ∈ lw_all := lw_g (lw_at lw_m5 139 rfl) rfl
theorem q1136 : (Jvm.Cond.code ({ cls := "CablePlantModel", name := "thrown", desc := "()I" } : Jvm.MethodName) prog_11_method_2_code (1 : Nat) (Option.some Jvm.ClassFile.FieldType.int)) ∈ lw_all := lw_g (lw_at lw_m5 140 rfl) rfl
theorem q1138 : (Jvm.Cond.instanceMethod ({ cls := "CablePlantModel", name := "place", desc := "(IDD)V" } : Jvm.MethodName)) ∈ lw_all := lw_g (lw_at lw_m5 142 rfl) rfl
theorem q1139 : (Jvm.Cond.selects "CablePlantModel" ({ cls := "CablePlantModel", name := "place", desc := "(IDD)V" } : Jvm.MethodName) ({ cls := "CablePlantModel", name := "place", desc := "(IDD)V" } : Jvm.MethodName)) ∈ lw_all := lw_g (lw_at lw_m5 143 rfl) rfl
theorem q1140 : (Jvm.Cond.code ({ cls := "CablePlantModel", name := "place", desc := "(IDD)V" } : Jvm.MethodName) prog_11_method_4_code (6 : Nat) (Option.none : Option Jvm.ClassFile.FieldType)) ∈ lw_all := lw_g (lw_at lw_m5 144 rfl) rfl
theorem q1141 : (Jvm.Cond.methodLink "CablePlantModel" (81 : Nat) ({ cls := "CablePlantModel", name := "out", desc := "(II)Z" } : Jvm.MethodName)) ∈ lw_all := lw_g (lw_at lw_m5 145 rfl) rfl
theorem q1142 : (Jvm.Cond.privateMethod ({ cls := "CablePlantModel", name := "out", desc := "(II)Z" } : Jvm.MethodName)) ∈ lw_tbl := lw_at lw_m5 146 rfl
theorem q1143 : (Jvm.Cond.instanceMethod ({ cls := "CablePlantModel", name := "out", desc := "(II)Z" } : Jvm.MethodName)) ∈ lw_all := lw_g (lw_at lw_m5 147 rfl) rfl
theorem q1144 : (Jvm.Cond.code ({ cls := "CablePlantModel", name := "out", desc := "(II)Z" } : Jvm.MethodName) prog_11_method_3_code (3 : Nat) (Option.some Jvm.ClassFile.FieldType.boolean)) ∈ lw_all := lw_g (lw_at lw_m5 148 rfl) rfl
theorem q1145 : (Jvm.Cond.constantDouble "CablePlantModel" (85 : Nat) (4635329916471083008 : UInt64)) ∈ lw_all := lw_g (lw_at lw_m5 149 rfl) rfl
theorem q1147 : (Jvm.Cond.instanceMethod ({ cls := "CablePlantModel", name := "power", desc := "(IZ)V" } : Jvm.MethodName)) ∈ lw_all := lw_g (lw_at lw_m5 151 rfl) rfl
theorem q1148 : (Jvm.Cond.selects "CablePlantModel" ({ cls := "CablePlantModel", name := "power", desc := "(IZ)V" } : Jvm.MethodName) ({ cls := "CablePlantModel", name := "power", desc := "(IZ)V" } : Jvm.MethodName)) ∈ lw_all := lw_g (lw_at lw_m5 152 rfl) rfl
theorem q1149 : (Jvm.Cond.code ({ cls := "CablePlantModel", name := "power", desc := "(IZ)V" } : Jvm.MethodName) prog_11_method_6_code (4 : Nat) (Option.none : Option Jvm.ClassFile.FieldType)) ∈ lw_all := lw_g (lw_at lw_m5 153 rfl) rfl
theorem q1150 : (Jvm.Cond.methodLink "CablePlantModel" (87 : Nat) ({ cls := "CablePlantModel", name := "seek", desc := "(I)V" } : Jvm.MethodName)) ∈ lw_all := lw_g (lw_at lw_m5 154 rfl) rfl
theorem q1151 : (Jvm.Cond.privateMethod ({ cls := "CablePlantModel", name := "seek", desc := "(I)V" } : Jvm.MethodName)) ∈ lw_tbl := lw_at lw_m5 155 rfl
theorem q1152 : (Jvm.Cond.instanceMethod ({ cls := "CablePlantModel", name := "seek", desc := "(I)V" } : Jvm.MethodName)) ∈ lw_all := lw_g (lw_at lw_m5 156 rfl) rfl
theorem q1153 : (Jvm.Cond.code ({ cls := "CablePlantModel", name := "seek", desc := "(I)V" } : Jvm.MethodName) prog_11_method_5_code (2 : Nat) (Option.none : Option Jvm.ClassFile.FieldType)) ∈ lw_all := lw_g (lw_at lw_m5 157 rfl) rfl
theorem q1155 : (Jvm.Cond.instanceMethod ({ cls := "CablePlantModel", name := "flow", desc := "(IIID)V" } : Jvm.MethodName)) ∈ lw_all := lw_g (lw_at lw_m5 159 rfl) rfl
theorem q1156 : (Jvm.Cond.selects "CablePlantModel" ({ cls := "CablePlantModel", name := "flow", desc := "(IIID)V" } : Jvm.MethodName) ({ cls := "CablePlantModel", name := "flow", desc := "(IIID)V" } : Jvm.MethodName)) ∈ lw_all := lw_g (lw_at lw_m5 160 rfl) rfl
theorem q1157 : (Jvm.Cond.code ({ cls := "CablePlantModel", name := "flow", desc := "(IIID)V" } : Jvm.MethodName) prog_11_method_7_code (6 : Nat) (Option.none : Option Jvm.ClassFile.FieldType)) ∈ lw_all := lw_g (lw_at lw_m5 161 rfl) rfl
theorem q1158 : (Jvm.Cond.constantDouble "CablePlantModel" (91 : Nat) (4620693217682128896 : UInt64)) ∈ lw_all := lw_g (lw_at lw_m5 162 rfl) rfl
theorem q1160 : (Jvm.Cond.instanceMethod ({ cls := "CablePlantModel", name := "packet", desc := "(IIII)I" } : Jvm.MethodName)) ∈ lw_all := lw_g (lw_at lw_m5 164 rfl) rfl
theorem q1161 : (Jvm.Cond.selects "CablePlantModel" ({ cls := "CablePlantModel", name := "packet", desc := "(IIII)I" } : Jvm.MethodName) ({ cls := "CablePlantModel", name := "packet", desc := "(IIII)I" } : Jvm.MethodName)) ∈ lw_all := lw_g (lw_at lw_m5 165 rfl) rfl
theorem q1162 : (Jvm.Cond.code ({ cls := "CablePlantModel", name := "packet", desc := "(IIII)I" } : Jvm.MethodName) prog_11_method_8_code (6 : Nat) (Option.some Jvm.ClassFile.FieldType.int)) ∈ lw_all := lw_g (lw_at lw_m5 166 rfl) rfl
theorem q1164 : (Jvm.Cond.instanceMethod ({ cls := "CablePlantModel", name := "round", desc := "(I)I" } : Jvm.MethodName)) ∈ lw_all := lw_g (lw_at lw_m5 168 rfl) rfl
theorem q1165 : (Jvm.Cond.selects "CablePlantModel" ({ cls := "CablePlantModel", name := "round", desc := "(I)I" } : Jvm.MethodName) ({ cls := "CablePlantModel", name := "round", desc := "(I)I" } : Jvm.MethodName)) ∈ lw_all := lw_g (lw_at lw_m5 169 rfl) rfl
theorem q1166 : (Jvm.Cond.code ({ cls := "CablePlantModel", name := "round", desc := "(I)I" } : Jvm.MethodName) prog_11_method_24_code (7 : Nat) (Option.some Jvm.ClassFile.FieldType.int)) ∈ lw_all := lw_g (lw_at lw_m5 170 rfl) rfl
theorem q1167 : (Jvm.Cond.methodLink "CablePlantModel" (172 : Nat) ({ cls := "CablePlantModel", name := "seeking", desc := "()V" } : Jvm.MethodName)) ∈ lw_all := lw_g (lw_at lw_m5 171 rfl) rfl
theorem q1168 : (Jvm.Cond.privateMethod ({ cls := "CablePlantModel", name := "seeking", desc := "()V" } : Jvm.MethodName)) ∈ lw_tbl := lw_at lw_m5 172 rfl
theorem q1169 : (Jvm.Cond.instanceMethod ({ cls := "CablePlantModel", name := "seeking", desc := "()V" } : Jvm.MethodName)) ∈ lw_all := lw_g (lw_at lw_m5 173 rfl) rfl
theorem q1170 : (Jvm.Cond.code ({ cls := "CablePlantModel", name := "seeking", desc := "()V" } : Jvm.MethodName) prog_11_method_16_code (4 : Nat) (Option.none : Option Jvm.ClassFile.FieldType)) ∈ lw_all := lw_g (lw_at lw_m5 174 rfl) rfl
theorem q1171 : (Jvm.Cond.methodLink "CablePlantModel" (121 : Nat) ({ cls := "CablePlantModel", name := "heard", desc := "(I)V" } : Jvm.MethodName)) ∈ lw_all := lw_g (lw_at lw_m5 175 rfl) rfl
theorem q1172 : (Jvm.Cond.privateMethod ({ cls := "CablePlantModel", name := "heard", desc := "(I)V" } : Jvm.MethodName)) ∈ lw_tbl := lw_at lw_m5 176 rfl
theorem q1173 : (Jvm.Cond.instanceMethod ({ cls := "CablePlantModel", name := "heard", desc := "(I)V" } : Jvm.MethodName)) ∈ lw_all := lw_g (lw_at lw_m5 177 rfl) rfl
theorem q1174 : (Jvm.Cond.code ({ cls := "CablePlantModel", name := "heard", desc := "(I)V" } : Jvm.MethodName) prog_11_method_15_code (7 : Nat) (Option.none : Option Jvm.ClassFile.FieldType)) ∈ lw_all := lw_g (lw_at lw_m5 178 rfl) rfl
theorem q1175 : (Jvm.Cond.methodLink "CablePlantModel" (112 : Nat) ({ cls := "CablePlantModel", name := "fine", desc := "(I)Z" } : Jvm.MethodName)) ∈ lw_all := lw_g (lw_at lw_m5 179 rfl) rfl
theorem q1176 : (Jvm.Cond.privateMethod ({ cls := "CablePlantModel", name := "fine", desc := "(I)Z" } : Jvm.MethodName)) ∈ lw_tbl := lw_at lw_m5 180 rfl
theorem q1177 : (Jvm.Cond.instanceMethod ({ cls := "CablePlantModel", name := "fine", desc := "(I)Z" } : Jvm.MethodName)) ∈ lw_all := lw_g (lw_at lw_m5 181 rfl) rfl
theorem q1178 : (Jvm.Cond.code ({ cls := "CablePlantModel", name := "fine", desc := "(I)Z" } : Jvm.MethodName) prog_11_method_12_code (2 : Nat) (Option.some Jvm.ClassFile.FieldType.boolean)) ∈ lw_all := lw_g (lw_at lw_m5 182 rfl) rfl
theorem q1179 : (Jvm.Cond.methodLink "CablePlantModel" (97 : Nat) ({ cls := "CablePlantModel", name := "late", desc := "(I)D" } : Jvm.MethodName)) ∈ lw_all := lw_g (lw_at lw_m5 183 rfl) rfl
theorem q1180 : (Jvm.Cond.privateMethod ({ cls := "CablePlantModel", name := "late", desc := "(I)D" } : Jvm.MethodName)) ∈ lw_tbl := lw_at lw_m5 184 rfl
theorem q1181 : (Jvm.Cond.instanceMethod ({ cls := "CablePlantModel", name := "late", desc := "(I)D" } : Jvm.MethodName)) ∈ lw_all := lw_g (lw_at lw_m5 185 rfl) rfl
theorem q1182 : (Jvm.Cond.code ({ cls := "CablePlantModel", name := "late", desc := "(I)D" } : Jvm.MethodName) prog_11_method_9_code (2 : Nat) (Option.some Jvm.ClassFile.FieldType.double)) ∈ lw_all := lw_g (lw_at lw_m5 186 rfl) rfl
theorem q1183 : (Jvm.Cond.constantDouble "CablePlantModel" (93 : Nat) (4602678819172646912 : UInt64)) ∈ lw_all := lw_g (lw_at lw_m5 187 rfl) rfl
theorem q1184 : (Jvm.Cond.methodLink "CablePlantModel" (101 : Nat) ({ cls := "CablePlantModel", name := "within", desc := "(D)Z" } : Jvm.MethodName)) ∈ lw_all := lw_g (lw_at lw_m5 188 rfl) rfl
theorem q1185 : (Jvm.Cond.privateMethod ({ cls := "CablePlantModel", name := "within", desc := "(D)Z" } : Jvm.MethodName)) ∈ lw_tbl := lw_at lw_m5 189 rfl
theorem q1186 : (Jvm.Cond.instanceMethod ({ cls := "CablePlantModel", name := "within", desc := "(D)Z" } : Jvm.MethodName)) ∈ lw_all := lw_g (lw_at lw_m5 190 rfl) rfl
theorem q1187 : (Jvm.Cond.code ({ cls := "CablePlantModel", name := "within", desc := "(D)Z" } : Jvm.MethodName) prog_11_method_11_code (3 : Nat) (Option.some Jvm.ClassFile.FieldType.boolean)) ∈ lw_all := lw_g (lw_at lw_m5 191 rfl) rfl
theorem q1188 : (Jvm.Cond.constantDouble "CablePlantModel" (95 : Nat) (13826050856027422720 : UInt64)) ∈ lw_all := lw_g (lw_at lw_m5 192 rfl) rfl
theorem q1189 : (Jvm.Cond.methodLink "CablePlantModel" (105 : Nat) ({ cls := "CablePlantModel", name := "strong", desc := "(I)D" } : Jvm.MethodName)) ∈ lw_all := lw_g (lw_at lw_m5 193 rfl) rfl
theorem q1190 : (Jvm.Cond.privateMethod ({ cls := "CablePlantModel", name := "strong", desc := "(I)D" } : Jvm.MethodName)) ∈ lw_tbl := lw_at lw_m5 194 rfl
theorem q1191 : (Jvm.Cond.instanceMethod ({ cls := "CablePlantModel", name := "strong", desc := "(I)D" } : Jvm.MethodName)) ∈ lw_all := lw_g (lw_at lw_m5 195 rfl) rfl
theorem q1192 : (Jvm.Cond.code ({ cls := "CablePlantModel", name := "strong", desc := "(I)D" } : Jvm.MethodName) prog_11_method_10_code (2 : Nat) (Option.some Jvm.ClassFile.FieldType.double)) ∈ lw_all := lw_g (lw_at lw_m5 196 rfl) rfl
theorem q1193 : (Jvm.Cond.constantDouble "CablePlantModel" (116 : Nat) (4604930618986332160 : UInt64)) ∈ lw_all := lw_g (lw_at lw_m5 197 rfl) rfl
theorem q1194 : (Jvm.Cond.methodLink "CablePlantModel" (127 : Nat) ({ cls := "CablePlantModel", name := "draw", desc := "(II)I" } : Jvm.MethodName)) ∈ lw_all := lw_g (lw_at lw_m5 198 rfl) rfl
theorem q1195 : (Jvm.Cond.privateMethod ({ cls := "CablePlantModel", name := "draw", desc := "(II)I" } : Jvm.MethodName)) ∈ lw_tbl := lw_at lw_m5 199 rfl
theorem q1196 : (Jvm.Cond.instanceMethod ({ cls := "CablePlantModel", name := "draw", desc := "(II)I" } : Jvm.MethodName)) ∈ lw_all := lw_g (lw_at lw_m5 200 rfl) rfl
theorem q1197 : (Jvm.Cond.code ({ cls := "CablePlantModel", name := "draw", desc := "(II)I" } : Jvm.MethodName) prog_11_method_13_code (3 : Nat) (Option.some Jvm.ClassFile.FieldType.int)) ∈ lw_all := lw_g (lw_at lw_m5 201 rfl) rfl
theorem q1198 : (Jvm.Cond.constant "CablePlantModel" (108 : Nat) (1103515245 : Int32)) ∈ lw_all := lw_g (lw_at lw_m5 202 rfl) rfl
theorem q1199 : (Jvm.Cond.methodLink "CablePlantModel" (175 : Nat) ({ cls := "CablePlantModel", name := "asking", desc := "()V" } : Jvm.MethodName)) ∈ lw_all := lw_g (lw_at lw_m5 203 rfl) rfl
theorem q1200 : (Jvm.Cond.privateMethod ({ cls := "CablePlantModel", name := "asking", desc := "()V" } : Jvm.MethodName)) ∈ lw_tbl := lw_at lw_m5 204 rfl
theorem q1201 : (Jvm.Cond.instanceMethod ({ cls := "CablePlantModel", name := "asking", desc := "()V" } : Jvm.MethodName)) ∈ lw_all := lw_g (lw_at lw_m5 205 rfl) rfl
theorem q1202 : (Jvm.Cond.code ({ cls := "CablePlantModel", name := "asking", desc := "()V" } : Jvm.MethodName) prog_11_method_18_code (5 : Nat) (Option.none : Option Jvm.ClassFile.FieldType)) ∈ lw_all := lw_g (lw_at lw_m5 206 rfl) rfl
theorem q1203 : (Jvm.Cond.methodLink "CablePlantModel" (131 : Nat) ({ cls := "CablePlantModel", name := "wanted", desc := "(I)I" } : Jvm.MethodName)) ∈ lw_all := lw_g (lw_at lw_m5 207 rfl) rfl
theorem q1204 : (Jvm.Cond.privateMethod ({ cls := "CablePlantModel", name := "wanted", desc := "(I)I" } : Jvm.MethodName)) ∈ lw_tbl := lw_at lw_m5 208 rfl
theorem q1205 : (Jvm.Cond.instanceMethod ({ cls := "CablePlantModel", name := "wanted", desc := "(I)I" } : Jvm.MethodName)) ∈ lw_all := lw_g (lw_at lw_m5 209 rfl) rfl
theorem q1206 : (Jvm.Cond.code ({ cls := "CablePlantModel", name := "wanted", desc := "(I)I" } : Jvm.MethodName) prog_11_method_17_code (3 : Nat) (Option.some Jvm.ClassFile.FieldType.int)) ∈ lw_all := lw_g (lw_at lw_m5 210 rfl) rfl
theorem q1207 : (Jvm.Cond.methodLink "CablePlantModel" (138 : Nat) ({ cls := "CablePlantModel", name := "missed", desc := "(I)V" } : Jvm.MethodName)) ∈ lw_all := lw_g (lw_at lw_m5 211 rfl) rfl
theorem q1208 : (Jvm.Cond.privateMethod ({ cls := "CablePlantModel", name := "missed", desc := "(I)V" } : Jvm.MethodName)) ∈ lw_tbl := lw_at lw_m5 212 rfl
theorem q1209 : (Jvm.Cond.instanceMethod ({ cls := "CablePlantModel", name := "missed", desc := "(I)V" } : Jvm.MethodName)) ∈ lw_all := lw_g (lw_at lw_m5 213 rfl) rfl
theorem q1210 : (Jvm.Cond.code ({ cls := "CablePlantModel", name := "missed", desc := "(I)V" } : Jvm.MethodName) prog_11_method_14_code (2 : Nat) (Option.none : Option Jvm.ClassFile.FieldType)) ∈ lw_all := lw_g (lw_at lw_m5 214 rfl) rfl
theorem q1211 : (Jvm.Cond.methodLink "CablePlantModel" (178 : Nat) ({ cls := "CablePlantModel", name := "granting", desc := "()V" } : Jvm.MethodName)) ∈ lw_all := lw_g (lw_at lw_m5 215 rfl) rfl
theorem q1212 : (Jvm.Cond.privateMethod ({ cls := "CablePlantModel", name := "granting", desc := "()V" } : Jvm.MethodName)) ∈ lw_tbl := lw_at lw_m5 216 rfl
theorem q1213 : (Jvm.Cond.instanceMethod ({ cls := "CablePlantModel", name := "granting", desc := "()V" } : Jvm.MethodName)) ∈ lw_all := lw_g (lw_at lw_m5 217 rfl) rfl
theorem q1214 : (Jvm.Cond.code ({ cls := "CablePlantModel", name := "granting", desc := "()V" } : Jvm.MethodName) prog_11_method_23_code (7 : Nat) (Option.none : Option Jvm.ClassFile.FieldType)) ∈ lw_all := lw_g (lw_at lw_m5 218 rfl) rfl
theorem q1215 : (Jvm.Cond.methodLink "CablePlantModel" (156 : Nat) ({ cls := "CablePlantModel", name := "requests", desc := "()I" } : Jvm.MethodName)) ∈ lw_all := lw_g (lw_at lw_m5 219 rfl) rfl
theorem q1216 : (Jvm.Cond.privateMethod ({ cls := "CablePlantModel", name := "requests", desc := "()I" } : Jvm.MethodName)) ∈ lw_tbl := lw_at lw_m5 220 rfl
theorem q1217 : (Jvm.Cond.instanceMethod ({ cls := "CablePlantModel", name := "requests", desc := "()I" } : Jvm.MethodName)) ∈ lw_all := lw_g (lw_at lw_m5 221 rfl) rfl
theorem q1218 : (Jvm.Cond.code ({ cls := "CablePlantModel", name := "requests", desc := "()I" } : Jvm.MethodName) prog_11_method_21_code (3 : Nat) (Option.some Jvm.ClassFile.FieldType.int)) ∈ lw_all := lw_g (lw_at lw_m5 222 rfl) rfl
theorem q1219 : (Jvm.Cond.methodLink "CablePlantModel" (160 : Nat) ({ cls := "CablePlantModel", name := "request", desc := "(I)I" } : Jvm.MethodName)) ∈ lw_all := lw_g (lw_at lw_m5 223 rfl) rfl
theorem q1220 : (Jvm.Cond.privateMethod ({ cls := "CablePlantModel", name := "request", desc := "(I)I" } : Jvm.MethodName)) ∈ lw_tbl := lw_at lw_m5 224 rfl
theorem q1221 : (Jvm.Cond.instanceMethod ({ cls := "CablePlantModel", name := "request", desc := "(I)I" } : Jvm.MethodName)) ∈ lw_all := lw_g (lw_at lw_m5 225 rfl) rfl
theorem q1222 : (Jvm.Cond.code ({ cls := "CablePlantModel", name := "request", desc := "(I)I" } : Jvm.MethodName) prog_11_method_20_code (5 : Nat) (Option.some Jvm.ClassFile.FieldType.int)) ∈ lw_all := lw_g (lw_at lw_m5 226 rfl) rfl
theorem q1223 : (Jvm.Cond.methodLink "CablePlantModel" (144 : Nat) ({ cls := "CablePlantModel", name := "before", desc := "(II)Z" } : Jvm.MethodName)) ∈ lw_all := lw_g (lw_at lw_m5 227 rfl) rfl
theorem q1224 : (Jvm.Cond.privateMethod ({ cls := "CablePlantModel", name := "before", desc := "(II)Z" } : Jvm.MethodName)) ∈ lw_tbl := lw_at lw_m5 228 rfl
theorem q1225 : (Jvm.Cond.instanceMethod ({ cls := "CablePlantModel", name := "before", desc := "(II)Z" } : Jvm.MethodName)) ∈ lw_all := lw_g (lw_at lw_m5 229 rfl) rfl
theorem q1226 : (Jvm.Cond.code ({ cls := "CablePlantModel", name := "before", desc := "(II)Z" } : Jvm.MethodName) prog_11_method_19_code (3 : Nat) (Option.some Jvm.ClassFile.FieldType.boolean)) ∈ lw_all := lw_g (lw_at lw_m5 230 rfl) rfl
theorem q1227 : (Jvm.Cond.methodLink "CablePlantModel" (166 : Nat) ({ cls := "CablePlantModel", name := "deliver", desc := "(I)V" } : Jvm.MethodName)) ∈ lw_all := lw_g (lw_at lw_m5 231 rfl) rfl
theorem q1228 : (Jvm.Cond.privateMethod ({ cls := "CablePlantModel", name := "deliver", desc := "(I)V" } : Jvm.MethodName)) ∈ lw_tbl := lw_at lw_m5 232 rfl
theorem q1229 : (Jvm.Cond.instanceMethod ({ cls := "CablePlantModel", name := "deliver", desc := "(I)V" } : Jvm.MethodName)) ∈ lw_all := lw_g (lw_at lw_m5 233 rfl) rfl
theorem q1230 : (Jvm.Cond.code ({ cls := "CablePlantModel", name := "deliver", desc := "(I)V" } : Jvm.MethodName) prog_11_method_22_code (4 : Nat) (Option.none : Option Jvm.ClassFile.FieldType)) ∈ lw_all := lw_g (lw_at lw_m5 234 rfl) rfl
theorem q1232 : (Jvm.Cond.instanceMethod ({ cls := "CablePlantModel", name := "key", desc := "(I)I" } : Jvm.MethodName)) ∈ lw_all := lw_g (lw_at lw_m5 236 rfl) rfl
theorem q1233 : (Jvm.Cond.selects "CablePlantModel" ({ cls := "CablePlantModel", name := "key", desc := "(I)I" } : Jvm.MethodName) ({ cls := "CablePlantModel", name := "key", desc := "(I)I" } : Jvm.MethodName)) ∈ lw_all := lw_g (lw_at lw_m5 237 rfl) rfl
theorem q1234 : (Jvm.Cond.code ({ cls := "CablePlantModel", name := "key", desc := "(I)I" } : Jvm.MethodName) prog_11_method_25_code (4 : Nat) (Option.some Jvm.ClassFile.FieldType.int)) ∈ lw_all := lw_g (lw_at lw_m5 238 rfl) rfl
theorem q1236 : (Jvm.Cond.instanceMethod ({ cls := "CablePlantModel", name := "take", desc := "()I" } : Jvm.MethodName)) ∈ lw_all := lw_g (lw_at lw_m6 0 rfl) rfl
theorem q1237 : (Jvm.Cond.selects "CablePlantModel" ({ cls := "CablePlantModel", name := "take", desc := "()I" } : Jvm.MethodName) ({ cls := "CablePlantModel", name := "take", desc := "()I" } : Jvm.MethodName)) ∈ lw_all := lw_g (lw_at lw_m6 1 rfl) rfl
theorem q1238 : (Jvm.Cond.code ({ cls := "CablePlantModel", name := "take", desc := "()I" } : Jvm.MethodName) prog_11_method_26_code (3 : Nat) (Option.some Jvm.ClassFile.FieldType.int)) ∈ lw_all := lw_g (lw_at lw_m6 2 rfl) rfl
theorem q1240 : (Jvm.Cond.instanceMethod ({ cls := "CablePlantModel", name := "level", desc := "(II)D" } : Jvm.MethodName)) ∈ lw_all := lw_g (lw_at lw_m6 4 rfl) rfl
theorem q1241 : (Jvm.Cond.selects "CablePlantModel" ({ cls := "CablePlantModel", name := "level", desc := "(II)D" } : Jvm.MethodName) ({ cls := "CablePlantModel", name := "level", desc := "(II)D" } : Jvm.MethodName)) ∈ lw_all := lw_g (lw_at lw_m6 5 rfl) rfl
theorem q1242 : (Jvm.Cond.code ({ cls := "CablePlantModel", name := "level", desc := "(II)D" } : Jvm.MethodName) prog_11_method_27_code (3 : Nat) (Option.some Jvm.ClassFile.FieldType.double)) ∈ lw_all := lw_g (lw_at lw_m6 6 rfl) rfl
theorem q1244 : (Jvm.Cond.instanceMethod ({ cls := "CablePlantModel", name := "told", desc := "(II)I" } : Jvm.MethodName)) ∈ lw_all := lw_g (lw_at lw_m6 8 rfl) rfl
theorem q1245 : (Jvm.Cond.selects "CablePlantModel" ({ cls := "CablePlantModel", name := "told", desc := "(II)I" } : Jvm.MethodName) ({ cls := "CablePlantModel", name := "told", desc := "(II)I" } : Jvm.MethodName)) ∈ lw_all := lw_g (lw_at lw_m6 9 rfl) rfl
theorem q1246 : (Jvm.Cond.code ({ cls := "CablePlantModel", name := "told", desc := "(II)I" } : Jvm.MethodName) prog_11_method_28_code (3 : Nat) (Option.some Jvm.ClassFile.FieldType.int)) ∈ lw_all := lw_g (lw_at lw_m6 10 rfl) rfl
theorem q1248 : (Jvm.Cond.instanceMethod ({ cls := "CablePlantModel", name := "count", desc := "(I)I" } : Jvm.MethodName)) ∈ lw_all := lw_g (lw_at lw_m6 12 rfl) rfl
theorem q1249 : (Jvm.Cond.selects "CablePlantModel" ({ cls := "CablePlantModel", name := "count", desc := "(I)I" } : Jvm.MethodName) ({ cls := "CablePlantModel", name := "count", desc := "(I)I" } : Jvm.MethodName)) ∈ lw_all := lw_g (lw_at lw_m6 13 rfl) rfl
theorem q1250 : (Jvm.Cond.code ({ cls := "CablePlantModel", name := "count", desc := "(I)I" } : Jvm.MethodName) prog_11_method_29_code (2 : Nat) (Option.some Jvm.ClassFile.FieldType.int)) ∈ lw_all := lw_g (lw_at lw_m6 14 rfl) rfl
theorem q1270 : (Jvm.Cond.castable "CablePlantModel" "java/lang/Object") ∈ lw_tbl := lw_at lw_m6 34 rfl
theorem in_X6 : ∀ w ∈ wsX60, w ∈ lw_all := lw_in wsX60 [1065, 1067, 1069, 1071, 1073, 1075, 1077, 1079, 1081, 1083, 1085, 1087, 1089, 1091, 1093, 1095, 1097, 1099, 1101, 1103, 1105, 1107, 1109, 1111, 1113, 1115, 1117, 1119, 1121, 1123, 1125, 1127, 1129] (by decide +kernel) (by decide +kernel)
/-! CablePlantLaw -/
def RX0 : String := "CablePlantLaw"
abbrev cX0_place : ByteArray := method_3_code
def yX0_place : MethodName := ⟨RX0, "place", "(LCablePlant;IDD)I"⟩
theorem dX0_place_0 : decode cX0_place 0 = .ok (.aload_n 0, 1) := by decide +kernel
theorem dX0_place_1 : decode cX0_place 1 = .ok (.iload_n 1, 1) := by decide +kernel
theorem dX0_place_2 : decode cX0_place 2 = .ok (.dload_n 2, 1) := by decide +kernel
theorem dX0_place_3 : decode cX0_place 3 = .ok (.dload 4, 2) := by decide +kernel
theorem dX0_place_5 : decode cX0_place 5 = .ok (.invokevirtual 7, 3) := by decide +kernel
theorem dX0_place_8 : decode cX0_place 8 = .ok (.goto 7, 3) := by decide +kernel
theorem dX0_place_11 : decode cX0_place 11 = .ok (.astore 6, 2) := by decide +kernel
theorem dX0_place_13 : decode cX0_place 13 = .ok (.iconst 1, 1) := by decide +kernel
theorem dX0_place_14 : decode cX0_place 14 = .ok (.ireturn, 1) := by decide +kernel
theorem dX0_place_15 : decode cX0_place 15 = .ok (.iconst 0, 1) := by decide +kernel
theorem dX0_place_16 : decode cX0_place 16 = .ok (.ireturn, 1) := by decide +kernel
abbrev cX0_power : ByteArray := method_4_code
def yX0_power : MethodName := ⟨RX0, "power", "(LCablePlant;IZ)I"⟩
theorem dX0_power_0 : decode cX0_power 0 = .ok (.aload_n 0, 1) := by decide +kernel
theorem dX0_power_1 : decode cX0_power 1 = .ok (.iload_n 1, 1) := by decide +kernel
theorem dX0_power_2 : decode cX0_power 2 = .ok (.iload_n 2, 1) := by decide +kernel
theorem dX0_power_3 : decode cX0_power 3 = .ok (.invokevirtual 15, 3) := by decide +kernel
theorem dX0_power_6 : decode cX0_power 6 = .ok (.goto 9, 3) := by decide +kernel
theorem dX0_power_9 : decode cX0_power 9 = .ok (.astore_n 3, 1) := by decide +kernel
theorem dX0_power_10 : decode cX0_power 10 = .ok (.iconst 1, 1) := by decide +kernel
theorem dX0_power_11 : decode cX0_power 11 = .ok (.ireturn, 1) := by decide +kernel
theorem dX0_power_12 : decode cX0_power 12 = .ok (.astore_n 3, 1) := by decide +kernel
theorem dX0_power_13 : decode cX0_power 13 = .ok (.iconst 2, 1) := by decide +kernel
theorem dX0_power_14 : decode cX0_power 14 = .ok (.ireturn, 1) := by decide +kernel
theorem dX0_power_15 : decode cX0_power 15 = .ok (.iconst 0, 1) := by decide +kernel
theorem dX0_power_16 : decode cX0_power 16 = .ok (.ireturn, 1) := by decide +kernel
abbrev cX0_flow : ByteArray := method_5_code
def yX0_flow : MethodName := ⟨RX0, "flow", "(LCablePlant;IIID)I"⟩
theorem dX0_flow_0 : decode cX0_flow 0 = .ok (.aload_n 0, 1) := by decide +kernel
theorem dX0_flow_1 : decode cX0_flow 1 = .ok (.iload_n 1, 1) := by decide +kernel
theorem dX0_flow_2 : decode cX0_flow 2 = .ok (.iload_n 2, 1) := by decide +kernel
theorem dX0_flow_3 : decode cX0_flow 3 = .ok (.iload_n 3, 1) := by decide +kernel
theorem dX0_flow_4 : decode cX0_flow 4 = .ok (.dload 4, 2) := by decide +kernel
theorem dX0_flow_6 : decode cX0_flow 6 = .ok (.invokevirtual 21, 3) := by decide +kernel
theorem dX0_flow_9 : decode cX0_flow 9 = .ok (.goto 7, 3) := by decide +kernel
theorem dX0_flow_12 : decode cX0_flow 12 = .ok (.astore 6, 2) := by decide +kernel
theorem dX0_flow_14 : decode cX0_flow 14 = .ok (.iconst 1, 1) := by decide +kernel
theorem dX0_flow_15 : decode cX0_flow 15 = .ok (.ireturn, 1) := by decide +kernel
theorem dX0_flow_16 : decode cX0_flow 16 = .ok (.iconst 0, 1) := by decide +kernel
theorem dX0_flow_17 : decode cX0_flow 17 = .ok (.ireturn, 1) := by decide +kernel
abbrev cX0_packet : ByteArray := method_6_code
def yX0_packet : MethodName := ⟨RX0, "packet", "(LCablePlant;IIII[J)I"⟩
theorem dX0_packet_0 : decode cX0_packet 0 = .ok (.aload 5, 2) := by decide +kernel
theorem dX0_packet_2 : decode cX0_packet 2 = .ok (.iconst 0, 1) := by decide +kernel
theorem dX0_packet_3 : decode cX0_packet 3 = .ok (.aload_n 0, 1) := by decide +kernel
theorem dX0_packet_4 : decode cX0_packet 4 = .ok (.iload_n 1, 1) := by decide +kernel
theorem dX0_packet_5 : decode cX0_packet 5 = .ok (.iload_n 2, 1) := by decide +kernel
theorem dX0_packet_6 : decode cX0_packet 6 = .ok (.iload_n 3, 1) := by decide +kernel
theorem dX0_packet_7 : decode cX0_packet 7 = .ok (.iload 4, 2) := by decide +kernel
theorem dX0_packet_9 : decode cX0_packet 9 = .ok (.invokevirtual 25, 3) := by decide +kernel
theorem dX0_packet_12 : decode cX0_packet 12 = .ok (.i2l, 1) := by decide +kernel
theorem dX0_packet_13 : decode cX0_packet 13 = .ok (.lastore, 1) := by decide +kernel
theorem dX0_packet_14 : decode cX0_packet 14 = .ok (.goto 15, 3) := by decide +kernel
theorem dX0_packet_17 : decode cX0_packet 17 = .ok (.astore 6, 2) := by decide +kernel
theorem dX0_packet_19 : decode cX0_packet 19 = .ok (.iconst 1, 1) := by decide +kernel
theorem dX0_packet_20 : decode cX0_packet 20 = .ok (.ireturn, 1) := by decide +kernel
theorem dX0_packet_21 : decode cX0_packet 21 = .ok (.astore 6, 2) := by decide +kernel
theorem dX0_packet_23 : decode cX0_packet 23 = .ok (.iconst 2, 1) := by decide +kernel
theorem dX0_packet_24 : decode cX0_packet 24 = .ok (.ireturn, 1) := by decide +kernel
theorem dX0_packet_25 : decode cX0_packet 25 = .ok (.astore 6, 2) := by decide +kernel
theorem dX0_packet_27 : decode cX0_packet 27 = .ok (.iconst 3, 1) := by decide +kernel
theorem dX0_packet_28 : decode cX0_packet 28 = .ok (.ireturn, 1) := by decide +kernel
theorem dX0_packet_29 : decode cX0_packet 29 = .ok (.iconst 0, 1) := by decide +kernel
theorem dX0_packet_30 : decode cX0_packet 30 = .ok (.ireturn, 1) := by decide +kernel
abbrev cX0_round : ByteArray := method_7_code
def yX0_round : MethodName := ⟨RX0, "round", "(LCablePlant;I[J)I"⟩
theorem dX0_round_0 : decode cX0_round 0 = .ok (.aload_n 2, 1) := by decide +kernel
theorem dX0_round_1 : decode cX0_round 1 = .ok (.iconst 0, 1) := by decide +kernel
theorem dX0_round_2 : decode cX0_round 2 = .ok (.aload_n 0, 1) := by decide +kernel
theorem dX0_round_3 : decode cX0_round 3 = .ok (.iload_n 1, 1) := by decide +kernel
theorem dX0_round_4 : decode cX0_round 4 = .ok (.invokevirtual 31, 3) := by decide +kernel
theorem dX0_round_7 : decode cX0_round 7 = .ok (.i2l, 1) := by decide +kernel
theorem dX0_round_8 : decode cX0_round 8 = .ok (.lastore, 1) := by decide +kernel
theorem dX0_round_9 : decode cX0_round 9 = .ok (.goto 6, 3) := by decide +kernel
theorem dX0_round_12 : decode cX0_round 12 = .ok (.astore_n 3, 1) := by decide +kernel
theorem dX0_round_13 : decode cX0_round 13 = .ok (.iconst 1, 1) := by decide +kernel
theorem dX0_round_14 : decode cX0_round 14 = .ok (.ireturn, 1) := by decide +kernel
theorem dX0_round_15 : decode cX0_round 15 = .ok (.iconst 0, 1) := by decide +kernel
theorem dX0_round_16 : decode cX0_round 16 = .ok (.ireturn, 1) := by decide +kernel
abbrev cX0_take : ByteArray := method_8_code
def yX0_take : MethodName := ⟨RX0, "take", "(LCablePlant;[J)I"⟩
theorem dX0_take_0 : decode cX0_take 0 = .ok (.aload_n 1, 1) := by decide +kernel
theorem dX0_take_1 : decode cX0_take 1 = .ok (.iconst 0, 1) := by decide +kernel
theorem dX0_take_2 : decode cX0_take 2 = .ok (.aload_n 0, 1) := by decide +kernel
theorem dX0_take_3 : decode cX0_take 3 = .ok (.invokevirtual 35, 3) := by decide +kernel
theorem dX0_take_6 : decode cX0_take 6 = .ok (.i2l, 1) := by decide +kernel
theorem dX0_take_7 : decode cX0_take 7 = .ok (.lastore, 1) := by decide +kernel
theorem dX0_take_8 : decode cX0_take 8 = .ok (.goto 6, 3) := by decide +kernel
theorem dX0_take_11 : decode cX0_take 11 = .ok (.astore_n 2, 1) := by decide +kernel
theorem dX0_take_12 : decode cX0_take 12 = .ok (.iconst 1, 1) := by decide +kernel
theorem dX0_take_13 : decode cX0_take 13 = .ok (.ireturn, 1) := by decide +kernel
theorem dX0_take_14 : decode cX0_take 14 = .ok (.iconst 0, 1) := by decide +kernel
theorem dX0_take_15 : decode cX0_take 15 = .ok (.ireturn, 1) := by decide +kernel
abbrev cX0_level : ByteArray := method_9_code
def yX0_level : MethodName := ⟨RX0, "level", "(LCablePlant;II[D)I"⟩
theorem dX0_level_0 : decode cX0_level 0 = .ok (.aload_n 3, 1) := by decide +kernel
theorem dX0_level_1 : decode cX0_level 1 = .ok (.iconst 0, 1) := by decide +kernel
theorem dX0_level_2 : decode cX0_level 2 = .ok (.aload_n 0, 1) := by decide +kernel
theorem dX0_level_3 : decode cX0_level 3 = .ok (.iload_n 1, 1) := by decide +kernel
theorem dX0_level_4 : decode cX0_level 4 = .ok (.iload_n 2, 1) := by decide +kernel
theorem dX0_level_5 : decode cX0_level 5 = .ok (.invokevirtual 41, 3) := by decide +kernel
theorem dX0_level_8 : decode cX0_level 8 = .ok (.dastore, 1) := by decide +kernel
theorem dX0_level_9 : decode cX0_level 9 = .ok (.goto 7, 3) := by decide +kernel
theorem dX0_level_12 : decode cX0_level 12 = .ok (.astore 4, 2) := by decide +kernel
theorem dX0_level_14 : decode cX0_level 14 = .ok (.iconst 1, 1) := by decide +kernel
theorem dX0_level_15 : decode cX0_level 15 = .ok (.ireturn, 1) := by decide +kernel
theorem dX0_level_16 : decode cX0_level 16 = .ok (.iconst 0, 1) := by decide +kernel
theorem dX0_level_17 : decode cX0_level 17 = .ok (.ireturn, 1) := by decide +kernel
abbrev cX0_told : ByteArray := method_10_code
def yX0_told : MethodName := ⟨RX0, "told", "(LCablePlant;II[J)I"⟩
theorem dX0_told_0 : decode cX0_told 0 = .ok (.aload_n 3, 1) := by decide +kernel
theorem dX0_told_1 : decode cX0_told 1 = .ok (.iconst 0, 1) := by decide +kernel
theorem dX0_told_2 : decode cX0_told 2 = .ok (.aload_n 0, 1) := by decide +kernel
theorem dX0_told_3 : decode cX0_told 3 = .ok (.iload_n 1, 1) := by decide +kernel
theorem dX0_told_4 : decode cX0_told 4 = .ok (.iload_n 2, 1) := by decide +kernel
theorem dX0_told_5 : decode cX0_told 5 = .ok (.invokevirtual 45, 3) := by decide +kernel
theorem dX0_told_8 : decode cX0_told 8 = .ok (.i2l, 1) := by decide +kernel
theorem dX0_told_9 : decode cX0_told 9 = .ok (.lastore, 1) := by decide +kernel
theorem dX0_told_10 : decode cX0_told 10 = .ok (.goto 7, 3) := by decide +kernel
theorem dX0_told_13 : decode cX0_told 13 = .ok (.astore 4, 2) := by decide +kernel
theorem dX0_told_15 : decode cX0_told 15 = .ok (.iconst 1, 1) := by decide +kernel
theorem dX0_told_16 : decode cX0_told 16 = .ok (.ireturn, 1) := by decide +kernel
theorem dX0_told_17 : decode cX0_told 17 = .ok (.iconst 0, 1) := by decide +kernel
theorem dX0_told_18 : decode cX0_told 18 = .ok (.ireturn, 1) := by decide +kernel
theorem q36 : (Jvm.Cond.initialized "CablePlantLaw") ∈ lw_all := lw_g (lw_at lw_m1 0 rfl) rfl
theorem q72 : (Jvm.Cond.classLink "CablePlantLaw" (8 : Nat) "CablePlant") ∈ lw_all := lw_g (lw_at lw_m1 36 rfl) rfl
theorem q74 : (Jvm.Cond.methodLink "CablePlantLaw" (49 : Nat) ({ cls := "CablePlant", name := "<init>", desc := "()V" } : Jvm.MethodName)) ∈ lw_all := lw_g (lw_at lw_m1 38 rfl) rfl
theorem q541 : (Jvm.Cond.methodLink "CablePlantLaw" (80 : Nat) ({ cls := "CablePlant", name := "key", desc := "(I)I" } : Jvm.MethodName)) ∈ lw_all := lw_g (lw_at lw_m3 25 rfl) rfl
theorem q563 : (Jvm.Cond.methodLink "CablePlantLaw" (96 : Nat) ({ cls := "CablePlant", name := "count", desc := "(I)I" } : Jvm.MethodName)) ∈ lw_all := lw_g (lw_at lw_m3 47 rfl) rfl
theorem q593 : (Jvm.Cond.methodLink "CablePlantLaw" (55 : Nat) ({ cls := "CablePlantLaw", name := "place", desc := "(LCablePlant;IDD)I" } : Jvm.MethodName)) ∈ lw_all := lw_g (lw_at lw_m3 77 rfl) rfl
theorem q594 : (Jvm.Cond.static ({ cls := "CablePlantLaw", name := "place", desc := "(LCablePlant;IDD)I" } : Jvm.MethodName)) ∈ lw_all := lw_g (lw_at lw_m3 78 rfl) rfl
theorem q595 : (Jvm.Cond.codeWith ({ cls := "CablePlantLaw", name := "place", desc := "(LCablePlant;IDD)I" } : Jvm.MethodName) method_3_code (7 : Nat) (Option.some Jvm.ClassFile.FieldType.int) [((0 : Nat), (8 : Nat), (11 : Nat), (13 : Nat))]) ∈ lw_all := lw_g (lw_at lw_m3 79 rfl) rfl
theorem q596 : (Jvm.Cond.classLink "CablePlantLaw" (13 : Nat) "java/lang/IllegalArgumentException") ∈ lw_all := lw_g (lw_at lw_m3 80 rfl) rfl
theorem q597 : (Jvm.Cond.methodLink "CablePlantLaw" (7 : Nat) ({ cls := "CablePlant", name := "place", desc := "(IDD)V" } : Jvm.MethodName)) ∈ lw_all := lw_g (lw_at lw_m3 81 rfl) rfl
theorem q621 : (Jvm.Cond.methodLink "CablePlantLaw" (64 : Nat) ({ cls := "CablePlantLaw", name := "power", desc := "(LCablePlant;IZ)I" } : Jvm.MethodName)) ∈ lw_all := lw_g (lw_at lw_m3 105 rfl) rfl
theorem q622 : (Jvm.Cond.static ({ cls := "CablePlantLaw", name := "power", desc := "(LCablePlant;IZ)I" } : Jvm.MethodName)) ∈ lw_all := lw_g (lw_at lw_m3 106 rfl) rfl
theorem q623 : (Jvm.Cond.codeWith ({ cls := "CablePlantLaw", name := "power", desc := "(LCablePlant;IZ)I" } : Jvm.MethodName) method_4_code (4 : Nat) (Option.some Jvm.ClassFile.FieldType.int) [((0 : Nat), (6 : Nat), (9 : Nat), (13 : Nat)), ((0 : Nat), (6 : Nat), (12 : Nat), (19 : Nat))]) ∈ lw_all := lw_g (lw_at lw_m3 107 rfl) rfl
theorem q624 : (Jvm.Cond.classLink "CablePlantLaw" (19 : Nat) "java/lang/IllegalStateException") ∈ lw_all := lw_g (lw_at lw_m3 108 rfl) rfl
theorem q625 : (Jvm.Cond.methodLink "CablePlantLaw" (15 : Nat) ({ cls := "CablePlant", name := "power", desc := "(IZ)V" } : Jvm.MethodName)) ∈ lw_all := lw_g (lw_at lw_m3 109 rfl) rfl
theorem q763 : (Jvm.Cond.methodLink "CablePlantLaw" (68 : Nat) ({ cls := "CablePlantLaw", name := "flow", desc := "(LCablePlant;IIID)I" } : Jvm.MethodName)) ∈ lw_all := lw_g (lw_at lw_m4 7 rfl) rfl
theorem q764 : (Jvm.Cond.static ({ cls := "CablePlantLaw", name := "flow", desc := "(LCablePlant;IIID)I" } : Jvm.MethodName)) ∈ lw_all := lw_g (lw_at lw_m4 8 rfl) rfl
theorem q765 : (Jvm.Cond.codeWith ({ cls := "CablePlantLaw", name := "flow", desc := "(LCablePlant;IIID)I" } : Jvm.MethodName) method_5_code (7 : Nat) (Option.some Jvm.ClassFile.FieldType.int) [((0 : Nat), (9 : Nat), (12 : Nat), (13 : Nat))]) ∈ lw_all := lw_g (lw_at lw_m4 9 rfl) rfl
theorem q766 : (Jvm.Cond.methodLink "CablePlantLaw" (21 : Nat) ({ cls := "CablePlant", name := "flow", desc := "(IIID)V" } : Jvm.MethodName)) ∈ lw_all := lw_g (lw_at lw_m4 10 rfl) rfl
theorem q771 : (Jvm.Cond.methodLink "CablePlantLaw" (72 : Nat) ({ cls := "CablePlantLaw", name := "packet", desc := "(LCablePlant;IIII[J)I" } : Jvm.MethodName)) ∈ lw_all := lw_g (lw_at lw_m4 15 rfl) rfl
theorem q772 : (Jvm.Cond.static ({ cls := "CablePlantLaw", name := "packet", desc := "(LCablePlant;IIII[J)I" } : Jvm.MethodName)) ∈ lw_all := lw_g (lw_at lw_m4 16 rfl) rfl
theorem q773 : (Jvm.Cond.codeWith ({ cls := "CablePlantLaw", name := "packet", desc := "(LCablePlant;IIII[J)I" } : Jvm.MethodName) method_6_code (7 : Nat) (Option.some Jvm.ClassFile.FieldType.int) [((0 : Nat), (14 : Nat), (17 : Nat), (13 : Nat)), ((0 : Nat), (14 : Nat), (21 : Nat), (19 : Nat)), ((0 : Nat), (14 : Nat), (25 : Nat), (29 : Nat))]) ∈ lw_all := lw_g (lw_at lw_m4 17 rfl) rfl
theorem q774 : (Jvm.Cond.classLink "CablePlantLaw" (29 : Nat) "java/lang/UnsupportedOperationException") ∈ lw_all := lw_g (lw_at lw_m4 18 rfl) rfl
theorem q775 : (Jvm.Cond.methodLink "CablePlantLaw" (25 : Nat) ({ cls := "CablePlant", name := "packet", desc := "(IIII)I" } : Jvm.MethodName)) ∈ lw_all := lw_g (lw_at lw_m4 19 rfl) rfl
theorem q859 : (Jvm.Cond.methodLink "CablePlantLaw" (76 : Nat) ({ cls := "CablePlantLaw", name := "round", desc := "(LCablePlant;I[J)I" } : Jvm.MethodName)) ∈ lw_all := lw_g (lw_at lw_m4 103 rfl) rfl
theorem q860 : (Jvm.Cond.static ({ cls := "CablePlantLaw", name := "round", desc := "(LCablePlant;I[J)I" } : Jvm.MethodName)) ∈ lw_all := lw_g (lw_at lw_m4 104 rfl) rfl
theorem q861 : (Jvm.Cond.codeWith ({ cls := "CablePlantLaw", name := "round", desc := "(LCablePlant;I[J)I" } : Jvm.MethodName) method_7_code (4 : Nat) (Option.some Jvm.ClassFile.FieldType.int) [((0 : Nat), (9 : Nat), (12 : Nat), (13 : Nat))]) ∈ lw_all := lw_g (lw_at lw_m4 105 rfl) rfl
theorem q862 : (Jvm.Cond.methodLink "CablePlantLaw" (31 : Nat) ({ cls := "CablePlant", name := "round", desc := "(I)I" } : Jvm.MethodName)) ∈ lw_all := lw_g (lw_at lw_m4 106 rfl) rfl
theorem q988 : (Jvm.Cond.methodLink "CablePlantLaw" (84 : Nat) ({ cls := "CablePlantLaw", name := "take", desc := "(LCablePlant;[J)I" } : Jvm.MethodName)) ∈ lw_all := lw_g (lw_at lw_m4 232 rfl) rfl
theorem q989 : (Jvm.Cond.static ({ cls := "CablePlantLaw", name := "take", desc := "(LCablePlant;[J)I" } : Jvm.MethodName)) ∈ lw_all := lw_g (lw_at lw_m4 233 rfl) rfl
theorem q990 : (Jvm.Cond.codeWith ({ cls := "CablePlantLaw", name := "take", desc := "(LCablePlant;[J)I" } : Jvm.MethodName) method_8_code (3 : Nat) (Option.some Jvm.ClassFile.FieldType.int) [((0 : Nat), (8 : Nat), (11 : Nat), (39 : Nat))]) ∈ lw_all := lw_g (lw_at lw_m4 234 rfl) rfl
theorem q991 : (Jvm.Cond.classLink "CablePlantLaw" (39 : Nat) "java/util/NoSuchElementException") ∈ lw_all := lw_g (lw_at lw_m4 235 rfl) rfl
theorem q992 : (Jvm.Cond.methodLink "CablePlantLaw" (35 : Nat) ({ cls := "CablePlant", name := "take", desc := "()I" } : Jvm.MethodName)) ∈ lw_all := lw_g (lw_at lw_m4 236 rfl) rfl
theorem q998 : (Jvm.Cond.methodLink "CablePlantLaw" (88 : Nat) ({ cls := "CablePlantLaw", name := "level", desc := "(LCablePlant;II[D)I" } : Jvm.MethodName)) ∈ lw_all := lw_g (lw_at lw_m5 2 rfl) rfl
theorem q999 : (Jvm.Cond.static ({ cls := "CablePlantLaw", name := "level", desc := "(LCablePlant;II[D)I" } : Jvm.MethodName)) ∈ lw_all := lw_g (lw_at lw_m5 3 rfl) rfl
theorem q1000 : (Jvm.Cond.codeWith ({ cls := "CablePlantLaw", name := "level", desc := "(LCablePlant;II[D)I" } : Jvm.MethodName) method_9_code (5 : Nat) (Option.some Jvm.ClassFile.FieldType.int) [((0 : Nat), (9 : Nat), (12 : Nat), (13 : Nat))]) ∈ lw_all := lw_g (lw_at lw_m5 4 rfl) rfl
theorem q1001 : (Jvm.Cond.methodLink "CablePlantLaw" (41 : Nat) ({ cls := "CablePlant", name := "level", desc := "(II)D" } : Jvm.MethodName)) ∈ lw_all := lw_g (lw_at lw_m5 5 rfl) rfl
theorem q1007 : (Jvm.Cond.methodLink "CablePlantLaw" (92 : Nat) ({ cls := "CablePlantLaw", name := "told", desc := "(LCablePlant;II[J)I" } : Jvm.MethodName)) ∈ lw_all := lw_g (lw_at lw_m5 11 rfl) rfl
theorem q1008 : (Jvm.Cond.static ({ cls := "CablePlantLaw", name := "told", desc := "(LCablePlant;II[J)I" } : Jvm.MethodName)) ∈ lw_all := lw_g (lw_at lw_m5 12 rfl) rfl
theorem q1009 : (Jvm.Cond.codeWith ({ cls := "CablePlantLaw", name := "told", desc := "(LCablePlant;II[J)I" } : Jvm.MethodName) method_10_code (5 : Nat) (Option.some Jvm.ClassFile.FieldType.int) [((0 : Nat), (10 : Nat), (13 : Nat), (13 : Nat))]) ∈ lw_all := lw_g (lw_at lw_m5 13 rfl) rfl
theorem q1010 : (Jvm.Cond.methodLink "CablePlantLaw" (45 : Nat) ({ cls := "CablePlant", name := "told", desc := "(II)I" } : Jvm.MethodName)) ∈ lw_all := lw_g (lw_at lw_m5 14 rfl) rfl
theorem q1026 : (Jvm.Cond.classLink "CablePlantLaw" (50 : Nat) "CablePlantModel") ∈ lw_all := lw_g (lw_at lw_m5 30 rfl) rfl
theorem q1028 : (Jvm.Cond.methodLink "CablePlantLaw" (52 : Nat) ({ cls := "CablePlantModel", name := "<init>", desc := "()V" } : Jvm.MethodName)) ∈ lw_all := lw_g (lw_at lw_m5 32 rfl) rfl
theorem q1133 : (Jvm.Cond.methodLink "CablePlantLaw" (61 : Nat) ({ cls := "CablePlantModel", name := "thrown", desc := "()I" } : Jvm.MethodName)) ∈ lw_all := lw_g (lw_at lw_m5 137 rfl) rfl
theorem q1137 : (Jvm.Cond.methodLink "CablePlantLaw" (60 : Nat) ({ cls := "CablePlantModel", name := "place", desc := "(IDD)V" } : Jvm.MethodName)) ∈ lw_all := lw_g (lw_at lw_m5 141 rfl) rfl
theorem q1146 : (Jvm.Cond.methodLink "CablePlantLaw" (67 : Nat) ({ cls := "CablePlantModel", name := "power", desc := "(IZ)V" } : Jvm.MethodName)) ∈ lw_all := lw_g (lw_at lw_m5 150 rfl) rfl
theorem q1154 : (Jvm.Cond.methodLink "CablePlantLaw" (71 : Nat) ({ cls := "CablePlantModel", name := "flow", desc := "(IIID)V" } : Jvm.MethodName)) ∈ lw_all := lw_g (lw_at lw_m5 158 rfl) rfl
theorem q1159 : (Jvm.Cond.methodLink "CablePlantLaw" (75 : Nat) ({ cls := "CablePlantModel", name := "packet", desc := "(IIII)I" } : Jvm.MethodName)) ∈ lw_all := lw_g (lw_at lw_m5 163 rfl) rfl
theorem q1163 : (Jvm.Cond.methodLink "CablePlantLaw" (79 : Nat) ({ cls := "CablePlantModel", name := "round", desc := "(I)I" } : Jvm.MethodName)) ∈ lw_all := lw_g (lw_at lw_m5 167 rfl) rfl
theorem q1231 : (Jvm.Cond.methodLink "CablePlantLaw" (83 : Nat) ({ cls := "CablePlantModel", name := "key", desc := "(I)I" } : Jvm.MethodName)) ∈ lw_all := lw_g (lw_at lw_m5 235 rfl) rfl
theorem q1235 : (Jvm.Cond.methodLink "CablePlantLaw" (87 : Nat) ({ cls := "CablePlantModel", name := "take", desc := "()I" } : Jvm.MethodName)) ∈ lw_all := lw_g (lw_at lw_m5 239 rfl) rfl
theorem q1239 : (Jvm.Cond.methodLink "CablePlantLaw" (91 : Nat) ({ cls := "CablePlantModel", name := "level", desc := "(II)D" } : Jvm.MethodName)) ∈ lw_all := lw_g (lw_at lw_m6 3 rfl) rfl
theorem q1243 : (Jvm.Cond.methodLink "CablePlantLaw" (95 : Nat) ({ cls := "CablePlantModel", name := "told", desc := "(II)I" } : Jvm.MethodName)) ∈ lw_all := lw_g (lw_at lw_m6 7 rfl) rfl
theorem q1247 : (Jvm.Cond.methodLink "CablePlantLaw" (99 : Nat) ({ cls := "CablePlantModel", name := "count", desc := "(I)I" } : Jvm.MethodName)) ∈ lw_all := lw_g (lw_at lw_m6 11 rfl) rfl
theorem q1251 : (Jvm.Cond.constantDouble "CablePlantLaw" (53 : Nat) (4593671619917905920 : UInt64)) ∈ lw_all := lw_g (lw_at lw_m6 15 rfl) rfl
/-! the law's own entry -/
abbrev cL_law : ByteArray := code
theorem dL_law_0 : decode cL_law 0 = .ok (.new 8, 3) := by decide +kernel
theorem dL_law_3 : decode cL_law 3 = .ok (.dup, 1) := by decide +kernel
theorem dL_law_4 : decode cL_law 4 = .ok (.invokespecial 49, 3) := by decide +kernel
theorem dL_law_7 : decode cL_law 7 = .ok (.astore_n 1, 1) := by decide +kernel
theorem dL_law_8 : decode cL_law 8 = .ok (.new 50, 3) := by decide +kernel
theorem dL_law_11 : decode cL_law 11 = .ok (.dup, 1) := by decide +kernel
theorem dL_law_12 : decode cL_law 12 = .ok (.invokespecial 52, 3) := by decide +kernel
theorem dL_law_15 : decode cL_law 15 = .ok (.astore_n 2, 1) := by decide +kernel
theorem dL_law_16 : decode cL_law 16 = .ok (.iconst 1, 1) := by decide +kernel
theorem dL_law_17 : decode cL_law 17 = .ok (.newarray .long, 2) := by decide +kernel
theorem dL_law_19 : decode cL_law 19 = .ok (.astore_n 3, 1) := by decide +kernel
theorem dL_law_20 : decode cL_law 20 = .ok (.iconst 1, 1) := by decide +kernel
theorem dL_law_21 : decode cL_law 21 = .ok (.newarray .double, 2) := by decide +kernel
theorem dL_law_23 : decode cL_law 23 = .ok (.astore 4, 2) := by decide +kernel
theorem dL_law_25 : decode cL_law 25 = .ok (.iconst 0, 1) := by decide +kernel
theorem dL_law_26 : decode cL_law 26 = .ok (.istore 5, 2) := by decide +kernel
theorem dL_law_28 : decode cL_law 28 = .ok (.iload 5, 2) := by decide +kernel
theorem dL_law_30 : decode cL_law 30 = .ok (.aload_n 0, 1) := by decide +kernel
theorem dL_law_31 : decode cL_law 31 = .ok (.arraylength, 1) := by decide +kernel
theorem dL_law_32 : decode cL_law 32 = .ok (.iconst 5, 1) := by decide +kernel
theorem dL_law_33 : decode cL_law 33 = .ok (.isub, 1) := by decide +kernel
theorem dL_law_34 : decode cL_law 34 = .ok (.if_icmp .gt 697, 3) := by decide +kernel
theorem dL_law_37 : decode cL_law 37 = .ok (.aload_n 0, 1) := by decide +kernel
theorem dL_law_38 : decode cL_law 38 = .ok (.iload 5, 2) := by decide +kernel
theorem dL_law_40 : decode cL_law 40 = .ok (.iaload, 1) := by decide +kernel
theorem dL_law_41 : decode cL_law 41 = .ok (.bipush 15, 2) := by decide +kernel
theorem dL_law_43 : decode cL_law 43 = .ok (.iand, 1) := by decide +kernel
theorem dL_law_44 : decode cL_law 44 = .ok (.tableswitch 681 0 9 #[56, 136, 200, 282, 374, 430, 455, 499, 588, 656], 56) := by decide +kernel
theorem dL_law_100 : decode cL_law 100 = .ok (.aload_n 1, 1) := by decide +kernel
theorem dL_law_101 : decode cL_law 101 = .ok (.aload_n 0, 1) := by decide +kernel
theorem dL_law_102 : decode cL_law 102 = .ok (.iload 5, 2) := by decide +kernel
theorem dL_law_104 : decode cL_law 104 = .ok (.iconst 1, 1) := by decide +kernel
theorem dL_law_105 : decode cL_law 105 = .ok (.iadd, 1) := by decide +kernel
theorem dL_law_106 : decode cL_law 106 = .ok (.iaload, 1) := by decide +kernel
theorem dL_law_107 : decode cL_law 107 = .ok (.aload_n 0, 1) := by decide +kernel
theorem dL_law_108 : decode cL_law 108 = .ok (.iload 5, 2) := by decide +kernel
theorem dL_law_110 : decode cL_law 110 = .ok (.iconst 2, 1) := by decide +kernel
theorem dL_law_111 : decode cL_law 111 = .ok (.iadd, 1) := by decide +kernel
theorem dL_law_112 : decode cL_law 112 = .ok (.iaload, 1) := by decide +kernel
theorem dL_law_113 : decode cL_law 113 = .ok (.i2d, 1) := by decide +kernel
theorem dL_law_114 : decode cL_law 114 = .ok (.ldc2_w 53, 3) := by decide +kernel
theorem dL_law_117 : decode cL_law 117 = .ok (.dmul, 1) := by decide +kernel
theorem dL_law_118 : decode cL_law 118 = .ok (.aload_n 0, 1) := by decide +kernel
theorem dL_law_119 : decode cL_law 119 = .ok (.iload 5, 2) := by decide +kernel
theorem dL_law_121 : decode cL_law 121 = .ok (.iconst 3, 1) := by decide +kernel
theorem dL_law_122 : decode cL_law 122 = .ok (.iadd, 1) := by decide +kernel
theorem dL_law_123 : decode cL_law 123 = .ok (.iaload, 1) := by decide +kernel
theorem dL_law_124 : decode cL_law 124 = .ok (.i2d, 1) := by decide +kernel
theorem dL_law_125 : decode cL_law 125 = .ok (.ldc2_w 53, 3) := by decide +kernel
theorem dL_law_128 : decode cL_law 128 = .ok (.dmul, 1) := by decide +kernel
theorem dL_law_129 : decode cL_law 129 = .ok (.invokestatic 55, 3) := by decide +kernel
theorem dL_law_132 : decode cL_law 132 = .ok (.istore 6, 2) := by decide +kernel
theorem dL_law_134 : decode cL_law 134 = .ok (.aload_n 2, 1) := by decide +kernel
theorem dL_law_135 : decode cL_law 135 = .ok (.aload_n 0, 1) := by decide +kernel
theorem dL_law_136 : decode cL_law 136 = .ok (.iload 5, 2) := by decide +kernel
theorem dL_law_138 : decode cL_law 138 = .ok (.iconst 1, 1) := by decide +kernel
theorem dL_law_139 : decode cL_law 139 = .ok (.iadd, 1) := by decide +kernel
theorem dL_law_140 : decode cL_law 140 = .ok (.iaload, 1) := by decide +kernel
theorem dL_law_141 : decode cL_law 141 = .ok (.aload_n 0, 1) := by decide +kernel
theorem dL_law_142 : decode cL_law 142 = .ok (.iload 5, 2) := by decide +kernel
theorem dL_law_144 : decode cL_law 144 = .ok (.iconst 2, 1) := by decide +kernel
theorem dL_law_145 : decode cL_law 145 = .ok (.iadd, 1) := by decide +kernel
theorem dL_law_146 : decode cL_law 146 = .ok (.iaload, 1) := by decide +kernel
theorem dL_law_147 : decode cL_law 147 = .ok (.i2d, 1) := by decide +kernel
theorem dL_law_148 : decode cL_law 148 = .ok (.ldc2_w 53, 3) := by decide +kernel
theorem dL_law_151 : decode cL_law 151 = .ok (.dmul, 1) := by decide +kernel
theorem dL_law_152 : decode cL_law 152 = .ok (.aload_n 0, 1) := by decide +kernel
theorem dL_law_153 : decode cL_law 153 = .ok (.iload 5, 2) := by decide +kernel
theorem dL_law_155 : decode cL_law 155 = .ok (.iconst 3, 1) := by decide +kernel
theorem dL_law_156 : decode cL_law 156 = .ok (.iadd, 1) := by decide +kernel
theorem dL_law_157 : decode cL_law 157 = .ok (.iaload, 1) := by decide +kernel
theorem dL_law_158 : decode cL_law 158 = .ok (.i2d, 1) := by decide +kernel
theorem dL_law_159 : decode cL_law 159 = .ok (.ldc2_w 53, 3) := by decide +kernel
theorem dL_law_162 : decode cL_law 162 = .ok (.dmul, 1) := by decide +kernel
theorem dL_law_163 : decode cL_law 163 = .ok (.invokevirtual 60, 3) := by decide +kernel
theorem dL_law_166 : decode cL_law 166 = .ok (.aload_n 2, 1) := by decide +kernel
theorem dL_law_167 : decode cL_law 167 = .ok (.invokevirtual 61, 3) := by decide +kernel
theorem dL_law_170 : decode cL_law 170 = .ok (.iload 6, 2) := by decide +kernel
theorem dL_law_172 : decode cL_law 172 = .ok (.if_icmp .eq 5, 3) := by decide +kernel
theorem dL_law_175 : decode cL_law 175 = .ok (.iconst 0, 1) := by decide +kernel
theorem dL_law_176 : decode cL_law 176 = .ok (.ireturn, 1) := by decide +kernel
theorem dL_law_177 : decode cL_law 177 = .ok (.goto 548, 3) := by decide +kernel
theorem dL_law_180 : decode cL_law 180 = .ok (.aload_n 1, 1) := by decide +kernel
theorem dL_law_181 : decode cL_law 181 = .ok (.aload_n 0, 1) := by decide +kernel
theorem dL_law_182 : decode cL_law 182 = .ok (.iload 5, 2) := by decide +kernel
theorem dL_law_184 : decode cL_law 184 = .ok (.iconst 1, 1) := by decide +kernel
theorem dL_law_185 : decode cL_law 185 = .ok (.iadd, 1) := by decide +kernel
theorem dL_law_186 : decode cL_law 186 = .ok (.iaload, 1) := by decide +kernel
theorem dL_law_187 : decode cL_law 187 = .ok (.aload_n 0, 1) := by decide +kernel
theorem dL_law_188 : decode cL_law 188 = .ok (.iload 5, 2) := by decide +kernel
theorem dL_law_190 : decode cL_law 190 = .ok (.iconst 2, 1) := by decide +kernel
theorem dL_law_191 : decode cL_law 191 = .ok (.iadd, 1) := by decide +kernel
theorem dL_law_192 : decode cL_law 192 = .ok (.iaload, 1) := by decide +kernel
theorem dL_law_193 : decode cL_law 193 = .ok (.ifCond .eq 7, 3) := by decide +kernel
theorem dL_law_196 : decode cL_law 196 = .ok (.iconst 1, 1) := by decide +kernel
theorem dL_law_197 : decode cL_law 197 = .ok (.goto 4, 3) := by decide +kernel
theorem dL_law_200 : decode cL_law 200 = .ok (.iconst 0, 1) := by decide +kernel
theorem dL_law_201 : decode cL_law 201 = .ok (.invokestatic 64, 3) := by decide +kernel
theorem dL_law_204 : decode cL_law 204 = .ok (.istore 6, 2) := by decide +kernel
theorem dL_law_206 : decode cL_law 206 = .ok (.aload_n 2, 1) := by decide +kernel
theorem dL_law_207 : decode cL_law 207 = .ok (.aload_n 0, 1) := by decide +kernel
theorem dL_law_208 : decode cL_law 208 = .ok (.iload 5, 2) := by decide +kernel
theorem dL_law_210 : decode cL_law 210 = .ok (.iconst 1, 1) := by decide +kernel
theorem dL_law_211 : decode cL_law 211 = .ok (.iadd, 1) := by decide +kernel
theorem dL_law_212 : decode cL_law 212 = .ok (.iaload, 1) := by decide +kernel
theorem dL_law_213 : decode cL_law 213 = .ok (.aload_n 0, 1) := by decide +kernel
theorem dL_law_214 : decode cL_law 214 = .ok (.iload 5, 2) := by decide +kernel
theorem dL_law_216 : decode cL_law 216 = .ok (.iconst 2, 1) := by decide +kernel
theorem dL_law_217 : decode cL_law 217 = .ok (.iadd, 1) := by decide +kernel
theorem dL_law_218 : decode cL_law 218 = .ok (.iaload, 1) := by decide +kernel
theorem dL_law_219 : decode cL_law 219 = .ok (.ifCond .eq 7, 3) := by decide +kernel
theorem dL_law_222 : decode cL_law 222 = .ok (.iconst 1, 1) := by decide +kernel
theorem dL_law_223 : decode cL_law 223 = .ok (.goto 4, 3) := by decide +kernel
theorem dL_law_226 : decode cL_law 226 = .ok (.iconst 0, 1) := by decide +kernel
theorem dL_law_227 : decode cL_law 227 = .ok (.invokevirtual 67, 3) := by decide +kernel
theorem dL_law_230 : decode cL_law 230 = .ok (.aload_n 2, 1) := by decide +kernel
theorem dL_law_231 : decode cL_law 231 = .ok (.invokevirtual 61, 3) := by decide +kernel
theorem dL_law_234 : decode cL_law 234 = .ok (.iload 6, 2) := by decide +kernel
theorem dL_law_236 : decode cL_law 236 = .ok (.if_icmp .eq 5, 3) := by decide +kernel
theorem dL_law_239 : decode cL_law 239 = .ok (.iconst 0, 1) := by decide +kernel
theorem dL_law_240 : decode cL_law 240 = .ok (.ireturn, 1) := by decide +kernel
theorem dL_law_241 : decode cL_law 241 = .ok (.goto 484, 3) := by decide +kernel
theorem dL_law_244 : decode cL_law 244 = .ok (.aload_n 1, 1) := by decide +kernel
theorem dL_law_245 : decode cL_law 245 = .ok (.aload_n 0, 1) := by decide +kernel
theorem dL_law_246 : decode cL_law 246 = .ok (.iload 5, 2) := by decide +kernel
theorem dL_law_248 : decode cL_law 248 = .ok (.iconst 1, 1) := by decide +kernel
theorem dL_law_249 : decode cL_law 249 = .ok (.iadd, 1) := by decide +kernel
theorem dL_law_250 : decode cL_law 250 = .ok (.iaload, 1) := by decide +kernel
theorem dL_law_251 : decode cL_law 251 = .ok (.aload_n 0, 1) := by decide +kernel
theorem dL_law_252 : decode cL_law 252 = .ok (.iload 5, 2) := by decide +kernel
theorem dL_law_254 : decode cL_law 254 = .ok (.iconst 2, 1) := by decide +kernel
theorem dL_law_255 : decode cL_law 255 = .ok (.iadd, 1) := by decide +kernel
theorem dL_law_256 : decode cL_law 256 = .ok (.iaload, 1) := by decide +kernel
theorem dL_law_257 : decode cL_law 257 = .ok (.aload_n 0, 1) := by decide +kernel
theorem dL_law_258 : decode cL_law 258 = .ok (.iload 5, 2) := by decide +kernel
theorem dL_law_260 : decode cL_law 260 = .ok (.iconst 3, 1) := by decide +kernel
theorem dL_law_261 : decode cL_law 261 = .ok (.iadd, 1) := by decide +kernel
theorem dL_law_262 : decode cL_law 262 = .ok (.iaload, 1) := by decide +kernel
theorem dL_law_263 : decode cL_law 263 = .ok (.aload_n 0, 1) := by decide +kernel
theorem dL_law_264 : decode cL_law 264 = .ok (.iload 5, 2) := by decide +kernel
theorem dL_law_266 : decode cL_law 266 = .ok (.iconst 4, 1) := by decide +kernel
theorem dL_law_267 : decode cL_law 267 = .ok (.iadd, 1) := by decide +kernel
theorem dL_law_268 : decode cL_law 268 = .ok (.iaload, 1) := by decide +kernel
theorem dL_law_269 : decode cL_law 269 = .ok (.i2d, 1) := by decide +kernel
theorem dL_law_270 : decode cL_law 270 = .ok (.ldc2_w 53, 3) := by decide +kernel
theorem dL_law_273 : decode cL_law 273 = .ok (.dmul, 1) := by decide +kernel
theorem dL_law_274 : decode cL_law 274 = .ok (.invokestatic 68, 3) := by decide +kernel
theorem dL_law_277 : decode cL_law 277 = .ok (.istore 6, 2) := by decide +kernel
theorem dL_law_279 : decode cL_law 279 = .ok (.aload_n 2, 1) := by decide +kernel
theorem dL_law_280 : decode cL_law 280 = .ok (.aload_n 0, 1) := by decide +kernel
theorem dL_law_281 : decode cL_law 281 = .ok (.iload 5, 2) := by decide +kernel
theorem dL_law_283 : decode cL_law 283 = .ok (.iconst 1, 1) := by decide +kernel
theorem dL_law_284 : decode cL_law 284 = .ok (.iadd, 1) := by decide +kernel
theorem dL_law_285 : decode cL_law 285 = .ok (.iaload, 1) := by decide +kernel
theorem dL_law_286 : decode cL_law 286 = .ok (.aload_n 0, 1) := by decide +kernel
theorem dL_law_287 : decode cL_law 287 = .ok (.iload 5, 2) := by decide +kernel
theorem dL_law_289 : decode cL_law 289 = .ok (.iconst 2, 1) := by decide +kernel
theorem dL_law_290 : decode cL_law 290 = .ok (.iadd, 1) := by decide +kernel
theorem dL_law_291 : decode cL_law 291 = .ok (.iaload, 1) := by decide +kernel
theorem dL_law_292 : decode cL_law 292 = .ok (.aload_n 0, 1) := by decide +kernel
theorem dL_law_293 : decode cL_law 293 = .ok (.iload 5, 2) := by decide +kernel
theorem dL_law_295 : decode cL_law 295 = .ok (.iconst 3, 1) := by decide +kernel
theorem dL_law_296 : decode cL_law 296 = .ok (.iadd, 1) := by decide +kernel
theorem dL_law_297 : decode cL_law 297 = .ok (.iaload, 1) := by decide +kernel
theorem dL_law_298 : decode cL_law 298 = .ok (.aload_n 0, 1) := by decide +kernel
theorem dL_law_299 : decode cL_law 299 = .ok (.iload 5, 2) := by decide +kernel
theorem dL_law_301 : decode cL_law 301 = .ok (.iconst 4, 1) := by decide +kernel
theorem dL_law_302 : decode cL_law 302 = .ok (.iadd, 1) := by decide +kernel
theorem dL_law_303 : decode cL_law 303 = .ok (.iaload, 1) := by decide +kernel
theorem dL_law_304 : decode cL_law 304 = .ok (.i2d, 1) := by decide +kernel
theorem dL_law_305 : decode cL_law 305 = .ok (.ldc2_w 53, 3) := by decide +kernel
theorem dL_law_308 : decode cL_law 308 = .ok (.dmul, 1) := by decide +kernel
theorem dL_law_309 : decode cL_law 309 = .ok (.invokevirtual 71, 3) := by decide +kernel
theorem dL_law_312 : decode cL_law 312 = .ok (.aload_n 2, 1) := by decide +kernel
theorem dL_law_313 : decode cL_law 313 = .ok (.invokevirtual 61, 3) := by decide +kernel
theorem dL_law_316 : decode cL_law 316 = .ok (.iload 6, 2) := by decide +kernel
theorem dL_law_318 : decode cL_law 318 = .ok (.if_icmp .eq 5, 3) := by decide +kernel
theorem dL_law_321 : decode cL_law 321 = .ok (.iconst 0, 1) := by decide +kernel
theorem dL_law_322 : decode cL_law 322 = .ok (.ireturn, 1) := by decide +kernel
theorem dL_law_323 : decode cL_law 323 = .ok (.goto 402, 3) := by decide +kernel
theorem dL_law_326 : decode cL_law 326 = .ok (.aload_n 1, 1) := by decide +kernel
theorem dL_law_327 : decode cL_law 327 = .ok (.aload_n 0, 1) := by decide +kernel
theorem dL_law_328 : decode cL_law 328 = .ok (.iload 5, 2) := by decide +kernel
theorem dL_law_330 : decode cL_law 330 = .ok (.iconst 1, 1) := by decide +kernel
theorem dL_law_331 : decode cL_law 331 = .ok (.iadd, 1) := by decide +kernel
theorem dL_law_332 : decode cL_law 332 = .ok (.iaload, 1) := by decide +kernel
theorem dL_law_333 : decode cL_law 333 = .ok (.aload_n 0, 1) := by decide +kernel
theorem dL_law_334 : decode cL_law 334 = .ok (.iload 5, 2) := by decide +kernel
theorem dL_law_336 : decode cL_law 336 = .ok (.iconst 2, 1) := by decide +kernel
theorem dL_law_337 : decode cL_law 337 = .ok (.iadd, 1) := by decide +kernel
theorem dL_law_338 : decode cL_law 338 = .ok (.iaload, 1) := by decide +kernel
theorem dL_law_339 : decode cL_law 339 = .ok (.aload_n 0, 1) := by decide +kernel
theorem dL_law_340 : decode cL_law 340 = .ok (.iload 5, 2) := by decide +kernel
theorem dL_law_342 : decode cL_law 342 = .ok (.iconst 3, 1) := by decide +kernel
theorem dL_law_343 : decode cL_law 343 = .ok (.iadd, 1) := by decide +kernel
theorem dL_law_344 : decode cL_law 344 = .ok (.iaload, 1) := by decide +kernel
theorem dL_law_345 : decode cL_law 345 = .ok (.aload_n 0, 1) := by decide +kernel
theorem dL_law_346 : decode cL_law 346 = .ok (.iload 5, 2) := by decide +kernel
theorem dL_law_348 : decode cL_law 348 = .ok (.iconst 4, 1) := by decide +kernel
theorem dL_law_349 : decode cL_law 349 = .ok (.iadd, 1) := by decide +kernel
theorem dL_law_350 : decode cL_law 350 = .ok (.iaload, 1) := by decide +kernel
theorem dL_law_351 : decode cL_law 351 = .ok (.aload_n 3, 1) := by decide +kernel
theorem dL_law_352 : decode cL_law 352 = .ok (.invokestatic 72, 3) := by decide +kernel
theorem dL_law_355 : decode cL_law 355 = .ok (.istore 6, 2) := by decide +kernel
theorem dL_law_357 : decode cL_law 357 = .ok (.aload_n 2, 1) := by decide +kernel
theorem dL_law_358 : decode cL_law 358 = .ok (.aload_n 0, 1) := by decide +kernel
theorem dL_law_359 : decode cL_law 359 = .ok (.iload 5, 2) := by decide +kernel
theorem dL_law_361 : decode cL_law 361 = .ok (.iconst 1, 1) := by decide +kernel
theorem dL_law_362 : decode cL_law 362 = .ok (.iadd, 1) := by decide +kernel
theorem dL_law_363 : decode cL_law 363 = .ok (.iaload, 1) := by decide +kernel
theorem dL_law_364 : decode cL_law 364 = .ok (.aload_n 0, 1) := by decide +kernel
theorem dL_law_365 : decode cL_law 365 = .ok (.iload 5, 2) := by decide +kernel
theorem dL_law_367 : decode cL_law 367 = .ok (.iconst 2, 1) := by decide +kernel
theorem dL_law_368 : decode cL_law 368 = .ok (.iadd, 1) := by decide +kernel
theorem dL_law_369 : decode cL_law 369 = .ok (.iaload, 1) := by decide +kernel
theorem dL_law_370 : decode cL_law 370 = .ok (.aload_n 0, 1) := by decide +kernel
theorem dL_law_371 : decode cL_law 371 = .ok (.iload 5, 2) := by decide +kernel
theorem dL_law_373 : decode cL_law 373 = .ok (.iconst 3, 1) := by decide +kernel
theorem dL_law_374 : decode cL_law 374 = .ok (.iadd, 1) := by decide +kernel
theorem dL_law_375 : decode cL_law 375 = .ok (.iaload, 1) := by decide +kernel
theorem dL_law_376 : decode cL_law 376 = .ok (.aload_n 0, 1) := by decide +kernel
theorem dL_law_377 : decode cL_law 377 = .ok (.iload 5, 2) := by decide +kernel
theorem dL_law_379 : decode cL_law 379 = .ok (.iconst 4, 1) := by decide +kernel
theorem dL_law_380 : decode cL_law 380 = .ok (.iadd, 1) := by decide +kernel
theorem dL_law_381 : decode cL_law 381 = .ok (.iaload, 1) := by decide +kernel
theorem dL_law_382 : decode cL_law 382 = .ok (.invokevirtual 75, 3) := by decide +kernel
theorem dL_law_385 : decode cL_law 385 = .ok (.istore 7, 2) := by decide +kernel
theorem dL_law_387 : decode cL_law 387 = .ok (.aload_n 2, 1) := by decide +kernel
theorem dL_law_388 : decode cL_law 388 = .ok (.invokevirtual 61, 3) := by decide +kernel
theorem dL_law_391 : decode cL_law 391 = .ok (.iload 6, 2) := by decide +kernel
theorem dL_law_393 : decode cL_law 393 = .ok (.if_icmp .eq 5, 3) := by decide +kernel
theorem dL_law_396 : decode cL_law 396 = .ok (.iconst 0, 1) := by decide +kernel
theorem dL_law_397 : decode cL_law 397 = .ok (.ireturn, 1) := by decide +kernel
theorem dL_law_398 : decode cL_law 398 = .ok (.iload 6, 2) := by decide +kernel
theorem dL_law_400 : decode cL_law 400 = .ok (.ifCond .ne 15, 3) := by decide +kernel
theorem dL_law_403 : decode cL_law 403 = .ok (.aload_n 3, 1) := by decide +kernel
theorem dL_law_404 : decode cL_law 404 = .ok (.iconst 0, 1) := by decide +kernel
theorem dL_law_405 : decode cL_law 405 = .ok (.laload, 1) := by decide +kernel
theorem dL_law_406 : decode cL_law 406 = .ok (.iload 7, 2) := by decide +kernel
theorem dL_law_408 : decode cL_law 408 = .ok (.i2l, 1) := by decide +kernel
theorem dL_law_409 : decode cL_law 409 = .ok (.lcmp, 1) := by decide +kernel
theorem dL_law_410 : decode cL_law 410 = .ok (.ifCond .eq 5, 3) := by decide +kernel
theorem dL_law_413 : decode cL_law 413 = .ok (.iconst 0, 1) := by decide +kernel
theorem dL_law_414 : decode cL_law 414 = .ok (.ireturn, 1) := by decide +kernel
theorem dL_law_415 : decode cL_law 415 = .ok (.goto 310, 3) := by decide +kernel
theorem dL_law_418 : decode cL_law 418 = .ok (.aload_n 1, 1) := by decide +kernel
theorem dL_law_419 : decode cL_law 419 = .ok (.aload_n 0, 1) := by decide +kernel
theorem dL_law_420 : decode cL_law 420 = .ok (.iload 5, 2) := by decide +kernel
theorem dL_law_422 : decode cL_law 422 = .ok (.iconst 1, 1) := by decide +kernel
theorem dL_law_423 : decode cL_law 423 = .ok (.iadd, 1) := by decide +kernel
theorem dL_law_424 : decode cL_law 424 = .ok (.iaload, 1) := by decide +kernel
theorem dL_law_425 : decode cL_law 425 = .ok (.aload_n 3, 1) := by decide +kernel
theorem dL_law_426 : decode cL_law 426 = .ok (.invokestatic 76, 3) := by decide +kernel
theorem dL_law_429 : decode cL_law 429 = .ok (.istore 6, 2) := by decide +kernel
theorem dL_law_431 : decode cL_law 431 = .ok (.aload_n 2, 1) := by decide +kernel
theorem dL_law_432 : decode cL_law 432 = .ok (.aload_n 0, 1) := by decide +kernel
theorem dL_law_433 : decode cL_law 433 = .ok (.iload 5, 2) := by decide +kernel
theorem dL_law_435 : decode cL_law 435 = .ok (.iconst 1, 1) := by decide +kernel
theorem dL_law_436 : decode cL_law 436 = .ok (.iadd, 1) := by decide +kernel
theorem dL_law_437 : decode cL_law 437 = .ok (.iaload, 1) := by decide +kernel
theorem dL_law_438 : decode cL_law 438 = .ok (.invokevirtual 79, 3) := by decide +kernel
theorem dL_law_441 : decode cL_law 441 = .ok (.istore 7, 2) := by decide +kernel
theorem dL_law_443 : decode cL_law 443 = .ok (.aload_n 2, 1) := by decide +kernel
theorem dL_law_444 : decode cL_law 444 = .ok (.invokevirtual 61, 3) := by decide +kernel
theorem dL_law_447 : decode cL_law 447 = .ok (.iload 6, 2) := by decide +kernel
theorem dL_law_449 : decode cL_law 449 = .ok (.if_icmp .eq 5, 3) := by decide +kernel
theorem dL_law_452 : decode cL_law 452 = .ok (.iconst 0, 1) := by decide +kernel
theorem dL_law_453 : decode cL_law 453 = .ok (.ireturn, 1) := by decide +kernel
theorem dL_law_454 : decode cL_law 454 = .ok (.iload 6, 2) := by decide +kernel
theorem dL_law_456 : decode cL_law 456 = .ok (.ifCond .ne 15, 3) := by decide +kernel
theorem dL_law_459 : decode cL_law 459 = .ok (.aload_n 3, 1) := by decide +kernel
theorem dL_law_460 : decode cL_law 460 = .ok (.iconst 0, 1) := by decide +kernel
theorem dL_law_461 : decode cL_law 461 = .ok (.laload, 1) := by decide +kernel
theorem dL_law_462 : decode cL_law 462 = .ok (.iload 7, 2) := by decide +kernel
theorem dL_law_464 : decode cL_law 464 = .ok (.i2l, 1) := by decide +kernel
theorem dL_law_465 : decode cL_law 465 = .ok (.lcmp, 1) := by decide +kernel
theorem dL_law_466 : decode cL_law 466 = .ok (.ifCond .eq 5, 3) := by decide +kernel
theorem dL_law_469 : decode cL_law 469 = .ok (.iconst 0, 1) := by decide +kernel
theorem dL_law_470 : decode cL_law 470 = .ok (.ireturn, 1) := by decide +kernel
theorem dL_law_471 : decode cL_law 471 = .ok (.goto 254, 3) := by decide +kernel
theorem dL_law_474 : decode cL_law 474 = .ok (.aload_n 1, 1) := by decide +kernel
theorem dL_law_475 : decode cL_law 475 = .ok (.aload_n 0, 1) := by decide +kernel
theorem dL_law_476 : decode cL_law 476 = .ok (.iload 5, 2) := by decide +kernel
theorem dL_law_478 : decode cL_law 478 = .ok (.iconst 1, 1) := by decide +kernel
theorem dL_law_479 : decode cL_law 479 = .ok (.iadd, 1) := by decide +kernel
theorem dL_law_480 : decode cL_law 480 = .ok (.iaload, 1) := by decide +kernel
theorem dL_law_481 : decode cL_law 481 = .ok (.invokevirtual 80, 3) := by decide +kernel
theorem dL_law_484 : decode cL_law 484 = .ok (.aload_n 2, 1) := by decide +kernel
theorem dL_law_485 : decode cL_law 485 = .ok (.aload_n 0, 1) := by decide +kernel
theorem dL_law_486 : decode cL_law 486 = .ok (.iload 5, 2) := by decide +kernel
theorem dL_law_488 : decode cL_law 488 = .ok (.iconst 1, 1) := by decide +kernel
theorem dL_law_489 : decode cL_law 489 = .ok (.iadd, 1) := by decide +kernel
theorem dL_law_490 : decode cL_law 490 = .ok (.iaload, 1) := by decide +kernel
theorem dL_law_491 : decode cL_law 491 = .ok (.invokevirtual 83, 3) := by decide +kernel
theorem dL_law_494 : decode cL_law 494 = .ok (.if_icmp .eq 231, 3) := by decide +kernel
theorem dL_law_497 : decode cL_law 497 = .ok (.iconst 0, 1) := by decide +kernel
theorem dL_law_498 : decode cL_law 498 = .ok (.ireturn, 1) := by decide +kernel
theorem dL_law_499 : decode cL_law 499 = .ok (.aload_n 1, 1) := by decide +kernel
theorem dL_law_500 : decode cL_law 500 = .ok (.aload_n 3, 1) := by decide +kernel
theorem dL_law_501 : decode cL_law 501 = .ok (.invokestatic 84, 3) := by decide +kernel
theorem dL_law_504 : decode cL_law 504 = .ok (.istore 6, 2) := by decide +kernel
theorem dL_law_506 : decode cL_law 506 = .ok (.aload_n 2, 1) := by decide +kernel
theorem dL_law_507 : decode cL_law 507 = .ok (.invokevirtual 87, 3) := by decide +kernel
theorem dL_law_510 : decode cL_law 510 = .ok (.istore 7, 2) := by decide +kernel
theorem dL_law_512 : decode cL_law 512 = .ok (.aload_n 2, 1) := by decide +kernel
theorem dL_law_513 : decode cL_law 513 = .ok (.invokevirtual 61, 3) := by decide +kernel
theorem dL_law_516 : decode cL_law 516 = .ok (.iload 6, 2) := by decide +kernel
theorem dL_law_518 : decode cL_law 518 = .ok (.if_icmp .eq 5, 3) := by decide +kernel
theorem dL_law_521 : decode cL_law 521 = .ok (.iconst 0, 1) := by decide +kernel
theorem dL_law_522 : decode cL_law 522 = .ok (.ireturn, 1) := by decide +kernel
theorem dL_law_523 : decode cL_law 523 = .ok (.iload 6, 2) := by decide +kernel
theorem dL_law_525 : decode cL_law 525 = .ok (.ifCond .ne 15, 3) := by decide +kernel
theorem dL_law_528 : decode cL_law 528 = .ok (.aload_n 3, 1) := by decide +kernel
theorem dL_law_529 : decode cL_law 529 = .ok (.iconst 0, 1) := by decide +kernel
theorem dL_law_530 : decode cL_law 530 = .ok (.laload, 1) := by decide +kernel
theorem dL_law_531 : decode cL_law 531 = .ok (.iload 7, 2) := by decide +kernel
theorem dL_law_533 : decode cL_law 533 = .ok (.i2l, 1) := by decide +kernel
theorem dL_law_534 : decode cL_law 534 = .ok (.lcmp, 1) := by decide +kernel
theorem dL_law_535 : decode cL_law 535 = .ok (.ifCond .eq 5, 3) := by decide +kernel
theorem dL_law_538 : decode cL_law 538 = .ok (.iconst 0, 1) := by decide +kernel
theorem dL_law_539 : decode cL_law 539 = .ok (.ireturn, 1) := by decide +kernel
theorem dL_law_540 : decode cL_law 540 = .ok (.goto 185, 3) := by decide +kernel
theorem dL_law_543 : decode cL_law 543 = .ok (.aload_n 1, 1) := by decide +kernel
theorem dL_law_544 : decode cL_law 544 = .ok (.aload_n 0, 1) := by decide +kernel
theorem dL_law_545 : decode cL_law 545 = .ok (.iload 5, 2) := by decide +kernel
theorem dL_law_547 : decode cL_law 547 = .ok (.iconst 1, 1) := by decide +kernel
theorem dL_law_548 : decode cL_law 548 = .ok (.iadd, 1) := by decide +kernel
theorem dL_law_549 : decode cL_law 549 = .ok (.iaload, 1) := by decide +kernel
theorem dL_law_550 : decode cL_law 550 = .ok (.aload_n 0, 1) := by decide +kernel
theorem dL_law_551 : decode cL_law 551 = .ok (.iload 5, 2) := by decide +kernel
theorem dL_law_553 : decode cL_law 553 = .ok (.iconst 2, 1) := by decide +kernel
theorem dL_law_554 : decode cL_law 554 = .ok (.iadd, 1) := by decide +kernel
theorem dL_law_555 : decode cL_law 555 = .ok (.iaload, 1) := by decide +kernel
theorem dL_law_556 : decode cL_law 556 = .ok (.aload 4, 2) := by decide +kernel
theorem dL_law_558 : decode cL_law 558 = .ok (.invokestatic 88, 3) := by decide +kernel
theorem dL_law_561 : decode cL_law 561 = .ok (.istore 6, 2) := by decide +kernel
theorem dL_law_563 : decode cL_law 563 = .ok (.aload_n 2, 1) := by decide +kernel
theorem dL_law_564 : decode cL_law 564 = .ok (.aload_n 0, 1) := by decide +kernel
theorem dL_law_565 : decode cL_law 565 = .ok (.iload 5, 2) := by decide +kernel
theorem dL_law_567 : decode cL_law 567 = .ok (.iconst 1, 1) := by decide +kernel
theorem dL_law_568 : decode cL_law 568 = .ok (.iadd, 1) := by decide +kernel
theorem dL_law_569 : decode cL_law 569 = .ok (.iaload, 1) := by decide +kernel
theorem dL_law_570 : decode cL_law 570 = .ok (.aload_n 0, 1) := by decide +kernel
theorem dL_law_571 : decode cL_law 571 = .ok (.iload 5, 2) := by decide +kernel
theorem dL_law_573 : decode cL_law 573 = .ok (.iconst 2, 1) := by decide +kernel
theorem dL_law_574 : decode cL_law 574 = .ok (.iadd, 1) := by decide +kernel
theorem dL_law_575 : decode cL_law 575 = .ok (.iaload, 1) := by decide +kernel
theorem dL_law_576 : decode cL_law 576 = .ok (.invokevirtual 91, 3) := by decide +kernel
theorem dL_law_579 : decode cL_law 579 = .ok (.dstore 7, 2) := by decide +kernel
theorem dL_law_581 : decode cL_law 581 = .ok (.aload_n 2, 1) := by decide +kernel
theorem dL_law_582 : decode cL_law 582 = .ok (.invokevirtual 61, 3) := by decide +kernel
theorem dL_law_585 : decode cL_law 585 = .ok (.iload 6, 2) := by decide +kernel
theorem dL_law_587 : decode cL_law 587 = .ok (.if_icmp .eq 5, 3) := by decide +kernel
theorem dL_law_590 : decode cL_law 590 = .ok (.iconst 0, 1) := by decide +kernel
theorem dL_law_591 : decode cL_law 591 = .ok (.ireturn, 1) := by decide +kernel
theorem dL_law_592 : decode cL_law 592 = .ok (.iload 6, 2) := by decide +kernel
theorem dL_law_594 : decode cL_law 594 = .ok (.ifCond .ne 35, 3) := by decide +kernel
theorem dL_law_597 : decode cL_law 597 = .ok (.aload 4, 2) := by decide +kernel
theorem dL_law_599 : decode cL_law 599 = .ok (.iconst 0, 1) := by decide +kernel
theorem dL_law_600 : decode cL_law 600 = .ok (.daload, 1) := by decide +kernel
theorem dL_law_601 : decode cL_law 601 = .ok (.dload 7, 2) := by decide +kernel
theorem dL_law_603 : decode cL_law 603 = .ok (.dcmp .l, 1) := by decide +kernel
theorem dL_law_604 : decode cL_law 604 = .ok (.ifCond .eq 25, 3) := by decide +kernel
theorem dL_law_607 : decode cL_law 607 = .ok (.aload 4, 2) := by decide +kernel
theorem dL_law_609 : decode cL_law 609 = .ok (.iconst 0, 1) := by decide +kernel
theorem dL_law_610 : decode cL_law 610 = .ok (.daload, 1) := by decide +kernel
theorem dL_law_611 : decode cL_law 611 = .ok (.aload 4, 2) := by decide +kernel
theorem dL_law_613 : decode cL_law 613 = .ok (.iconst 0, 1) := by decide +kernel
theorem dL_law_614 : decode cL_law 614 = .ok (.daload, 1) := by decide +kernel
theorem dL_law_615 : decode cL_law 615 = .ok (.dcmp .l, 1) := by decide +kernel
theorem dL_law_616 : decode cL_law 616 = .ok (.ifCond .eq 11, 3) := by decide +kernel
theorem dL_law_619 : decode cL_law 619 = .ok (.dload 7, 2) := by decide +kernel
theorem dL_law_621 : decode cL_law 621 = .ok (.dload 7, 2) := by decide +kernel
theorem dL_law_623 : decode cL_law 623 = .ok (.dcmp .l, 1) := by decide +kernel
theorem dL_law_624 : decode cL_law 624 = .ok (.ifCond .ne 5, 3) := by decide +kernel
theorem dL_law_627 : decode cL_law 627 = .ok (.iconst 0, 1) := by decide +kernel
theorem dL_law_628 : decode cL_law 628 = .ok (.ireturn, 1) := by decide +kernel
theorem dL_law_629 : decode cL_law 629 = .ok (.goto 96, 3) := by decide +kernel
theorem dL_law_632 : decode cL_law 632 = .ok (.aload_n 1, 1) := by decide +kernel
theorem dL_law_633 : decode cL_law 633 = .ok (.aload_n 0, 1) := by decide +kernel
theorem dL_law_634 : decode cL_law 634 = .ok (.iload 5, 2) := by decide +kernel
theorem dL_law_636 : decode cL_law 636 = .ok (.iconst 1, 1) := by decide +kernel
theorem dL_law_637 : decode cL_law 637 = .ok (.iadd, 1) := by decide +kernel
theorem dL_law_638 : decode cL_law 638 = .ok (.iaload, 1) := by decide +kernel
theorem dL_law_639 : decode cL_law 639 = .ok (.aload_n 0, 1) := by decide +kernel
theorem dL_law_640 : decode cL_law 640 = .ok (.iload 5, 2) := by decide +kernel
theorem dL_law_642 : decode cL_law 642 = .ok (.iconst 2, 1) := by decide +kernel
theorem dL_law_643 : decode cL_law 643 = .ok (.iadd, 1) := by decide +kernel
theorem dL_law_644 : decode cL_law 644 = .ok (.iaload, 1) := by decide +kernel
theorem dL_law_645 : decode cL_law 645 = .ok (.aload_n 3, 1) := by decide +kernel
theorem dL_law_646 : decode cL_law 646 = .ok (.invokestatic 92, 3) := by decide +kernel
theorem dL_law_649 : decode cL_law 649 = .ok (.istore 6, 2) := by decide +kernel
theorem dL_law_651 : decode cL_law 651 = .ok (.aload_n 2, 1) := by decide +kernel
theorem dL_law_652 : decode cL_law 652 = .ok (.aload_n 0, 1) := by decide +kernel
theorem dL_law_653 : decode cL_law 653 = .ok (.iload 5, 2) := by decide +kernel
theorem dL_law_655 : decode cL_law 655 = .ok (.iconst 1, 1) := by decide +kernel
theorem dL_law_656 : decode cL_law 656 = .ok (.iadd, 1) := by decide +kernel
theorem dL_law_657 : decode cL_law 657 = .ok (.iaload, 1) := by decide +kernel
theorem dL_law_658 : decode cL_law 658 = .ok (.aload_n 0, 1) := by decide +kernel
theorem dL_law_659 : decode cL_law 659 = .ok (.iload 5, 2) := by decide +kernel
theorem dL_law_661 : decode cL_law 661 = .ok (.iconst 2, 1) := by decide +kernel
theorem dL_law_662 : decode cL_law 662 = .ok (.iadd, 1) := by decide +kernel
theorem dL_law_663 : decode cL_law 663 = .ok (.iaload, 1) := by decide +kernel
theorem dL_law_664 : decode cL_law 664 = .ok (.invokevirtual 95, 3) := by decide +kernel
theorem dL_law_667 : decode cL_law 667 = .ok (.istore 7, 2) := by decide +kernel
theorem dL_law_669 : decode cL_law 669 = .ok (.aload_n 2, 1) := by decide +kernel
theorem dL_law_670 : decode cL_law 670 = .ok (.invokevirtual 61, 3) := by decide +kernel
theorem dL_law_673 : decode cL_law 673 = .ok (.iload 6, 2) := by decide +kernel
theorem dL_law_675 : decode cL_law 675 = .ok (.if_icmp .eq 5, 3) := by decide +kernel
theorem dL_law_678 : decode cL_law 678 = .ok (.iconst 0, 1) := by decide +kernel
theorem dL_law_679 : decode cL_law 679 = .ok (.ireturn, 1) := by decide +kernel
theorem dL_law_680 : decode cL_law 680 = .ok (.iload 6, 2) := by decide +kernel
theorem dL_law_682 : decode cL_law 682 = .ok (.ifCond .ne 15, 3) := by decide +kernel
theorem dL_law_685 : decode cL_law 685 = .ok (.aload_n 3, 1) := by decide +kernel
theorem dL_law_686 : decode cL_law 686 = .ok (.iconst 0, 1) := by decide +kernel
theorem dL_law_687 : decode cL_law 687 = .ok (.laload, 1) := by decide +kernel
theorem dL_law_688 : decode cL_law 688 = .ok (.iload 7, 2) := by decide +kernel
theorem dL_law_690 : decode cL_law 690 = .ok (.i2l, 1) := by decide +kernel
theorem dL_law_691 : decode cL_law 691 = .ok (.lcmp, 1) := by decide +kernel
theorem dL_law_692 : decode cL_law 692 = .ok (.ifCond .eq 5, 3) := by decide +kernel
theorem dL_law_695 : decode cL_law 695 = .ok (.iconst 0, 1) := by decide +kernel
theorem dL_law_696 : decode cL_law 696 = .ok (.ireturn, 1) := by decide +kernel
theorem dL_law_697 : decode cL_law 697 = .ok (.goto 28, 3) := by decide +kernel
theorem dL_law_700 : decode cL_law 700 = .ok (.aload_n 1, 1) := by decide +kernel
theorem dL_law_701 : decode cL_law 701 = .ok (.aload_n 0, 1) := by decide +kernel
theorem dL_law_702 : decode cL_law 702 = .ok (.iload 5, 2) := by decide +kernel
theorem dL_law_704 : decode cL_law 704 = .ok (.iconst 1, 1) := by decide +kernel
theorem dL_law_705 : decode cL_law 705 = .ok (.iadd, 1) := by decide +kernel
theorem dL_law_706 : decode cL_law 706 = .ok (.iaload, 1) := by decide +kernel
theorem dL_law_707 : decode cL_law 707 = .ok (.invokevirtual 96, 3) := by decide +kernel
theorem dL_law_710 : decode cL_law 710 = .ok (.aload_n 2, 1) := by decide +kernel
theorem dL_law_711 : decode cL_law 711 = .ok (.aload_n 0, 1) := by decide +kernel
theorem dL_law_712 : decode cL_law 712 = .ok (.iload 5, 2) := by decide +kernel
theorem dL_law_714 : decode cL_law 714 = .ok (.iconst 1, 1) := by decide +kernel
theorem dL_law_715 : decode cL_law 715 = .ok (.iadd, 1) := by decide +kernel
theorem dL_law_716 : decode cL_law 716 = .ok (.iaload, 1) := by decide +kernel
theorem dL_law_717 : decode cL_law 717 = .ok (.invokevirtual 99, 3) := by decide +kernel
theorem dL_law_720 : decode cL_law 720 = .ok (.if_icmp .eq 5, 3) := by decide +kernel
theorem dL_law_723 : decode cL_law 723 = .ok (.iconst 0, 1) := by decide +kernel
theorem dL_law_724 : decode cL_law 724 = .ok (.ireturn, 1) := by decide +kernel
theorem dL_law_725 : decode cL_law 725 = .ok (.iinc 5 5, 3) := by decide +kernel
theorem dL_law_728 : decode cL_law 728 = .ok (.goto (-700), 3) := by decide +kernel
theorem dL_law_731 : decode cL_law 731 = .ok (.iconst 1, 1) := by decide +kernel
theorem dL_law_732 : decode cL_law 732 = .ok (.ireturn, 1) := by decide +kernel
