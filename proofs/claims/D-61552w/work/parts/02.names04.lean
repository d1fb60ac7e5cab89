set_option maxRecDepth 100000
abbrev cX1_level : ByteArray := prog_1_method_25_code
def yX1_level : MethodName := ⟨RX1, "level", "(II)D"⟩
theorem dX1_level_0 : decode cX1_level 0 = .ok (.aload_n 0, 1) := by decide +kernel
theorem dX1_level_1 : decode cX1_level 1 = .ok (.iload_n 1, 1) := by decide +kernel
theorem dX1_level_2 : decode cX1_level 2 = .ok (.invokevirtual 71, 3) := by decide +kernel
theorem dX1_level_5 : decode cX1_level 5 = .ok (.astore_n 3, 1) := by decide +kernel
theorem dX1_level_6 : decode cX1_level 6 = .ok (.iload_n 2, 1) := by decide +kernel
theorem dX1_level_7 : decode cX1_level 7 = .ok (.iconst 0, 1) := by decide +kernel
theorem dX1_level_8 : decode cX1_level 8 = .ok (.iconst 3, 1) := by decide +kernel
theorem dX1_level_9 : decode cX1_level 9 = .ok (.invokestatic 35, 3) := by decide +kernel
theorem dX1_level_12 : decode cX1_level 12 = .ok (.invokestatic 39, 3) := by decide +kernel
theorem dX1_level_15 : decode cX1_level 15 = .ok (.iload_n 2, 1) := by decide +kernel
theorem dX1_level_16 : decode cX1_level 16 = .ok (.iconst 2, 1) := by decide +kernel
theorem dX1_level_17 : decode cX1_level 17 = .ok (.if_icmp .ge 19, 3) := by decide +kernel
theorem dX1_level_20 : decode cX1_level 20 = .ok (.iload_n 2, 1) := by decide +kernel
theorem dX1_level_21 : decode cX1_level 21 = .ok (.ifCond .ne 10, 3) := by decide +kernel
theorem dX1_level_24 : decode cX1_level 24 = .ok (.aload_n 3, 1) := by decide +kernel
theorem dX1_level_25 : decode cX1_level 25 = .ok (.invokevirtual 267, 3) := by decide +kernel
theorem dX1_level_28 : decode cX1_level 28 = .ok (.goto 7, 3) := by decide +kernel
theorem dX1_level_31 : decode cX1_level 31 = .ok (.aload_n 3, 1) := by decide +kernel
theorem dX1_level_32 : decode cX1_level 32 = .ok (.invokevirtual 271, 3) := by decide +kernel
theorem dX1_level_35 : decode cX1_level 35 = .ok (.dreturn, 1) := by decide +kernel
theorem dX1_level_36 : decode cX1_level 36 = .ok (.aload_n 3, 1) := by decide +kernel
theorem dX1_level_37 : decode cX1_level 37 = .ok (.getfield 115, 3) := by decide +kernel
theorem dX1_level_40 : decode cX1_level 40 = .ok (.iload_n 2, 1) := by decide +kernel
theorem dX1_level_41 : decode cX1_level 41 = .ok (.iconst 2, 1) := by decide +kernel
theorem dX1_level_42 : decode cX1_level 42 = .ok (.isub, 1) := by decide +kernel
theorem dX1_level_43 : decode cX1_level 43 = .ok (.aaload, 1) := by decide +kernel
theorem dX1_level_44 : decode cX1_level 44 = .ok (.getfield 119, 3) := by decide +kernel
theorem dX1_level_47 : decode cX1_level 47 = .ok (.dreturn, 1) := by decide +kernel
abbrev cX1_told : ByteArray := prog_1_method_26_code
def yX1_told : MethodName := ⟨RX1, "told", "(II)I"⟩
theorem dX1_told_0 : decode cX1_told 0 = .ok (.aload_n 0, 1) := by decide +kernel
theorem dX1_told_1 : decode cX1_told 1 = .ok (.iload_n 1, 1) := by decide +kernel
theorem dX1_told_2 : decode cX1_told 2 = .ok (.invokevirtual 71, 3) := by decide +kernel
theorem dX1_told_5 : decode cX1_told 5 = .ok (.astore_n 3, 1) := by decide +kernel
theorem dX1_told_6 : decode cX1_told 6 = .ok (.iload_n 2, 1) := by decide +kernel
theorem dX1_told_7 : decode cX1_told 7 = .ok (.iconst 0, 1) := by decide +kernel
theorem dX1_told_8 : decode cX1_told 8 = .ok (.bipush 9, 2) := by decide +kernel
theorem dX1_told_10 : decode cX1_told 10 = .ok (.invokestatic 35, 3) := by decide +kernel
theorem dX1_told_13 : decode cX1_told 13 = .ok (.invokestatic 39, 3) := by decide +kernel
theorem dX1_told_16 : decode cX1_told 16 = .ok (.iload_n 2, 1) := by decide +kernel
theorem dX1_told_17 : decode cX1_told 17 = .ok (.tableswitch 183 0 8 #[51, 59, 72, 94, 116, 137, 162, 162, 178], 51) := by decide +kernel
theorem dX1_told_68 : decode cX1_told 68 = .ok (.aload_n 3, 1) := by decide +kernel
theorem dX1_told_69 : decode cX1_told 69 = .ok (.getfield 88, 3) := by decide +kernel
theorem dX1_told_72 : decode cX1_told 72 = .ok (.invokevirtual 274, 3) := by decide +kernel
theorem dX1_told_75 : decode cX1_told 75 = .ok (.ireturn, 1) := by decide +kernel
theorem dX1_told_76 : decode cX1_told 76 = .ok (.aload_n 3, 1) := by decide +kernel
theorem dX1_told_77 : decode cX1_told 77 = .ok (.invokevirtual 174, 3) := by decide +kernel
theorem dX1_told_80 : decode cX1_told 80 = .ok (.ifCond .eq 7, 3) := by decide +kernel
theorem dX1_told_83 : decode cX1_told 83 = .ok (.iconst 1, 1) := by decide +kernel
theorem dX1_told_84 : decode cX1_told 84 = .ok (.goto 4, 3) := by decide +kernel
theorem dX1_told_87 : decode cX1_told 87 = .ok (.iconst 0, 1) := by decide +kernel
theorem dX1_told_88 : decode cX1_told 88 = .ok (.ireturn, 1) := by decide +kernel
theorem dX1_told_89 : decode cX1_told 89 = .ok (.aload_n 3, 1) := by decide +kernel
theorem dX1_told_90 : decode cX1_told 90 = .ok (.getfield 88, 3) := by decide +kernel
theorem dX1_told_93 : decode cX1_told 93 = .ok (.instanceof 102, 3) := by decide +kernel
theorem dX1_told_96 : decode cX1_told 96 = .ok (.ifCond .eq 13, 3) := by decide +kernel
theorem dX1_told_99 : decode cX1_told 99 = .ok (.aload_n 3, 1) := by decide +kernel
theorem dX1_told_100 : decode cX1_told 100 = .ok (.getfield 88, 3) := by decide +kernel
theorem dX1_told_103 : decode cX1_told 103 = .ok (.getfield 158, 3) := by decide +kernel
theorem dX1_told_106 : decode cX1_told 106 = .ok (.goto 4, 3) := by decide +kernel
theorem dX1_told_109 : decode cX1_told 109 = .ok (.iconst 0, 1) := by decide +kernel
theorem dX1_told_110 : decode cX1_told 110 = .ok (.ireturn, 1) := by decide +kernel
theorem dX1_told_111 : decode cX1_told 111 = .ok (.aload_n 3, 1) := by decide +kernel
theorem dX1_told_112 : decode cX1_told 112 = .ok (.getfield 88, 3) := by decide +kernel
theorem dX1_told_115 : decode cX1_told 115 = .ok (.instanceof 153, 3) := by decide +kernel
theorem dX1_told_118 : decode cX1_told 118 = .ok (.ifCond .eq 13, 3) := by decide +kernel
theorem dX1_told_121 : decode cX1_told 121 = .ok (.aload_n 3, 1) := by decide +kernel
theorem dX1_told_122 : decode cX1_told 122 = .ok (.getfield 88, 3) := by decide +kernel
theorem dX1_told_125 : decode cX1_told 125 = .ok (.getfield 158, 3) := by decide +kernel
theorem dX1_told_128 : decode cX1_told 128 = .ok (.goto 4, 3) := by decide +kernel
theorem dX1_told_131 : decode cX1_told 131 = .ok (.iconst 0, 1) := by decide +kernel
theorem dX1_told_132 : decode cX1_told 132 = .ok (.ireturn, 1) := by decide +kernel
theorem dX1_told_133 : decode cX1_told 133 = .ok (.aload_n 0, 1) := by decide +kernel
theorem dX1_told_134 : decode cX1_told 134 = .ok (.aload_n 3, 1) := by decide +kernel
theorem dX1_told_135 : decode cX1_told 135 = .ok (.invokevirtual 63, 3) := by decide +kernel
theorem dX1_told_138 : decode cX1_told 138 = .ok (.ifnonnull 7, 3) := by decide +kernel
theorem dX1_told_141 : decode cX1_told 141 = .ok (.iconst 0, 1) := by decide +kernel
theorem dX1_told_142 : decode cX1_told 142 = .ok (.goto 11, 3) := by decide +kernel
theorem dX1_told_145 : decode cX1_told 145 = .ok (.aload_n 0, 1) := by decide +kernel
theorem dX1_told_146 : decode cX1_told 146 = .ok (.aload_n 3, 1) := by decide +kernel
theorem dX1_told_147 : decode cX1_told 147 = .ok (.invokevirtual 63, 3) := by decide +kernel
theorem dX1_told_150 : decode cX1_told 150 = .ok (.getfield 236, 3) := by decide +kernel
theorem dX1_told_153 : decode cX1_told 153 = .ok (.ireturn, 1) := by decide +kernel
theorem dX1_told_154 : decode cX1_told 154 = .ok (.aload_n 3, 1) := by decide +kernel
theorem dX1_told_155 : decode cX1_told 155 = .ok (.getfield 88, 3) := by decide +kernel
theorem dX1_told_158 : decode cX1_told 158 = .ok (.instanceof 153, 3) := by decide +kernel
theorem dX1_told_161 : decode cX1_told 161 = .ok (.ifCond .eq 16, 3) := by decide +kernel
theorem dX1_told_164 : decode cX1_told 164 = .ok (.aload_n 3, 1) := by decide +kernel
theorem dX1_told_165 : decode cX1_told 165 = .ok (.getfield 88, 3) := by decide +kernel
theorem dX1_told_168 : decode cX1_told 168 = .ok (.checkcast 153, 3) := by decide +kernel
theorem dX1_told_171 : decode cX1_told 171 = .ok (.getfield 188, 3) := by decide +kernel
theorem dX1_told_174 : decode cX1_told 174 = .ok (.goto 4, 3) := by decide +kernel
theorem dX1_told_177 : decode cX1_told 177 = .ok (.iconst 0, 1) := by decide +kernel
theorem dX1_told_178 : decode cX1_told 178 = .ok (.ireturn, 1) := by decide +kernel
theorem dX1_told_179 : decode cX1_told 179 = .ok (.aload_n 3, 1) := by decide +kernel
theorem dX1_told_180 : decode cX1_told 180 = .ok (.getfield 115, 3) := by decide +kernel
theorem dX1_told_183 : decode cX1_told 183 = .ok (.iload_n 2, 1) := by decide +kernel
theorem dX1_told_184 : decode cX1_told 184 = .ok (.bipush 6, 2) := by decide +kernel
theorem dX1_told_186 : decode cX1_told 186 = .ok (.isub, 1) := by decide +kernel
theorem dX1_told_187 : decode cX1_told 187 = .ok (.aaload, 1) := by decide +kernel
theorem dX1_told_188 : decode cX1_told 188 = .ok (.getfield 124, 3) := by decide +kernel
theorem dX1_told_191 : decode cX1_told 191 = .ok (.invokevirtual 138, 3) := by decide +kernel
theorem dX1_told_194 : decode cX1_told 194 = .ok (.ireturn, 1) := by decide +kernel
theorem dX1_told_195 : decode cX1_told 195 = .ok (.aload_n 3, 1) := by decide +kernel
theorem dX1_told_196 : decode cX1_told 196 = .ok (.getfield 111, 3) := by decide +kernel
theorem dX1_told_199 : decode cX1_told 199 = .ok (.ireturn, 1) := by decide +kernel
theorem dX1_told_200 : decode cX1_told 200 = .ok (.aload_n 3, 1) := by decide +kernel
theorem dX1_told_201 : decode cX1_told 201 = .ok (.getfield 184, 3) := by decide +kernel
theorem dX1_told_204 : decode cX1_told 204 = .ok (.ireturn, 1) := by decide +kernel
theorem q37 : (Jvm.Cond.initialized "CablePlant") ∈ lw_all := lw_g (lw_at lw_m1 1 rfl) rfl
theorem q73 : (Jvm.Cond.instantiable "CablePlant" (12 : Nat)) ∈ lw_all := lw_g (lw_at lw_m1 37 rfl) rfl
theorem q75 : (Jvm.Cond.instanceMethod ({ cls := "CablePlant", name := "<init>", desc := "()V" } : Jvm.MethodName)) ∈ lw_all := lw_g (lw_at lw_m1 39 rfl) rfl
theorem q76 : (Jvm.Cond.code ({ cls := "CablePlant", name := "<init>", desc := "()V" } : Jvm.MethodName) prog_1_method_5_code (2 : Nat) (Option.none : Option Jvm.ClassFile.FieldType)) ∈ lw_all := lw_g (lw_at lw_m1 40 rfl) rfl
theorem q77 : (Jvm.Cond.methodLink "CablePlant" (10 : Nat) ({ cls := "java/lang/Object", name := "<init>", desc := "()V" } : Jvm.MethodName)) ∈ lw_all := lw_g (lw_at lw_m1 41 rfl) rfl
theorem q80 : (Jvm.Cond.classLink "CablePlant" (15 : Nat) "CablePlant$Modem") ∈ lw_all := lw_g (lw_at lw_m1 44 rfl) rfl
theorem q82 : (Jvm.Cond.classLink "CablePlant" (21 : Nat) "java/util/ArrayList") ∈ lw_all := lw_g (lw_at lw_m1 46 rfl) rfl
theorem q84 : (Jvm.Cond.methodLink "CablePlant" (23 : Nat) ({ cls := "java/util/ArrayList", name := "<init>", desc := "(I)V" } : Jvm.MethodName)) ∈ lw_all := lw_g (lw_at lw_m1 48 rfl) rfl
theorem q427 : (Jvm.Cond.methodLinkNest "CablePlant" (34 : Nat) ({ cls := "CablePlant$Modem", name := "<init>", desc := "()V" } : Jvm.MethodName) "CablePlant") ∈ lw_tbl := lw_at lw_m2 151 rfl
theorem q440 : (Jvm.Cond.fieldLink "CablePlant" (158 : Nat) "CablePlant$State" "rest" "I") ∈ lw_all := lw_g (lw_at lw_m2 164 rfl) rfl
theorem q455 : (Jvm.Cond.fieldLink "CablePlant" (132 : Nat) "CablePlant$Flow" "priority" "I") ∈ lw_all := lw_g (lw_at lw_m2 179 rfl) rfl
theorem q457 : (Jvm.Cond.fieldLink "CablePlant" (135 : Nat) "CablePlant$Flow" "rate" "D") ∈ lw_all := lw_g (lw_at lw_m2 181 rfl) rfl
theorem q459 : (Jvm.Cond.fieldLink "CablePlant" (119 : Nat) "CablePlant$Flow" "credit" "D") ∈ lw_all := lw_g (lw_at lw_m2 183 rfl) rfl
theorem q462 : (Jvm.Cond.fieldLink "CablePlant" (124 : Nat) "CablePlant$Flow" "packets" "Ljava/util/ArrayList;") ∈ lw_all := lw_g (lw_at lw_m2 186 rfl) rfl
theorem q473 : (Jvm.Cond.fieldLink "CablePlant" (81 : Nat) "CablePlant$Modem" "distance" "D") ∈ lw_all := lw_g (lw_at lw_m2 197 rfl) rfl
theorem q475 : (Jvm.Cond.fieldLink "CablePlant" (85 : Nat) "CablePlant$Modem" "loss" "D") ∈ lw_all := lw_g (lw_at lw_m2 199 rfl) rfl
theorem q477 : (Jvm.Cond.fieldLink "CablePlant" (105 : Nat) "CablePlant$Modem" "offset" "D") ∈ lw_all := lw_g (lw_at lw_m2 201 rfl) rfl
theorem q479 : (Jvm.Cond.fieldLink "CablePlant" (108 : Nat) "CablePlant$Modem" "gain" "D") ∈ lw_all := lw_g (lw_at lw_m2 203 rfl) rfl
theorem q481 : (Jvm.Cond.fieldLink "CablePlant" (111 : Nat) "CablePlant$Modem" "chance" "I") ∈ lw_all := lw_g (lw_at lw_m2 205 rfl) rfl
theorem q482 : (Jvm.Cond.fieldLink "CablePlant" (184 : Nat) "CablePlant$Modem" "key" "I") ∈ lw_all := lw_g (lw_at lw_m2 206 rfl) rfl
theorem q484 : (Jvm.Cond.fieldLink "CablePlant" (88 : Nat) "CablePlant$Modem" "state" "LCablePlant$State;") ∈ lw_all := lw_g (lw_at lw_m2 208 rfl) rfl
theorem q486 : (Jvm.Cond.fieldLink "CablePlant" (115 : Nat) "CablePlant$Modem" "flows" "[LCablePlant$Flow;") ∈ lw_all := lw_g (lw_at lw_m2 210 rfl) rfl
theorem q504 : (Jvm.Cond.fieldLink "CablePlant" (17 : Nat) "CablePlant" "modems" "[LCablePlant$Modem;") ∈ lw_all := lw_g (lw_at lw_m2 228 rfl) rfl
theorem q505 : (Jvm.Cond.fieldLink "CablePlant" (26 : Nat) "CablePlant" "requests" "Ljava/util/ArrayList;") ∈ lw_all := lw_g (lw_at lw_m2 229 rfl) rfl
theorem q506 : (Jvm.Cond.fieldLink "CablePlant" (30 : Nat) "CablePlant" "list" "[I") ∈ lw_all := lw_g (lw_at lw_m2 230 rfl) rfl
theorem q507 : (Jvm.Cond.fieldLink "CablePlant" (214 : Nat) "CablePlant" "listed" "I") ∈ lw_all := lw_g (lw_at lw_m2 231 rfl) rfl
theorem q508 : (Jvm.Cond.fieldLink "CablePlant" (181 : Nat) "CablePlant" "key" "I") ∈ lw_all := lw_g (lw_at lw_m2 232 rfl) rfl
theorem q509 : (Jvm.Cond.fieldLink "CablePlant" (251 : Nat) "CablePlant" "rounds" "I") ∈ lw_all := lw_g (lw_at lw_m2 233 rfl) rfl
theorem q510 : (Jvm.Cond.fieldLink "CablePlant" (163 : Nat) "CablePlant" "seekCollisions" "I") ∈ lw_all := lw_g (lw_at lw_m2 234 rfl) rfl
theorem q511 : (Jvm.Cond.fieldLink "CablePlant" (193 : Nat) "CablePlant" "askCollisions" "I") ∈ lw_all := lw_g (lw_at lw_m2 235 rfl) rfl
theorem q512 : (Jvm.Cond.fieldLink "CablePlant" (185 : Nat) "CablePlant" "unheard" "I") ∈ lw_all := lw_g (lw_at lw_m2 236 rfl) rfl
theorem q513 : (Jvm.Cond.fieldLink "CablePlant" (233 : Nat) "CablePlant" "came" "I") ∈ lw_all := lw_g (lw_at lw_m2 237 rfl) rfl
theorem q514 : (Jvm.Cond.fieldLink "CablePlant" (245 : Nat) "CablePlant" "granted" "I") ∈ lw_all := lw_g (lw_at lw_m2 238 rfl) rfl
theorem q515 : (Jvm.Cond.fieldLink "CablePlant" (217 : Nat) "CablePlant" "dropped" "I") ∈ lw_all := lw_g (lw_at lw_m2 239 rfl) rfl
theorem q516 : (Jvm.Cond.laysFinal "CablePlant" "CablePlant" "modems" "[LCablePlant$Modem;") ∈ lw_all := lw_g (lw_at lw_m3 0 rfl) rfl
theorem q517 : (Jvm.Cond.soleField "CablePlant" "modems") ∈ lw_all := lw_g (lw_at lw_m3 1 rfl) rfl
theorem q518 : (Jvm.Cond.laysFinal "CablePlant" "CablePlant" "requests" "Ljava/util/ArrayList;") ∈ lw_all := lw_g (lw_at lw_m3 2 rfl) rfl
theorem q519 : (Jvm.Cond.soleField "CablePlant" "requests") ∈ lw_all := lw_g (lw_at lw_m3 3 rfl) rfl
theorem q520 : (Jvm.Cond.laysFinal "CablePlant" "CablePlant" "list" "[I") ∈ lw_all := lw_g (lw_at lw_m3 4 rfl) rfl
theorem q521 : (Jvm.Cond.soleField "CablePlant" "list") ∈ lw_all := lw_g (lw_at lw_m3 5 rfl) rfl
theorem q522 : (Jvm.Cond.lays "CablePlant" "CablePlant" "listed" "I") ∈ lw_all := lw_g (lw_at lw_m3 6 rfl) rfl
theorem q523 : (Jvm.Cond.soleField "CablePlant" "listed") ∈ lw_all := lw_g (lw_at lw_m3 7 rfl) rfl
theorem q524 : (Jvm.Cond.lays "CablePlant" "CablePlant" "key" "I") ∈ lw_all := lw_g (lw_at lw_m3 8 rfl) rfl
theorem q525 : (Jvm.Cond.soleField "CablePlant" "key") ∈ lw_all := lw_g (lw_at lw_m3 9 rfl) rfl
theorem q526 : (Jvm.Cond.lays "CablePlant" "CablePlant" "rounds" "I") ∈ lw_all := lw_g (lw_at lw_m3 10 rfl) rfl
theorem q527 : (Jvm.Cond.soleField "CablePlant" "rounds") ∈ lw_all := lw_g (lw_at lw_m3 11 rfl) rfl
theorem q528 : (Jvm.Cond.lays "CablePlant" "CablePlant" "seekCollisions" "I") ∈ lw_all := lw_g (lw_at lw_m3 12 rfl) rfl
theorem q529 : (Jvm.Cond.soleField "CablePlant" "seekCollisions") ∈ lw_all := lw_g (lw_at lw_m3 13 rfl) rfl
theorem q530 : (Jvm.Cond.lays "CablePlant" "CablePlant" "askCollisions" "I") ∈ lw_all := lw_g (lw_at lw_m3 14 rfl) rfl
theorem q531 : (Jvm.Cond.soleField "CablePlant" "askCollisions") ∈ lw_all := lw_g (lw_at lw_m3 15 rfl) rfl
theorem q532 : (Jvm.Cond.lays "CablePlant" "CablePlant" "unheard" "I") ∈ lw_all := lw_g (lw_at lw_m3 16 rfl) rfl
theorem q533 : (Jvm.Cond.soleField "CablePlant" "unheard") ∈ lw_all := lw_g (lw_at lw_m3 17 rfl) rfl
theorem q534 : (Jvm.Cond.lays "CablePlant" "CablePlant" "came" "I") ∈ lw_all := lw_g (lw_at lw_m3 18 rfl) rfl
theorem q535 : (Jvm.Cond.soleField "CablePlant" "came") ∈ lw_all := lw_g (lw_at lw_m3 19 rfl) rfl
theorem q536 : (Jvm.Cond.lays "CablePlant" "CablePlant" "granted" "I") ∈ lw_all := lw_g (lw_at lw_m3 20 rfl) rfl
theorem q537 : (Jvm.Cond.soleField "CablePlant" "granted") ∈ lw_all := lw_g (lw_at lw_m3 21 rfl) rfl
theorem q538 : (Jvm.Cond.lays "CablePlant" "CablePlant" "dropped" "I") ∈ lw_all := lw_g (lw_at lw_m3 22 rfl) rfl
theorem q539 : (Jvm.Cond.soleField "CablePlant" "dropped") ∈ lw_all := lw_g (lw_at lw_m3 23 rfl) rfl
theorem q540 : (Jvm.Cond.superclass "CablePlant" "java/lang/Object") ∈ lw_all := lw_g (lw_at lw_m3 24 rfl) rfl
theorem q542 : (Jvm.Cond.instanceMethod ({ cls := "CablePlant", name := "key", desc := "(I)I" } : Jvm.MethodName)) ∈ lw_all := lw_g (lw_at lw_m3 26 rfl) rfl
theorem q543 : (Jvm.Cond.selects "CablePlant" ({ cls := "CablePlant", name := "key", desc := "(I)I" } : Jvm.MethodName) ({ cls := "CablePlant", name := "key", desc := "(I)I" } : Jvm.MethodName)) ∈ lw_all := lw_g (lw_at lw_m3 27 rfl) rfl
theorem q544 : (Jvm.Cond.code ({ cls := "CablePlant", name := "key", desc := "(I)I" } : Jvm.MethodName) prog_1_method_23_code (7 : Nat) (Option.some Jvm.ClassFile.FieldType.int)) ∈ lw_all := lw_g (lw_at lw_m3 28 rfl) rfl
theorem q545 : (Jvm.Cond.classLink "CablePlant" (153 : Nat) "CablePlant$Ready") ∈ lw_all := lw_g (lw_at lw_m3 29 rfl) rfl
theorem q546 : (Jvm.Cond.methodLink "CablePlant" (174 : Nat) ({ cls := "CablePlant$Modem", name := "fine", desc := "()Z" } : Jvm.MethodName)) ∈ lw_all := lw_g (lw_at lw_m3 30 rfl) rfl
theorem q557 : (Jvm.Cond.static ({ cls := "CablePlant", name := "between", desc := "(DDD)Z" } : Jvm.MethodName)) ∈ lw_all := lw_g (lw_at lw_m3 41 rfl) rfl
theorem q558 : (Jvm.Cond.code ({ cls := "CablePlant", name := "between", desc := "(DDD)Z" } : Jvm.MethodName) prog_1_method_4_code (6 : Nat) (Option.some Jvm.ClassFile.FieldType.boolean)) ∈ lw_all := lw_g (lw_at lw_m3 42 rfl) rfl
theorem q564 : (Jvm.Cond.instanceMethod ({ cls := "CablePlant", name := "count", desc := "(I)I" } : Jvm.MethodName)) ∈ lw_all := lw_g (lw_at lw_m3 48 rfl) rfl
theorem q565 : (Jvm.Cond.selects "CablePlant" ({ cls := "CablePlant", name := "count", desc := "(I)I" } : Jvm.MethodName) ({ cls := "CablePlant", name := "count", desc := "(I)I" } : Jvm.MethodName)) ∈ lw_all := lw_g (lw_at lw_m3 49 rfl) rfl
theorem q566 : (Jvm.Cond.code ({ cls := "CablePlant", name := "count", desc := "(I)I" } : Jvm.MethodName) prog_1_method_28_code (2 : Nat) (Option.some Jvm.ClassFile.FieldType.int)) ∈ lw_all := lw_g (lw_at lw_m3 50 rfl) rfl
theorem q567 : (Jvm.Cond.methodLink "CablePlant" (35 : Nat) ({ cls := "CablePlant", name := "in", desc := "(III)Z" } : Jvm.MethodName)) ∈ lw_all := lw_g (lw_at lw_m3 51 rfl) rfl
theorem q568 : (Jvm.Cond.static ({ cls := "CablePlant", name := "in", desc := "(III)Z" } : Jvm.MethodName)) ∈ lw_all := lw_g (lw_at lw_m3 52 rfl) rfl
theorem q569 : (Jvm.Cond.code ({ cls := "CablePlant", name := "in", desc := "(III)Z" } : Jvm.MethodName) prog_1_method_3_code (3 : Nat) (Option.some Jvm.ClassFile.FieldType.boolean)) ∈ lw_all := lw_g (lw_at lw_m3 53 rfl) rfl
theorem q570 : (Jvm.Cond.methodLink "CablePlant" (138 : Nat) ({ cls := "java/util/ArrayList", name := "size", desc := "()I" } : Jvm.MethodName)) ∈ lw_all := lw_g (lw_at lw_m3 54 rfl) rfl
theorem q574 : (Jvm.Cond.methodLink "CablePlant" (170 : Nat) ({ cls := "java/util/ArrayList", name := "get", desc := "(I)Ljava/lang/Object;" } : Jvm.MethodName)) ∈ lw_all := lw_g (lw_at lw_m3 58 rfl) rfl
theorem q588 : (Jvm.Cond.classLink "CablePlant" (57 : Nat) "CablePlant$Request") ∈ lw_all := lw_g (lw_at lw_m3 72 rfl) rfl
theorem q589 : (Jvm.Cond.methodLink "CablePlant" (277 : Nat) ({ cls := "CablePlant", name := "numberOf", desc := "(LCablePlant$Modem;)I" } : Jvm.MethodName)) ∈ lw_all := lw_g (lw_at lw_m3 73 rfl) rfl
theorem q590 : (Jvm.Cond.privateMethod ({ cls := "CablePlant", name := "numberOf", desc := "(LCablePlant$Modem;)I" } : Jvm.MethodName)) ∈ lw_tbl := lw_at lw_m3 74 rfl
theorem q591 : (Jvm.Cond.instanceMethod ({ cls := "CablePlant", name := "numberOf", desc := "(LCablePlant$Modem;)I" } : Jvm.MethodName)) ∈ lw_all := lw_g (lw_at lw_m3 75 rfl) rfl
theorem q592 : (Jvm.Cond.code ({ cls := "CablePlant", name := "numberOf", desc := "(LCablePlant$Modem;)I" } : Jvm.MethodName) prog_1_method_27_code (3 : Nat) (Option.some Jvm.ClassFile.FieldType.int)) ∈ lw_all := lw_g (lw_at lw_m3 76 rfl) rfl
theorem q598 : (Jvm.Cond.instanceMethod ({ cls := "CablePlant", name := "place", desc := "(IDD)V" } : Jvm.MethodName)) ∈ lw_all := lw_g (lw_at lw_m3 82 rfl) rfl
theorem q599 : (Jvm.Cond.selects "CablePlant" ({ cls := "CablePlant", name := "place", desc := "(IDD)V" } : Jvm.MethodName) ({ cls := "CablePlant", name := "place", desc := "(IDD)V" } : Jvm.MethodName)) ∈ lw_all := lw_g (lw_at lw_m3 83 rfl) rfl
theorem q600 : (Jvm.Cond.code ({ cls := "CablePlant", name := "place", desc := "(IDD)V" } : Jvm.MethodName) prog_1_method_9_code (7 : Nat) (Option.none : Option Jvm.ClassFile.FieldType)) ∈ lw_all := lw_g (lw_at lw_m3 84 rfl) rfl
theorem q601 : (Jvm.Cond.methodLink "CablePlant" (71 : Nat) ({ cls := "CablePlant", name := "there", desc := "(I)LCablePlant$Modem;" } : Jvm.MethodName)) ∈ lw_all := lw_g (lw_at lw_m3 85 rfl) rfl
theorem q602 : (Jvm.Cond.privateMethod ({ cls := "CablePlant", name := "there", desc := "(I)LCablePlant$Modem;" } : Jvm.MethodName)) ∈ lw_tbl := lw_at lw_m3 86 rfl
theorem q603 : (Jvm.Cond.instanceMethod ({ cls := "CablePlant", name := "there", desc := "(I)LCablePlant$Modem;" } : Jvm.MethodName)) ∈ lw_all := lw_g (lw_at lw_m3 87 rfl) rfl
theorem q604 : (Jvm.Cond.code ({ cls := "CablePlant", name := "there", desc := "(I)LCablePlant$Modem;" } : Jvm.MethodName) prog_1_method_6_code (2 : Nat) (Option.some (Jvm.ClassFile.FieldType.object "CablePlant$Modem"))) ∈ lw_all := lw_g (lw_at lw_m3 88 rfl) rfl
theorem q605 : (Jvm.Cond.methodLink "CablePlant" (39 : Nat) ({ cls := "CablePlant", name := "good", desc := "(Z)V" } : Jvm.MethodName)) ∈ lw_all := lw_g (lw_at lw_m3 89 rfl) rfl
theorem q606 : (Jvm.Cond.static ({ cls := "CablePlant", name := "good", desc := "(Z)V" } : Jvm.MethodName)) ∈ lw_all := lw_g (lw_at lw_m3 90 rfl) rfl
theorem q607 : (Jvm.Cond.code ({ cls := "CablePlant", name := "good", desc := "(Z)V" } : Jvm.MethodName) prog_1_method_1_code (1 : Nat) (Option.none : Option Jvm.ClassFile.FieldType)) ∈ lw_all := lw_g (lw_at lw_m3 91 rfl) rfl
theorem q608 : (Jvm.Cond.classLink "CablePlant" (1 : Nat) "java/lang/IllegalArgumentException") ∈ lw_all := lw_g (lw_at lw_m3 92 rfl) rfl
theorem q609 : (Jvm.Cond.methodLink "CablePlant" (3 : Nat) ({ cls := "java/lang/IllegalArgumentException", name := "<init>", desc := "()V" } : Jvm.MethodName)) ∈ lw_all := lw_g (lw_at lw_m3 93 rfl) rfl
theorem q619 : (Jvm.Cond.constantDouble "CablePlant" (75 : Nat) (4635329916471083008 : UInt64)) ∈ lw_all := lw_g (lw_at lw_m3 103 rfl) rfl
theorem q620 : (Jvm.Cond.methodLink "CablePlant" (77 : Nat) ({ cls := "CablePlant", name := "between", desc := "(DDD)Z" } : Jvm.MethodName)) ∈ lw_all := lw_g (lw_at lw_m3 104 rfl) rfl
theorem q626 : (Jvm.Cond.instanceMethod ({ cls := "CablePlant", name := "power", desc := "(IZ)V" } : Jvm.MethodName)) ∈ lw_all := lw_g (lw_at lw_m3 110 rfl) rfl
theorem q627 : (Jvm.Cond.selects "CablePlant" ({ cls := "CablePlant", name := "power", desc := "(IZ)V" } : Jvm.MethodName) ({ cls := "CablePlant", name := "power", desc := "(IZ)V" } : Jvm.MethodName)) ∈ lw_all := lw_g (lw_at lw_m3 111 rfl) rfl
theorem q628 : (Jvm.Cond.code ({ cls := "CablePlant", name := "power", desc := "(IZ)V" } : Jvm.MethodName) prog_1_method_10_code (8 : Nat) (Option.none : Option Jvm.ClassFile.FieldType)) ∈ lw_all := lw_g (lw_at lw_m3 112 rfl) rfl
theorem q629 : (Jvm.Cond.classLink "CablePlant" (92 : Nat) "CablePlant$Off") ∈ lw_all := lw_g (lw_at lw_m3 113 rfl) rfl
theorem q630 : (Jvm.Cond.methodLink "CablePlant" (94 : Nat) ({ cls := "CablePlant", name := "now", desc := "(Z)V" } : Jvm.MethodName)) ∈ lw_all := lw_g (lw_at lw_m3 114 rfl) rfl
theorem q631 : (Jvm.Cond.static ({ cls := "CablePlant", name := "now", desc := "(Z)V" } : Jvm.MethodName)) ∈ lw_all := lw_g (lw_at lw_m3 115 rfl) rfl
theorem q632 : (Jvm.Cond.code ({ cls := "CablePlant", name := "now", desc := "(Z)V" } : Jvm.MethodName) prog_1_method_2_code (1 : Nat) (Option.none : Option Jvm.ClassFile.FieldType)) ∈ lw_all := lw_g (lw_at lw_m3 116 rfl) rfl
theorem q633 : (Jvm.Cond.classLink "CablePlant" (7 : Nat) "java/lang/IllegalStateException") ∈ lw_all := lw_g (lw_at lw_m3 117 rfl) rfl
theorem q642 : (Jvm.Cond.methodLink "CablePlant" (9 : Nat) ({ cls := "java/lang/IllegalStateException", name := "<init>", desc := "()V" } : Jvm.MethodName)) ∈ lw_all := lw_g (lw_at lw_m3 126 rfl) rfl
theorem q648 : (Jvm.Cond.methodLink "CablePlant" (97 : Nat) ({ cls := "CablePlant", name := "withdraw", desc := "(LCablePlant$Modem;)V" } : Jvm.MethodName)) ∈ lw_all := lw_g (lw_at lw_m3 132 rfl) rfl
theorem q649 : (Jvm.Cond.privateMethod ({ cls := "CablePlant", name := "withdraw", desc := "(LCablePlant$Modem;)V" } : Jvm.MethodName)) ∈ lw_tbl := lw_at lw_m3 133 rfl
theorem q650 : (Jvm.Cond.instanceMethod ({ cls := "CablePlant", name := "withdraw", desc := "(LCablePlant$Modem;)V" } : Jvm.MethodName)) ∈ lw_all := lw_g (lw_at lw_m3 134 rfl) rfl
theorem q651 : (Jvm.Cond.code ({ cls := "CablePlant", name := "withdraw", desc := "(LCablePlant$Modem;)V" } : Jvm.MethodName) prog_1_method_8_code (3 : Nat) (Option.none : Option Jvm.ClassFile.FieldType)) ∈ lw_all := lw_g (lw_at lw_m3 135 rfl) rfl
theorem q652 : (Jvm.Cond.methodLink "CablePlant" (63 : Nat) ({ cls := "CablePlant", name := "requestOf", desc := "(LCablePlant$Modem;)LCablePlant$Request;" } : Jvm.MethodName)) ∈ lw_all := lw_g (lw_at lw_m3 136 rfl) rfl
theorem q653 : (Jvm.Cond.privateMethod ({ cls := "CablePlant", name := "requestOf", desc := "(LCablePlant$Modem;)LCablePlant$Request;" } : Jvm.MethodName)) ∈ lw_tbl := lw_at lw_m3 137 rfl
theorem q654 : (Jvm.Cond.instanceMethod ({ cls := "CablePlant", name := "requestOf", desc := "(LCablePlant$Modem;)LCablePlant$Request;" } : Jvm.MethodName)) ∈ lw_all := lw_g (lw_at lw_m3 138 rfl) rfl
theorem q655 : (Jvm.Cond.code ({ cls := "CablePlant", name := "requestOf", desc := "(LCablePlant$Modem;)LCablePlant$Request;" } : Jvm.MethodName) prog_1_method_7_code (4 : Nat) (Option.some (Jvm.ClassFile.FieldType.object "CablePlant$Request"))) ∈ lw_all := lw_g (lw_at lw_m3 139 rfl) rfl
theorem q656 : (Jvm.Cond.methodLink "CablePlant" (43 : Nat) ({ cls := "java/util/ArrayList", name := "iterator", desc := "()Ljava/util/Iterator;" } : Jvm.MethodName)) ∈ lw_all := lw_g (lw_at lw_m3 140 rfl) rfl
theorem q679 : (Jvm.Cond.interfaceEntry "CablePlant" (47 : Nat)) ∈ lw_tbl := lw_at lw_m3 163 rfl
theorem q680 : (Jvm.Cond.methodLink "CablePlant" (47 : Nat) ({ cls := "java/util/Iterator", name := "hasNext", desc := "()Z" } : Jvm.MethodName)) ∈ lw_all := lw_g (lw_at lw_m3 164 rfl) rfl
theorem q689 : (Jvm.Cond.interfaceEntry "CablePlant" (53 : Nat)) ∈ lw_tbl := lw_at lw_m3 173 rfl
theorem q690 : (Jvm.Cond.methodLink "CablePlant" (53 : Nat) ({ cls := "java/util/Iterator", name := "next", desc := "()Ljava/lang/Object;" } : Jvm.MethodName)) ∈ lw_all := lw_g (lw_at lw_m3 174 rfl) rfl
theorem q717 : (Jvm.Cond.methodLink "CablePlant" (67 : Nat) ({ cls := "java/util/ArrayList", name := "remove", desc := "(Ljava/lang/Object;)Z" } : Jvm.MethodName)) ∈ lw_all := lw_g (lw_at lw_m3 201 rfl) rfl
theorem q725 : (Jvm.Cond.selects "CablePlant" ({ cls := "java/lang/Object", name := "equals", desc := "(Ljava/lang/Object;)Z" } : Jvm.MethodName) ({ cls := "java/lang/Object", name := "equals", desc := "(Ljava/lang/Object;)Z" } : Jvm.MethodName)) ∈ lw_all := lw_g (lw_at lw_m3 209 rfl) rfl
theorem q750 : (Jvm.Cond.methodLinkNest "CablePlant" (101 : Nat) ({ cls := "CablePlant$Off", name := "<init>", desc := "()V" } : Jvm.MethodName) "CablePlant") ∈ lw_tbl := lw_at lw_m3 234 rfl
theorem q751 : (Jvm.Cond.classLink "CablePlant" (102 : Nat) "CablePlant$Seeking") ∈ lw_all := lw_g (lw_at lw_m3 235 rfl) rfl
theorem q753 : (Jvm.Cond.methodLinkNest "CablePlant" (104 : Nat) ({ cls := "CablePlant$Seeking", name := "<init>", desc := "()V" } : Jvm.MethodName) "CablePlant") ∈ lw_tbl := lw_at lw_m3 237 rfl
theorem q759 : (Jvm.Cond.methodLink "CablePlant" (127 : Nat) ({ cls := "java/util/ArrayList", name := "clear", desc := "()V" } : Jvm.MethodName)) ∈ lw_all := lw_g (lw_at lw_m4 3 rfl) rfl
theorem q767 : (Jvm.Cond.instanceMethod ({ cls := "CablePlant", name := "flow", desc := "(IIID)V" } : Jvm.MethodName)) ∈ lw_all := lw_g (lw_at lw_m4 11 rfl) rfl
theorem q768 : (Jvm.Cond.selects "CablePlant" ({ cls := "CablePlant", name := "flow", desc := "(IIID)V" } : Jvm.MethodName) ({ cls := "CablePlant", name := "flow", desc := "(IIID)V" } : Jvm.MethodName)) ∈ lw_all := lw_g (lw_at lw_m4 12 rfl) rfl
theorem q769 : (Jvm.Cond.code ({ cls := "CablePlant", name := "flow", desc := "(IIID)V" } : Jvm.MethodName) prog_1_method_11_code (7 : Nat) (Option.none : Option Jvm.ClassFile.FieldType)) ∈ lw_all := lw_g (lw_at lw_m4 13 rfl) rfl
theorem q770 : (Jvm.Cond.constantDouble "CablePlant" (130 : Nat) (4620693217682128896 : UInt64)) ∈ lw_all := lw_g (lw_at lw_m4 14 rfl) rfl
theorem q776 : (Jvm.Cond.instanceMethod ({ cls := "CablePlant", name := "packet", desc := "(IIII)I" } : Jvm.MethodName)) ∈ lw_all := lw_g (lw_at lw_m4 20 rfl) rfl
theorem q777 : (Jvm.Cond.selects "CablePlant" ({ cls := "CablePlant", name := "packet", desc := "(IIII)I" } : Jvm.MethodName) ({ cls := "CablePlant", name := "packet", desc := "(IIII)I" } : Jvm.MethodName)) ∈ lw_all := lw_g (lw_at lw_m4 21 rfl) rfl
theorem q778 : (Jvm.Cond.code ({ cls := "CablePlant", name := "packet", desc := "(IIII)I" } : Jvm.MethodName) prog_1_method_12_code (7 : Nat) (Option.some Jvm.ClassFile.FieldType.int)) ∈ lw_all := lw_g (lw_at lw_m4 22 rfl) rfl
theorem q779 : (Jvm.Cond.classLink "CablePlant" (142 : Nat) "java/lang/UnsupportedOperationException") ∈ lw_all := lw_g (lw_at lw_m4 23 rfl) rfl
theorem q788 : (Jvm.Cond.methodLink "CablePlant" (144 : Nat) ({ cls := "java/lang/UnsupportedOperationException", name := "<init>", desc := "()V" } : Jvm.MethodName)) ∈ lw_all := lw_g (lw_at lw_m4 32 rfl) rfl
theorem q794 : (Jvm.Cond.classLink "CablePlant" (145 : Nat) "CablePlant$Packet") ∈ lw_all := lw_g (lw_at lw_m4 38 rfl) rfl
theorem q796 : (Jvm.Cond.methodLinkNest "CablePlant" (147 : Nat) ({ cls := "CablePlant$Packet", name := "<init>", desc := "(II)V" } : Jvm.MethodName) "CablePlant") ∈ lw_tbl := lw_at lw_m4 40 rfl
theorem q810 : (Jvm.Cond.methodLink "CablePlant" (150 : Nat) ({ cls := "java/util/ArrayList", name := "add", desc := "(Ljava/lang/Object;)Z" } : Jvm.MethodName)) ∈ lw_all := lw_g (lw_at lw_m4 54 rfl) rfl
theorem q835 : (Jvm.Cond.selects "CablePlant" ({ cls := "java/lang/Object", name := "getClass", desc := "()Ljava/lang/Class;" } : Jvm.MethodName) ({ cls := "java/lang/Object", name := "getClass", desc := "()Ljava/lang/Class;" } : Jvm.MethodName)) ∈ lw_all := lw_g (lw_at lw_m4 79 rfl) rfl
theorem q863 : (Jvm.Cond.instanceMethod ({ cls := "CablePlant", name := "round", desc := "(I)I" } : Jvm.MethodName)) ∈ lw_all := lw_g (lw_at lw_m4 107 rfl) rfl
theorem q864 : (Jvm.Cond.selects "CablePlant" ({ cls := "CablePlant", name := "round", desc := "(I)I" } : Jvm.MethodName) ({ cls := "CablePlant", name := "round", desc := "(I)I" } : Jvm.MethodName)) ∈ lw_all := lw_g (lw_at lw_m4 108 rfl) rfl
theorem q865 : (Jvm.Cond.code ({ cls := "CablePlant", name := "round", desc := "(I)I" } : Jvm.MethodName) prog_1_method_22_code (4 : Nat) (Option.some Jvm.ClassFile.FieldType.int)) ∈ lw_all := lw_g (lw_at lw_m4 109 rfl) rfl
theorem q866 : (Jvm.Cond.methodLink "CablePlant" (254 : Nat) ({ cls := "CablePlant", name := "earn", desc := "()V" } : Jvm.MethodName)) ∈ lw_all := lw_g (lw_at lw_m4 110 rfl) rfl
theorem q867 : (Jvm.Cond.privateMethod ({ cls := "CablePlant", name := "earn", desc := "()V" } : Jvm.MethodName)) ∈ lw_tbl := lw_at lw_m4 111 rfl
theorem q868 : (Jvm.Cond.instanceMethod ({ cls := "CablePlant", name := "earn", desc := "()V" } : Jvm.MethodName)) ∈ lw_all := lw_g (lw_at lw_m4 112 rfl) rfl
theorem q869 : (Jvm.Cond.code ({ cls := "CablePlant", name := "earn", desc := "()V" } : Jvm.MethodName) prog_1_method_13_code (9 : Nat) (Option.none : Option Jvm.ClassFile.FieldType)) ∈ lw_all := lw_g (lw_at lw_m4 113 rfl) rfl
theorem q870 : (Jvm.Cond.methodLink "CablePlant" (155 : Nat) ({ cls := "CablePlant$Flow", name := "earn", desc := "()V" } : Jvm.MethodName)) ∈ lw_all := lw_g (lw_at lw_m4 114 rfl) rfl
theorem q875 : (Jvm.Cond.methodLink "CablePlant" (255 : Nat) ({ cls := "CablePlant", name := "seek", desc := "()V" } : Jvm.MethodName)) ∈ lw_all := lw_g (lw_at lw_m4 119 rfl) rfl
theorem q876 : (Jvm.Cond.privateMethod ({ cls := "CablePlant", name := "seek", desc := "()V" } : Jvm.MethodName)) ∈ lw_tbl := lw_at lw_m4 120 rfl
theorem q877 : (Jvm.Cond.instanceMethod ({ cls := "CablePlant", name := "seek", desc := "()V" } : Jvm.MethodName)) ∈ lw_all := lw_g (lw_at lw_m4 121 rfl) rfl
theorem q878 : (Jvm.Cond.code ({ cls := "CablePlant", name := "seek", desc := "()V" } : Jvm.MethodName) prog_1_method_14_code (6 : Nat) (Option.none : Option Jvm.ClassFile.FieldType)) ∈ lw_all := lw_g (lw_at lw_m4 122 rfl) rfl
theorem q879 : (Jvm.Cond.methodLink "CablePlant" (166 : Nat) ({ cls := "CablePlant$Modem", name := "draw", desc := "(I)I" } : Jvm.MethodName)) ∈ lw_all := lw_g (lw_at lw_m4 123 rfl) rfl
theorem q884 : (Jvm.Cond.methodLink "CablePlant" (177 : Nat) ({ cls := "CablePlant$Modem", name := "adjust", desc := "()V" } : Jvm.MethodName)) ∈ lw_all := lw_g (lw_at lw_m4 128 rfl) rfl
theorem q890 : (Jvm.Cond.methodLinkNest "CablePlant" (180 : Nat) ({ cls := "CablePlant$Ready", name := "<init>", desc := "()V" } : Jvm.MethodName) "CablePlant") ∈ lw_tbl := lw_at lw_m4 134 rfl
theorem q894 : (Jvm.Cond.fieldLink "CablePlant" (188 : Nat) "CablePlant$Ready" "unheard" "I") ∈ lw_all := lw_g (lw_at lw_m4 138 rfl) rfl
theorem q899 : (Jvm.Cond.methodLink "CablePlant" (258 : Nat) ({ cls := "CablePlant", name := "ask", desc := "()V" } : Jvm.MethodName)) ∈ lw_all := lw_g (lw_at lw_m4 143 rfl) rfl
theorem q900 : (Jvm.Cond.privateMethod ({ cls := "CablePlant", name := "ask", desc := "()V" } : Jvm.MethodName)) ∈ lw_tbl := lw_at lw_m4 144 rfl
theorem q901 : (Jvm.Cond.instanceMethod ({ cls := "CablePlant", name := "ask", desc := "()V" } : Jvm.MethodName)) ∈ lw_all := lw_g (lw_at lw_m4 145 rfl) rfl
theorem q902 : (Jvm.Cond.code ({ cls := "CablePlant", name := "ask", desc := "()V" } : Jvm.MethodName) prog_1_method_18_code (7 : Nat) (Option.none : Option Jvm.ClassFile.FieldType)) ∈ lw_all := lw_g (lw_at lw_m4 146 rfl) rfl
theorem q903 : (Jvm.Cond.methodLink "CablePlant" (196 : Nat) ({ cls := "CablePlant$Modem", name := "wanting", desc := "()LCablePlant$Flow;" } : Jvm.MethodName)) ∈ lw_all := lw_g (lw_at lw_m4 147 rfl) rfl
theorem q921 : (Jvm.Cond.methodLink "CablePlant" (210 : Nat) ({ cls := "CablePlant", name := "hear", desc := "(Ljava/util/ArrayList;)V" } : Jvm.MethodName)) ∈ lw_all := lw_g (lw_at lw_m4 165 rfl) rfl
theorem q922 : (Jvm.Cond.privateMethod ({ cls := "CablePlant", name := "hear", desc := "(Ljava/util/ArrayList;)V" } : Jvm.MethodName)) ∈ lw_tbl := lw_at lw_m4 166 rfl
theorem q923 : (Jvm.Cond.instanceMethod ({ cls := "CablePlant", name := "hear", desc := "(Ljava/util/ArrayList;)V" } : Jvm.MethodName)) ∈ lw_all := lw_g (lw_at lw_m4 167 rfl) rfl
theorem q924 : (Jvm.Cond.code ({ cls := "CablePlant", name := "hear", desc := "(Ljava/util/ArrayList;)V" } : Jvm.MethodName) prog_1_method_17_code (4 : Nat) (Option.none : Option Jvm.ClassFile.FieldType)) ∈ lw_all := lw_g (lw_at lw_m4 168 rfl) rfl
theorem q926 : (Jvm.Cond.methodLink "CablePlant" (200 : Nat) ({ cls := "CablePlant$Request", name := "<init>", desc := "(LCablePlant$Modem;LCablePlant$Flow;)V" } : Jvm.MethodName)) ∈ lw_all := lw_g (lw_at lw_m4 170 rfl) rfl
theorem q934 : (Jvm.Cond.fieldLink "CablePlant" (59 : Nat) "CablePlant$Request" "modem" "LCablePlant$Modem;") ∈ lw_all := lw_g (lw_at lw_m4 178 rfl) rfl
theorem q936 : (Jvm.Cond.fieldLink "CablePlant" (220 : Nat) "CablePlant$Request" "flow" "LCablePlant$Flow;") ∈ lw_all := lw_g (lw_at lw_m4 180 rfl) rfl
theorem q938 : (Jvm.Cond.fieldLink "CablePlant" (189 : Nat) "CablePlant$Request" "priority" "I") ∈ lw_all := lw_g (lw_at lw_m4 182 rfl) rfl
theorem q940 : (Jvm.Cond.fieldLink "CablePlant" (236 : Nat) "CablePlant$Request" "needs" "I") ∈ lw_all := lw_g (lw_at lw_m4 184 rfl) rfl
theorem q950 : (Jvm.Cond.methodLink "CablePlant" (203 : Nat) ({ cls := "CablePlant", name := "enter", desc := "(LCablePlant$Request;)V" } : Jvm.MethodName)) ∈ lw_all := lw_g (lw_at lw_m4 194 rfl) rfl
theorem q951 : (Jvm.Cond.privateMethod ({ cls := "CablePlant", name := "enter", desc := "(LCablePlant$Request;)V" } : Jvm.MethodName)) ∈ lw_tbl := lw_at lw_m4 195 rfl
theorem q952 : (Jvm.Cond.instanceMethod ({ cls := "CablePlant", name := "enter", desc := "(LCablePlant$Request;)V" } : Jvm.MethodName)) ∈ lw_all := lw_g (lw_at lw_m4 196 rfl) rfl
theorem q953 : (Jvm.Cond.code ({ cls := "CablePlant", name := "enter", desc := "(LCablePlant$Request;)V" } : Jvm.MethodName) prog_1_method_16_code (3 : Nat) (Option.none : Option Jvm.ClassFile.FieldType)) ∈ lw_all := lw_g (lw_at lw_m4 197 rfl) rfl
theorem q954 : (Jvm.Cond.methodLink "CablePlant" (190 : Nat) ({ cls := "java/util/ArrayList", name := "add", desc := "(ILjava/lang/Object;)V" } : Jvm.MethodName)) ∈ lw_all := lw_g (lw_at lw_m4 198 rfl) rfl
theorem q962 : (Jvm.Cond.methodLink "CablePlant" (207 : Nat) ({ cls := "CablePlant", name := "lose", desc := "(LCablePlant$Modem;)V" } : Jvm.MethodName)) ∈ lw_all := lw_g (lw_at lw_m4 206 rfl) rfl
theorem q963 : (Jvm.Cond.privateMethod ({ cls := "CablePlant", name := "lose", desc := "(LCablePlant$Modem;)V" } : Jvm.MethodName)) ∈ lw_tbl := lw_at lw_m4 207 rfl
theorem q964 : (Jvm.Cond.instanceMethod ({ cls := "CablePlant", name := "lose", desc := "(LCablePlant$Modem;)V" } : Jvm.MethodName)) ∈ lw_all := lw_g (lw_at lw_m4 208 rfl) rfl
theorem q965 : (Jvm.Cond.code ({ cls := "CablePlant", name := "lose", desc := "(LCablePlant$Modem;)V" } : Jvm.MethodName) prog_1_method_15_code (3 : Nat) (Option.none : Option Jvm.ClassFile.FieldType)) ∈ lw_all := lw_g (lw_at lw_m4 209 rfl) rfl
theorem q966 : (Jvm.Cond.methodLink "CablePlant" (261 : Nat) ({ cls := "CablePlant", name := "grant", desc := "()V" } : Jvm.MethodName)) ∈ lw_all := lw_g (lw_at lw_m4 210 rfl) rfl
theorem q967 : (Jvm.Cond.privateMethod ({ cls := "CablePlant", name := "grant", desc := "()V" } : Jvm.MethodName)) ∈ lw_tbl := lw_at lw_m4 211 rfl
theorem q968 : (Jvm.Cond.instanceMethod ({ cls := "CablePlant", name := "grant", desc := "()V" } : Jvm.MethodName)) ∈ lw_all := lw_g (lw_at lw_m4 212 rfl) rfl
theorem q969 : (Jvm.Cond.code ({ cls := "CablePlant", name := "grant", desc := "()V" } : Jvm.MethodName) prog_1_method_21_code (6 : Nat) (Option.none : Option Jvm.ClassFile.FieldType)) ∈ lw_all := lw_g (lw_at lw_m4 213 rfl) rfl
theorem q970 : (Jvm.Cond.methodLink "CablePlant" (239 : Nat) ({ cls := "java/lang/Math", name := "min", desc := "(II)I" } : Jvm.MethodName)) ∈ lw_all := lw_g (lw_at lw_m4 214 rfl) rfl
theorem q971 : (Jvm.Cond.methodLink "CablePlant" (248 : Nat) ({ cls := "CablePlant", name := "send", desc := "(LCablePlant$Request;)V" } : Jvm.MethodName)) ∈ lw_all := lw_g (lw_at lw_m4 215 rfl) rfl
theorem q972 : (Jvm.Cond.privateMethod ({ cls := "CablePlant", name := "send", desc := "(LCablePlant$Request;)V" } : Jvm.MethodName)) ∈ lw_tbl := lw_at lw_m4 216 rfl
theorem q973 : (Jvm.Cond.instanceMethod ({ cls := "CablePlant", name := "send", desc := "(LCablePlant$Request;)V" } : Jvm.MethodName)) ∈ lw_all := lw_g (lw_at lw_m4 217 rfl) rfl
theorem q974 : (Jvm.Cond.code ({ cls := "CablePlant", name := "send", desc := "(LCablePlant$Request;)V" } : Jvm.MethodName) prog_1_method_20_code (3 : Nat) (Option.none : Option Jvm.ClassFile.FieldType)) ∈ lw_all := lw_g (lw_at lw_m4 218 rfl) rfl
theorem q975 : (Jvm.Cond.methodLink "CablePlant" (224 : Nat) ({ cls := "java/util/ArrayList", name := "remove", desc := "(I)Ljava/lang/Object;" } : Jvm.MethodName)) ∈ lw_all := lw_g (lw_at lw_m4 219 rfl) rfl
theorem q979 : (Jvm.Cond.methodLink "CablePlant" (226 : Nat) ({ cls := "CablePlant$Packet", name := "size", desc := "()I" } : Jvm.MethodName)) ∈ lw_all := lw_g (lw_at lw_m4 223 rfl) rfl
theorem q980 : (Jvm.Cond.methodLink "CablePlant" (227 : Nat) ({ cls := "CablePlant$Packet", name := "v", desc := "()I" } : Jvm.MethodName)) ∈ lw_all := lw_g (lw_at lw_m4 224 rfl) rfl
theorem q984 : (Jvm.Cond.methodLink "CablePlant" (230 : Nat) ({ cls := "CablePlant", name := "put", desc := "(I)V" } : Jvm.MethodName)) ∈ lw_all := lw_g (lw_at lw_m4 228 rfl) rfl
theorem q985 : (Jvm.Cond.privateMethod ({ cls := "CablePlant", name := "put", desc := "(I)V" } : Jvm.MethodName)) ∈ lw_tbl := lw_at lw_m4 229 rfl
theorem q986 : (Jvm.Cond.instanceMethod ({ cls := "CablePlant", name := "put", desc := "(I)V" } : Jvm.MethodName)) ∈ lw_all := lw_g (lw_at lw_m4 230 rfl) rfl
theorem q987 : (Jvm.Cond.code ({ cls := "CablePlant", name := "put", desc := "(I)V" } : Jvm.MethodName) prog_1_method_19_code (3 : Nat) (Option.none : Option Jvm.ClassFile.FieldType)) ∈ lw_all := lw_g (lw_at lw_m4 231 rfl) rfl
theorem q993 : (Jvm.Cond.instanceMethod ({ cls := "CablePlant", name := "take", desc := "()I" } : Jvm.MethodName)) ∈ lw_all := lw_g (lw_at lw_m4 237 rfl) rfl
theorem q994 : (Jvm.Cond.selects "CablePlant" ({ cls := "CablePlant", name := "take", desc := "()I" } : Jvm.MethodName) ({ cls := "CablePlant", name := "take", desc := "()I" } : Jvm.MethodName)) ∈ lw_all := lw_g (lw_at lw_m4 238 rfl) rfl
theorem q995 : (Jvm.Cond.code ({ cls := "CablePlant", name := "take", desc := "()I" } : Jvm.MethodName) prog_1_method_24_code (3 : Nat) (Option.some Jvm.ClassFile.FieldType.int)) ∈ lw_all := lw_g (lw_at lw_m4 239 rfl) rfl
theorem q996 : (Jvm.Cond.classLink "CablePlant" (264 : Nat) "java/util/NoSuchElementException") ∈ lw_all := lw_g (lw_at lw_m5 0 rfl) rfl
theorem q997 : (Jvm.Cond.methodLink "CablePlant" (266 : Nat) ({ cls := "java/util/NoSuchElementException", name := "<init>", desc := "()V" } : Jvm.MethodName)) ∈ lw_all := lw_g (lw_at lw_m5 1 rfl) rfl
theorem q1002 : (Jvm.Cond.instanceMethod ({ cls := "CablePlant", name := "level", desc := "(II)D" } : Jvm.MethodName)) ∈ lw_all := lw_g (lw_at lw_m5 6 rfl) rfl
theorem q1003 : (Jvm.Cond.selects "CablePlant" ({ cls := "CablePlant", name := "level", desc := "(II)D" } : Jvm.MethodName) ({ cls := "CablePlant", name := "level", desc := "(II)D" } : Jvm.MethodName)) ∈ lw_all := lw_g (lw_at lw_m5 7 rfl) rfl
theorem q1004 : (Jvm.Cond.code ({ cls := "CablePlant", name := "level", desc := "(II)D" } : Jvm.MethodName) prog_1_method_25_code (4 : Nat) (Option.some Jvm.ClassFile.FieldType.double)) ∈ lw_all := lw_g (lw_at lw_m5 8 rfl) rfl
theorem q1005 : (Jvm.Cond.methodLink "CablePlant" (267 : Nat) ({ cls := "CablePlant$Modem", name := "late", desc := "()D" } : Jvm.MethodName)) ∈ lw_all := lw_g (lw_at lw_m5 9 rfl) rfl
theorem q1006 : (Jvm.Cond.methodLink "CablePlant" (271 : Nat) ({ cls := "CablePlant$Modem", name := "strong", desc := "()D" } : Jvm.MethodName)) ∈ lw_all := lw_g (lw_at lw_m5 10 rfl) rfl
theorem q1011 : (Jvm.Cond.instanceMethod ({ cls := "CablePlant", name := "told", desc := "(II)I" } : Jvm.MethodName)) ∈ lw_all := lw_g (lw_at lw_m5 15 rfl) rfl
theorem q1012 : (Jvm.Cond.selects "CablePlant" ({ cls := "CablePlant", name := "told", desc := "(II)I" } : Jvm.MethodName) ({ cls := "CablePlant", name := "told", desc := "(II)I" } : Jvm.MethodName)) ∈ lw_all := lw_g (lw_at lw_m5 16 rfl) rfl
theorem q1013 : (Jvm.Cond.code ({ cls := "CablePlant", name := "told", desc := "(II)I" } : Jvm.MethodName) prog_1_method_26_code (4 : Nat) (Option.some Jvm.ClassFile.FieldType.int)) ∈ lw_all := lw_g (lw_at lw_m5 17 rfl) rfl
theorem q1014 : (Jvm.Cond.methodLink "CablePlant" (274 : Nat) ({ cls := "CablePlant$State", name := "number", desc := "()I" } : Jvm.MethodName)) ∈ lw_all := lw_g (lw_at lw_m5 18 rfl) rfl
theorem q1264 : (Jvm.Cond.castable "CablePlant" "java/lang/Object") ∈ lw_tbl := lw_at lw_m6 28 rfl
theorem in_X1 : ∀ w ∈ wsX10, w ∈ lw_all := lw_in wsX10 [516, 518, 520, 522, 524, 526, 528, 530, 532, 534, 536, 538] (by decide +kernel) (by decide +kernel)
/-! CablePlantModel -/
def RX6 : String := "CablePlantModel"
def TX6 : u_T := fun k => match k with
  | 0 => ("CablePlantModel", "distance", "[D", true)
  | 1 => ("CablePlantModel", "loss", "[D", true)
  | 2 => ("CablePlantModel", "offset", "[D", true)
  | 3 => ("CablePlantModel", "gain", "[D", true)
  | 4 => ("CablePlantModel", "rate", "[D", true)
  | 5 => ("CablePlantModel", "credit", "[D", true)
  | 6 => ("CablePlantModel", "state", "[I", true)
  | 7 => ("CablePlantModel", "chance", "[I", true)
  | 8 => ("CablePlantModel", "key", "[I", true)
  | 9 => ("CablePlantModel", "hold", "[I", true)
  | 10 => ("CablePlantModel", "wait", "[I", true)
  | 11 => ("CablePlantModel", "unheard", "[I", true)
  | 12 => ("CablePlantModel", "priority", "[I", true)
  | 13 => ("CablePlantModel", "packets", "[I", true)
  | 14 => ("CablePlantModel", "sizes", "[I", true)
  | 15 => ("CablePlantModel", "values", "[I", true)
  | 16 => ("CablePlantModel", "need", "[I", true)
  | 17 => ("CablePlantModel", "asked", "[I", true)
  | 18 => ("CablePlantModel", "urgent", "[I", true)
  | 19 => ("CablePlantModel", "came", "[I", true)
  | 20 => ("CablePlantModel", "sends", "[I", true)
  | 21 => ("CablePlantModel", "list", "[I", true)
  | 22 => ("CablePlantModel", "headKey", "I", false)
  | 23 => ("CablePlantModel", "listSize", "I", false)
  | 24 => ("CablePlantModel", "arrivals", "I", false)
  | 25 => ("CablePlantModel", "rounds", "I", false)
  | 26 => ("CablePlantModel", "clashes", "I", false)
  | 27 => ("CablePlantModel", "collisions", "I", false)
  | 28 => ("CablePlantModel", "lost", "I", false)
  | 29 => ("CablePlantModel", "delivered", "I", false)
  | 30 => ("CablePlantModel", "granted", "I", false)
  | 31 => ("CablePlantModel", "dropped", "I", false)
  | _ => ("CablePlantModel", "thrown", "I", false)
def tyX6 : Nat → FieldType := fun k => match k with
  | 0 => .array .double
  | 1 => .array .double
  | 2 => .array .double
  | 3 => .array .double
  | 4 => .array .double
  | 5 => .array .double
  | 6 => .array .int
  | 7 => .array .int
  | 8 => .array .int
  | 9 => .array .int
  | 10 => .array .int
  | 11 => .array .int
  | 12 => .array .int
  | 13 => .array .int
  | 14 => .array .int
  | 15 => .array .int
  | 16 => .array .int
  | 17 => .array .int
  | 18 => .array .int
  | 19 => .array .int
  | 20 => .array .int
  | 21 => .array .int
  | 22 => .int
  | 23 => .int
  | 24 => .int
  | 25 => .int
  | 26 => .int
  | 27 => .int
  | 28 => .int
  | 29 => .int
  | 30 => .int
  | 31 => .int
  | _ => .int
abbrev wsX60 : List Cond := u_ws RX6 TX6 33
theorem nmX6 : ∀ a, a < 33 → ∀ b, b < 33 → a ≠ b → (TX6 a).2.1 ≠ (TX6 b).2.1 := by decide +kernel
theorem tyX6_ok : ∀ k, k < 33 → parseFieldDescriptor (TX6 k).2.2.1 = some (tyX6 k) := by decide +kernel
abbrev cX6_init : ByteArray := prog_11_method_1_code
def yX6_init : MethodName := ⟨RX6, "<init>", "()V"⟩
theorem dX6_init_0 : decode cX6_init 0 = .ok (.aload_n 0, 1) := by decide +kernel
theorem dX6_init_1 : decode cX6_init 1 = .ok (.invokespecial 1, 3) := by decide +kernel
theorem dX6_init_4 : decode cX6_init 4 = .ok (.aload_n 0, 1) := by decide +kernel
theorem dX6_init_5 : decode cX6_init 5 = .ok (.bipush 6, 2) := by decide +kernel
theorem dX6_init_7 : decode cX6_init 7 = .ok (.newarray .double, 2) := by decide +kernel
theorem dX6_init_9 : decode cX6_init 9 = .ok (.putfield 7, 3) := by decide +kernel
theorem dX6_init_12 : decode cX6_init 12 = .ok (.aload_n 0, 1) := by decide +kernel
theorem dX6_init_13 : decode cX6_init 13 = .ok (.bipush 6, 2) := by decide +kernel
theorem dX6_init_15 : decode cX6_init 15 = .ok (.newarray .double, 2) := by decide +kernel
theorem dX6_init_17 : decode cX6_init 17 = .ok (.putfield 13, 3) := by decide +kernel
theorem dX6_init_20 : decode cX6_init 20 = .ok (.aload_n 0, 1) := by decide +kernel
theorem dX6_init_21 : decode cX6_init 21 = .ok (.bipush 6, 2) := by decide +kernel
theorem dX6_init_23 : decode cX6_init 23 = .ok (.newarray .double, 2) := by decide +kernel
theorem dX6_init_25 : decode cX6_init 25 = .ok (.putfield 16, 3) := by decide +kernel
theorem dX6_init_28 : decode cX6_init 28 = .ok (.aload_n 0, 1) := by decide +kernel
theorem dX6_init_29 : decode cX6_init 29 = .ok (.bipush 6, 2) := by decide +kernel
theorem dX6_init_31 : decode cX6_init 31 = .ok (.newarray .double, 2) := by decide +kernel
theorem dX6_init_33 : decode cX6_init 33 = .ok (.putfield 19, 3) := by decide +kernel
theorem dX6_init_36 : decode cX6_init 36 = .ok (.aload_n 0, 1) := by decide +kernel
theorem dX6_init_37 : decode cX6_init 37 = .ok (.bipush 12, 2) := by decide +kernel
theorem dX6_init_39 : decode cX6_init 39 = .ok (.newarray .double, 2) := by decide +kernel
theorem dX6_init_41 : decode cX6_init 41 = .ok (.putfield 22, 3) := by decide +kernel
theorem dX6_init_44 : decode cX6_init 44 = .ok (.aload_n 0, 1) := by decide +kernel
theorem dX6_init_45 : decode cX6_init 45 = .ok (.bipush 12, 2) := by decide +kernel
theorem dX6_init_47 : decode cX6_init 47 = .ok (.newarray .double, 2) := by decide +kernel
theorem dX6_init_49 : decode cX6_init 49 = .ok (.putfield 25, 3) := by decide +kernel
theorem dX6_init_52 : decode cX6_init 52 = .ok (.aload_n 0, 1) := by decide +kernel
theorem dX6_init_53 : decode cX6_init 53 = .ok (.bipush 6, 2) := by decide +kernel
theorem dX6_init_55 : decode cX6_init 55 = .ok (.newarray .int, 2) := by decide +kernel
theorem dX6_init_57 : decode cX6_init 57 = .ok (.putfield 28, 3) := by decide +kernel
theorem dX6_init_60 : decode cX6_init 60 = .ok (.aload_n 0, 1) := by decide +kernel
theorem dX6_init_61 : decode cX6_init 61 = .ok (.bipush 6, 2) := by decide +kernel
theorem dX6_init_63 : decode cX6_init 63 = .ok (.newarray .int, 2) := by decide +kernel
theorem dX6_init_65 : decode cX6_init 65 = .ok (.putfield 32, 3) := by decide +kernel
theorem dX6_init_68 : decode cX6_init 68 = .ok (.aload_n 0, 1) := by decide +kernel
theorem dX6_init_69 : decode cX6_init 69 = .ok (.bipush 6, 2) := by decide +kernel
theorem dX6_init_71 : decode cX6_init 71 = .ok (.newarray .int, 2) := by decide +kernel
theorem dX6_init_73 : decode cX6_init 73 = .ok (.putfield 35, 3) := by decide +kernel
theorem dX6_init_76 : decode cX6_init 76 = .ok (.aload_n 0, 1) := by decide +kernel
theorem dX6_init_77 : decode cX6_init 77 = .ok (.bipush 6, 2) := by decide +kernel
theorem dX6_init_79 : decode cX6_init 79 = .ok (.newarray .int, 2) := by decide +kernel
theorem dX6_init_81 : decode cX6_init 81 = .ok (.putfield 38, 3) := by decide +kernel
theorem dX6_init_84 : decode cX6_init 84 = .ok (.aload_n 0, 1) := by decide +kernel
theorem dX6_init_85 : decode cX6_init 85 = .ok (.bipush 6, 2) := by decide +kernel
theorem dX6_init_87 : decode cX6_init 87 = .ok (.newarray .int, 2) := by decide +kernel
theorem dX6_init_89 : decode cX6_init 89 = .ok (.putfield 41, 3) := by decide +kernel
theorem dX6_init_92 : decode cX6_init 92 = .ok (.aload_n 0, 1) := by decide +kernel
theorem dX6_init_93 : decode cX6_init 93 = .ok (.bipush 6, 2) := by decide +kernel
theorem dX6_init_95 : decode cX6_init 95 = .ok (.newarray .int, 2) := by decide +kernel
theorem dX6_init_97 : decode cX6_init 97 = .ok (.putfield 44, 3) := by decide +kernel
theorem dX6_init_100 : decode cX6_init 100 = .ok (.aload_n 0, 1) := by decide +kernel
theorem dX6_init_101 : decode cX6_init 101 = .ok (.bipush 12, 2) := by decide +kernel
theorem dX6_init_103 : decode cX6_init 103 = .ok (.newarray .int, 2) := by decide +kernel
theorem dX6_init_105 : decode cX6_init 105 = .ok (.putfield 47, 3) := by decide +kernel
theorem dX6_init_108 : decode cX6_init 108 = .ok (.aload_n 0, 1) := by decide +kernel
theorem dX6_init_109 : decode cX6_init 109 = .ok (.bipush 12, 2) := by decide +kernel
theorem dX6_init_111 : decode cX6_init 111 = .ok (.newarray .int, 2) := by decide +kernel
theorem dX6_init_113 : decode cX6_init 113 = .ok (.putfield 50, 3) := by decide +kernel
theorem dX6_init_116 : decode cX6_init 116 = .ok (.aload_n 0, 1) := by decide +kernel
theorem dX6_init_117 : decode cX6_init 117 = .ok (.bipush 48, 2) := by decide +kernel
theorem dX6_init_119 : decode cX6_init 119 = .ok (.newarray .int, 2) := by decide +kernel
theorem dX6_init_121 : decode cX6_init 121 = .ok (.putfield 53, 3) := by decide +kernel
theorem dX6_init_124 : decode cX6_init 124 = .ok (.aload_n 0, 1) := by decide +kernel
theorem dX6_init_125 : decode cX6_init 125 = .ok (.bipush 48, 2) := by decide +kernel
theorem dX6_init_127 : decode cX6_init 127 = .ok (.newarray .int, 2) := by decide +kernel
theorem dX6_init_129 : decode cX6_init 129 = .ok (.putfield 56, 3) := by decide +kernel
theorem dX6_init_132 : decode cX6_init 132 = .ok (.aload_n 0, 1) := by decide +kernel
theorem dX6_init_133 : decode cX6_init 133 = .ok (.bipush 6, 2) := by decide +kernel
theorem dX6_init_135 : decode cX6_init 135 = .ok (.newarray .int, 2) := by decide +kernel
theorem dX6_init_137 : decode cX6_init 137 = .ok (.putfield 59, 3) := by decide +kernel
theorem dX6_init_140 : decode cX6_init 140 = .ok (.aload_n 0, 1) := by decide +kernel
theorem dX6_init_141 : decode cX6_init 141 = .ok (.bipush 6, 2) := by decide +kernel
theorem dX6_init_143 : decode cX6_init 143 = .ok (.newarray .int, 2) := by decide +kernel
theorem dX6_init_145 : decode cX6_init 145 = .ok (.putfield 62, 3) := by decide +kernel
theorem dX6_init_148 : decode cX6_init 148 = .ok (.aload_n 0, 1) := by decide +kernel
theorem dX6_init_149 : decode cX6_init 149 = .ok (.bipush 6, 2) := by decide +kernel
theorem dX6_init_151 : decode cX6_init 151 = .ok (.newarray .int, 2) := by decide +kernel
theorem dX6_init_153 : decode cX6_init 153 = .ok (.putfield 65, 3) := by decide +kernel
theorem dX6_init_156 : decode cX6_init 156 = .ok (.aload_n 0, 1) := by decide +kernel
theorem dX6_init_157 : decode cX6_init 157 = .ok (.bipush 6, 2) := by decide +kernel
theorem dX6_init_159 : decode cX6_init 159 = .ok (.newarray .int, 2) := by decide +kernel
theorem dX6_init_161 : decode cX6_init 161 = .ok (.putfield 68, 3) := by decide +kernel
theorem dX6_init_164 : decode cX6_init 164 = .ok (.aload_n 0, 1) := by decide +kernel
theorem dX6_init_165 : decode cX6_init 165 = .ok (.bipush 6, 2) := by decide +kernel
theorem dX6_init_167 : decode cX6_init 167 = .ok (.newarray .int, 2) := by decide +kernel
theorem dX6_init_169 : decode cX6_init 169 = .ok (.putfield 71, 3) := by decide +kernel
theorem dX6_init_172 : decode cX6_init 172 = .ok (.aload_n 0, 1) := by decide +kernel
theorem dX6_init_173 : decode cX6_init 173 = .ok (.bipush 6, 2) := by decide +kernel
theorem dX6_init_175 : decode cX6_init 175 = .ok (.newarray .int, 2) := by decide +kernel
theorem dX6_init_177 : decode cX6_init 177 = .ok (.putfield 74, 3) := by decide +kernel
theorem dX6_init_180 : decode cX6_init 180 = .ok (.iconst 0, 1) := by decide +kernel
theorem dX6_init_181 : decode cX6_init 181 = .ok (.istore_n 1, 1) := by decide +kernel
theorem dX6_init_182 : decode cX6_init 182 = .ok (.iload_n 1, 1) := by decide +kernel
theorem dX6_init_183 : decode cX6_init 183 = .ok (.bipush 12, 2) := by decide +kernel
theorem dX6_init_185 : decode cX6_init 185 = .ok (.if_icmp .ge 16, 3) := by decide +kernel
theorem dX6_init_188 : decode cX6_init 188 = .ok (.aload_n 0, 1) := by decide +kernel
theorem dX6_init_189 : decode cX6_init 189 = .ok (.getfield 22, 3) := by decide +kernel
theorem dX6_init_192 : decode cX6_init 192 = .ok (.iload_n 1, 1) := by decide +kernel
theorem dX6_init_193 : decode cX6_init 193 = .ok (.dconst 1, 1) := by decide +kernel
theorem dX6_init_194 : decode cX6_init 194 = .ok (.dastore, 1) := by decide +kernel
theorem dX6_init_195 : decode cX6_init 195 = .ok (.iinc 1 1, 3) := by decide +kernel
theorem dX6_init_198 : decode cX6_init 198 = .ok (.goto (-16), 3) := by decide +kernel
theorem dX6_init_201 : decode cX6_init 201 = .ok (.return_, 1) := by decide +kernel
abbrev cX6_thrown : ByteArray := prog_11_method_2_code
def yX6_thrown : MethodName := ⟨RX6, "thrown", "()I"⟩
theorem dX6_thrown_0 : decode cX6_thrown 0 = .ok (.aload_n 0, 1) := by decide +kernel
theorem dX6_thrown_1 : decode cX6_thrown 1 = .ok (.getfield 77, 3) := by decide +kernel
theorem dX6_thrown_4 : decode cX6_thrown 4 = .ok (.ireturn, 1) := by decide +kernel
abbrev cX6_place : ByteArray := prog_11_method_4_code
def yX6_place : MethodName := ⟨RX6, "place", "(IDD)V"⟩
theorem dX6_place_0 : decode cX6_place 0 = .ok (.aload_n 0, 1) := by decide +kernel
theorem dX6_place_1 : decode cX6_place 1 = .ok (.aload_n 0, 1) := by decide +kernel
theorem dX6_place_2 : decode cX6_place 2 = .ok (.iload_n 1, 1) := by decide +kernel
theorem dX6_place_3 : decode cX6_place 3 = .ok (.iconst 5, 1) := by decide +kernel
theorem dX6_place_4 : decode cX6_place 4 = .ok (.invokevirtual 81, 3) := by decide +kernel
theorem dX6_place_7 : decode cX6_place 7 = .ok (.ifCond .ne 33, 3) := by decide +kernel
theorem dX6_place_10 : decode cX6_place 10 = .ok (.dload_n 2, 1) := by decide +kernel
theorem dX6_place_11 : decode cX6_place 11 = .ok (.dconst 0, 1) := by decide +kernel
theorem dX6_place_12 : decode cX6_place 12 = .ok (.dcmp .l, 1) := by decide +kernel
theorem dX6_place_13 : decode cX6_place 13 = .ok (.ifCond .lt 27, 3) := by decide +kernel
theorem dX6_place_16 : decode cX6_place 16 = .ok (.dload_n 2, 1) := by decide +kernel
theorem dX6_place_17 : decode cX6_place 17 = .ok (.ldc2_w 85, 3) := by decide +kernel
theorem dX6_place_20 : decode cX6_place 20 = .ok (.dcmp .g, 1) := by decide +kernel
theorem dX6_place_21 : decode cX6_place 21 = .ok (.ifCond .gt 19, 3) := by decide +kernel
theorem dX6_place_24 : decode cX6_place 24 = .ok (.dload 4, 2) := by decide +kernel
theorem dX6_place_26 : decode cX6_place 26 = .ok (.dconst 0, 1) := by decide +kernel
theorem dX6_place_27 : decode cX6_place 27 = .ok (.dcmp .l, 1) := by decide +kernel
theorem dX6_place_28 : decode cX6_place 28 = .ok (.ifCond .lt 12, 3) := by decide +kernel
theorem dX6_place_31 : decode cX6_place 31 = .ok (.dload 4, 2) := by decide +kernel
theorem dX6_place_33 : decode cX6_place 33 = .ok (.ldc2_w 85, 3) := by decide +kernel
theorem dX6_place_36 : decode cX6_place 36 = .ok (.dcmp .g, 1) := by decide +kernel
theorem dX6_place_37 : decode cX6_place 37 = .ok (.ifCond .le 7, 3) := by decide +kernel
theorem dX6_place_40 : decode cX6_place 40 = .ok (.iconst 1, 1) := by decide +kernel
theorem dX6_place_41 : decode cX6_place 41 = .ok (.goto 4, 3) := by decide +kernel
theorem dX6_place_44 : decode cX6_place 44 = .ok (.iconst 0, 1) := by decide +kernel
theorem dX6_place_45 : decode cX6_place 45 = .ok (.putfield 77, 3) := by decide +kernel
theorem dX6_place_48 : decode cX6_place 48 = .ok (.aload_n 0, 1) := by decide +kernel
theorem dX6_place_49 : decode cX6_place 49 = .ok (.getfield 77, 3) := by decide +kernel
theorem dX6_place_52 : decode cX6_place 52 = .ok (.ifCond .eq 4, 3) := by decide +kernel
theorem dX6_place_55 : decode cX6_place 55 = .ok (.return_, 1) := by decide +kernel
theorem dX6_place_56 : decode cX6_place 56 = .ok (.aload_n 0, 1) := by decide +kernel
theorem dX6_place_57 : decode cX6_place 57 = .ok (.getfield 7, 3) := by decide +kernel
theorem dX6_place_60 : decode cX6_place 60 = .ok (.iload_n 1, 1) := by decide +kernel
theorem dX6_place_61 : decode cX6_place 61 = .ok (.dload_n 2, 1) := by decide +kernel
theorem dX6_place_62 : decode cX6_place 62 = .ok (.dastore, 1) := by decide +kernel
theorem dX6_place_63 : decode cX6_place 63 = .ok (.aload_n 0, 1) := by decide +kernel
theorem dX6_place_64 : decode cX6_place 64 = .ok (.getfield 13, 3) := by decide +kernel
theorem dX6_place_67 : decode cX6_place 67 = .ok (.iload_n 1, 1) := by decide +kernel
theorem dX6_place_68 : decode cX6_place 68 = .ok (.dload 4, 2) := by decide +kernel
theorem dX6_place_70 : decode cX6_place 70 = .ok (.dastore, 1) := by decide +kernel
theorem dX6_place_71 : decode cX6_place 71 = .ok (.return_, 1) := by decide +kernel
abbrev cX6_out : ByteArray := prog_11_method_3_code
def yX6_out : MethodName := ⟨RX6, "out", "(II)Z"⟩
theorem dX6_out_0 : decode cX6_out 0 = .ok (.iload_n 1, 1) := by decide +kernel
theorem dX6_out_1 : decode cX6_out 1 = .ok (.ifCond .lt 8, 3) := by decide +kernel
theorem dX6_out_4 : decode cX6_out 4 = .ok (.iload_n 1, 1) := by decide +kernel
theorem dX6_out_5 : decode cX6_out 5 = .ok (.iload_n 2, 1) := by decide +kernel
theorem dX6_out_6 : decode cX6_out 6 = .ok (.if_icmp .le 7, 3) := by decide +kernel
theorem dX6_out_9 : decode cX6_out 9 = .ok (.iconst 1, 1) := by decide +kernel
theorem dX6_out_10 : decode cX6_out 10 = .ok (.goto 4, 3) := by decide +kernel
theorem dX6_out_13 : decode cX6_out 13 = .ok (.iconst 0, 1) := by decide +kernel
theorem dX6_out_14 : decode cX6_out 14 = .ok (.ireturn, 1) := by decide +kernel
abbrev cX6_power : ByteArray := prog_11_method_6_code
def yX6_power : MethodName := ⟨RX6, "power", "(IZ)V"⟩
theorem dX6_power_0 : decode cX6_power 0 = .ok (.aload_n 0, 1) := by decide +kernel
theorem dX6_power_1 : decode cX6_power 1 = .ok (.aload_n 0, 1) := by decide +kernel
theorem dX6_power_2 : decode cX6_power 2 = .ok (.iload_n 1, 1) := by decide +kernel
theorem dX6_power_3 : decode cX6_power 3 = .ok (.iconst 5, 1) := by decide +kernel
theorem dX6_power_4 : decode cX6_power 4 = .ok (.invokevirtual 81, 3) := by decide +kernel
theorem dX6_power_7 : decode cX6_power 7 = .ok (.ifCond .eq 7, 3) := by decide +kernel
theorem dX6_power_10 : decode cX6_power 10 = .ok (.iconst 1, 1) := by decide +kernel
theorem dX6_power_11 : decode cX6_power 11 = .ok (.goto 26, 3) := by decide +kernel
theorem dX6_power_14 : decode cX6_power 14 = .ok (.iload_n 2, 1) := by decide +kernel
theorem dX6_power_15 : decode cX6_power 15 = .ok (.aload_n 0, 1) := by decide +kernel
theorem dX6_power_16 : decode cX6_power 16 = .ok (.getfield 28, 3) := by decide +kernel
theorem dX6_power_19 : decode cX6_power 19 = .ok (.iload_n 1, 1) := by decide +kernel
theorem dX6_power_20 : decode cX6_power 20 = .ok (.iaload, 1) := by decide +kernel
theorem dX6_power_21 : decode cX6_power 21 = .ok (.ifCond .le 7, 3) := by decide +kernel
theorem dX6_power_24 : decode cX6_power 24 = .ok (.iconst 1, 1) := by decide +kernel
theorem dX6_power_25 : decode cX6_power 25 = .ok (.goto 4, 3) := by decide +kernel
theorem dX6_power_28 : decode cX6_power 28 = .ok (.iconst 0, 1) := by decide +kernel
theorem dX6_power_29 : decode cX6_power 29 = .ok (.if_icmp .ne 7, 3) := by decide +kernel
theorem dX6_power_32 : decode cX6_power 32 = .ok (.iconst 2, 1) := by decide +kernel
theorem dX6_power_33 : decode cX6_power 33 = .ok (.goto 4, 3) := by decide +kernel
theorem dX6_power_36 : decode cX6_power 36 = .ok (.iconst 0, 1) := by decide +kernel
theorem dX6_power_37 : decode cX6_power 37 = .ok (.putfield 77, 3) := by decide +kernel
theorem dX6_power_40 : decode cX6_power 40 = .ok (.aload_n 0, 1) := by decide +kernel
theorem dX6_power_41 : decode cX6_power 41 = .ok (.getfield 77, 3) := by decide +kernel
theorem dX6_power_44 : decode cX6_power 44 = .ok (.ifCond .eq 4, 3) := by decide +kernel
theorem dX6_power_47 : decode cX6_power 47 = .ok (.return_, 1) := by decide +kernel
theorem dX6_power_48 : decode cX6_power 48 = .ok (.iload_n 2, 1) := by decide +kernel
theorem dX6_power_49 : decode cX6_power 49 = .ok (.ifCond .ne 18, 3) := by decide +kernel
theorem dX6_power_52 : decode cX6_power 52 = .ok (.aload_n 0, 1) := by decide +kernel
theorem dX6_power_53 : decode cX6_power 53 = .ok (.getfield 28, 3) := by decide +kernel
theorem dX6_power_56 : decode cX6_power 56 = .ok (.iload_n 1, 1) := by decide +kernel
theorem dX6_power_57 : decode cX6_power 57 = .ok (.iconst 0, 1) := by decide +kernel
theorem dX6_power_58 : decode cX6_power 58 = .ok (.iastore, 1) := by decide +kernel
theorem dX6_power_59 : decode cX6_power 59 = .ok (.aload_n 0, 1) := by decide +kernel
theorem dX6_power_60 : decode cX6_power 60 = .ok (.getfield 59, 3) := by decide +kernel
theorem dX6_power_63 : decode cX6_power 63 = .ok (.iload_n 1, 1) := by decide +kernel
theorem dX6_power_64 : decode cX6_power 64 = .ok (.iconst 0, 1) := by decide +kernel
theorem dX6_power_65 : decode cX6_power 65 = .ok (.iastore, 1) := by decide +kernel
theorem dX6_power_66 : decode cX6_power 66 = .ok (.return_, 1) := by decide +kernel
theorem dX6_power_67 : decode cX6_power 67 = .ok (.aload_n 0, 1) := by decide +kernel
theorem dX6_power_68 : decode cX6_power 68 = .ok (.iload_n 1, 1) := by decide +kernel
theorem dX6_power_69 : decode cX6_power 69 = .ok (.invokevirtual 87, 3) := by decide +kernel
theorem dX6_power_72 : decode cX6_power 72 = .ok (.aload_n 0, 1) := by decide +kernel
theorem dX6_power_73 : decode cX6_power 73 = .ok (.getfield 16, 3) := by decide +kernel
theorem dX6_power_76 : decode cX6_power 76 = .ok (.iload_n 1, 1) := by decide +kernel
theorem dX6_power_77 : decode cX6_power 77 = .ok (.dconst 0, 1) := by decide +kernel
theorem dX6_power_78 : decode cX6_power 78 = .ok (.dastore, 1) := by decide +kernel
theorem dX6_power_79 : decode cX6_power 79 = .ok (.aload_n 0, 1) := by decide +kernel
theorem dX6_power_80 : decode cX6_power 80 = .ok (.getfield 19, 3) := by decide +kernel
theorem dX6_power_83 : decode cX6_power 83 = .ok (.iload_n 1, 1) := by decide +kernel
theorem dX6_power_84 : decode cX6_power 84 = .ok (.dconst 0, 1) := by decide +kernel
theorem dX6_power_85 : decode cX6_power 85 = .ok (.dastore, 1) := by decide +kernel
theorem dX6_power_86 : decode cX6_power 86 = .ok (.aload_n 0, 1) := by decide +kernel
theorem dX6_power_87 : decode cX6_power 87 = .ok (.getfield 32, 3) := by decide +kernel
theorem dX6_power_90 : decode cX6_power 90 = .ok (.iload_n 1, 1) := by decide +kernel
theorem dX6_power_91 : decode cX6_power 91 = .ok (.iload_n 1, 1) := by decide +kernel
theorem dX6_power_92 : decode cX6_power 92 = .ok (.iconst 1, 1) := by decide +kernel
theorem dX6_power_93 : decode cX6_power 93 = .ok (.iadd, 1) := by decide +kernel
theorem dX6_power_94 : decode cX6_power 94 = .ok (.iastore, 1) := by decide +kernel
theorem dX6_power_95 : decode cX6_power 95 = .ok (.iconst 2, 1) := by decide +kernel
theorem dX6_power_96 : decode cX6_power 96 = .ok (.iload_n 1, 1) := by decide +kernel
theorem dX6_power_97 : decode cX6_power 97 = .ok (.imul, 1) := by decide +kernel
theorem dX6_power_98 : decode cX6_power 98 = .ok (.istore_n 3, 1) := by decide +kernel
theorem dX6_power_99 : decode cX6_power 99 = .ok (.iload_n 3, 1) := by decide +kernel
theorem dX6_power_100 : decode cX6_power 100 = .ok (.iconst 2, 1) := by decide +kernel
theorem dX6_power_101 : decode cX6_power 101 = .ok (.iload_n 1, 1) := by decide +kernel
theorem dX6_power_102 : decode cX6_power 102 = .ok (.imul, 1) := by decide +kernel
theorem dX6_power_103 : decode cX6_power 103 = .ok (.iconst 2, 1) := by decide +kernel
theorem dX6_power_104 : decode cX6_power 104 = .ok (.iadd, 1) := by decide +kernel
theorem dX6_power_105 : decode cX6_power 105 = .ok (.if_icmp .ge 23, 3) := by decide +kernel
theorem dX6_power_108 : decode cX6_power 108 = .ok (.aload_n 0, 1) := by decide +kernel
theorem dX6_power_109 : decode cX6_power 109 = .ok (.getfield 25, 3) := by decide +kernel
theorem dX6_power_112 : decode cX6_power 112 = .ok (.iload_n 3, 1) := by decide +kernel
theorem dX6_power_113 : decode cX6_power 113 = .ok (.dconst 0, 1) := by decide +kernel
theorem dX6_power_114 : decode cX6_power 114 = .ok (.dastore, 1) := by decide +kernel
theorem dX6_power_115 : decode cX6_power 115 = .ok (.aload_n 0, 1) := by decide +kernel
theorem dX6_power_116 : decode cX6_power 116 = .ok (.getfield 50, 3) := by decide +kernel
theorem dX6_power_119 : decode cX6_power 119 = .ok (.iload_n 3, 1) := by decide +kernel
theorem dX6_power_120 : decode cX6_power 120 = .ok (.iconst 0, 1) := by decide +kernel
theorem dX6_power_121 : decode cX6_power 121 = .ok (.iastore, 1) := by decide +kernel
theorem dX6_power_122 : decode cX6_power 122 = .ok (.iinc 3 1, 3) := by decide +kernel
theorem dX6_power_125 : decode cX6_power 125 = .ok (.goto (-26), 3) := by decide +kernel
theorem dX6_power_128 : decode cX6_power 128 = .ok (.return_, 1) := by decide +kernel
abbrev cX6_seek : ByteArray := prog_11_method_5_code
def yX6_seek : MethodName := ⟨RX6, "seek", "(I)V"⟩
theorem dX6_seek_0 : decode cX6_seek 0 = .ok (.aload_n 0, 1) := by decide +kernel
theorem dX6_seek_1 : decode cX6_seek 1 = .ok (.getfield 28, 3) := by decide +kernel
theorem dX6_seek_4 : decode cX6_seek 4 = .ok (.iload_n 1, 1) := by decide +kernel
theorem dX6_seek_5 : decode cX6_seek 5 = .ok (.iconst 1, 1) := by decide +kernel
theorem dX6_seek_6 : decode cX6_seek 6 = .ok (.iastore, 1) := by decide +kernel
theorem dX6_seek_7 : decode cX6_seek 7 = .ok (.aload_n 0, 1) := by decide +kernel
theorem dX6_seek_8 : decode cX6_seek 8 = .ok (.getfield 38, 3) := by decide +kernel
theorem dX6_seek_11 : decode cX6_seek 11 = .ok (.iload_n 1, 1) := by decide +kernel
theorem dX6_seek_12 : decode cX6_seek 12 = .ok (.iconst 0, 1) := by decide +kernel
theorem dX6_seek_13 : decode cX6_seek 13 = .ok (.iastore, 1) := by decide +kernel
theorem dX6_seek_14 : decode cX6_seek 14 = .ok (.aload_n 0, 1) := by decide +kernel
theorem dX6_seek_15 : decode cX6_seek 15 = .ok (.getfield 59, 3) := by decide +kernel
theorem dX6_seek_18 : decode cX6_seek 18 = .ok (.iload_n 1, 1) := by decide +kernel
theorem dX6_seek_19 : decode cX6_seek 19 = .ok (.iconst 0, 1) := by decide +kernel
theorem dX6_seek_20 : decode cX6_seek 20 = .ok (.iastore, 1) := by decide +kernel
theorem dX6_seek_21 : decode cX6_seek 21 = .ok (.return_, 1) := by decide +kernel
