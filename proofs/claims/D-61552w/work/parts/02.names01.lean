set_option maxRecDepth 100000
abbrev cJ18_checkForComodification : ByteArray := prog_39_method_6_code
def yJ18_checkForComodification : MethodName := ⟨RJ18, "checkForComodification", "()V"⟩
theorem dJ18_checkForComodification_0 : decode cJ18_checkForComodification 0 = .ok (.aload_n 0, 1) := by decide +kernel
theorem dJ18_checkForComodification_1 : decode cJ18_checkForComodification 1 = .ok (.getfield 1, 3) := by decide +kernel
theorem dJ18_checkForComodification_4 : decode cJ18_checkForComodification 4 = .ok (.getfield 17, 3) := by decide +kernel
theorem dJ18_checkForComodification_7 : decode cJ18_checkForComodification 7 = .ok (.aload_n 0, 1) := by decide +kernel
theorem dJ18_checkForComodification_8 : decode cJ18_checkForComodification 8 = .ok (.getfield 22, 3) := by decide +kernel
theorem dJ18_checkForComodification_11 : decode cJ18_checkForComodification 11 = .ok (.if_icmp .eq 11, 3) := by decide +kernel
theorem dJ18_checkForComodification_14 : decode cJ18_checkForComodification 14 = .ok (.new 41, 3) := by decide +kernel
theorem dJ18_checkForComodification_17 : decode cJ18_checkForComodification 17 = .ok (.dup, 1) := by decide +kernel
theorem dJ18_checkForComodification_18 : decode cJ18_checkForComodification 18 = .ok (.invokespecial 43, 3) := by decide +kernel
theorem dJ18_checkForComodification_21 : decode cJ18_checkForComodification 21 = .ok (.athrow, 1) := by decide +kernel
theorem dJ18_checkForComodification_22 : decode cJ18_checkForComodification 22 = .ok (.return_, 1) := by decide +kernel
theorem q63 : (Jvm.Cond.initialized "java/util/ArrayList$Itr") ∈ lw_all := lw_g (lw_at lw_m1 27 rfl) rfl
theorem q412 : (Jvm.Cond.fieldLink "java/util/ArrayList$Itr" (37 : Nat) "java/util/ArrayList" "elementData" "[Ljava/lang/Object;") ∈ lw_all := lw_g (lw_at lw_m2 136 rfl) rfl
theorem q413 : (Jvm.Cond.fieldLinkNest "java/util/ArrayList$Itr" (28 : Nat) "java/util/ArrayList" "size" "I" "java/util/ArrayList") ∈ lw_tbl := lw_at lw_m2 137 rfl
theorem q416 : (Jvm.Cond.fieldLink "java/util/ArrayList$Itr" (17 : Nat) "java/util/ArrayList" "modCount" "I") ∈ lw_all := lw_g (lw_at lw_m2 140 rfl) rfl
theorem q661 : (Jvm.Cond.instantiable "java/util/ArrayList$Itr" (4 : Nat)) ∈ lw_all := lw_g (lw_at lw_m3 145 rfl) rfl
theorem q663 : (Jvm.Cond.instanceMethod ({ cls := "java/util/ArrayList$Itr", name := "<init>", desc := "(Ljava/util/ArrayList;)V" } : Jvm.MethodName)) ∈ lw_all := lw_g (lw_at lw_m3 147 rfl) rfl
theorem q664 : (Jvm.Cond.code ({ cls := "java/util/ArrayList$Itr", name := "<init>", desc := "(Ljava/util/ArrayList;)V" } : Jvm.MethodName) prog_39_method_1_code (2 : Nat) (Option.none : Option Jvm.ClassFile.FieldType)) ∈ lw_all := lw_g (lw_at lw_m3 148 rfl) rfl
theorem q665 : (Jvm.Cond.methodLink "java/util/ArrayList$Itr" (7 : Nat) ({ cls := "java/lang/Object", name := "<init>", desc := "()V" } : Jvm.MethodName)) ∈ lw_all := lw_g (lw_at lw_m3 149 rfl) rfl
theorem q666 : (Jvm.Cond.fieldLink "java/util/ArrayList$Itr" (25 : Nat) "java/util/ArrayList$Itr" "cursor" "I") ∈ lw_all := lw_g (lw_at lw_m3 150 rfl) rfl
theorem q667 : (Jvm.Cond.fieldLink "java/util/ArrayList$Itr" (13 : Nat) "java/util/ArrayList$Itr" "lastRet" "I") ∈ lw_all := lw_g (lw_at lw_m3 151 rfl) rfl
theorem q668 : (Jvm.Cond.fieldLink "java/util/ArrayList$Itr" (22 : Nat) "java/util/ArrayList$Itr" "expectedModCount" "I") ∈ lw_all := lw_g (lw_at lw_m3 152 rfl) rfl
theorem q669 : (Jvm.Cond.fieldLink "java/util/ArrayList$Itr" (1 : Nat) "java/util/ArrayList$Itr" "this$0" "Ljava/util/ArrayList;") ∈ lw_all := lw_g (lw_at lw_m3 153 rfl) rfl
theorem q670 : (Jvm.Cond.lays "java/util/ArrayList$Itr" "java/util/ArrayList$Itr" "cursor" "I") ∈ lw_all := lw_g (lw_at lw_m3 154 rfl) rfl
theorem q671 : (Jvm.Cond.soleField "java/util/ArrayList$Itr" "cursor") ∈ lw_all := lw_g (lw_at lw_m3 155 rfl) rfl
theorem q672 : (Jvm.Cond.lays "java/util/ArrayList$Itr" "java/util/ArrayList$Itr" "lastRet" "I") ∈ lw_all := lw_g (lw_at lw_m3 156 rfl) rfl
theorem q673 : (Jvm.Cond.soleField "java/util/ArrayList$Itr" "lastRet") ∈ lw_all := lw_g (lw_at lw_m3 157 rfl) rfl
theorem q674 : (Jvm.Cond.lays "java/util/ArrayList$Itr" "java/util/ArrayList$Itr" "expectedModCount" "I") ∈ lw_all := lw_g (lw_at lw_m3 158 rfl) rfl
theorem q675 : (Jvm.Cond.soleField "java/util/ArrayList$Itr" "expectedModCount") ∈ lw_all := lw_g (lw_at lw_m3 159 rfl) rfl
theorem q676 : (Jvm.Cond.laysFinal "java/util/ArrayList$Itr" "java/util/ArrayList$Itr" "this$0" "Ljava/util/ArrayList;") ∈ lw_all := lw_g (lw_at lw_m3 160 rfl) rfl
theorem q677 : (Jvm.Cond.soleField "java/util/ArrayList$Itr" "this$0") ∈ lw_all := lw_g (lw_at lw_m3 161 rfl) rfl
theorem q678 : (Jvm.Cond.superclass "java/util/ArrayList$Itr" "java/lang/Object") ∈ lw_all := lw_g (lw_at lw_m3 162 rfl) rfl
theorem q683 : (Jvm.Cond.castable "java/util/ArrayList$Itr" "java/util/Iterator") ∈ lw_tbl := lw_at lw_m3 167 rfl
theorem q684 : (Jvm.Cond.selects "java/util/ArrayList$Itr" ({ cls := "java/util/Iterator", name := "hasNext", desc := "()Z" } : Jvm.MethodName) ({ cls := "java/util/ArrayList$Itr", name := "hasNext", desc := "()Z" } : Jvm.MethodName)) ∈ lw_all := lw_g (lw_at lw_m3 168 rfl) rfl
theorem q685 : (Jvm.Cond.unhidden "java/util/ArrayList$Itr" "hasNext" "()Z") ∈ lw_tbl := lw_at lw_m3 169 rfl
theorem q686 : (Jvm.Cond.instanceMethod ({ cls := "java/util/ArrayList$Itr", name := "hasNext", desc := "()Z" } : Jvm.MethodName)) ∈ lw_all := lw_g (lw_at lw_m3 170 rfl) rfl
theorem q687 : (Jvm.Cond.publicMethod ({ cls := "java/util/ArrayList$Itr", name := "hasNext", desc := "()Z" } : Jvm.MethodName)) ∈ lw_tbl := lw_at lw_m3 171 rfl
theorem q688 : (Jvm.Cond.code ({ cls := "java/util/ArrayList$Itr", name := "hasNext", desc := "()Z" } : Jvm.MethodName) prog_39_method_2_code (1 : Nat) (Option.some Jvm.ClassFile.FieldType.boolean)) ∈ lw_all := lw_g (lw_at lw_m3 172 rfl) rfl
theorem q693 : (Jvm.Cond.selects "java/util/ArrayList$Itr" ({ cls := "java/util/Iterator", name := "next", desc := "()Ljava/lang/Object;" } : Jvm.MethodName) ({ cls := "java/util/ArrayList$Itr", name := "next", desc := "()Ljava/lang/Object;" } : Jvm.MethodName)) ∈ lw_all := lw_g (lw_at lw_m3 177 rfl) rfl
theorem q694 : (Jvm.Cond.unhidden "java/util/ArrayList$Itr" "next" "()Ljava/lang/Object;") ∈ lw_tbl := lw_at lw_m3 178 rfl
theorem q695 : (Jvm.Cond.instanceMethod ({ cls := "java/util/ArrayList$Itr", name := "next", desc := "()Ljava/lang/Object;" } : Jvm.MethodName)) ∈ lw_all := lw_g (lw_at lw_m3 179 rfl) rfl
theorem q696 : (Jvm.Cond.publicMethod ({ cls := "java/util/ArrayList$Itr", name := "next", desc := "()Ljava/lang/Object;" } : Jvm.MethodName)) ∈ lw_tbl := lw_at lw_m3 180 rfl
theorem q697 : (Jvm.Cond.code ({ cls := "java/util/ArrayList$Itr", name := "next", desc := "()Ljava/lang/Object;" } : Jvm.MethodName) prog_39_method_3_code (3 : Nat) (Option.some (Jvm.ClassFile.FieldType.object "java/lang/Object"))) ∈ lw_all := lw_g (lw_at lw_m3 181 rfl) rfl
theorem q698 : (Jvm.Cond.methodLink "java/util/ArrayList$Itr" (31 : Nat) ({ cls := "java/util/ArrayList$Itr", name := "checkForComodification", desc := "()V" } : Jvm.MethodName)) ∈ lw_all := lw_g (lw_at lw_m3 182 rfl) rfl
theorem q699 : (Jvm.Cond.instanceMethod ({ cls := "java/util/ArrayList$Itr", name := "checkForComodification", desc := "()V" } : Jvm.MethodName)) ∈ lw_all := lw_g (lw_at lw_m3 183 rfl) rfl
theorem q700 : (Jvm.Cond.selects "java/util/ArrayList$Itr" ({ cls := "java/util/ArrayList$Itr", name := "checkForComodification", desc := "()V" } : Jvm.MethodName) ({ cls := "java/util/ArrayList$Itr", name := "checkForComodification", desc := "()V" } : Jvm.MethodName)) ∈ lw_all := lw_g (lw_at lw_m3 184 rfl) rfl
theorem q701 : (Jvm.Cond.code ({ cls := "java/util/ArrayList$Itr", name := "checkForComodification", desc := "()V" } : Jvm.MethodName) prog_39_method_6_code (1 : Nat) (Option.none : Option Jvm.ClassFile.FieldType)) ∈ lw_all := lw_g (lw_at lw_m3 185 rfl) rfl
theorem q702 : (Jvm.Cond.classLink "java/util/ArrayList$Itr" (34 : Nat) "java/util/NoSuchElementException") ∈ lw_all := lw_g (lw_at lw_m3 186 rfl) rfl
theorem q711 : (Jvm.Cond.methodLink "java/util/ArrayList$Itr" (36 : Nat) ({ cls := "java/util/NoSuchElementException", name := "<init>", desc := "()V" } : Jvm.MethodName)) ∈ lw_all := lw_g (lw_at lw_m3 195 rfl) rfl
theorem q850 : (Jvm.Cond.selects "java/util/ArrayList$Itr" ({ cls := "java/lang/Object", name := "getClass", desc := "()Ljava/lang/Class;" } : Jvm.MethodName) ({ cls := "java/lang/Object", name := "getClass", desc := "()Ljava/lang/Class;" } : Jvm.MethodName)) ∈ lw_all := lw_g (lw_at lw_m4 94 rfl) rfl
theorem q1272 : (Jvm.Cond.castable "java/util/ArrayList$Itr" "java/lang/Object") ∈ lw_tbl := lw_at lw_m6 36 rfl
theorem in_J18 : ∀ w ∈ wsJ180, w ∈ lw_all := lw_in wsJ180 [670, 672, 674, 676] (by decide +kernel) (by decide +kernel)
theorem q81 : (Jvm.Cond.arrayOver (Jvm.ClassFile.FieldType.object "CablePlant$Modem")) ∈ lw_tbl := lw_at lw_m1 45 rfl
theorem q95 : (Jvm.Cond.arrayOver (Jvm.ClassFile.FieldType.object "java/lang/Object")) ∈ lw_tbl := lw_at lw_m1 59 rfl
theorem q171 : (Jvm.Cond.arrayClass Jvm.ClassFile.FieldType.byte) ∈ lw_all := lw_g (lw_at lw_m1 135 rfl) rfl
theorem q444 : (Jvm.Cond.arrayClass Jvm.ClassFile.FieldType.int) ∈ lw_all := lw_g (lw_at lw_m2 168 rfl) rfl
theorem q446 : (Jvm.Cond.arrayOver (Jvm.ClassFile.FieldType.object "CablePlant$Flow")) ∈ lw_tbl := lw_at lw_m2 170 rfl
theorem q1132 : (Jvm.Cond.arrayClass Jvm.ClassFile.FieldType.double) ∈ lw_all := lw_g (lw_at lw_m5 136 rfl) rfl
theorem q1252 : (Jvm.Cond.arrayClass Jvm.ClassFile.FieldType.long) ∈ lw_all := lw_g (lw_at lw_m6 16 rfl) rfl
theorem q52 : (Jvm.Cond.initialized "java/lang/System") ∈ lw_all := lw_g (lw_at lw_m1 16 rfl) rfl
theorem q217 : (Jvm.Cond.static ({ cls := "java/lang/System", name := "arraycopy", desc := "(Ljava/lang/Object;ILjava/lang/Object;II)V" } : Jvm.MethodName)) ∈ lw_all := lw_g (lw_at lw_m1 181 rfl) rfl
theorem q218 : (Jvm.Cond.native ({ cls := "java/lang/System", name := "arraycopy", desc := "(Ljava/lang/Object;ILjava/lang/Object;II)V" } : Jvm.MethodName)) ∈ lw_all := lw_g (lw_at lw_m1 182 rfl) rfl
theorem q207 : (Jvm.Cond.sameMethod "[B" "java/lang/Object" "clone" "()Ljava/lang/Object;") ∈ lw_all := lw_g (lw_at lw_m1 171 rfl) rfl
theorem q210 : (Jvm.Cond.selects "[B" ({ cls := "[B", name := "clone", desc := "()Ljava/lang/Object;" } : Jvm.MethodName) ({ cls := "java/lang/Object", name := "clone", desc := "()Ljava/lang/Object;" } : Jvm.MethodName)) ∈ lw_all := lw_g (lw_at lw_m1 174 rfl) rfl
theorem q211 : (Jvm.Cond.castable "[B" "java/lang/Cloneable") ∈ lw_tbl := lw_at lw_m1 175 rfl
theorem q1285 : (Jvm.Cond.castable "[B" "java/lang/Object") ∈ lw_tbl := lw_at lw_m6 49 rfl
theorem q681 : (Jvm.Cond.interfaceMethod "java/util/Iterator" "java/util/Iterator" "hasNext" "()Z") ∈ lw_tbl := lw_at lw_m3 165 rfl
theorem q682 : (Jvm.Cond.declares ({ cls := "java/util/Iterator", name := "hasNext", desc := "()Z" } : Jvm.MethodName)) ∈ lw_tbl := lw_at lw_m3 166 rfl
theorem q691 : (Jvm.Cond.interfaceMethod "java/util/Iterator" "java/util/Iterator" "next" "()Ljava/lang/Object;") ∈ lw_tbl := lw_at lw_m3 175 rfl
theorem q692 : (Jvm.Cond.declares ({ cls := "java/util/Iterator", name := "next", desc := "()Ljava/lang/Object;" } : Jvm.MethodName)) ∈ lw_tbl := lw_at lw_m3 176 rfl
theorem q1280 : (Jvm.Cond.sameMethod "[Ljava/lang/Object;" "java/lang/Object" "getClass" "()Ljava/lang/Class;") ∈ lw_all := lw_g (lw_at lw_m6 44 rfl) rfl
theorem q1281 : (Jvm.Cond.selects "[Ljava/lang/Object;" ({ cls := "java/lang/Object", name := "getClass", desc := "()Ljava/lang/Class;" } : Jvm.MethodName) ({ cls := "java/lang/Object", name := "getClass", desc := "()Ljava/lang/Class;" } : Jvm.MethodName)) ∈ lw_all := lw_g (lw_at lw_m6 45 rfl) rfl
theorem q1284 : (Jvm.Cond.castable "[Ljava/lang/Object;" "java/lang/Object") ∈ lw_tbl := lw_at lw_m6 48 rfl
theorem q1283 : (Jvm.Cond.castable "[LCablePlant$Modem;" "java/lang/Object") ∈ lw_tbl := lw_at lw_m6 47 rfl
theorem q1286 : (Jvm.Cond.castable "[I" "java/lang/Object") ∈ lw_tbl := lw_at lw_m6 50 rfl
theorem q1287 : (Jvm.Cond.castable "[LCablePlant$Flow;" "java/lang/Object") ∈ lw_tbl := lw_at lw_m6 51 rfl
theorem q1288 : (Jvm.Cond.castable "[D" "java/lang/Object") ∈ lw_tbl := lw_at lw_m6 52 rfl
theorem q1289 : (Jvm.Cond.castable "[J" "java/lang/Object") ∈ lw_tbl := lw_at lw_m6 53 rfl
/-! CablePlant$Packet -/
def RX8 : String := "CablePlant$Packet"
def TX8 : u_T := fun k => match k with
  | 0 => ("CablePlant$Packet", "size", "I", true)
  | _ => ("CablePlant$Packet", "v", "I", true)
def tyX8 : Nat → FieldType := fun k => match k with
  | 0 => .int
  | _ => .int
abbrev wsX80 : List Cond := u_ws RX8 TX8 2
theorem nmX8 : ∀ a, a < 2 → ∀ b, b < 2 → a ≠ b → (TX8 a).2.1 ≠ (TX8 b).2.1 := by decide +kernel
theorem tyX8_ok : ∀ k, k < 2 → parseFieldDescriptor (TX8 k).2.2.1 = some (tyX8 k) := by decide +kernel
abbrev cX8_init : ByteArray := prog_5_method_1_code
def yX8_init : MethodName := ⟨RX8, "<init>", "(II)V"⟩
theorem dX8_init_0 : decode cX8_init 0 = .ok (.aload_n 0, 1) := by decide +kernel
theorem dX8_init_1 : decode cX8_init 1 = .ok (.invokespecial 1, 3) := by decide +kernel
theorem dX8_init_4 : decode cX8_init 4 = .ok (.aload_n 0, 1) := by decide +kernel
theorem dX8_init_5 : decode cX8_init 5 = .ok (.iload_n 1, 1) := by decide +kernel
theorem dX8_init_6 : decode cX8_init 6 = .ok (.putfield 7, 3) := by decide +kernel
theorem dX8_init_9 : decode cX8_init 9 = .ok (.aload_n 0, 1) := by decide +kernel
theorem dX8_init_10 : decode cX8_init 10 = .ok (.iload_n 2, 1) := by decide +kernel
theorem dX8_init_11 : decode cX8_init 11 = .ok (.putfield 13, 3) := by decide +kernel
theorem dX8_init_14 : decode cX8_init 14 = .ok (.return_, 1) := by decide +kernel
abbrev cX8_size : ByteArray := prog_5_method_5_code
def yX8_size : MethodName := ⟨RX8, "size", "()I"⟩
theorem dX8_size_0 : decode cX8_size 0 = .ok (.aload_n 0, 1) := by decide +kernel
theorem dX8_size_1 : decode cX8_size 1 = .ok (.getfield 7, 3) := by decide +kernel
theorem dX8_size_4 : decode cX8_size 4 = .ok (.ireturn, 1) := by decide +kernel
abbrev cX8_v : ByteArray := prog_5_method_6_code
def yX8_v : MethodName := ⟨RX8, "v", "()I"⟩
theorem dX8_v_0 : decode cX8_v 0 = .ok (.aload_n 0, 1) := by decide +kernel
theorem dX8_v_1 : decode cX8_v 1 = .ok (.getfield 13, 3) := by decide +kernel
theorem dX8_v_4 : decode cX8_v 4 = .ok (.ireturn, 1) := by decide +kernel
theorem q68 : (Jvm.Cond.initialized "CablePlant$Packet") ∈ lw_all := lw_g (lw_at lw_m1 32 rfl) rfl
theorem q795 : (Jvm.Cond.instantiable "CablePlant$Packet" (2 : Nat)) ∈ lw_all := lw_g (lw_at lw_m4 39 rfl) rfl
theorem q797 : (Jvm.Cond.instanceMethod ({ cls := "CablePlant$Packet", name := "<init>", desc := "(II)V" } : Jvm.MethodName)) ∈ lw_all := lw_g (lw_at lw_m4 41 rfl) rfl
theorem q798 : (Jvm.Cond.code ({ cls := "CablePlant$Packet", name := "<init>", desc := "(II)V" } : Jvm.MethodName) prog_5_method_1_code (3 : Nat) (Option.none : Option Jvm.ClassFile.FieldType)) ∈ lw_all := lw_g (lw_at lw_m4 42 rfl) rfl
theorem q799 : (Jvm.Cond.methodLink "CablePlant$Packet" (1 : Nat) ({ cls := "java/lang/Record", name := "<init>", desc := "()V" } : Jvm.MethodName)) ∈ lw_all := lw_g (lw_at lw_m4 43 rfl) rfl
theorem q803 : (Jvm.Cond.fieldLink "CablePlant$Packet" (7 : Nat) "CablePlant$Packet" "size" "I") ∈ lw_all := lw_g (lw_at lw_m4 47 rfl) rfl
theorem q804 : (Jvm.Cond.fieldLink "CablePlant$Packet" (13 : Nat) "CablePlant$Packet" "v" "I") ∈ lw_all := lw_g (lw_at lw_m4 48 rfl) rfl
theorem q805 : (Jvm.Cond.laysFinal "CablePlant$Packet" "CablePlant$Packet" "size" "I") ∈ lw_all := lw_g (lw_at lw_m4 49 rfl) rfl
theorem q806 : (Jvm.Cond.soleField "CablePlant$Packet" "size") ∈ lw_all := lw_g (lw_at lw_m4 50 rfl) rfl
theorem q807 : (Jvm.Cond.laysFinal "CablePlant$Packet" "CablePlant$Packet" "v" "I") ∈ lw_all := lw_g (lw_at lw_m4 51 rfl) rfl
theorem q808 : (Jvm.Cond.soleField "CablePlant$Packet" "v") ∈ lw_all := lw_g (lw_at lw_m4 52 rfl) rfl
theorem q809 : (Jvm.Cond.superclass "CablePlant$Packet" "java/lang/Record") ∈ lw_all := lw_g (lw_at lw_m4 53 rfl) rfl
theorem q839 : (Jvm.Cond.selects "CablePlant$Packet" ({ cls := "java/lang/Object", name := "getClass", desc := "()Ljava/lang/Class;" } : Jvm.MethodName) ({ cls := "java/lang/Object", name := "getClass", desc := "()Ljava/lang/Class;" } : Jvm.MethodName)) ∈ lw_all := lw_g (lw_at lw_m4 83 rfl) rfl
theorem q918 : (Jvm.Cond.instanceMethod ({ cls := "CablePlant$Packet", name := "size", desc := "()I" } : Jvm.MethodName)) ∈ lw_all := lw_g (lw_at lw_m4 162 rfl) rfl
theorem q919 : (Jvm.Cond.selects "CablePlant$Packet" ({ cls := "CablePlant$Packet", name := "size", desc := "()I" } : Jvm.MethodName) ({ cls := "CablePlant$Packet", name := "size", desc := "()I" } : Jvm.MethodName)) ∈ lw_all := lw_g (lw_at lw_m4 163 rfl) rfl
theorem q920 : (Jvm.Cond.code ({ cls := "CablePlant$Packet", name := "size", desc := "()I" } : Jvm.MethodName) prog_5_method_5_code (1 : Nat) (Option.some Jvm.ClassFile.FieldType.int)) ∈ lw_all := lw_g (lw_at lw_m4 164 rfl) rfl
theorem q981 : (Jvm.Cond.instanceMethod ({ cls := "CablePlant$Packet", name := "v", desc := "()I" } : Jvm.MethodName)) ∈ lw_all := lw_g (lw_at lw_m4 225 rfl) rfl
theorem q982 : (Jvm.Cond.selects "CablePlant$Packet" ({ cls := "CablePlant$Packet", name := "v", desc := "()I" } : Jvm.MethodName) ({ cls := "CablePlant$Packet", name := "v", desc := "()I" } : Jvm.MethodName)) ∈ lw_all := lw_g (lw_at lw_m4 226 rfl) rfl
theorem q983 : (Jvm.Cond.code ({ cls := "CablePlant$Packet", name := "v", desc := "()I" } : Jvm.MethodName) prog_5_method_6_code (1 : Nat) (Option.some Jvm.ClassFile.FieldType.int)) ∈ lw_all := lw_g (lw_at lw_m4 227 rfl) rfl
theorem q1276 : (Jvm.Cond.castable "CablePlant$Packet" "java/lang/Object") ∈ lw_tbl := lw_at lw_m6 40 rfl
theorem in_X8 : ∀ w ∈ wsX80, w ∈ lw_all := lw_in wsX80 [805, 807] (by decide +kernel) (by decide +kernel)
/-! CablePlant$State -/
def RX3 : String := "CablePlant$State"
abbrev cX3_init : ByteArray := prog_9_method_1_code
def yX3_init : MethodName := ⟨RX3, "<init>", "()V"⟩
theorem dX3_init_0 : decode cX3_init 0 = .ok (.aload_n 0, 1) := by decide +kernel
theorem dX3_init_1 : decode cX3_init 1 = .ok (.invokespecial 1, 3) := by decide +kernel
theorem dX3_init_4 : decode cX3_init 4 = .ok (.return_, 1) := by decide +kernel
theorem q58 : (Jvm.Cond.initialized "CablePlant$State") ∈ lw_all := lw_g (lw_at lw_m1 22 rfl) rfl
theorem q437 : (Jvm.Cond.instanceMethod ({ cls := "CablePlant$State", name := "<init>", desc := "()V" } : Jvm.MethodName)) ∈ lw_all := lw_g (lw_at lw_m2 161 rfl) rfl
theorem q438 : (Jvm.Cond.code ({ cls := "CablePlant$State", name := "<init>", desc := "()V" } : Jvm.MethodName) prog_9_method_1_code (1 : Nat) (Option.none : Option Jvm.ClassFile.FieldType)) ∈ lw_all := lw_g (lw_at lw_m2 162 rfl) rfl
theorem q439 : (Jvm.Cond.methodLink "CablePlant$State" (1 : Nat) ({ cls := "java/lang/Object", name := "<init>", desc := "()V" } : Jvm.MethodName)) ∈ lw_all := lw_g (lw_at lw_m2 163 rfl) rfl
theorem q442 : (Jvm.Cond.soleField "CablePlant$State" "rest") ∈ lw_all := lw_g (lw_at lw_m2 166 rfl) rfl
theorem q1015 : (Jvm.Cond.declares ({ cls := "CablePlant$State", name := "number", desc := "()I" } : Jvm.MethodName)) ∈ lw_tbl := lw_at lw_m5 19 rfl
theorem q1016 : (Jvm.Cond.sameMethod "CablePlant$State" "CablePlant$State" "number" "()I") ∈ lw_all := lw_g (lw_at lw_m5 20 rfl) rfl
/-! CablePlant$Off -/
def RX4 : String := "CablePlant$Off"
def TX4 : u_T := fun k => match k with
  | _ => ("CablePlant$State", "rest", "I", false)
def tyX4 : Nat → FieldType := fun k => match k with
  | _ => .int
abbrev wsX40 : List Cond := u_ws RX4 TX4 1
theorem nmX4 : ∀ a, a < 1 → ∀ b, b < 1 → a ≠ b → (TX4 a).2.1 ≠ (TX4 b).2.1 := by decide +kernel
theorem tyX4_ok : ∀ k, k < 1 → parseFieldDescriptor (TX4 k).2.2.1 = some (tyX4 k) := by decide +kernel
abbrev cX4_init : ByteArray := prog_4_method_1_code
def yX4_init : MethodName := ⟨RX4, "<init>", "()V"⟩
theorem dX4_init_0 : decode cX4_init 0 = .ok (.aload_n 0, 1) := by decide +kernel
theorem dX4_init_1 : decode cX4_init 1 = .ok (.invokespecial 1, 3) := by decide +kernel
theorem dX4_init_4 : decode cX4_init 4 = .ok (.return_, 1) := by decide +kernel
abbrev cX4_number : ByteArray := prog_4_method_2_code
def yX4_number : MethodName := ⟨RX4, "number", "()I"⟩
theorem dX4_number_0 : decode cX4_number 0 = .ok (.iconst 0, 1) := by decide +kernel
theorem dX4_number_1 : decode cX4_number 1 = .ok (.ireturn, 1) := by decide +kernel
theorem q59 : (Jvm.Cond.initialized "CablePlant$Off") ∈ lw_all := lw_g (lw_at lw_m1 23 rfl) rfl
theorem q432 : (Jvm.Cond.instantiable "CablePlant$Off" (1 : Nat)) ∈ lw_all := lw_g (lw_at lw_m2 156 rfl) rfl
theorem q434 : (Jvm.Cond.instanceMethod ({ cls := "CablePlant$Off", name := "<init>", desc := "()V" } : Jvm.MethodName)) ∈ lw_all := lw_g (lw_at lw_m2 158 rfl) rfl
theorem q435 : (Jvm.Cond.code ({ cls := "CablePlant$Off", name := "<init>", desc := "()V" } : Jvm.MethodName) prog_4_method_1_code (1 : Nat) (Option.none : Option Jvm.ClassFile.FieldType)) ∈ lw_all := lw_g (lw_at lw_m2 159 rfl) rfl
theorem q436 : (Jvm.Cond.methodLinkNest "CablePlant$Off" (1 : Nat) ({ cls := "CablePlant$State", name := "<init>", desc := "()V" } : Jvm.MethodName) "CablePlant") ∈ lw_tbl := lw_at lw_m2 160 rfl
theorem q441 : (Jvm.Cond.lays "CablePlant$Off" "CablePlant$State" "rest" "I") ∈ lw_all := lw_g (lw_at lw_m2 165 rfl) rfl
theorem q443 : (Jvm.Cond.superclass "CablePlant$Off" "CablePlant$State") ∈ lw_all := lw_g (lw_at lw_m2 167 rfl) rfl
theorem q728 : (Jvm.Cond.selects "CablePlant$Off" ({ cls := "java/lang/Object", name := "equals", desc := "(Ljava/lang/Object;)Z" } : Jvm.MethodName) ({ cls := "java/lang/Object", name := "equals", desc := "(Ljava/lang/Object;)Z" } : Jvm.MethodName)) ∈ lw_all := lw_g (lw_at lw_m3 212 rfl) rfl
theorem q838 : (Jvm.Cond.selects "CablePlant$Off" ({ cls := "java/lang/Object", name := "getClass", desc := "()Ljava/lang/Class;" } : Jvm.MethodName) ({ cls := "java/lang/Object", name := "getClass", desc := "()Ljava/lang/Class;" } : Jvm.MethodName)) ∈ lw_all := lw_g (lw_at lw_m4 82 rfl) rfl
theorem q1017 : (Jvm.Cond.selects "CablePlant$Off" ({ cls := "CablePlant$State", name := "number", desc := "()I" } : Jvm.MethodName) ({ cls := "CablePlant$Off", name := "number", desc := "()I" } : Jvm.MethodName)) ∈ lw_all := lw_g (lw_at lw_m5 21 rfl) rfl
theorem q1018 : (Jvm.Cond.instanceMethod ({ cls := "CablePlant$Off", name := "number", desc := "()I" } : Jvm.MethodName)) ∈ lw_all := lw_g (lw_at lw_m5 22 rfl) rfl
theorem q1019 : (Jvm.Cond.code ({ cls := "CablePlant$Off", name := "number", desc := "()I" } : Jvm.MethodName) prog_4_method_2_code (1 : Nat) (Option.some Jvm.ClassFile.FieldType.int)) ∈ lw_all := lw_g (lw_at lw_m5 23 rfl) rfl
theorem q1269 : (Jvm.Cond.castable "CablePlant$Off" "java/lang/Object") ∈ lw_tbl := lw_at lw_m6 33 rfl
theorem in_X4 : ∀ w ∈ wsX40, w ∈ lw_all := lw_in wsX40 [441] (by decide +kernel) (by decide +kernel)
/-! CablePlant$Seeking -/
def RX7 : String := "CablePlant$Seeking"
def TX7 : u_T := fun k => match k with
  | _ => ("CablePlant$State", "rest", "I", false)
def tyX7 : Nat → FieldType := fun k => match k with
  | _ => .int
abbrev wsX70 : List Cond := u_ws RX7 TX7 1
theorem nmX7 : ∀ a, a < 1 → ∀ b, b < 1 → a ≠ b → (TX7 a).2.1 ≠ (TX7 b).2.1 := by decide +kernel
theorem tyX7_ok : ∀ k, k < 1 → parseFieldDescriptor (TX7 k).2.2.1 = some (tyX7 k) := by decide +kernel
abbrev cX7_init : ByteArray := prog_8_method_1_code
def yX7_init : MethodName := ⟨RX7, "<init>", "()V"⟩
theorem dX7_init_0 : decode cX7_init 0 = .ok (.aload_n 0, 1) := by decide +kernel
theorem dX7_init_1 : decode cX7_init 1 = .ok (.invokespecial 1, 3) := by decide +kernel
theorem dX7_init_4 : decode cX7_init 4 = .ok (.return_, 1) := by decide +kernel
abbrev cX7_number : ByteArray := prog_8_method_2_code
def yX7_number : MethodName := ⟨RX7, "number", "()I"⟩
theorem dX7_number_0 : decode cX7_number 0 = .ok (.iconst 1, 1) := by decide +kernel
theorem dX7_number_1 : decode cX7_number 1 = .ok (.ireturn, 1) := by decide +kernel
theorem q65 : (Jvm.Cond.initialized "CablePlant$Seeking") ∈ lw_all := lw_g (lw_at lw_m1 29 rfl) rfl
theorem q731 : (Jvm.Cond.selects "CablePlant$Seeking" ({ cls := "java/lang/Object", name := "equals", desc := "(Ljava/lang/Object;)Z" } : Jvm.MethodName) ({ cls := "java/lang/Object", name := "equals", desc := "(Ljava/lang/Object;)Z" } : Jvm.MethodName)) ∈ lw_all := lw_g (lw_at lw_m3 215 rfl) rfl
theorem q752 : (Jvm.Cond.instantiable "CablePlant$Seeking" (1 : Nat)) ∈ lw_all := lw_g (lw_at lw_m3 236 rfl) rfl
theorem q754 : (Jvm.Cond.instanceMethod ({ cls := "CablePlant$Seeking", name := "<init>", desc := "()V" } : Jvm.MethodName)) ∈ lw_all := lw_g (lw_at lw_m3 238 rfl) rfl
theorem q755 : (Jvm.Cond.code ({ cls := "CablePlant$Seeking", name := "<init>", desc := "()V" } : Jvm.MethodName) prog_8_method_1_code (1 : Nat) (Option.none : Option Jvm.ClassFile.FieldType)) ∈ lw_all := lw_g (lw_at lw_m3 239 rfl) rfl
theorem q756 : (Jvm.Cond.methodLinkNest "CablePlant$Seeking" (1 : Nat) ({ cls := "CablePlant$State", name := "<init>", desc := "()V" } : Jvm.MethodName) "CablePlant") ∈ lw_tbl := lw_at lw_m4 0 rfl
theorem q757 : (Jvm.Cond.lays "CablePlant$Seeking" "CablePlant$State" "rest" "I") ∈ lw_all := lw_g (lw_at lw_m4 1 rfl) rfl
theorem q758 : (Jvm.Cond.superclass "CablePlant$Seeking" "CablePlant$State") ∈ lw_all := lw_g (lw_at lw_m4 2 rfl) rfl
theorem q842 : (Jvm.Cond.selects "CablePlant$Seeking" ({ cls := "java/lang/Object", name := "getClass", desc := "()Ljava/lang/Class;" } : Jvm.MethodName) ({ cls := "java/lang/Object", name := "getClass", desc := "()Ljava/lang/Class;" } : Jvm.MethodName)) ∈ lw_all := lw_g (lw_at lw_m4 86 rfl) rfl
theorem q1023 : (Jvm.Cond.selects "CablePlant$Seeking" ({ cls := "CablePlant$State", name := "number", desc := "()I" } : Jvm.MethodName) ({ cls := "CablePlant$Seeking", name := "number", desc := "()I" } : Jvm.MethodName)) ∈ lw_all := lw_g (lw_at lw_m5 27 rfl) rfl
theorem q1024 : (Jvm.Cond.instanceMethod ({ cls := "CablePlant$Seeking", name := "number", desc := "()I" } : Jvm.MethodName)) ∈ lw_all := lw_g (lw_at lw_m5 28 rfl) rfl
theorem q1025 : (Jvm.Cond.code ({ cls := "CablePlant$Seeking", name := "number", desc := "()I" } : Jvm.MethodName) prog_8_method_2_code (1 : Nat) (Option.some Jvm.ClassFile.FieldType.int)) ∈ lw_all := lw_g (lw_at lw_m5 29 rfl) rfl
theorem q1274 : (Jvm.Cond.castable "CablePlant$Seeking" "java/lang/Object") ∈ lw_tbl := lw_at lw_m6 38 rfl
theorem in_X7 : ∀ w ∈ wsX70, w ∈ lw_all := lw_in wsX70 [757] (by decide +kernel) (by decide +kernel)
/-! CablePlant$Ready -/
def RX9 : String := "CablePlant$Ready"
def TX9 : u_T := fun k => match k with
  | 0 => ("CablePlant$State", "rest", "I", false)
  | _ => ("CablePlant$Ready", "unheard", "I", false)
def tyX9 : Nat → FieldType := fun k => match k with
  | 0 => .int
  | _ => .int
abbrev wsX90 : List Cond := u_ws RX9 TX9 2
theorem nmX9 : ∀ a, a < 2 → ∀ b, b < 2 → a ≠ b → (TX9 a).2.1 ≠ (TX9 b).2.1 := by decide +kernel
theorem tyX9_ok : ∀ k, k < 2 → parseFieldDescriptor (TX9 k).2.2.1 = some (tyX9 k) := by decide +kernel
abbrev cX9_init : ByteArray := prog_6_method_1_code
def yX9_init : MethodName := ⟨RX9, "<init>", "()V"⟩
theorem dX9_init_0 : decode cX9_init 0 = .ok (.aload_n 0, 1) := by decide +kernel
theorem dX9_init_1 : decode cX9_init 1 = .ok (.invokespecial 1, 3) := by decide +kernel
theorem dX9_init_4 : decode cX9_init 4 = .ok (.return_, 1) := by decide +kernel
abbrev cX9_number : ByteArray := prog_6_method_2_code
def yX9_number : MethodName := ⟨RX9, "number", "()I"⟩
theorem dX9_number_0 : decode cX9_number 0 = .ok (.iconst 2, 1) := by decide +kernel
theorem dX9_number_1 : decode cX9_number 1 = .ok (.ireturn, 1) := by decide +kernel
theorem q70 : (Jvm.Cond.initialized "CablePlant$Ready") ∈ lw_all := lw_g (lw_at lw_m1 34 rfl) rfl
theorem q729 : (Jvm.Cond.selects "CablePlant$Ready" ({ cls := "java/lang/Object", name := "equals", desc := "(Ljava/lang/Object;)Z" } : Jvm.MethodName) ({ cls := "java/lang/Object", name := "equals", desc := "(Ljava/lang/Object;)Z" } : Jvm.MethodName)) ∈ lw_all := lw_g (lw_at lw_m3 213 rfl) rfl
theorem q840 : (Jvm.Cond.selects "CablePlant$Ready" ({ cls := "java/lang/Object", name := "getClass", desc := "()Ljava/lang/Class;" } : Jvm.MethodName) ({ cls := "java/lang/Object", name := "getClass", desc := "()Ljava/lang/Class;" } : Jvm.MethodName)) ∈ lw_all := lw_g (lw_at lw_m4 84 rfl) rfl
theorem q889 : (Jvm.Cond.instantiable "CablePlant$Ready" (2 : Nat)) ∈ lw_all := lw_g (lw_at lw_m4 133 rfl) rfl
theorem q891 : (Jvm.Cond.instanceMethod ({ cls := "CablePlant$Ready", name := "<init>", desc := "()V" } : Jvm.MethodName)) ∈ lw_all := lw_g (lw_at lw_m4 135 rfl) rfl
theorem q892 : (Jvm.Cond.code ({ cls := "CablePlant$Ready", name := "<init>", desc := "()V" } : Jvm.MethodName) prog_6_method_1_code (1 : Nat) (Option.none : Option Jvm.ClassFile.FieldType)) ∈ lw_all := lw_g (lw_at lw_m4 136 rfl) rfl
theorem q893 : (Jvm.Cond.methodLinkNest "CablePlant$Ready" (1 : Nat) ({ cls := "CablePlant$State", name := "<init>", desc := "()V" } : Jvm.MethodName) "CablePlant") ∈ lw_tbl := lw_at lw_m4 137 rfl
theorem q895 : (Jvm.Cond.lays "CablePlant$Ready" "CablePlant$Ready" "unheard" "I") ∈ lw_all := lw_g (lw_at lw_m4 139 rfl) rfl
theorem q896 : (Jvm.Cond.soleField "CablePlant$Ready" "unheard") ∈ lw_all := lw_g (lw_at lw_m4 140 rfl) rfl
theorem q897 : (Jvm.Cond.lays "CablePlant$Ready" "CablePlant$State" "rest" "I") ∈ lw_all := lw_g (lw_at lw_m4 141 rfl) rfl
theorem q898 : (Jvm.Cond.superclass "CablePlant$Ready" "CablePlant$State") ∈ lw_all := lw_g (lw_at lw_m4 142 rfl) rfl
theorem q1020 : (Jvm.Cond.selects "CablePlant$Ready" ({ cls := "CablePlant$State", name := "number", desc := "()I" } : Jvm.MethodName) ({ cls := "CablePlant$Ready", name := "number", desc := "()I" } : Jvm.MethodName)) ∈ lw_all := lw_g (lw_at lw_m5 24 rfl) rfl
theorem q1021 : (Jvm.Cond.instanceMethod ({ cls := "CablePlant$Ready", name := "number", desc := "()I" } : Jvm.MethodName)) ∈ lw_all := lw_g (lw_at lw_m5 25 rfl) rfl
theorem q1022 : (Jvm.Cond.code ({ cls := "CablePlant$Ready", name := "number", desc := "()I" } : Jvm.MethodName) prog_6_method_2_code (1 : Nat) (Option.some Jvm.ClassFile.FieldType.int)) ∈ lw_all := lw_g (lw_at lw_m5 26 rfl) rfl
theorem q1277 : (Jvm.Cond.castable "CablePlant$Ready" "java/lang/Object") ∈ lw_tbl := lw_at lw_m6 41 rfl
theorem in_X9 : ∀ w ∈ wsX90, w ∈ lw_all := lw_in wsX90 [897, 895] (by decide +kernel) (by decide +kernel)
/-! CablePlant$Flow -/
def RX5 : String := "CablePlant$Flow"
def TX5 : u_T := fun k => match k with
  | 0 => ("CablePlant$Flow", "priority", "I", false)
  | 1 => ("CablePlant$Flow", "rate", "D", false)
  | 2 => ("CablePlant$Flow", "credit", "D", false)
  | _ => ("CablePlant$Flow", "packets", "Ljava/util/ArrayList;", true)
def tyX5 : Nat → FieldType := fun k => match k with
  | 0 => .int
  | 1 => .double
  | 2 => .double
  | _ => .object "java/util/ArrayList"
abbrev wsX50 : List Cond := u_ws RX5 TX5 4
theorem nmX5 : ∀ a, a < 4 → ∀ b, b < 4 → a ≠ b → (TX5 a).2.1 ≠ (TX5 b).2.1 := by decide +kernel
theorem tyX5_ok : ∀ k, k < 4 → parseFieldDescriptor (TX5 k).2.2.1 = some (tyX5 k) := by decide +kernel
abbrev cX5_init : ByteArray := prog_2_method_1_code
def yX5_init : MethodName := ⟨RX5, "<init>", "()V"⟩
theorem dX5_init_0 : decode cX5_init 0 = .ok (.aload_n 0, 1) := by decide +kernel
theorem dX5_init_1 : decode cX5_init 1 = .ok (.invokespecial 3, 3) := by decide +kernel
theorem dX5_init_4 : decode cX5_init 4 = .ok (.aload_n 0, 1) := by decide +kernel
theorem dX5_init_5 : decode cX5_init 5 = .ok (.dconst 1, 1) := by decide +kernel
theorem dX5_init_6 : decode cX5_init 6 = .ok (.putfield 9, 3) := by decide +kernel
theorem dX5_init_9 : decode cX5_init 9 = .ok (.aload_n 0, 1) := by decide +kernel
theorem dX5_init_10 : decode cX5_init 10 = .ok (.new 15, 3) := by decide +kernel
theorem dX5_init_13 : decode cX5_init 13 = .ok (.dup, 1) := by decide +kernel
theorem dX5_init_14 : decode cX5_init 14 = .ok (.iconst 4, 1) := by decide +kernel
theorem dX5_init_15 : decode cX5_init 15 = .ok (.invokespecial 17, 3) := by decide +kernel
theorem dX5_init_18 : decode cX5_init 18 = .ok (.putfield 20, 3) := by decide +kernel
theorem dX5_init_21 : decode cX5_init 21 = .ok (.return_, 1) := by decide +kernel
abbrev cX5_earn : ByteArray := prog_2_method_2_code
def yX5_earn : MethodName := ⟨RX5, "earn", "()V"⟩
theorem dX5_earn_0 : decode cX5_earn 0 = .ok (.aload_n 0, 1) := by decide +kernel
theorem dX5_earn_1 : decode cX5_earn 1 = .ok (.aload_n 0, 1) := by decide +kernel
theorem dX5_earn_2 : decode cX5_earn 2 = .ok (.getfield 24, 3) := by decide +kernel
theorem dX5_earn_5 : decode cX5_earn 5 = .ok (.aload_n 0, 1) := by decide +kernel
theorem dX5_earn_6 : decode cX5_earn 6 = .ok (.getfield 9, 3) := by decide +kernel
theorem dX5_earn_9 : decode cX5_earn 9 = .ok (.dadd, 1) := by decide +kernel
theorem dX5_earn_10 : decode cX5_earn 10 = .ok (.putfield 24, 3) := by decide +kernel
theorem dX5_earn_13 : decode cX5_earn 13 = .ok (.aload_n 0, 1) := by decide +kernel
theorem dX5_earn_14 : decode cX5_earn 14 = .ok (.getfield 24, 3) := by decide +kernel
theorem dX5_earn_17 : decode cX5_earn 17 = .ok (.ldc2_w 27, 3) := by decide +kernel
theorem dX5_earn_20 : decode cX5_earn 20 = .ok (.dcmp .l, 1) := by decide +kernel
theorem dX5_earn_21 : decode cX5_earn 21 = .ok (.ifCond .le 10, 3) := by decide +kernel
theorem dX5_earn_24 : decode cX5_earn 24 = .ok (.aload_n 0, 1) := by decide +kernel
theorem dX5_earn_25 : decode cX5_earn 25 = .ok (.ldc2_w 27, 3) := by decide +kernel
theorem dX5_earn_28 : decode cX5_earn 28 = .ok (.putfield 24, 3) := by decide +kernel
theorem dX5_earn_31 : decode cX5_earn 31 = .ok (.return_, 1) := by decide +kernel
abbrev cX5_wants : ByteArray := prog_2_method_3_code
def yX5_wants : MethodName := ⟨RX5, "wants", "()Z"⟩
theorem dX5_wants_0 : decode cX5_wants 0 = .ok (.aload_n 0, 1) := by decide +kernel
theorem dX5_wants_1 : decode cX5_wants 1 = .ok (.getfield 20, 3) := by decide +kernel
theorem dX5_wants_4 : decode cX5_wants 4 = .ok (.invokevirtual 29, 3) := by decide +kernel
theorem dX5_wants_7 : decode cX5_wants 7 = .ok (.ifCond .ne 30, 3) := by decide +kernel
theorem dX5_wants_10 : decode cX5_wants 10 = .ok (.aload_n 0, 1) := by decide +kernel
theorem dX5_wants_11 : decode cX5_wants 11 = .ok (.getfield 24, 3) := by decide +kernel
theorem dX5_wants_14 : decode cX5_wants 14 = .ok (.aload_n 0, 1) := by decide +kernel
theorem dX5_wants_15 : decode cX5_wants 15 = .ok (.getfield 20, 3) := by decide +kernel
theorem dX5_wants_18 : decode cX5_wants 18 = .ok (.iconst 0, 1) := by decide +kernel
theorem dX5_wants_19 : decode cX5_wants 19 = .ok (.invokevirtual 33, 3) := by decide +kernel
theorem dX5_wants_22 : decode cX5_wants 22 = .ok (.checkcast 37, 3) := by decide +kernel
theorem dX5_wants_25 : decode cX5_wants 25 = .ok (.invokevirtual 39, 3) := by decide +kernel
theorem dX5_wants_28 : decode cX5_wants 28 = .ok (.i2d, 1) := by decide +kernel
theorem dX5_wants_29 : decode cX5_wants 29 = .ok (.dcmp .l, 1) := by decide +kernel
theorem dX5_wants_30 : decode cX5_wants 30 = .ok (.ifCond .lt 7, 3) := by decide +kernel
theorem dX5_wants_33 : decode cX5_wants 33 = .ok (.iconst 1, 1) := by decide +kernel
theorem dX5_wants_34 : decode cX5_wants 34 = .ok (.goto 4, 3) := by decide +kernel
theorem dX5_wants_37 : decode cX5_wants 37 = .ok (.iconst 0, 1) := by decide +kernel
theorem dX5_wants_38 : decode cX5_wants 38 = .ok (.ireturn, 1) := by decide +kernel
theorem q60 : (Jvm.Cond.initialized "CablePlant$Flow") ∈ lw_all := lw_g (lw_at lw_m1 24 rfl) rfl
theorem q447 : (Jvm.Cond.instantiable "CablePlant$Flow" (4 : Nat)) ∈ lw_all := lw_g (lw_at lw_m2 171 rfl) rfl
theorem q449 : (Jvm.Cond.instanceMethod ({ cls := "CablePlant$Flow", name := "<init>", desc := "()V" } : Jvm.MethodName)) ∈ lw_all := lw_g (lw_at lw_m2 173 rfl) rfl
theorem q450 : (Jvm.Cond.code ({ cls := "CablePlant$Flow", name := "<init>", desc := "()V" } : Jvm.MethodName) prog_2_method_1_code (1 : Nat) (Option.none : Option Jvm.ClassFile.FieldType)) ∈ lw_all := lw_g (lw_at lw_m2 174 rfl) rfl
theorem q451 : (Jvm.Cond.methodLink "CablePlant$Flow" (3 : Nat) ({ cls := "java/lang/Object", name := "<init>", desc := "()V" } : Jvm.MethodName)) ∈ lw_all := lw_g (lw_at lw_m2 175 rfl) rfl
theorem q452 : (Jvm.Cond.classLink "CablePlant$Flow" (15 : Nat) "java/util/ArrayList") ∈ lw_all := lw_g (lw_at lw_m2 176 rfl) rfl
theorem q453 : (Jvm.Cond.methodLink "CablePlant$Flow" (17 : Nat) ({ cls := "java/util/ArrayList", name := "<init>", desc := "(I)V" } : Jvm.MethodName)) ∈ lw_all := lw_g (lw_at lw_m2 177 rfl) rfl
theorem q456 : (Jvm.Cond.fieldLink "CablePlant$Flow" (9 : Nat) "CablePlant$Flow" "rate" "D") ∈ lw_all := lw_g (lw_at lw_m2 180 rfl) rfl
theorem q458 : (Jvm.Cond.fieldLink "CablePlant$Flow" (24 : Nat) "CablePlant$Flow" "credit" "D") ∈ lw_all := lw_g (lw_at lw_m2 182 rfl) rfl
theorem q460 : (Jvm.Cond.fieldLink "CablePlant$Flow" (20 : Nat) "CablePlant$Flow" "packets" "Ljava/util/ArrayList;") ∈ lw_all := lw_g (lw_at lw_m2 184 rfl) rfl
theorem q463 : (Jvm.Cond.lays "CablePlant$Flow" "CablePlant$Flow" "priority" "I") ∈ lw_all := lw_g (lw_at lw_m2 187 rfl) rfl
theorem q464 : (Jvm.Cond.soleField "CablePlant$Flow" "priority") ∈ lw_all := lw_g (lw_at lw_m2 188 rfl) rfl
theorem q465 : (Jvm.Cond.lays "CablePlant$Flow" "CablePlant$Flow" "rate" "D") ∈ lw_all := lw_g (lw_at lw_m2 189 rfl) rfl
theorem q466 : (Jvm.Cond.soleField "CablePlant$Flow" "rate") ∈ lw_all := lw_g (lw_at lw_m2 190 rfl) rfl
theorem q467 : (Jvm.Cond.lays "CablePlant$Flow" "CablePlant$Flow" "credit" "D") ∈ lw_all := lw_g (lw_at lw_m2 191 rfl) rfl
theorem q468 : (Jvm.Cond.soleField "CablePlant$Flow" "credit") ∈ lw_all := lw_g (lw_at lw_m2 192 rfl) rfl
theorem q469 : (Jvm.Cond.laysFinal "CablePlant$Flow" "CablePlant$Flow" "packets" "Ljava/util/ArrayList;") ∈ lw_all := lw_g (lw_at lw_m2 193 rfl) rfl
theorem q470 : (Jvm.Cond.soleField "CablePlant$Flow" "packets") ∈ lw_all := lw_g (lw_at lw_m2 194 rfl) rfl
theorem q471 : (Jvm.Cond.superclass "CablePlant$Flow" "java/lang/Object") ∈ lw_all := lw_g (lw_at lw_m2 195 rfl) rfl
theorem q726 : (Jvm.Cond.selects "CablePlant$Flow" ({ cls := "java/lang/Object", name := "equals", desc := "(Ljava/lang/Object;)Z" } : Jvm.MethodName) ({ cls := "java/lang/Object", name := "equals", desc := "(Ljava/lang/Object;)Z" } : Jvm.MethodName)) ∈ lw_all := lw_g (lw_at lw_m3 210 rfl) rfl
theorem q836 : (Jvm.Cond.selects "CablePlant$Flow" ({ cls := "java/lang/Object", name := "getClass", desc := "()Ljava/lang/Class;" } : Jvm.MethodName) ({ cls := "java/lang/Object", name := "getClass", desc := "()Ljava/lang/Class;" } : Jvm.MethodName)) ∈ lw_all := lw_g (lw_at lw_m4 80 rfl) rfl
theorem q871 : (Jvm.Cond.instanceMethod ({ cls := "CablePlant$Flow", name := "earn", desc := "()V" } : Jvm.MethodName)) ∈ lw_all := lw_g (lw_at lw_m4 115 rfl) rfl
theorem q872 : (Jvm.Cond.selects "CablePlant$Flow" ({ cls := "CablePlant$Flow", name := "earn", desc := "()V" } : Jvm.MethodName) ({ cls := "CablePlant$Flow", name := "earn", desc := "()V" } : Jvm.MethodName)) ∈ lw_all := lw_g (lw_at lw_m4 116 rfl) rfl
theorem q873 : (Jvm.Cond.code ({ cls := "CablePlant$Flow", name := "earn", desc := "()V" } : Jvm.MethodName) prog_2_method_2_code (1 : Nat) (Option.none : Option Jvm.ClassFile.FieldType)) ∈ lw_all := lw_g (lw_at lw_m4 117 rfl) rfl
theorem q874 : (Jvm.Cond.constantDouble "CablePlant$Flow" (27 : Nat) (4620693217682128896 : UInt64)) ∈ lw_all := lw_g (lw_at lw_m4 118 rfl) rfl
theorem q908 : (Jvm.Cond.instanceMethod ({ cls := "CablePlant$Flow", name := "wants", desc := "()Z" } : Jvm.MethodName)) ∈ lw_all := lw_g (lw_at lw_m4 152 rfl) rfl
theorem q909 : (Jvm.Cond.selects "CablePlant$Flow" ({ cls := "CablePlant$Flow", name := "wants", desc := "()Z" } : Jvm.MethodName) ({ cls := "CablePlant$Flow", name := "wants", desc := "()Z" } : Jvm.MethodName)) ∈ lw_all := lw_g (lw_at lw_m4 153 rfl) rfl
theorem q910 : (Jvm.Cond.code ({ cls := "CablePlant$Flow", name := "wants", desc := "()Z" } : Jvm.MethodName) prog_2_method_3_code (1 : Nat) (Option.some Jvm.ClassFile.FieldType.boolean)) ∈ lw_all := lw_g (lw_at lw_m4 154 rfl) rfl
theorem q911 : (Jvm.Cond.methodLink "CablePlant$Flow" (29 : Nat) ({ cls := "java/util/ArrayList", name := "isEmpty", desc := "()Z" } : Jvm.MethodName)) ∈ lw_all := lw_g (lw_at lw_m4 155 rfl) rfl
theorem q915 : (Jvm.Cond.methodLink "CablePlant$Flow" (33 : Nat) ({ cls := "java/util/ArrayList", name := "get", desc := "(I)Ljava/lang/Object;" } : Jvm.MethodName)) ∈ lw_all := lw_g (lw_at lw_m4 159 rfl) rfl
theorem q916 : (Jvm.Cond.classLink "CablePlant$Flow" (37 : Nat) "CablePlant$Packet") ∈ lw_all := lw_g (lw_at lw_m4 160 rfl) rfl
theorem q917 : (Jvm.Cond.methodLink "CablePlant$Flow" (39 : Nat) ({ cls := "CablePlant$Packet", name := "size", desc := "()I" } : Jvm.MethodName)) ∈ lw_all := lw_g (lw_at lw_m4 161 rfl) rfl
theorem q1263 : (Jvm.Cond.castable "CablePlant$Flow" "java/lang/Object") ∈ lw_tbl := lw_at lw_m6 27 rfl
theorem in_X5 : ∀ w ∈ wsX50, w ∈ lw_all := lw_in wsX50 [463, 465, 467, 469] (by decide +kernel) (by decide +kernel)
/-! CablePlant$Request -/
def RX10 : String := "CablePlant$Request"
def TX10 : u_T := fun k => match k with
  | 0 => ("CablePlant$Request", "modem", "LCablePlant$Modem;", true)
  | 1 => ("CablePlant$Request", "flow", "LCablePlant$Flow;", true)
  | 2 => ("CablePlant$Request", "priority", "I", true)
  | _ => ("CablePlant$Request", "needs", "I", false)
def tyX10 : Nat → FieldType := fun k => match k with
  | 0 => .object "CablePlant$Modem"
  | 1 => .object "CablePlant$Flow"
  | 2 => .int
  | _ => .int
abbrev wsX100 : List Cond := u_ws RX10 TX10 4
theorem nmX10 : ∀ a, a < 4 → ∀ b, b < 4 → a ≠ b → (TX10 a).2.1 ≠ (TX10 b).2.1 := by decide +kernel
theorem tyX10_ok : ∀ k, k < 4 → parseFieldDescriptor (TX10 k).2.2.1 = some (tyX10 k) := by decide +kernel
abbrev cX10_init : ByteArray := prog_7_method_1_code
def yX10_init : MethodName := ⟨RX10, "<init>", "(LCablePlant$Modem;LCablePlant$Flow;)V"⟩
theorem dX10_init_0 : decode cX10_init 0 = .ok (.aload_n 0, 1) := by decide +kernel
theorem dX10_init_1 : decode cX10_init 1 = .ok (.invokespecial 1, 3) := by decide +kernel
theorem dX10_init_4 : decode cX10_init 4 = .ok (.aload_n 0, 1) := by decide +kernel
theorem dX10_init_5 : decode cX10_init 5 = .ok (.aload_n 1, 1) := by decide +kernel
theorem dX10_init_6 : decode cX10_init 6 = .ok (.putfield 7, 3) := by decide +kernel
theorem dX10_init_9 : decode cX10_init 9 = .ok (.aload_n 0, 1) := by decide +kernel
theorem dX10_init_10 : decode cX10_init 10 = .ok (.aload_n 2, 1) := by decide +kernel
theorem dX10_init_11 : decode cX10_init 11 = .ok (.putfield 13, 3) := by decide +kernel
theorem dX10_init_14 : decode cX10_init 14 = .ok (.aload_n 0, 1) := by decide +kernel
theorem dX10_init_15 : decode cX10_init 15 = .ok (.aload_n 2, 1) := by decide +kernel
theorem dX10_init_16 : decode cX10_init 16 = .ok (.getfield 17, 3) := by decide +kernel
theorem dX10_init_19 : decode cX10_init 19 = .ok (.putfield 23, 3) := by decide +kernel
theorem dX10_init_22 : decode cX10_init 22 = .ok (.aload_n 0, 1) := by decide +kernel
theorem dX10_init_23 : decode cX10_init 23 = .ok (.aload_n 2, 1) := by decide +kernel
theorem dX10_init_24 : decode cX10_init 24 = .ok (.getfield 24, 3) := by decide +kernel
theorem dX10_init_27 : decode cX10_init 27 = .ok (.iconst 0, 1) := by decide +kernel
theorem dX10_init_28 : decode cX10_init 28 = .ok (.invokevirtual 28, 3) := by decide +kernel
theorem dX10_init_31 : decode cX10_init 31 = .ok (.checkcast 34, 3) := by decide +kernel
theorem dX10_init_34 : decode cX10_init 34 = .ok (.invokevirtual 36, 3) := by decide +kernel
theorem dX10_init_37 : decode cX10_init 37 = .ok (.putfield 40, 3) := by decide +kernel
theorem dX10_init_40 : decode cX10_init 40 = .ok (.return_, 1) := by decide +kernel
theorem q71 : (Jvm.Cond.initialized "CablePlant$Request") ∈ lw_all := lw_g (lw_at lw_m1 35 rfl) rfl
theorem q454 : (Jvm.Cond.fieldLink "CablePlant$Request" (17 : Nat) "CablePlant$Flow" "priority" "I") ∈ lw_all := lw_g (lw_at lw_m2 178 rfl) rfl
theorem q461 : (Jvm.Cond.fieldLink "CablePlant$Request" (24 : Nat) "CablePlant$Flow" "packets" "Ljava/util/ArrayList;") ∈ lw_all := lw_g (lw_at lw_m2 185 rfl) rfl
theorem q730 : (Jvm.Cond.selects "CablePlant$Request" ({ cls := "java/lang/Object", name := "equals", desc := "(Ljava/lang/Object;)Z" } : Jvm.MethodName) ({ cls := "java/lang/Object", name := "equals", desc := "(Ljava/lang/Object;)Z" } : Jvm.MethodName)) ∈ lw_all := lw_g (lw_at lw_m3 214 rfl) rfl
theorem q841 : (Jvm.Cond.selects "CablePlant$Request" ({ cls := "java/lang/Object", name := "getClass", desc := "()Ljava/lang/Class;" } : Jvm.MethodName) ({ cls := "java/lang/Object", name := "getClass", desc := "()Ljava/lang/Class;" } : Jvm.MethodName)) ∈ lw_all := lw_g (lw_at lw_m4 85 rfl) rfl
theorem q925 : (Jvm.Cond.instantiable "CablePlant$Request" (4 : Nat)) ∈ lw_all := lw_g (lw_at lw_m4 169 rfl) rfl
theorem q927 : (Jvm.Cond.instanceMethod ({ cls := "CablePlant$Request", name := "<init>", desc := "(LCablePlant$Modem;LCablePlant$Flow;)V" } : Jvm.MethodName)) ∈ lw_all := lw_g (lw_at lw_m4 171 rfl) rfl
theorem q928 : (Jvm.Cond.code ({ cls := "CablePlant$Request", name := "<init>", desc := "(LCablePlant$Modem;LCablePlant$Flow;)V" } : Jvm.MethodName) prog_7_method_1_code (3 : Nat) (Option.none : Option Jvm.ClassFile.FieldType)) ∈ lw_all := lw_g (lw_at lw_m4 172 rfl) rfl
theorem q929 : (Jvm.Cond.methodLink "CablePlant$Request" (1 : Nat) ({ cls := "java/lang/Object", name := "<init>", desc := "()V" } : Jvm.MethodName)) ∈ lw_all := lw_g (lw_at lw_m4 173 rfl) rfl
theorem q930 : (Jvm.Cond.methodLink "CablePlant$Request" (28 : Nat) ({ cls := "java/util/ArrayList", name := "get", desc := "(I)Ljava/lang/Object;" } : Jvm.MethodName)) ∈ lw_all := lw_g (lw_at lw_m4 174 rfl) rfl
theorem q931 : (Jvm.Cond.classLink "CablePlant$Request" (34 : Nat) "CablePlant$Packet") ∈ lw_all := lw_g (lw_at lw_m4 175 rfl) rfl
theorem q932 : (Jvm.Cond.methodLink "CablePlant$Request" (36 : Nat) ({ cls := "CablePlant$Packet", name := "size", desc := "()I" } : Jvm.MethodName)) ∈ lw_all := lw_g (lw_at lw_m4 176 rfl) rfl
theorem q933 : (Jvm.Cond.fieldLink "CablePlant$Request" (7 : Nat) "CablePlant$Request" "modem" "LCablePlant$Modem;") ∈ lw_all := lw_g (lw_at lw_m4 177 rfl) rfl
theorem q935 : (Jvm.Cond.fieldLink "CablePlant$Request" (13 : Nat) "CablePlant$Request" "flow" "LCablePlant$Flow;") ∈ lw_all := lw_g (lw_at lw_m4 179 rfl) rfl
theorem q937 : (Jvm.Cond.fieldLink "CablePlant$Request" (23 : Nat) "CablePlant$Request" "priority" "I") ∈ lw_all := lw_g (lw_at lw_m4 181 rfl) rfl
theorem q939 : (Jvm.Cond.fieldLink "CablePlant$Request" (40 : Nat) "CablePlant$Request" "needs" "I") ∈ lw_all := lw_g (lw_at lw_m4 183 rfl) rfl
theorem q941 : (Jvm.Cond.laysFinal "CablePlant$Request" "CablePlant$Request" "modem" "LCablePlant$Modem;") ∈ lw_all := lw_g (lw_at lw_m4 185 rfl) rfl
theorem q942 : (Jvm.Cond.soleField "CablePlant$Request" "modem") ∈ lw_all := lw_g (lw_at lw_m4 186 rfl) rfl
theorem q943 : (Jvm.Cond.laysFinal "CablePlant$Request" "CablePlant$Request" "flow" "LCablePlant$Flow;") ∈ lw_all := lw_g (lw_at lw_m4 187 rfl) rfl
theorem q944 : (Jvm.Cond.soleField "CablePlant$Request" "flow") ∈ lw_all := lw_g (lw_at lw_m4 188 rfl) rfl
theorem q945 : (Jvm.Cond.laysFinal "CablePlant$Request" "CablePlant$Request" "priority" "I") ∈ lw_all := lw_g (lw_at lw_m4 189 rfl) rfl
theorem q946 : (Jvm.Cond.soleField "CablePlant$Request" "priority") ∈ lw_all := lw_g (lw_at lw_m4 190 rfl) rfl
theorem q947 : (Jvm.Cond.lays "CablePlant$Request" "CablePlant$Request" "needs" "I") ∈ lw_all := lw_g (lw_at lw_m4 191 rfl) rfl
theorem q948 : (Jvm.Cond.soleField "CablePlant$Request" "needs") ∈ lw_all := lw_g (lw_at lw_m4 192 rfl) rfl
theorem q949 : (Jvm.Cond.superclass "CablePlant$Request" "java/lang/Object") ∈ lw_all := lw_g (lw_at lw_m4 193 rfl) rfl
theorem q1278 : (Jvm.Cond.castable "CablePlant$Request" "java/lang/Object") ∈ lw_tbl := lw_at lw_m6 42 rfl
theorem in_X10 : ∀ w ∈ wsX100, w ∈ lw_all := lw_in wsX100 [941, 943, 945, 947] (by decide +kernel) (by decide +kernel)
/-! CablePlant$Modem -/
def RX2 : String := "CablePlant$Modem"
def TX2 : u_T := fun k => match k with
  | 0 => ("CablePlant$Modem", "distance", "D", false)
  | 1 => ("CablePlant$Modem", "loss", "D", false)
  | 2 => ("CablePlant$Modem", "offset", "D", false)
  | 3 => ("CablePlant$Modem", "gain", "D", false)
  | 4 => ("CablePlant$Modem", "chance", "I", false)
  | 5 => ("CablePlant$Modem", "key", "I", false)
  | 6 => ("CablePlant$Modem", "state", "LCablePlant$State;", false)
  | _ => ("CablePlant$Modem", "flows", "[LCablePlant$Flow;", true)
def tyX2 : Nat → FieldType := fun k => match k with
  | 0 => .double
  | 1 => .double
  | 2 => .double
  | 3 => .double
  | 4 => .int
  | 5 => .int
  | 6 => .object "CablePlant$State"
  | _ => .array (.object "CablePlant$Flow")
abbrev wsX20 : List Cond := u_ws RX2 TX2 8
theorem nmX2 : ∀ a, a < 8 → ∀ b, b < 8 → a ≠ b → (TX2 a).2.1 ≠ (TX2 b).2.1 := by decide +kernel
theorem tyX2_ok : ∀ k, k < 8 → parseFieldDescriptor (TX2 k).2.2.1 = some (tyX2 k) := by decide +kernel
abbrev cX2_init : ByteArray := prog_3_method_1_code
def yX2_init : MethodName := ⟨RX2, "<init>", "()V"⟩
theorem dX2_init_0 : decode cX2_init 0 = .ok (.aload_n 0, 1) := by decide +kernel
theorem dX2_init_1 : decode cX2_init 1 = .ok (.invokespecial 3, 3) := by decide +kernel
theorem dX2_init_4 : decode cX2_init 4 = .ok (.aload_n 0, 1) := by decide +kernel
theorem dX2_init_5 : decode cX2_init 5 = .ok (.new 9, 3) := by decide +kernel
theorem dX2_init_8 : decode cX2_init 8 = .ok (.dup, 1) := by decide +kernel
theorem dX2_init_9 : decode cX2_init 9 = .ok (.invokespecial 11, 3) := by decide +kernel
theorem dX2_init_12 : decode cX2_init 12 = .ok (.putfield 12, 3) := by decide +kernel
theorem dX2_init_15 : decode cX2_init 15 = .ok (.aload_n 0, 1) := by decide +kernel
theorem dX2_init_16 : decode cX2_init 16 = .ok (.iconst 2, 1) := by decide +kernel
theorem dX2_init_17 : decode cX2_init 17 = .ok (.anewarray 18, 3) := by decide +kernel
theorem dX2_init_20 : decode cX2_init 20 = .ok (.dup, 1) := by decide +kernel
theorem dX2_init_21 : decode cX2_init 21 = .ok (.iconst 0, 1) := by decide +kernel
theorem dX2_init_22 : decode cX2_init 22 = .ok (.new 18, 3) := by decide +kernel
theorem dX2_init_25 : decode cX2_init 25 = .ok (.dup, 1) := by decide +kernel
theorem dX2_init_26 : decode cX2_init 26 = .ok (.invokespecial 20, 3) := by decide +kernel
theorem dX2_init_29 : decode cX2_init 29 = .ok (.aastore, 1) := by decide +kernel
theorem dX2_init_30 : decode cX2_init 30 = .ok (.dup, 1) := by decide +kernel
theorem dX2_init_31 : decode cX2_init 31 = .ok (.iconst 1, 1) := by decide +kernel
theorem dX2_init_32 : decode cX2_init 32 = .ok (.new 18, 3) := by decide +kernel
theorem dX2_init_35 : decode cX2_init 35 = .ok (.dup, 1) := by decide +kernel
theorem dX2_init_36 : decode cX2_init 36 = .ok (.invokespecial 20, 3) := by decide +kernel
theorem dX2_init_39 : decode cX2_init 39 = .ok (.aastore, 1) := by decide +kernel
theorem dX2_init_40 : decode cX2_init 40 = .ok (.putfield 21, 3) := by decide +kernel
theorem dX2_init_43 : decode cX2_init 43 = .ok (.return_, 1) := by decide +kernel
abbrev cX2_fine : ByteArray := prog_3_method_4_code
def yX2_fine : MethodName := ⟨RX2, "fine", "()Z"⟩
theorem dX2_fine_0 : decode cX2_fine 0 = .ok (.aload_n 0, 1) := by decide +kernel
theorem dX2_fine_1 : decode cX2_fine 1 = .ok (.invokevirtual 40, 3) := by decide +kernel
theorem dX2_fine_4 : decode cX2_fine 4 = .ok (.ldc2_w 44, 3) := by decide +kernel
theorem dX2_fine_7 : decode cX2_fine 7 = .ok (.ldc2_w 29, 3) := by decide +kernel
theorem dX2_fine_10 : decode cX2_fine 10 = .ok (.invokestatic 46, 3) := by decide +kernel
theorem dX2_fine_13 : decode cX2_fine 13 = .ok (.ifCond .eq 23, 3) := by decide +kernel
theorem dX2_fine_16 : decode cX2_fine 16 = .ok (.aload_n 0, 1) := by decide +kernel
theorem dX2_fine_17 : decode cX2_fine 17 = .ok (.invokevirtual 50, 3) := by decide +kernel
theorem dX2_fine_20 : decode cX2_fine 20 = .ok (.ldc2_w 44, 3) := by decide +kernel
theorem dX2_fine_23 : decode cX2_fine 23 = .ok (.ldc2_w 29, 3) := by decide +kernel
theorem dX2_fine_26 : decode cX2_fine 26 = .ok (.invokestatic 46, 3) := by decide +kernel
theorem dX2_fine_29 : decode cX2_fine 29 = .ok (.ifCond .eq 7, 3) := by decide +kernel
theorem dX2_fine_32 : decode cX2_fine 32 = .ok (.iconst 1, 1) := by decide +kernel
theorem dX2_fine_33 : decode cX2_fine 33 = .ok (.goto 4, 3) := by decide +kernel
theorem dX2_fine_36 : decode cX2_fine 36 = .ok (.iconst 0, 1) := by decide +kernel
theorem dX2_fine_37 : decode cX2_fine 37 = .ok (.ireturn, 1) := by decide +kernel
abbrev cX2_late : ByteArray := prog_3_method_2_code
def yX2_late : MethodName := ⟨RX2, "late", "()D"⟩
theorem dX2_late_0 : decode cX2_late 0 = .ok (.aload_n 0, 1) := by decide +kernel
theorem dX2_late_1 : decode cX2_late 1 = .ok (.getfield 25, 3) := by decide +kernel
theorem dX2_late_4 : decode cX2_late 4 = .ok (.ldc2_w 29, 3) := by decide +kernel
theorem dX2_late_7 : decode cX2_late 7 = .ok (.dmul, 1) := by decide +kernel
theorem dX2_late_8 : decode cX2_late 8 = .ok (.aload_n 0, 1) := by decide +kernel
theorem dX2_late_9 : decode cX2_late 9 = .ok (.getfield 31, 3) := by decide +kernel
theorem dX2_late_12 : decode cX2_late 12 = .ok (.dsub, 1) := by decide +kernel
theorem dX2_late_13 : decode cX2_late 13 = .ok (.dreturn, 1) := by decide +kernel
abbrev cX2_strong : ByteArray := prog_3_method_3_code
def yX2_strong : MethodName := ⟨RX2, "strong", "()D"⟩
theorem dX2_strong_0 : decode cX2_strong 0 = .ok (.aload_n 0, 1) := by decide +kernel
theorem dX2_strong_1 : decode cX2_strong 1 = .ok (.getfield 34, 3) := by decide +kernel
theorem dX2_strong_4 : decode cX2_strong 4 = .ok (.aload_n 0, 1) := by decide +kernel
theorem dX2_strong_5 : decode cX2_strong 5 = .ok (.getfield 37, 3) := by decide +kernel
theorem dX2_strong_8 : decode cX2_strong 8 = .ok (.dsub, 1) := by decide +kernel
theorem dX2_strong_9 : decode cX2_strong 9 = .ok (.dreturn, 1) := by decide +kernel
abbrev cX2_draw : ByteArray := prog_3_method_5_code
def yX2_draw : MethodName := ⟨RX2, "draw", "(I)I"⟩
theorem dX2_draw_0 : decode cX2_draw 0 = .ok (.aload_n 0, 1) := by decide +kernel
theorem dX2_draw_1 : decode cX2_draw 1 = .ok (.aload_n 0, 1) := by decide +kernel
theorem dX2_draw_2 : decode cX2_draw 2 = .ok (.getfield 53, 3) := by decide +kernel
theorem dX2_draw_5 : decode cX2_draw 5 = .ok (.ldc 57, 2) := by decide +kernel
theorem dX2_draw_7 : decode cX2_draw 7 = .ok (.imul, 1) := by decide +kernel
theorem dX2_draw_8 : decode cX2_draw 8 = .ok (.sipush 12345, 3) := by decide +kernel
theorem dX2_draw_11 : decode cX2_draw 11 = .ok (.iadd, 1) := by decide +kernel
theorem dX2_draw_12 : decode cX2_draw 12 = .ok (.putfield 53, 3) := by decide +kernel
theorem dX2_draw_15 : decode cX2_draw 15 = .ok (.aload_n 0, 1) := by decide +kernel
theorem dX2_draw_16 : decode cX2_draw 16 = .ok (.getfield 53, 3) := by decide +kernel
theorem dX2_draw_19 : decode cX2_draw 19 = .ok (.bipush 16, 2) := by decide +kernel
theorem dX2_draw_21 : decode cX2_draw 21 = .ok (.iushr, 1) := by decide +kernel
theorem dX2_draw_22 : decode cX2_draw 22 = .ok (.iload_n 1, 1) := by decide +kernel
theorem dX2_draw_23 : decode cX2_draw 23 = .ok (.irem, 1) := by decide +kernel
theorem dX2_draw_24 : decode cX2_draw 24 = .ok (.ireturn, 1) := by decide +kernel
abbrev cX2_adjust : ByteArray := prog_3_method_7_code
def yX2_adjust : MethodName := ⟨RX2, "adjust", "()V"⟩
theorem dX2_adjust_0 : decode cX2_adjust 0 = .ok (.aload_n 0, 1) := by decide +kernel
theorem dX2_adjust_1 : decode cX2_adjust 1 = .ok (.invokevirtual 40, 3) := by decide +kernel
theorem dX2_adjust_4 : decode cX2_adjust 4 = .ok (.dstore_n 1, 1) := by decide +kernel
theorem dX2_adjust_5 : decode cX2_adjust 5 = .ok (.aload_n 0, 1) := by decide +kernel
theorem dX2_adjust_6 : decode cX2_adjust 6 = .ok (.invokevirtual 50, 3) := by decide +kernel
theorem dX2_adjust_9 : decode cX2_adjust 9 = .ok (.dstore_n 3, 1) := by decide +kernel
theorem dX2_adjust_10 : decode cX2_adjust 10 = .ok (.aload_n 0, 1) := by decide +kernel
theorem dX2_adjust_11 : decode cX2_adjust 11 = .ok (.aload_n 0, 1) := by decide +kernel
theorem dX2_adjust_12 : decode cX2_adjust 12 = .ok (.getfield 31, 3) := by decide +kernel
theorem dX2_adjust_15 : decode cX2_adjust 15 = .ok (.dload_n 1, 1) := by decide +kernel
theorem dX2_adjust_16 : decode cX2_adjust 16 = .ok (.ldc2_w 62, 3) := by decide +kernel
theorem dX2_adjust_19 : decode cX2_adjust 19 = .ok (.dmul, 1) := by decide +kernel
theorem dX2_adjust_20 : decode cX2_adjust 20 = .ok (.dadd, 1) := by decide +kernel
theorem dX2_adjust_21 : decode cX2_adjust 21 = .ok (.putfield 31, 3) := by decide +kernel
theorem dX2_adjust_24 : decode cX2_adjust 24 = .ok (.aload_n 0, 1) := by decide +kernel
theorem dX2_adjust_25 : decode cX2_adjust 25 = .ok (.aload_n 0, 1) := by decide +kernel
theorem dX2_adjust_26 : decode cX2_adjust 26 = .ok (.getfield 34, 3) := by decide +kernel
theorem dX2_adjust_29 : decode cX2_adjust 29 = .ok (.dload_n 3, 1) := by decide +kernel
theorem dX2_adjust_30 : decode cX2_adjust 30 = .ok (.ldc2_w 62, 3) := by decide +kernel
theorem dX2_adjust_33 : decode cX2_adjust 33 = .ok (.dmul, 1) := by decide +kernel
theorem dX2_adjust_34 : decode cX2_adjust 34 = .ok (.dsub, 1) := by decide +kernel
theorem dX2_adjust_35 : decode cX2_adjust 35 = .ok (.putfield 34, 3) := by decide +kernel
theorem dX2_adjust_38 : decode cX2_adjust 38 = .ok (.return_, 1) := by decide +kernel
abbrev cX2_wanting : ByteArray := prog_3_method_6_code
def yX2_wanting : MethodName := ⟨RX2, "wanting", "()LCablePlant$Flow;"⟩
theorem dX2_wanting_0 : decode cX2_wanting 0 = .ok (.aload_n 0, 1) := by decide +kernel
theorem dX2_wanting_1 : decode cX2_wanting 1 = .ok (.getfield 21, 3) := by decide +kernel
theorem dX2_wanting_4 : decode cX2_wanting 4 = .ok (.astore_n 1, 1) := by decide +kernel
theorem dX2_wanting_5 : decode cX2_wanting 5 = .ok (.aload_n 1, 1) := by decide +kernel
theorem dX2_wanting_6 : decode cX2_wanting 6 = .ok (.arraylength, 1) := by decide +kernel
theorem dX2_wanting_7 : decode cX2_wanting 7 = .ok (.istore_n 2, 1) := by decide +kernel
theorem dX2_wanting_8 : decode cX2_wanting 8 = .ok (.iconst 0, 1) := by decide +kernel
theorem dX2_wanting_9 : decode cX2_wanting 9 = .ok (.istore_n 3, 1) := by decide +kernel
theorem dX2_wanting_10 : decode cX2_wanting 10 = .ok (.iload_n 3, 1) := by decide +kernel
theorem dX2_wanting_11 : decode cX2_wanting 11 = .ok (.iload_n 2, 1) := by decide +kernel
theorem dX2_wanting_12 : decode cX2_wanting 12 = .ok (.if_icmp .ge 25, 3) := by decide +kernel
theorem dX2_wanting_15 : decode cX2_wanting 15 = .ok (.aload_n 1, 1) := by decide +kernel
theorem dX2_wanting_16 : decode cX2_wanting 16 = .ok (.iload_n 3, 1) := by decide +kernel
theorem dX2_wanting_17 : decode cX2_wanting 17 = .ok (.aaload, 1) := by decide +kernel
theorem dX2_wanting_18 : decode cX2_wanting 18 = .ok (.astore 4, 2) := by decide +kernel
theorem dX2_wanting_20 : decode cX2_wanting 20 = .ok (.aload 4, 2) := by decide +kernel
theorem dX2_wanting_22 : decode cX2_wanting 22 = .ok (.invokevirtual 58, 3) := by decide +kernel
theorem dX2_wanting_25 : decode cX2_wanting 25 = .ok (.ifCond .eq 6, 3) := by decide +kernel
theorem dX2_wanting_28 : decode cX2_wanting 28 = .ok (.aload 4, 2) := by decide +kernel
theorem dX2_wanting_30 : decode cX2_wanting 30 = .ok (.areturn, 1) := by decide +kernel
theorem dX2_wanting_31 : decode cX2_wanting 31 = .ok (.iinc 3 1, 3) := by decide +kernel
theorem dX2_wanting_34 : decode cX2_wanting 34 = .ok (.goto (-24), 3) := by decide +kernel
theorem dX2_wanting_37 : decode cX2_wanting 37 = .ok (.aconst_null, 1) := by decide +kernel
theorem dX2_wanting_38 : decode cX2_wanting 38 = .ok (.areturn, 1) := by decide +kernel
theorem q57 : (Jvm.Cond.initialized "CablePlant$Modem") ∈ lw_all := lw_g (lw_at lw_m1 21 rfl) rfl
theorem q426 : (Jvm.Cond.instantiable "CablePlant$Modem" (8 : Nat)) ∈ lw_all := lw_g (lw_at lw_m2 150 rfl) rfl
theorem q428 : (Jvm.Cond.instanceMethod ({ cls := "CablePlant$Modem", name := "<init>", desc := "()V" } : Jvm.MethodName)) ∈ lw_all := lw_g (lw_at lw_m2 152 rfl) rfl
theorem q429 : (Jvm.Cond.code ({ cls := "CablePlant$Modem", name := "<init>", desc := "()V" } : Jvm.MethodName) prog_3_method_1_code (1 : Nat) (Option.none : Option Jvm.ClassFile.FieldType)) ∈ lw_all := lw_g (lw_at lw_m2 153 rfl) rfl
theorem q430 : (Jvm.Cond.methodLink "CablePlant$Modem" (3 : Nat) ({ cls := "java/lang/Object", name := "<init>", desc := "()V" } : Jvm.MethodName)) ∈ lw_all := lw_g (lw_at lw_m2 154 rfl) rfl
theorem q431 : (Jvm.Cond.classLink "CablePlant$Modem" (9 : Nat) "CablePlant$Off") ∈ lw_all := lw_g (lw_at lw_m2 155 rfl) rfl
theorem q433 : (Jvm.Cond.methodLinkNest "CablePlant$Modem" (11 : Nat) ({ cls := "CablePlant$Off", name := "<init>", desc := "()V" } : Jvm.MethodName) "CablePlant") ∈ lw_tbl := lw_at lw_m2 157 rfl
theorem q445 : (Jvm.Cond.classLink "CablePlant$Modem" (18 : Nat) "CablePlant$Flow") ∈ lw_all := lw_g (lw_at lw_m2 169 rfl) rfl
theorem q448 : (Jvm.Cond.methodLinkNest "CablePlant$Modem" (20 : Nat) ({ cls := "CablePlant$Flow", name := "<init>", desc := "()V" } : Jvm.MethodName) "CablePlant") ∈ lw_tbl := lw_at lw_m2 172 rfl
theorem q472 : (Jvm.Cond.fieldLink "CablePlant$Modem" (25 : Nat) "CablePlant$Modem" "distance" "D") ∈ lw_all := lw_g (lw_at lw_m2 196 rfl) rfl
theorem q474 : (Jvm.Cond.fieldLink "CablePlant$Modem" (37 : Nat) "CablePlant$Modem" "loss" "D") ∈ lw_all := lw_g (lw_at lw_m2 198 rfl) rfl
theorem q476 : (Jvm.Cond.fieldLink "CablePlant$Modem" (31 : Nat) "CablePlant$Modem" "offset" "D") ∈ lw_all := lw_g (lw_at lw_m2 200 rfl) rfl
theorem q478 : (Jvm.Cond.fieldLink "CablePlant$Modem" (34 : Nat) "CablePlant$Modem" "gain" "D") ∈ lw_all := lw_g (lw_at lw_m2 202 rfl) rfl
theorem q480 : (Jvm.Cond.fieldLink "CablePlant$Modem" (53 : Nat) "CablePlant$Modem" "chance" "I") ∈ lw_all := lw_g (lw_at lw_m2 204 rfl) rfl
theorem q483 : (Jvm.Cond.fieldLink "CablePlant$Modem" (12 : Nat) "CablePlant$Modem" "state" "LCablePlant$State;") ∈ lw_all := lw_g (lw_at lw_m2 207 rfl) rfl
theorem q485 : (Jvm.Cond.fieldLink "CablePlant$Modem" (21 : Nat) "CablePlant$Modem" "flows" "[LCablePlant$Flow;") ∈ lw_all := lw_g (lw_at lw_m2 209 rfl) rfl
theorem q487 : (Jvm.Cond.lays "CablePlant$Modem" "CablePlant$Modem" "distance" "D") ∈ lw_all := lw_g (lw_at lw_m2 211 rfl) rfl
theorem q488 : (Jvm.Cond.soleField "CablePlant$Modem" "distance") ∈ lw_all := lw_g (lw_at lw_m2 212 rfl) rfl
theorem q489 : (Jvm.Cond.lays "CablePlant$Modem" "CablePlant$Modem" "loss" "D") ∈ lw_all := lw_g (lw_at lw_m2 213 rfl) rfl
theorem q490 : (Jvm.Cond.soleField "CablePlant$Modem" "loss") ∈ lw_all := lw_g (lw_at lw_m2 214 rfl) rfl
theorem q491 : (Jvm.Cond.lays "CablePlant$Modem" "CablePlant$Modem" "offset" "D") ∈ lw_all := lw_g (lw_at lw_m2 215 rfl) rfl
theorem q492 : (Jvm.Cond.soleField "CablePlant$Modem" "offset") ∈ lw_all := lw_g (lw_at lw_m2 216 rfl) rfl
theorem q493 : (Jvm.Cond.lays "CablePlant$Modem" "CablePlant$Modem" "gain" "D") ∈ lw_all := lw_g (lw_at lw_m2 217 rfl) rfl
theorem q494 : (Jvm.Cond.soleField "CablePlant$Modem" "gain") ∈ lw_all := lw_g (lw_at lw_m2 218 rfl) rfl
theorem q495 : (Jvm.Cond.lays "CablePlant$Modem" "CablePlant$Modem" "chance" "I") ∈ lw_all := lw_g (lw_at lw_m2 219 rfl) rfl
theorem q496 : (Jvm.Cond.soleField "CablePlant$Modem" "chance") ∈ lw_all := lw_g (lw_at lw_m2 220 rfl) rfl
theorem q497 : (Jvm.Cond.lays "CablePlant$Modem" "CablePlant$Modem" "key" "I") ∈ lw_all := lw_g (lw_at lw_m2 221 rfl) rfl
theorem q498 : (Jvm.Cond.soleField "CablePlant$Modem" "key") ∈ lw_all := lw_g (lw_at lw_m2 222 rfl) rfl
theorem q499 : (Jvm.Cond.lays "CablePlant$Modem" "CablePlant$Modem" "state" "LCablePlant$State;") ∈ lw_all := lw_g (lw_at lw_m2 223 rfl) rfl
theorem q500 : (Jvm.Cond.soleField "CablePlant$Modem" "state") ∈ lw_all := lw_g (lw_at lw_m2 224 rfl) rfl
theorem q501 : (Jvm.Cond.laysFinal "CablePlant$Modem" "CablePlant$Modem" "flows" "[LCablePlant$Flow;") ∈ lw_all := lw_g (lw_at lw_m2 225 rfl) rfl
theorem q502 : (Jvm.Cond.soleField "CablePlant$Modem" "flows") ∈ lw_all := lw_g (lw_at lw_m2 226 rfl) rfl
theorem q503 : (Jvm.Cond.superclass "CablePlant$Modem" "java/lang/Object") ∈ lw_all := lw_g (lw_at lw_m2 227 rfl) rfl
theorem q547 : (Jvm.Cond.instanceMethod ({ cls := "CablePlant$Modem", name := "fine", desc := "()Z" } : Jvm.MethodName)) ∈ lw_all := lw_g (lw_at lw_m3 31 rfl) rfl
theorem q548 : (Jvm.Cond.selects "CablePlant$Modem" ({ cls := "CablePlant$Modem", name := "fine", desc := "()Z" } : Jvm.MethodName) ({ cls := "CablePlant$Modem", name := "fine", desc := "()Z" } : Jvm.MethodName)) ∈ lw_all := lw_g (lw_at lw_m3 32 rfl) rfl
theorem q549 : (Jvm.Cond.code ({ cls := "CablePlant$Modem", name := "fine", desc := "()Z" } : Jvm.MethodName) prog_3_method_4_code (1 : Nat) (Option.some Jvm.ClassFile.FieldType.boolean)) ∈ lw_all := lw_g (lw_at lw_m3 33 rfl) rfl
theorem q550 : (Jvm.Cond.methodLink "CablePlant$Modem" (40 : Nat) ({ cls := "CablePlant$Modem", name := "late", desc := "()D" } : Jvm.MethodName)) ∈ lw_all := lw_g (lw_at lw_m3 34 rfl) rfl
theorem q551 : (Jvm.Cond.instanceMethod ({ cls := "CablePlant$Modem", name := "late", desc := "()D" } : Jvm.MethodName)) ∈ lw_all := lw_g (lw_at lw_m3 35 rfl) rfl
theorem q552 : (Jvm.Cond.selects "CablePlant$Modem" ({ cls := "CablePlant$Modem", name := "late", desc := "()D" } : Jvm.MethodName) ({ cls := "CablePlant$Modem", name := "late", desc := "()D" } : Jvm.MethodName)) ∈ lw_all := lw_g (lw_at lw_m3 36 rfl) rfl
theorem q553 : (Jvm.Cond.code ({ cls := "CablePlant$Modem", name := "late", desc := "()D" } : Jvm.MethodName) prog_3_method_2_code (1 : Nat) (Option.some Jvm.ClassFile.FieldType.double)) ∈ lw_all := lw_g (lw_at lw_m3 37 rfl) rfl
theorem q554 : (Jvm.Cond.constantDouble "CablePlant$Modem" (29 : Nat) (4602678819172646912 : UInt64)) ∈ lw_all := lw_g (lw_at lw_m3 38 rfl) rfl
theorem q555 : (Jvm.Cond.constantDouble "CablePlant$Modem" (44 : Nat) (13826050856027422720 : UInt64)) ∈ lw_all := lw_g (lw_at lw_m3 39 rfl) rfl
theorem q556 : (Jvm.Cond.methodLinkNest "CablePlant$Modem" (46 : Nat) ({ cls := "CablePlant", name := "between", desc := "(DDD)Z" } : Jvm.MethodName) "CablePlant") ∈ lw_tbl := lw_at lw_m3 40 rfl
theorem q559 : (Jvm.Cond.methodLink "CablePlant$Modem" (50 : Nat) ({ cls := "CablePlant$Modem", name := "strong", desc := "()D" } : Jvm.MethodName)) ∈ lw_all := lw_g (lw_at lw_m3 43 rfl) rfl
theorem q560 : (Jvm.Cond.instanceMethod ({ cls := "CablePlant$Modem", name := "strong", desc := "()D" } : Jvm.MethodName)) ∈ lw_all := lw_g (lw_at lw_m3 44 rfl) rfl
theorem q561 : (Jvm.Cond.selects "CablePlant$Modem" ({ cls := "CablePlant$Modem", name := "strong", desc := "()D" } : Jvm.MethodName) ({ cls := "CablePlant$Modem", name := "strong", desc := "()D" } : Jvm.MethodName)) ∈ lw_all := lw_g (lw_at lw_m3 45 rfl) rfl
theorem q562 : (Jvm.Cond.code ({ cls := "CablePlant$Modem", name := "strong", desc := "()D" } : Jvm.MethodName) prog_3_method_3_code (1 : Nat) (Option.some Jvm.ClassFile.FieldType.double)) ∈ lw_all := lw_g (lw_at lw_m3 46 rfl) rfl
theorem q727 : (Jvm.Cond.selects "CablePlant$Modem" ({ cls := "java/lang/Object", name := "equals", desc := "(Ljava/lang/Object;)Z" } : Jvm.MethodName) ({ cls := "java/lang/Object", name := "equals", desc := "(Ljava/lang/Object;)Z" } : Jvm.MethodName)) ∈ lw_all := lw_g (lw_at lw_m3 211 rfl) rfl
theorem q837 : (Jvm.Cond.selects "CablePlant$Modem" ({ cls := "java/lang/Object", name := "getClass", desc := "()Ljava/lang/Class;" } : Jvm.MethodName) ({ cls := "java/lang/Object", name := "getClass", desc := "()Ljava/lang/Class;" } : Jvm.MethodName)) ∈ lw_all := lw_g (lw_at lw_m4 81 rfl) rfl
theorem q880 : (Jvm.Cond.instanceMethod ({ cls := "CablePlant$Modem", name := "draw", desc := "(I)I" } : Jvm.MethodName)) ∈ lw_all := lw_g (lw_at lw_m4 124 rfl) rfl
theorem q881 : (Jvm.Cond.selects "CablePlant$Modem" ({ cls := "CablePlant$Modem", name := "draw", desc := "(I)I" } : Jvm.MethodName) ({ cls := "CablePlant$Modem", name := "draw", desc := "(I)I" } : Jvm.MethodName)) ∈ lw_all := lw_g (lw_at lw_m4 125 rfl) rfl
theorem q882 : (Jvm.Cond.code ({ cls := "CablePlant$Modem", name := "draw", desc := "(I)I" } : Jvm.MethodName) prog_3_method_5_code (2 : Nat) (Option.some Jvm.ClassFile.FieldType.int)) ∈ lw_all := lw_g (lw_at lw_m4 126 rfl) rfl
theorem q883 : (Jvm.Cond.constant "CablePlant$Modem" (57 : Nat) (1103515245 : Int32)) ∈ lw_all := lw_g (lw_at lw_m4 127 rfl) rfl
theorem q885 : (Jvm.Cond.instanceMethod ({ cls := "CablePlant$Modem", name := "adjust", desc := "()V" } : Jvm.MethodName)) ∈ lw_all := lw_g (lw_at lw_m4 129 rfl) rfl
theorem q886 : (Jvm.Cond.selects "CablePlant$Modem" ({ cls := "CablePlant$Modem", name := "adjust", desc := "()V" } : Jvm.MethodName) ({ cls := "CablePlant$Modem", name := "adjust", desc := "()V" } : Jvm.MethodName)) ∈ lw_all := lw_g (lw_at lw_m4 130 rfl) rfl
theorem q887 : (Jvm.Cond.code ({ cls := "CablePlant$Modem", name := "adjust", desc := "()V" } : Jvm.MethodName) prog_3_method_7_code (5 : Nat) (Option.none : Option Jvm.ClassFile.FieldType)) ∈ lw_all := lw_g (lw_at lw_m4 131 rfl) rfl
theorem q888 : (Jvm.Cond.constantDouble "CablePlant$Modem" (62 : Nat) (4604930618986332160 : UInt64)) ∈ lw_all := lw_g (lw_at lw_m4 132 rfl) rfl
theorem q904 : (Jvm.Cond.instanceMethod ({ cls := "CablePlant$Modem", name := "wanting", desc := "()LCablePlant$Flow;" } : Jvm.MethodName)) ∈ lw_all := lw_g (lw_at lw_m4 148 rfl) rfl
theorem q905 : (Jvm.Cond.selects "CablePlant$Modem" ({ cls := "CablePlant$Modem", name := "wanting", desc := "()LCablePlant$Flow;" } : Jvm.MethodName) ({ cls := "CablePlant$Modem", name := "wanting", desc := "()LCablePlant$Flow;" } : Jvm.MethodName)) ∈ lw_all := lw_g (lw_at lw_m4 149 rfl) rfl
theorem q906 : (Jvm.Cond.code ({ cls := "CablePlant$Modem", name := "wanting", desc := "()LCablePlant$Flow;" } : Jvm.MethodName) prog_3_method_6_code (5 : Nat) (Option.some (Jvm.ClassFile.FieldType.object "CablePlant$Flow"))) ∈ lw_all := lw_g (lw_at lw_m4 150 rfl) rfl
theorem q907 : (Jvm.Cond.methodLink "CablePlant$Modem" (58 : Nat) ({ cls := "CablePlant$Flow", name := "wants", desc := "()Z" } : Jvm.MethodName)) ∈ lw_all := lw_g (lw_at lw_m4 151 rfl) rfl
theorem q1262 : (Jvm.Cond.castable "CablePlant$Modem" "java/lang/Object") ∈ lw_tbl := lw_at lw_m6 26 rfl
theorem in_X2 : ∀ w ∈ wsX20, w ∈ lw_all := lw_in wsX20 [487, 489, 491, 493, 495, 497, 499, 501] (by decide +kernel) (by decide +kernel)
/-! CablePlant -/
def RX1 : String := "CablePlant"
def TX1 : u_T := fun k => match k with
  | 0 => ("CablePlant", "modems", "[LCablePlant$Modem;", true)
  | 1 => ("CablePlant", "requests", "Ljava/util/ArrayList;", true)
  | 2 => ("CablePlant", "list", "[I", true)
  | 3 => ("CablePlant", "listed", "I", false)
  | 4 => ("CablePlant", "key", "I", false)
  | 5 => ("CablePlant", "rounds", "I", false)
  | 6 => ("CablePlant", "seekCollisions", "I", false)
  | 7 => ("CablePlant", "askCollisions", "I", false)
  | 8 => ("CablePlant", "unheard", "I", false)
  | 9 => ("CablePlant", "came", "I", false)
  | 10 => ("CablePlant", "granted", "I", false)
  | _ => ("CablePlant", "dropped", "I", false)
def tyX1 : Nat → FieldType := fun k => match k with
  | 0 => .array (.object "CablePlant$Modem")
  | 1 => .object "java/util/ArrayList"
  | 2 => .array .int
  | 3 => .int
  | 4 => .int
  | 5 => .int
  | 6 => .int
  | 7 => .int
  | 8 => .int
  | 9 => .int
  | 10 => .int
  | _ => .int
abbrev wsX10 : List Cond := u_ws RX1 TX1 12
theorem nmX1 : ∀ a, a < 12 → ∀ b, b < 12 → a ≠ b → (TX1 a).2.1 ≠ (TX1 b).2.1 := by decide +kernel
theorem tyX1_ok : ∀ k, k < 12 → parseFieldDescriptor (TX1 k).2.2.1 = some (tyX1 k) := by decide +kernel
abbrev cX1_init : ByteArray := prog_1_method_5_code
def yX1_init : MethodName := ⟨RX1, "<init>", "()V"⟩
theorem dX1_init_0 : decode cX1_init 0 = .ok (.aload_n 0, 1) := by decide +kernel
theorem dX1_init_1 : decode cX1_init 1 = .ok (.invokespecial 10, 3) := by decide +kernel
theorem dX1_init_4 : decode cX1_init 4 = .ok (.aload_n 0, 1) := by decide +kernel
theorem dX1_init_5 : decode cX1_init 5 = .ok (.bipush 6, 2) := by decide +kernel
theorem dX1_init_7 : decode cX1_init 7 = .ok (.anewarray 15, 3) := by decide +kernel
theorem dX1_init_10 : decode cX1_init 10 = .ok (.putfield 17, 3) := by decide +kernel
theorem dX1_init_13 : decode cX1_init 13 = .ok (.aload_n 0, 1) := by decide +kernel
theorem dX1_init_14 : decode cX1_init 14 = .ok (.new 21, 3) := by decide +kernel
theorem dX1_init_17 : decode cX1_init 17 = .ok (.dup, 1) := by decide +kernel
theorem dX1_init_18 : decode cX1_init 18 = .ok (.bipush 6, 2) := by decide +kernel
theorem dX1_init_20 : decode cX1_init 20 = .ok (.invokespecial 23, 3) := by decide +kernel
theorem dX1_init_23 : decode cX1_init 23 = .ok (.putfield 26, 3) := by decide +kernel
theorem dX1_init_26 : decode cX1_init 26 = .ok (.aload_n 0, 1) := by decide +kernel
theorem dX1_init_27 : decode cX1_init 27 = .ok (.bipush 6, 2) := by decide +kernel
theorem dX1_init_29 : decode cX1_init 29 = .ok (.newarray .int, 2) := by decide +kernel
theorem dX1_init_31 : decode cX1_init 31 = .ok (.putfield 30, 3) := by decide +kernel
theorem dX1_init_34 : decode cX1_init 34 = .ok (.iconst 0, 1) := by decide +kernel
theorem dX1_init_35 : decode cX1_init 35 = .ok (.istore_n 1, 1) := by decide +kernel
theorem dX1_init_36 : decode cX1_init 36 = .ok (.iload_n 1, 1) := by decide +kernel
theorem dX1_init_37 : decode cX1_init 37 = .ok (.bipush 6, 2) := by decide +kernel
theorem dX1_init_39 : decode cX1_init 39 = .ok (.if_icmp .ge 22, 3) := by decide +kernel
theorem dX1_init_42 : decode cX1_init 42 = .ok (.aload_n 0, 1) := by decide +kernel
theorem dX1_init_43 : decode cX1_init 43 = .ok (.getfield 17, 3) := by decide +kernel
theorem dX1_init_46 : decode cX1_init 46 = .ok (.iload_n 1, 1) := by decide +kernel
theorem dX1_init_47 : decode cX1_init 47 = .ok (.new 15, 3) := by decide +kernel
theorem dX1_init_50 : decode cX1_init 50 = .ok (.dup, 1) := by decide +kernel
theorem dX1_init_51 : decode cX1_init 51 = .ok (.invokespecial 34, 3) := by decide +kernel
theorem dX1_init_54 : decode cX1_init 54 = .ok (.aastore, 1) := by decide +kernel
theorem dX1_init_55 : decode cX1_init 55 = .ok (.iinc 1 1, 3) := by decide +kernel
theorem dX1_init_58 : decode cX1_init 58 = .ok (.goto (-22), 3) := by decide +kernel
theorem dX1_init_61 : decode cX1_init 61 = .ok (.return_, 1) := by decide +kernel
abbrev cX1_key : ByteArray := prog_1_method_23_code
def yX1_key : MethodName := ⟨RX1, "key", "(I)I"⟩
theorem dX1_key_0 : decode cX1_key 0 = .ok (.aload_n 0, 1) := by decide +kernel
theorem dX1_key_1 : decode cX1_key 1 = .ok (.iload_n 1, 1) := by decide +kernel
theorem dX1_key_2 : decode cX1_key 2 = .ok (.putfield 181, 3) := by decide +kernel
theorem dX1_key_5 : decode cX1_key 5 = .ok (.iconst 0, 1) := by decide +kernel
theorem dX1_key_6 : decode cX1_key 6 = .ok (.istore_n 2, 1) := by decide +kernel
theorem dX1_key_7 : decode cX1_key 7 = .ok (.aload_n 0, 1) := by decide +kernel
theorem dX1_key_8 : decode cX1_key 8 = .ok (.getfield 17, 3) := by decide +kernel
theorem dX1_key_11 : decode cX1_key 11 = .ok (.astore_n 3, 1) := by decide +kernel
theorem dX1_key_12 : decode cX1_key 12 = .ok (.aload_n 3, 1) := by decide +kernel
theorem dX1_key_13 : decode cX1_key 13 = .ok (.arraylength, 1) := by decide +kernel
theorem dX1_key_14 : decode cX1_key 14 = .ok (.istore 4, 2) := by decide +kernel
theorem dX1_key_16 : decode cX1_key 16 = .ok (.iconst 0, 1) := by decide +kernel
theorem dX1_key_17 : decode cX1_key 17 = .ok (.istore 5, 2) := by decide +kernel
theorem dX1_key_19 : decode cX1_key 19 = .ok (.iload 5, 2) := by decide +kernel
theorem dX1_key_21 : decode cX1_key 21 = .ok (.iload 4, 2) := by decide +kernel
theorem dX1_key_23 : decode cX1_key 23 = .ok (.if_icmp .ge 46, 3) := by decide +kernel
theorem dX1_key_26 : decode cX1_key 26 = .ok (.aload_n 3, 1) := by decide +kernel
theorem dX1_key_27 : decode cX1_key 27 = .ok (.iload 5, 2) := by decide +kernel
theorem dX1_key_29 : decode cX1_key 29 = .ok (.aaload, 1) := by decide +kernel
theorem dX1_key_30 : decode cX1_key 30 = .ok (.astore 6, 2) := by decide +kernel
theorem dX1_key_32 : decode cX1_key 32 = .ok (.aload 6, 2) := by decide +kernel
theorem dX1_key_34 : decode cX1_key 34 = .ok (.getfield 88, 3) := by decide +kernel
theorem dX1_key_37 : decode cX1_key 37 = .ok (.instanceof 153, 3) := by decide +kernel
theorem dX1_key_40 : decode cX1_key 40 = .ok (.ifCond .eq 23, 3) := by decide +kernel
theorem dX1_key_43 : decode cX1_key 43 = .ok (.aload 6, 2) := by decide +kernel
theorem dX1_key_45 : decode cX1_key 45 = .ok (.invokevirtual 174, 3) := by decide +kernel
theorem dX1_key_48 : decode cX1_key 48 = .ok (.ifCond .ne 6, 3) := by decide +kernel
theorem dX1_key_51 : decode cX1_key 51 = .ok (.goto 12, 3) := by decide +kernel
theorem dX1_key_54 : decode cX1_key 54 = .ok (.aload 6, 2) := by decide +kernel
theorem dX1_key_56 : decode cX1_key 56 = .ok (.iload_n 1, 1) := by decide +kernel
theorem dX1_key_57 : decode cX1_key 57 = .ok (.putfield 184, 3) := by decide +kernel
theorem dX1_key_60 : decode cX1_key 60 = .ok (.iinc 2 1, 3) := by decide +kernel
theorem dX1_key_63 : decode cX1_key 63 = .ok (.iinc 5 1, 3) := by decide +kernel
theorem dX1_key_66 : decode cX1_key 66 = .ok (.goto (-47), 3) := by decide +kernel
theorem dX1_key_69 : decode cX1_key 69 = .ok (.iload_n 2, 1) := by decide +kernel
theorem dX1_key_70 : decode cX1_key 70 = .ok (.ireturn, 1) := by decide +kernel
abbrev cX1_between : ByteArray := prog_1_method_4_code
def yX1_between : MethodName := ⟨RX1, "between", "(DDD)Z"⟩
theorem dX1_between_0 : decode cX1_between 0 = .ok (.dload_n 0, 1) := by decide +kernel
theorem dX1_between_1 : decode cX1_between 1 = .ok (.dload_n 2, 1) := by decide +kernel
theorem dX1_between_2 : decode cX1_between 2 = .ok (.dcmp .l, 1) := by decide +kernel
theorem dX1_between_3 : decode cX1_between 3 = .ok (.ifCond .lt 14, 3) := by decide +kernel
theorem dX1_between_6 : decode cX1_between 6 = .ok (.dload_n 0, 1) := by decide +kernel
theorem dX1_between_7 : decode cX1_between 7 = .ok (.dload 4, 2) := by decide +kernel
theorem dX1_between_9 : decode cX1_between 9 = .ok (.dcmp .g, 1) := by decide +kernel
theorem dX1_between_10 : decode cX1_between 10 = .ok (.ifCond .gt 7, 3) := by decide +kernel
theorem dX1_between_13 : decode cX1_between 13 = .ok (.iconst 1, 1) := by decide +kernel
theorem dX1_between_14 : decode cX1_between 14 = .ok (.goto 4, 3) := by decide +kernel
theorem dX1_between_17 : decode cX1_between 17 = .ok (.iconst 0, 1) := by decide +kernel
theorem dX1_between_18 : decode cX1_between 18 = .ok (.ireturn, 1) := by decide +kernel
abbrev cX1_count : ByteArray := prog_1_method_28_code
def yX1_count : MethodName := ⟨RX1, "count", "(I)I"⟩
theorem dX1_count_0 : decode cX1_count 0 = .ok (.iload_n 1, 1) := by decide +kernel
theorem dX1_count_1 : decode cX1_count 1 = .ok (.bipush 10, 2) := by decide +kernel
theorem dX1_count_3 : decode cX1_count 3 = .ok (.bipush 15, 2) := by decide +kernel
theorem dX1_count_5 : decode cX1_count 5 = .ok (.invokestatic 35, 3) := by decide +kernel
theorem dX1_count_8 : decode cX1_count 8 = .ok (.ifCond .eq 43, 3) := by decide +kernel
theorem dX1_count_11 : decode cX1_count 11 = .ok (.iload_n 1, 1) := by decide +kernel
theorem dX1_count_12 : decode cX1_count 12 = .ok (.bipush 10, 2) := by decide +kernel
theorem dX1_count_14 : decode cX1_count 14 = .ok (.isub, 1) := by decide +kernel
theorem dX1_count_15 : decode cX1_count 15 = .ok (.aload_n 0, 1) := by decide +kernel
theorem dX1_count_16 : decode cX1_count 16 = .ok (.getfield 26, 3) := by decide +kernel
theorem dX1_count_19 : decode cX1_count 19 = .ok (.invokevirtual 138, 3) := by decide +kernel
theorem dX1_count_22 : decode cX1_count 22 = .ok (.if_icmp .ge 27, 3) := by decide +kernel
theorem dX1_count_25 : decode cX1_count 25 = .ok (.aload_n 0, 1) := by decide +kernel
theorem dX1_count_26 : decode cX1_count 26 = .ok (.aload_n 0, 1) := by decide +kernel
theorem dX1_count_27 : decode cX1_count 27 = .ok (.getfield 26, 3) := by decide +kernel
theorem dX1_count_30 : decode cX1_count 30 = .ok (.iload_n 1, 1) := by decide +kernel
theorem dX1_count_31 : decode cX1_count 31 = .ok (.bipush 10, 2) := by decide +kernel
theorem dX1_count_33 : decode cX1_count 33 = .ok (.isub, 1) := by decide +kernel
theorem dX1_count_34 : decode cX1_count 34 = .ok (.invokevirtual 170, 3) := by decide +kernel
theorem dX1_count_37 : decode cX1_count 37 = .ok (.checkcast 57, 3) := by decide +kernel
theorem dX1_count_40 : decode cX1_count 40 = .ok (.getfield 59, 3) := by decide +kernel
theorem dX1_count_43 : decode cX1_count 43 = .ok (.invokevirtual 277, 3) := by decide +kernel
theorem dX1_count_46 : decode cX1_count 46 = .ok (.goto 4, 3) := by decide +kernel
theorem dX1_count_49 : decode cX1_count 49 = .ok (.iconst (-1), 1) := by decide +kernel
theorem dX1_count_50 : decode cX1_count 50 = .ok (.ireturn, 1) := by decide +kernel
theorem dX1_count_51 : decode cX1_count 51 = .ok (.iload_n 1, 1) := by decide +kernel
theorem dX1_count_52 : decode cX1_count 52 = .ok (.tableswitch 100 0 8 #[52, 57, 62, 67, 72, 77, 82, 90, 95], 52) := by decide +kernel
theorem dX1_count_104 : decode cX1_count 104 = .ok (.aload_n 0, 1) := by decide +kernel
theorem dX1_count_105 : decode cX1_count 105 = .ok (.getfield 251, 3) := by decide +kernel
theorem dX1_count_108 : decode cX1_count 108 = .ok (.ireturn, 1) := by decide +kernel
theorem dX1_count_109 : decode cX1_count 109 = .ok (.aload_n 0, 1) := by decide +kernel
theorem dX1_count_110 : decode cX1_count 110 = .ok (.getfield 163, 3) := by decide +kernel
theorem dX1_count_113 : decode cX1_count 113 = .ok (.ireturn, 1) := by decide +kernel
theorem dX1_count_114 : decode cX1_count 114 = .ok (.aload_n 0, 1) := by decide +kernel
theorem dX1_count_115 : decode cX1_count 115 = .ok (.getfield 193, 3) := by decide +kernel
theorem dX1_count_118 : decode cX1_count 118 = .ok (.ireturn, 1) := by decide +kernel
theorem dX1_count_119 : decode cX1_count 119 = .ok (.aload_n 0, 1) := by decide +kernel
theorem dX1_count_120 : decode cX1_count 120 = .ok (.getfield 185, 3) := by decide +kernel
theorem dX1_count_123 : decode cX1_count 123 = .ok (.ireturn, 1) := by decide +kernel
theorem dX1_count_124 : decode cX1_count 124 = .ok (.aload_n 0, 1) := by decide +kernel
theorem dX1_count_125 : decode cX1_count 125 = .ok (.getfield 233, 3) := by decide +kernel
theorem dX1_count_128 : decode cX1_count 128 = .ok (.ireturn, 1) := by decide +kernel
theorem dX1_count_129 : decode cX1_count 129 = .ok (.aload_n 0, 1) := by decide +kernel
theorem dX1_count_130 : decode cX1_count 130 = .ok (.getfield 245, 3) := by decide +kernel
theorem dX1_count_133 : decode cX1_count 133 = .ok (.ireturn, 1) := by decide +kernel
theorem dX1_count_134 : decode cX1_count 134 = .ok (.aload_n 0, 1) := by decide +kernel
theorem dX1_count_135 : decode cX1_count 135 = .ok (.getfield 26, 3) := by decide +kernel
theorem dX1_count_138 : decode cX1_count 138 = .ok (.invokevirtual 138, 3) := by decide +kernel
theorem dX1_count_141 : decode cX1_count 141 = .ok (.ireturn, 1) := by decide +kernel
theorem dX1_count_142 : decode cX1_count 142 = .ok (.aload_n 0, 1) := by decide +kernel
theorem dX1_count_143 : decode cX1_count 143 = .ok (.getfield 214, 3) := by decide +kernel
theorem dX1_count_146 : decode cX1_count 146 = .ok (.ireturn, 1) := by decide +kernel
theorem dX1_count_147 : decode cX1_count 147 = .ok (.aload_n 0, 1) := by decide +kernel
theorem dX1_count_148 : decode cX1_count 148 = .ok (.getfield 217, 3) := by decide +kernel
theorem dX1_count_151 : decode cX1_count 151 = .ok (.ireturn, 1) := by decide +kernel
theorem dX1_count_152 : decode cX1_count 152 = .ok (.bipush (-2), 2) := by decide +kernel
theorem dX1_count_154 : decode cX1_count 154 = .ok (.ireturn, 1) := by decide +kernel
