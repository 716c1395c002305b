/-! ThriftNodeLaw -/
set_option maxRecDepth 100000
def RX0 : String := "ThriftNodeLaw"
abbrev cX0_slot : ByteArray := method_3_code
def yX0_slot : MethodName := ⟨RX0, "slot", "(LThriftNode;I[J)I"⟩
abbrev cX0_kept : ByteArray := method_4_code
def yX0_kept : MethodName := ⟨RX0, "kept", "(LThriftNode;IZ[J)I"⟩
abbrev cX0_heard : ByteArray := method_5_code
def yX0_heard : MethodName := ⟨RX0, "heard", "(LThriftNode;I[J)I"⟩
theorem q37 : (Jvm.Cond.initialized "ThriftNodeLaw") ∈ lw_all := lw_g (lw_at lw_m1 0 rfl) rfl
theorem q74 : (Jvm.Cond.classLink "ThriftNodeLaw" (8 : Nat) "ThriftNode") ∈ lw_all := lw_g (lw_at lw_m1 37 rfl) rfl
theorem q76 : (Jvm.Cond.methodLink "ThriftNodeLaw" (26 : Nat) ({ cls := "ThriftNode", name := "<init>", desc := "()V" } : Jvm.MethodName)) ∈ lw_all := lw_g (lw_at lw_m1 39 rfl) rfl
theorem q731 : (Jvm.Cond.methodLink "ThriftNodeLaw" (30 : Nat) ({ cls := "ThriftNode", name := "program", desc := "(III)Z" } : Jvm.MethodName)) ∈ lw_all := lw_g (lw_at lw_m3 214 rfl) rfl
theorem q800 : (Jvm.Cond.methodLink "ThriftNodeLaw" (35 : Nat) ({ cls := "ThriftNode", name := "seal", desc := "()I" } : Jvm.MethodName)) ∈ lw_all := lw_g (lw_at lw_m4 43 rfl) rfl
theorem q821 : (Jvm.Cond.methodLink "ThriftNodeLaw" (49 : Nat) ({ cls := "ThriftNode", name := "cut", desc := "(I)Z" } : Jvm.MethodName)) ∈ lw_all := lw_g (lw_at lw_m4 64 rfl) rfl
theorem q825 : (Jvm.Cond.methodLink "ThriftNodeLaw" (54 : Nat) ({ cls := "ThriftNode", name := "sense", desc := "(II)Z" } : Jvm.MethodName)) ∈ lw_all := lw_g (lw_at lw_m4 68 rfl) rfl
theorem q829 : (Jvm.Cond.methodLink "ThriftNodeLaw" (63 : Nat) ({ cls := "ThriftNode", name := "aired", desc := "(II)I" } : Jvm.MethodName)) ∈ lw_all := lw_g (lw_at lw_m4 72 rfl) rfl
theorem q833 : (Jvm.Cond.methodLink "ThriftNodeLaw" (71 : Nat) ({ cls := "ThriftNode", name := "state", desc := "(I)I" } : Jvm.MethodName)) ∈ lw_all := lw_g (lw_at lw_m4 76 rfl) rfl
theorem q841 : (Jvm.Cond.methodLink "ThriftNodeLaw" (75 : Nat) ({ cls := "ThriftNode", name := "task", desc := "(II)I" } : Jvm.MethodName)) ∈ lw_all := lw_g (lw_at lw_m4 84 rfl) rfl
theorem q845 : (Jvm.Cond.methodLink "ThriftNodeLaw" (79 : Nat) ({ cls := "ThriftNode", name := "register", desc := "(I)I" } : Jvm.MethodName)) ∈ lw_all := lw_g (lw_at lw_m4 88 rfl) rfl
theorem q849 : (Jvm.Cond.methodLink "ThriftNodeLaw" (40 : Nat) ({ cls := "ThriftNodeLaw", name := "slot", desc := "(LThriftNode;I[J)I" } : Jvm.MethodName)) ∈ lw_all := lw_g (lw_at lw_m4 92 rfl) rfl
theorem q850 : (Jvm.Cond.static ({ cls := "ThriftNodeLaw", name := "slot", desc := "(LThriftNode;I[J)I" } : Jvm.MethodName)) ∈ lw_all := lw_g (lw_at lw_m4 93 rfl) rfl
theorem q851 : (Jvm.Cond.codeWith ({ cls := "ThriftNodeLaw", name := "slot", desc := "(LThriftNode;I[J)I" } : Jvm.MethodName) method_3_code (4 : Nat) (Option.some Jvm.ClassFile.FieldType.int) [((0 : Nat), (9 : Nat), (12 : Nat), (13 : Nat)), ((0 : Nat), (9 : Nat), (15 : Nat), (15 : Nat))]) ∈ lw_all := lw_g (lw_at lw_m4 94 rfl) rfl
theorem q852 : (Jvm.Cond.classLink "ThriftNodeLaw" (13 : Nat) "java/lang/IllegalStateException") ∈ lw_all := lw_g (lw_at lw_m4 95 rfl) rfl
theorem q853 : (Jvm.Cond.classLink "ThriftNodeLaw" (15 : Nat) "java/lang/IllegalArgumentException") ∈ lw_all := lw_g (lw_at lw_m4 96 rfl) rfl
theorem q854 : (Jvm.Cond.methodLink "ThriftNodeLaw" (7 : Nat) ({ cls := "ThriftNode", name := "slot", desc := "(I)I" } : Jvm.MethodName)) ∈ lw_all := lw_g (lw_at lw_m4 97 rfl) rfl
theorem q1039 : (Jvm.Cond.methodLink "ThriftNodeLaw" (59 : Nat) ({ cls := "ThriftNodeLaw", name := "kept", desc := "(LThriftNode;IZ[J)I" } : Jvm.MethodName)) ∈ lw_all := lw_g (lw_at lw_m5 42 rfl) rfl
theorem q1040 : (Jvm.Cond.static ({ cls := "ThriftNodeLaw", name := "kept", desc := "(LThriftNode;IZ[J)I" } : Jvm.MethodName)) ∈ lw_all := lw_g (lw_at lw_m5 43 rfl) rfl
theorem q1041 : (Jvm.Cond.codeWith ({ cls := "ThriftNodeLaw", name := "kept", desc := "(LThriftNode;IZ[J)I" } : Jvm.MethodName) method_4_code (5 : Nat) (Option.some Jvm.ClassFile.FieldType.int) [((0 : Nat), (10 : Nat), (13 : Nat), (21 : Nat))]) ∈ lw_all := lw_g (lw_at lw_m5 44 rfl) rfl
theorem q1042 : (Jvm.Cond.classLink "ThriftNodeLaw" (21 : Nat) "java/lang/IndexOutOfBoundsException") ∈ lw_all := lw_g (lw_at lw_m5 45 rfl) rfl
theorem q1061 : (Jvm.Cond.methodLink "ThriftNodeLaw" (17 : Nat) ({ cls := "ThriftNode", name := "kept", desc := "(IZ)I" } : Jvm.MethodName)) ∈ lw_all := lw_g (lw_at lw_m5 64 rfl) rfl
theorem q1080 : (Jvm.Cond.methodLink "ThriftNodeLaw" (68 : Nat) ({ cls := "ThriftNodeLaw", name := "heard", desc := "(LThriftNode;I[J)I" } : Jvm.MethodName)) ∈ lw_all := lw_g (lw_at lw_m5 83 rfl) rfl
theorem q1081 : (Jvm.Cond.static ({ cls := "ThriftNodeLaw", name := "heard", desc := "(LThriftNode;I[J)I" } : Jvm.MethodName)) ∈ lw_all := lw_g (lw_at lw_m5 84 rfl) rfl
theorem q1082 : (Jvm.Cond.codeWith ({ cls := "ThriftNodeLaw", name := "heard", desc := "(LThriftNode;I[J)I" } : Jvm.MethodName) method_5_code (4 : Nat) (Option.some Jvm.ClassFile.FieldType.int) [((0 : Nat), (9 : Nat), (12 : Nat), (21 : Nat))]) ∈ lw_all := lw_g (lw_at lw_m5 85 rfl) rfl
theorem q1083 : (Jvm.Cond.methodLink "ThriftNodeLaw" (23 : Nat) ({ cls := "ThriftNode", name := "heard", desc := "(I)I" } : Jvm.MethodName)) ∈ lw_all := lw_g (lw_at lw_m5 86 rfl) rfl
theorem q1091 : (Jvm.Cond.classLink "ThriftNodeLaw" (27 : Nat) "ThriftNodeModel") ∈ lw_all := lw_g (lw_at lw_m5 94 rfl) rfl
theorem q1093 : (Jvm.Cond.methodLink "ThriftNodeLaw" (29 : Nat) ({ cls := "ThriftNodeModel", name := "<init>", desc := "()V" } : Jvm.MethodName)) ∈ lw_all := lw_g (lw_at lw_m5 96 rfl) rfl
theorem q1194 : (Jvm.Cond.methodLink "ThriftNodeLaw" (46 : Nat) ({ cls := "ThriftNodeModel", name := "thrown", desc := "()I" } : Jvm.MethodName)) ∈ lw_all := lw_g (lw_at lw_m5 197 rfl) rfl
theorem q1198 : (Jvm.Cond.methodLink "ThriftNodeLaw" (34 : Nat) ({ cls := "ThriftNodeModel", name := "program", desc := "(III)Z" } : Jvm.MethodName)) ∈ lw_all := lw_g (lw_at lw_m5 201 rfl) rfl
theorem q1205 : (Jvm.Cond.methodLink "ThriftNodeLaw" (39 : Nat) ({ cls := "ThriftNodeModel", name := "seal", desc := "()I" } : Jvm.MethodName)) ∈ lw_all := lw_g (lw_at lw_m5 208 rfl) rfl
theorem q1225 : (Jvm.Cond.methodLink "ThriftNodeLaw" (45 : Nat) ({ cls := "ThriftNodeModel", name := "slot", desc := "(I)I" } : Jvm.MethodName)) ∈ lw_all := lw_g (lw_at lw_m5 228 rfl) rfl
theorem q1300 : (Jvm.Cond.methodLink "ThriftNodeLaw" (53 : Nat) ({ cls := "ThriftNodeModel", name := "cut", desc := "(I)Z" } : Jvm.MethodName)) ∈ lw_all := lw_g (lw_at lw_m6 63 rfl) rfl
theorem q1304 : (Jvm.Cond.methodLink "ThriftNodeLaw" (58 : Nat) ({ cls := "ThriftNodeModel", name := "sense", desc := "(II)Z" } : Jvm.MethodName)) ∈ lw_all := lw_g (lw_at lw_m6 67 rfl) rfl
theorem q1308 : (Jvm.Cond.methodLink "ThriftNodeLaw" (62 : Nat) ({ cls := "ThriftNodeModel", name := "kept", desc := "(IZ)I" } : Jvm.MethodName)) ∈ lw_all := lw_g (lw_at lw_m6 71 rfl) rfl
theorem q1316 : (Jvm.Cond.methodLink "ThriftNodeLaw" (67 : Nat) ({ cls := "ThriftNodeModel", name := "aired", desc := "(II)I" } : Jvm.MethodName)) ∈ lw_all := lw_g (lw_at lw_m6 79 rfl) rfl
theorem q1320 : (Jvm.Cond.methodLink "ThriftNodeLaw" (70 : Nat) ({ cls := "ThriftNodeModel", name := "heard", desc := "(I)I" } : Jvm.MethodName)) ∈ lw_all := lw_g (lw_at lw_m6 83 rfl) rfl
theorem q1324 : (Jvm.Cond.methodLink "ThriftNodeLaw" (74 : Nat) ({ cls := "ThriftNodeModel", name := "state", desc := "(I)I" } : Jvm.MethodName)) ∈ lw_all := lw_g (lw_at lw_m6 87 rfl) rfl
theorem q1328 : (Jvm.Cond.methodLink "ThriftNodeLaw" (78 : Nat) ({ cls := "ThriftNodeModel", name := "task", desc := "(II)I" } : Jvm.MethodName)) ∈ lw_all := lw_g (lw_at lw_m6 91 rfl) rfl
theorem q1332 : (Jvm.Cond.methodLink "ThriftNodeLaw" (82 : Nat) ({ cls := "ThriftNodeModel", name := "register", desc := "(I)I" } : Jvm.MethodName)) ∈ lw_all := lw_g (lw_at lw_m6 95 rfl) rfl

/-! ThriftNode -/
set_option maxRecDepth 100000
def RX1 : String := "ThriftNode"
def TX1 : u_T := fun k => match k with
  | _ => ("ThriftNode", "node", "LThriftNode$Node;", true)
def tyX1 : Nat → FieldType := fun k => match k with
  | _ => .object "ThriftNode$Node"
abbrev wsX10 : List Cond := u_ws RX1 TX1 1
theorem nmX1 : ∀ a, a < 1 → ∀ b, b < 1 → a ≠ b → (TX1 a).2.1 ≠ (TX1 b).2.1 := by decide +kernel
theorem tyX1_ok : ∀ k, k < 1 → parseFieldDescriptor (TX1 k).2.2.1 = some (tyX1 k) := by decide +kernel
abbrev cX1_init : ByteArray := prog_1_method_1_code
def yX1_init : MethodName := ⟨RX1, "<init>", "()V"⟩
abbrev cX1_program : ByteArray := prog_1_method_3_code
def yX1_program : MethodName := ⟨RX1, "program", "(III)Z"⟩
abbrev cX1_isTask : ByteArray := prog_1_method_2_code
def yX1_isTask : MethodName := ⟨RX1, "isTask", "(I)Z"⟩
abbrev cX1_seal : ByteArray := prog_1_method_4_code
def yX1_seal : MethodName := ⟨RX1, "seal", "()I"⟩
abbrev cX1_cut : ByteArray := prog_1_method_6_code
def yX1_cut : MethodName := ⟨RX1, "cut", "(I)Z"⟩
abbrev cX1_sense : ByteArray := prog_1_method_7_code
def yX1_sense : MethodName := ⟨RX1, "sense", "(II)Z"⟩
abbrev cX1_aired : ByteArray := prog_1_method_9_code
def yX1_aired : MethodName := ⟨RX1, "aired", "(II)I"⟩
abbrev cX1_state : ByteArray := prog_1_method_11_code
def yX1_state : MethodName := ⟨RX1, "state", "(I)I"⟩
abbrev cX1_task : ByteArray := prog_1_method_12_code
def yX1_task : MethodName := ⟨RX1, "task", "(II)I"⟩
abbrev cX1_register : ByteArray := prog_1_method_13_code
def yX1_register : MethodName := ⟨RX1, "register", "(I)I"⟩
abbrev cX1_slot : ByteArray := prog_1_method_5_code
def yX1_slot : MethodName := ⟨RX1, "slot", "(I)I"⟩
abbrev cX1_kept : ByteArray := prog_1_method_8_code
def yX1_kept : MethodName := ⟨RX1, "kept", "(IZ)I"⟩
abbrev cX1_heard : ByteArray := prog_1_method_10_code
def yX1_heard : MethodName := ⟨RX1, "heard", "(I)I"⟩
theorem q38 : (Jvm.Cond.initialized "ThriftNode") ∈ lw_all := lw_g (lw_at lw_m1 1 rfl) rfl
theorem q75 : (Jvm.Cond.instantiable "ThriftNode" (1 : Nat)) ∈ lw_all := lw_g (lw_at lw_m1 38 rfl) rfl
theorem q77 : (Jvm.Cond.instanceMethod ({ cls := "ThriftNode", name := "<init>", desc := "()V" } : Jvm.MethodName)) ∈ lw_all := lw_g (lw_at lw_m1 40 rfl) rfl
theorem q78 : (Jvm.Cond.code ({ cls := "ThriftNode", name := "<init>", desc := "()V" } : Jvm.MethodName) prog_1_method_1_code (1 : Nat) (Option.none : Option Jvm.ClassFile.FieldType)) ∈ lw_all := lw_g (lw_at lw_m1 41 rfl) rfl
theorem q79 : (Jvm.Cond.methodLink "ThriftNode" (1 : Nat) ({ cls := "java/lang/Object", name := "<init>", desc := "()V" } : Jvm.MethodName)) ∈ lw_all := lw_g (lw_at lw_m1 42 rfl) rfl
theorem q82 : (Jvm.Cond.classLink "ThriftNode" (7 : Nat) "ThriftNode$Node") ∈ lw_all := lw_g (lw_at lw_m1 45 rfl) rfl
theorem q84 : (Jvm.Cond.methodLinkNest "ThriftNode" (9 : Nat) ({ cls := "ThriftNode$Node", name := "<init>", desc := "()V" } : Jvm.MethodName) "ThriftNode") ∈ lw_tbl := lw_at lw_m1 47 rfl
theorem q101 : (Jvm.Cond.fieldLinkNest "ThriftNode" (91 : Nat) "ThriftNode$Kept" "words" "[I" "ThriftNode") ∈ lw_tbl := lw_at lw_m1 64 rfl
theorem q103 : (Jvm.Cond.fieldLinkNest "ThriftNode" (88 : Nat) "ThriftNode$Kept" "wear" "[I" "ThriftNode") ∈ lw_tbl := lw_at lw_m1 66 rfl
theorem q124 : (Jvm.Cond.fieldLinkNest "ThriftNode" (137 : Nat) "ThriftNode$Pending" "many" "I" "ThriftNode") ∈ lw_tbl := lw_at lw_m1 87 rfl
theorem q506 : (Jvm.Cond.selects "ThriftNode" ({ cls := "java/lang/Object", name := "getClass", desc := "()Ljava/lang/Class;" } : Jvm.MethodName) ({ cls := "java/lang/Object", name := "getClass", desc := "()Ljava/lang/Class;" } : Jvm.MethodName)) ∈ lw_all := lw_g (lw_at lw_m2 229 rfl) rfl
theorem q533 : (Jvm.Cond.fieldLinkNest "ThriftNode" (40 : Nat) "ThriftNode$Program" "tasks" "Ljava/util/ArrayList;" "ThriftNode") ∈ lw_tbl := lw_at lw_m3 16 rfl
theorem q534 : (Jvm.Cond.fieldLinkNest "ThriftNode" (20 : Nat) "ThriftNode$Program" "isSealed" "Z" "ThriftNode") ∈ lw_tbl := lw_at lw_m3 17 rfl
theorem q548 : (Jvm.Cond.fieldLinkNest "ThriftNode" (103 : Nat) "ThriftNode$Air" "numbers" "[I" "ThriftNode") ∈ lw_tbl := lw_at lw_m3 31 rfl
theorem q550 : (Jvm.Cond.fieldLinkNest "ThriftNode" (106 : Nat) "ThriftNode$Air" "payloads" "[I" "ThriftNode") ∈ lw_tbl := lw_at lw_m3 33 rfl
theorem q552 : (Jvm.Cond.fieldLinkNest "ThriftNode" (112 : Nat) "ThriftNode$Air" "kept" "[I" "ThriftNode") ∈ lw_tbl := lw_at lw_m3 35 rfl
theorem q554 : (Jvm.Cond.fieldLinkNest "ThriftNode" (100 : Nat) "ThriftNode$Air" "many" "I" "ThriftNode") ∈ lw_tbl := lw_at lw_m3 37 rfl
theorem q611 : (Jvm.Cond.fieldLinkNest "ThriftNode" (144 : Nat) "ThriftNode$Run" "next" "I" "ThriftNode") ∈ lw_tbl := lw_at lw_m3 94 rfl
theorem q635 : (Jvm.Cond.fieldLinkNest "ThriftNode" (84 : Nat) "ThriftNode$Node" "kept" "LThriftNode$Kept;" "ThriftNode") ∈ lw_tbl := lw_at lw_m3 118 rfl
theorem q639 : (Jvm.Cond.fieldLinkNest "ThriftNode" (133 : Nat) "ThriftNode$Node" "pending" "LThriftNode$Pending;" "ThriftNode") ∈ lw_tbl := lw_at lw_m3 122 rfl
theorem q641 : (Jvm.Cond.fieldLinkNest "ThriftNode" (16 : Nat) "ThriftNode$Node" "program" "LThriftNode$Program;" "ThriftNode") ∈ lw_tbl := lw_at lw_m3 124 rfl
theorem q645 : (Jvm.Cond.fieldLinkNest "ThriftNode" (94 : Nat) "ThriftNode$Node" "outside" "LThriftNode$Air;" "ThriftNode") ∈ lw_tbl := lw_at lw_m3 128 rfl
theorem q648 : (Jvm.Cond.fieldLinkNest "ThriftNode" (164 : Nat) "ThriftNode$Node" "registers" "[I" "ThriftNode") ∈ lw_tbl := lw_at lw_m3 131 rfl
theorem q651 : (Jvm.Cond.fieldLinkNest "ThriftNode" (75 : Nat) "ThriftNode$Node" "sensors" "[I" "ThriftNode") ∈ lw_tbl := lw_at lw_m3 134 rfl
theorem q653 : (Jvm.Cond.fieldLinkNest "ThriftNode" (158 : Nat) "ThriftNode$Node" "estimates" "[I" "ThriftNode") ∈ lw_tbl := lw_at lw_m3 136 rfl
theorem q655 : (Jvm.Cond.fieldLinkNest "ThriftNode" (161 : Nat) "ThriftNode$Node" "failures" "[I" "ThriftNode") ∈ lw_tbl := lw_at lw_m3 138 rfl
theorem q660 : (Jvm.Cond.fieldLinkNest "ThriftNode" (129 : Nat) "ThriftNode$Node" "run" "LThriftNode$Run;" "ThriftNode") ∈ lw_tbl := lw_at lw_m3 143 rfl
theorem q663 : (Jvm.Cond.fieldLinkNest "ThriftNode" (140 : Nat) "ThriftNode$Node" "commit" "LThriftNode$Commit;" "ThriftNode") ∈ lw_tbl := lw_at lw_m3 146 rfl
theorem q667 : (Jvm.Cond.fieldLinkNest "ThriftNode" (125 : Nat) "ThriftNode$Node" "stage" "LThriftNode$Stage;" "ThriftNode") ∈ lw_tbl := lw_at lw_m3 150 rfl
theorem q669 : (Jvm.Cond.fieldLinkNest "ThriftNode" (117 : Nat) "ThriftNode$Node" "energy" "I" "ThriftNode") ∈ lw_tbl := lw_at lw_m3 152 rfl
theorem q672 : (Jvm.Cond.fieldLinkNest "ThriftNode" (120 : Nat) "ThriftNode$Node" "slot" "I" "ThriftNode") ∈ lw_tbl := lw_at lw_m3 155 rfl
theorem q674 : (Jvm.Cond.fieldLinkNest "ThriftNode" (122 : Nat) "ThriftNode$Node" "spent" "I" "ThriftNode") ∈ lw_tbl := lw_at lw_m3 157 rfl
theorem q675 : (Jvm.Cond.fieldLinkNest "ThriftNode" (71 : Nat) "ThriftNode$Node" "cut" "I" "ThriftNode") ∈ lw_tbl := lw_at lw_m3 158 rfl
theorem q678 : (Jvm.Cond.fieldLinkNest "ThriftNode" (149 : Nat) "ThriftNode$Node" "given" "I" "ThriftNode") ∈ lw_tbl := lw_at lw_m3 161 rfl
theorem q680 : (Jvm.Cond.fieldLinkNest "ThriftNode" (152 : Nat) "ThriftNode$Node" "failed" "I" "ThriftNode") ∈ lw_tbl := lw_at lw_m3 163 rfl
theorem q682 : (Jvm.Cond.fieldLinkNest "ThriftNode" (155 : Nat) "ThriftNode$Node" "abandoned" "I" "ThriftNode") ∈ lw_tbl := lw_at lw_m3 165 rfl
theorem q727 : (Jvm.Cond.fieldLink "ThriftNode" (10 : Nat) "ThriftNode" "node" "LThriftNode$Node;") ∈ lw_all := lw_g (lw_at lw_m3 210 rfl) rfl
theorem q728 : (Jvm.Cond.laysFinal "ThriftNode" "ThriftNode" "node" "LThriftNode$Node;") ∈ lw_all := lw_g (lw_at lw_m3 211 rfl) rfl
theorem q729 : (Jvm.Cond.soleField "ThriftNode" "node") ∈ lw_all := lw_g (lw_at lw_m3 212 rfl) rfl
theorem q730 : (Jvm.Cond.superclass "ThriftNode" "java/lang/Object") ∈ lw_all := lw_g (lw_at lw_m3 213 rfl) rfl
theorem q732 : (Jvm.Cond.instanceMethod ({ cls := "ThriftNode", name := "program", desc := "(III)Z" } : Jvm.MethodName)) ∈ lw_all := lw_g (lw_at lw_m3 215 rfl) rfl
theorem q733 : (Jvm.Cond.selects "ThriftNode" ({ cls := "ThriftNode", name := "program", desc := "(III)Z" } : Jvm.MethodName) ({ cls := "ThriftNode", name := "program", desc := "(III)Z" } : Jvm.MethodName)) ∈ lw_all := lw_g (lw_at lw_m3 216 rfl) rfl
theorem q734 : (Jvm.Cond.code ({ cls := "ThriftNode", name := "program", desc := "(III)Z" } : Jvm.MethodName) prog_1_method_3_code (5 : Nat) (Option.some Jvm.ClassFile.FieldType.boolean)) ∈ lw_all := lw_g (lw_at lw_m3 217 rfl) rfl
theorem q735 : (Jvm.Cond.methodLink "ThriftNode" (26 : Nat) ({ cls := "ThriftNode", name := "isTask", desc := "(I)Z" } : Jvm.MethodName)) ∈ lw_all := lw_g (lw_at lw_m3 218 rfl) rfl
theorem q736 : (Jvm.Cond.static ({ cls := "ThriftNode", name := "isTask", desc := "(I)Z" } : Jvm.MethodName)) ∈ lw_all := lw_g (lw_at lw_m3 219 rfl) rfl
theorem q737 : (Jvm.Cond.code ({ cls := "ThriftNode", name := "isTask", desc := "(I)Z" } : Jvm.MethodName) prog_1_method_2_code (1 : Nat) (Option.some Jvm.ClassFile.FieldType.boolean)) ∈ lw_all := lw_g (lw_at lw_m3 220 rfl) rfl
theorem q738 : (Jvm.Cond.methodLink "ThriftNode" (30 : Nat) ({ cls := "ThriftNode$Program", name := "size", desc := "(I)I" } : Jvm.MethodName)) ∈ lw_all := lw_g (lw_at lw_m3 221 rfl) rfl
theorem q760 : (Jvm.Cond.methodLink "ThriftNode" (34 : Nat) ({ cls := "ThriftNode$Instruction", name := "of", desc := "(I)LThriftNode$Instruction;" } : Jvm.MethodName)) ∈ lw_all := lw_g (lw_at lw_m4 3 rfl) rfl
theorem q793 : (Jvm.Cond.methodLink "ThriftNode" (44 : Nat) ({ cls := "java/util/ArrayList", name := "get", desc := "(I)Ljava/lang/Object;" } : Jvm.MethodName)) ∈ lw_all := lw_g (lw_at lw_m4 36 rfl) rfl
theorem q794 : (Jvm.Cond.classLink "ThriftNode" (45 : Nat) "java/util/ArrayList") ∈ lw_all := lw_g (lw_at lw_m4 37 rfl) rfl
theorem q795 : (Jvm.Cond.methodLink "ThriftNode" (50 : Nat) ({ cls := "java/util/ArrayList", name := "add", desc := "(Ljava/lang/Object;)Z" } : Jvm.MethodName)) ∈ lw_all := lw_g (lw_at lw_m4 38 rfl) rfl
theorem q796 : (Jvm.Cond.methodLink "ThriftNode" (54 : Nat) ({ cls := "java/util/ArrayList", name := "set", desc := "(ILjava/lang/Object;)Ljava/lang/Object;" } : Jvm.MethodName)) ∈ lw_all := lw_g (lw_at lw_m4 39 rfl) rfl
theorem q801 : (Jvm.Cond.instanceMethod ({ cls := "ThriftNode", name := "seal", desc := "()I" } : Jvm.MethodName)) ∈ lw_all := lw_g (lw_at lw_m4 44 rfl) rfl
theorem q802 : (Jvm.Cond.selects "ThriftNode" ({ cls := "ThriftNode", name := "seal", desc := "()I" } : Jvm.MethodName) ({ cls := "ThriftNode", name := "seal", desc := "()I" } : Jvm.MethodName)) ∈ lw_all := lw_g (lw_at lw_m4 45 rfl) rfl
theorem q803 : (Jvm.Cond.code ({ cls := "ThriftNode", name := "seal", desc := "()I" } : Jvm.MethodName) prog_1_method_4_code (1 : Nat) (Option.some Jvm.ClassFile.FieldType.int)) ∈ lw_all := lw_g (lw_at lw_m4 46 rfl) rfl
theorem q804 : (Jvm.Cond.methodLink "ThriftNode" (58 : Nat) ({ cls := "ThriftNode$Program", name := "seal", desc := "()I" } : Jvm.MethodName)) ∈ lw_all := lw_g (lw_at lw_m4 47 rfl) rfl
theorem q822 : (Jvm.Cond.instanceMethod ({ cls := "ThriftNode", name := "cut", desc := "(I)Z" } : Jvm.MethodName)) ∈ lw_all := lw_g (lw_at lw_m4 65 rfl) rfl
theorem q823 : (Jvm.Cond.selects "ThriftNode" ({ cls := "ThriftNode", name := "cut", desc := "(I)Z" } : Jvm.MethodName) ({ cls := "ThriftNode", name := "cut", desc := "(I)Z" } : Jvm.MethodName)) ∈ lw_all := lw_g (lw_at lw_m4 66 rfl) rfl
theorem q824 : (Jvm.Cond.code ({ cls := "ThriftNode", name := "cut", desc := "(I)Z" } : Jvm.MethodName) prog_1_method_6_code (2 : Nat) (Option.some Jvm.ClassFile.FieldType.boolean)) ∈ lw_all := lw_g (lw_at lw_m4 67 rfl) rfl
theorem q826 : (Jvm.Cond.instanceMethod ({ cls := "ThriftNode", name := "sense", desc := "(II)Z" } : Jvm.MethodName)) ∈ lw_all := lw_g (lw_at lw_m4 69 rfl) rfl
theorem q827 : (Jvm.Cond.selects "ThriftNode" ({ cls := "ThriftNode", name := "sense", desc := "(II)Z" } : Jvm.MethodName) ({ cls := "ThriftNode", name := "sense", desc := "(II)Z" } : Jvm.MethodName)) ∈ lw_all := lw_g (lw_at lw_m4 70 rfl) rfl
theorem q828 : (Jvm.Cond.code ({ cls := "ThriftNode", name := "sense", desc := "(II)Z" } : Jvm.MethodName) prog_1_method_7_code (3 : Nat) (Option.some Jvm.ClassFile.FieldType.boolean)) ∈ lw_all := lw_g (lw_at lw_m4 71 rfl) rfl
theorem q830 : (Jvm.Cond.instanceMethod ({ cls := "ThriftNode", name := "aired", desc := "(II)I" } : Jvm.MethodName)) ∈ lw_all := lw_g (lw_at lw_m4 73 rfl) rfl
theorem q831 : (Jvm.Cond.selects "ThriftNode" ({ cls := "ThriftNode", name := "aired", desc := "(II)I" } : Jvm.MethodName) ({ cls := "ThriftNode", name := "aired", desc := "(II)I" } : Jvm.MethodName)) ∈ lw_all := lw_g (lw_at lw_m4 74 rfl) rfl
theorem q832 : (Jvm.Cond.code ({ cls := "ThriftNode", name := "aired", desc := "(II)I" } : Jvm.MethodName) prog_1_method_9_code (5 : Nat) (Option.some Jvm.ClassFile.FieldType.int)) ∈ lw_all := lw_g (lw_at lw_m4 75 rfl) rfl
theorem q834 : (Jvm.Cond.instanceMethod ({ cls := "ThriftNode", name := "state", desc := "(I)I" } : Jvm.MethodName)) ∈ lw_all := lw_g (lw_at lw_m4 77 rfl) rfl
theorem q835 : (Jvm.Cond.selects "ThriftNode" ({ cls := "ThriftNode", name := "state", desc := "(I)I" } : Jvm.MethodName) ({ cls := "ThriftNode", name := "state", desc := "(I)I" } : Jvm.MethodName)) ∈ lw_all := lw_g (lw_at lw_m4 78 rfl) rfl
theorem q836 : (Jvm.Cond.code ({ cls := "ThriftNode", name := "state", desc := "(I)I" } : Jvm.MethodName) prog_1_method_11_code (2 : Nat) (Option.some Jvm.ClassFile.FieldType.int)) ∈ lw_all := lw_g (lw_at lw_m4 79 rfl) rfl
theorem q837 : (Jvm.Cond.methodLink "ThriftNode" (114 : Nat) ({ cls := "ThriftNode$Node", name := "phase", desc := "()I" } : Jvm.MethodName)) ∈ lw_all := lw_g (lw_at lw_m4 80 rfl) rfl
theorem q842 : (Jvm.Cond.instanceMethod ({ cls := "ThriftNode", name := "task", desc := "(II)I" } : Jvm.MethodName)) ∈ lw_all := lw_g (lw_at lw_m4 85 rfl) rfl
theorem q843 : (Jvm.Cond.selects "ThriftNode" ({ cls := "ThriftNode", name := "task", desc := "(II)I" } : Jvm.MethodName) ({ cls := "ThriftNode", name := "task", desc := "(II)I" } : Jvm.MethodName)) ∈ lw_all := lw_g (lw_at lw_m4 86 rfl) rfl
theorem q844 : (Jvm.Cond.code ({ cls := "ThriftNode", name := "task", desc := "(II)I" } : Jvm.MethodName) prog_1_method_12_code (3 : Nat) (Option.some Jvm.ClassFile.FieldType.int)) ∈ lw_all := lw_g (lw_at lw_m4 87 rfl) rfl
theorem q846 : (Jvm.Cond.instanceMethod ({ cls := "ThriftNode", name := "register", desc := "(I)I" } : Jvm.MethodName)) ∈ lw_all := lw_g (lw_at lw_m4 89 rfl) rfl
theorem q847 : (Jvm.Cond.selects "ThriftNode" ({ cls := "ThriftNode", name := "register", desc := "(I)I" } : Jvm.MethodName) ({ cls := "ThriftNode", name := "register", desc := "(I)I" } : Jvm.MethodName)) ∈ lw_all := lw_g (lw_at lw_m4 90 rfl) rfl
theorem q848 : (Jvm.Cond.code ({ cls := "ThriftNode", name := "register", desc := "(I)I" } : Jvm.MethodName) prog_1_method_13_code (2 : Nat) (Option.some Jvm.ClassFile.FieldType.int)) ∈ lw_all := lw_g (lw_at lw_m4 91 rfl) rfl
theorem q855 : (Jvm.Cond.instanceMethod ({ cls := "ThriftNode", name := "slot", desc := "(I)I" } : Jvm.MethodName)) ∈ lw_all := lw_g (lw_at lw_m4 98 rfl) rfl
theorem q856 : (Jvm.Cond.selects "ThriftNode" ({ cls := "ThriftNode", name := "slot", desc := "(I)I" } : Jvm.MethodName) ({ cls := "ThriftNode", name := "slot", desc := "(I)I" } : Jvm.MethodName)) ∈ lw_all := lw_g (lw_at lw_m4 99 rfl) rfl
theorem q857 : (Jvm.Cond.code ({ cls := "ThriftNode", name := "slot", desc := "(I)I" } : Jvm.MethodName) prog_1_method_5_code (2 : Nat) (Option.some Jvm.ClassFile.FieldType.int)) ∈ lw_all := lw_g (lw_at lw_m4 100 rfl) rfl
theorem q858 : (Jvm.Cond.classLink "ThriftNode" (62 : Nat) "java/lang/IllegalStateException") ∈ lw_all := lw_g (lw_at lw_m4 101 rfl) rfl
theorem q867 : (Jvm.Cond.methodLink "ThriftNode" (64 : Nat) ({ cls := "java/lang/IllegalStateException", name := "<init>", desc := "()V" } : Jvm.MethodName)) ∈ lw_all := lw_g (lw_at lw_m4 110 rfl) rfl
theorem q879 : (Jvm.Cond.classLink "ThriftNode" (65 : Nat) "java/lang/IllegalArgumentException") ∈ lw_all := lw_g (lw_at lw_m4 122 rfl) rfl
theorem q880 : (Jvm.Cond.methodLink "ThriftNode" (67 : Nat) ({ cls := "java/lang/IllegalArgumentException", name := "<init>", desc := "()V" } : Jvm.MethodName)) ∈ lw_all := lw_g (lw_at lw_m4 123 rfl) rfl
theorem q884 : (Jvm.Cond.methodLink "ThriftNode" (68 : Nat) ({ cls := "ThriftNode$Node", name := "slot", desc := "(I)I" } : Jvm.MethodName)) ∈ lw_all := lw_g (lw_at lw_m4 127 rfl) rfl
theorem q1062 : (Jvm.Cond.instanceMethod ({ cls := "ThriftNode", name := "kept", desc := "(IZ)I" } : Jvm.MethodName)) ∈ lw_all := lw_g (lw_at lw_m5 65 rfl) rfl
theorem q1063 : (Jvm.Cond.selects "ThriftNode" ({ cls := "ThriftNode", name := "kept", desc := "(IZ)I" } : Jvm.MethodName) ({ cls := "ThriftNode", name := "kept", desc := "(IZ)I" } : Jvm.MethodName)) ∈ lw_all := lw_g (lw_at lw_m5 66 rfl) rfl
theorem q1064 : (Jvm.Cond.code ({ cls := "ThriftNode", name := "kept", desc := "(IZ)I" } : Jvm.MethodName) prog_1_method_8_code (3 : Nat) (Option.some Jvm.ClassFile.FieldType.int)) ∈ lw_all := lw_g (lw_at lw_m5 67 rfl) rfl
theorem q1065 : (Jvm.Cond.classLink "ThriftNode" (81 : Nat) "java/lang/IndexOutOfBoundsException") ∈ lw_all := lw_g (lw_at lw_m5 68 rfl) rfl
theorem q1074 : (Jvm.Cond.methodLink "ThriftNode" (83 : Nat) ({ cls := "java/lang/IndexOutOfBoundsException", name := "<init>", desc := "()V" } : Jvm.MethodName)) ∈ lw_all := lw_g (lw_at lw_m5 77 rfl) rfl
theorem q1084 : (Jvm.Cond.instanceMethod ({ cls := "ThriftNode", name := "heard", desc := "(I)I" } : Jvm.MethodName)) ∈ lw_all := lw_g (lw_at lw_m5 87 rfl) rfl
theorem q1085 : (Jvm.Cond.selects "ThriftNode" ({ cls := "ThriftNode", name := "heard", desc := "(I)I" } : Jvm.MethodName) ({ cls := "ThriftNode", name := "heard", desc := "(I)I" } : Jvm.MethodName)) ∈ lw_all := lw_g (lw_at lw_m5 88 rfl) rfl
theorem q1086 : (Jvm.Cond.code ({ cls := "ThriftNode", name := "heard", desc := "(I)I" } : Jvm.MethodName) prog_1_method_10_code (2 : Nat) (Option.some Jvm.ClassFile.FieldType.int)) ∈ lw_all := lw_g (lw_at lw_m5 89 rfl) rfl
theorem q1087 : (Jvm.Cond.methodLink "ThriftNode" (109 : Nat) ({ cls := "ThriftNode$Air", name := "keeps", desc := "(I)Z" } : Jvm.MethodName)) ∈ lw_all := lw_g (lw_at lw_m5 90 rfl) rfl
theorem q1350 : (Jvm.Cond.castable "ThriftNode" "java/lang/Object") ∈ lw_tbl := lw_at lw_m6 113 rfl
theorem in_X1 : ∀ w ∈ wsX10, w ∈ lw_all := lw_in wsX10 [728] (by decide +kernel) (by decide +kernel)

/-! ThriftNode$Node -/
set_option maxRecDepth 100000
def RX2 : String := "ThriftNode$Node"
def TX2 : u_T := fun k => match k with
  | 0 => ("ThriftNode$Node", "kept", "LThriftNode$Kept;", true)
  | 1 => ("ThriftNode$Node", "pending", "LThriftNode$Pending;", true)
  | 2 => ("ThriftNode$Node", "program", "LThriftNode$Program;", true)
  | 3 => ("ThriftNode$Node", "outside", "LThriftNode$Air;", true)
  | 4 => ("ThriftNode$Node", "registers", "[I", true)
  | 5 => ("ThriftNode$Node", "sensors", "[I", true)
  | 6 => ("ThriftNode$Node", "estimates", "[I", true)
  | 7 => ("ThriftNode$Node", "failures", "[I", true)
  | 8 => ("ThriftNode$Node", "replay", "LThriftNode$Replay;", true)
  | 9 => ("ThriftNode$Node", "air", "LThriftNode$Airing;", true)
  | 10 => ("ThriftNode$Node", "run", "LThriftNode$Run;", true)
  | 11 => ("ThriftNode$Node", "commit", "LThriftNode$Commit;", true)
  | 12 => ("ThriftNode$Node", "stage", "LThriftNode$Stage;", false)
  | 13 => ("ThriftNode$Node", "energy", "I", false)
  | 14 => ("ThriftNode$Node", "slot", "I", false)
  | 15 => ("ThriftNode$Node", "spent", "I", false)
  | 16 => ("ThriftNode$Node", "cut", "I", false)
  | 17 => ("ThriftNode$Node", "given", "I", false)
  | 18 => ("ThriftNode$Node", "failed", "I", false)
  | 19 => ("ThriftNode$Node", "abandoned", "I", false)
  | _ => ("ThriftNode$Node", "task", "I", false)
def tyX2 : Nat → FieldType := fun k => match k with
  | 0 => .object "ThriftNode$Kept"
  | 1 => .object "ThriftNode$Pending"
  | 2 => .object "ThriftNode$Program"
  | 3 => .object "ThriftNode$Air"
  | 4 => .array .int
  | 5 => .array .int
  | 6 => .array .int
  | 7 => .array .int
  | 8 => .object "ThriftNode$Replay"
  | 9 => .object "ThriftNode$Airing"
  | 10 => .object "ThriftNode$Run"
  | 11 => .object "ThriftNode$Commit"
  | 12 => .object "ThriftNode$Stage"
  | 13 => .int
  | 14 => .int
  | 15 => .int
  | 16 => .int
  | 17 => .int
  | 18 => .int
  | 19 => .int
  | _ => .int
abbrev wsX20 : List Cond := u_ws RX2 TX2 21
set_option maxRecDepth 100000 in
theorem nmX2 : ∀ a, a < 21 → ∀ b, b < 21 → a ≠ b → (TX2 a).2.1 ≠ (TX2 b).2.1 := by decide +kernel
set_option maxRecDepth 100000 in
theorem tyX2_ok : ∀ k, k < 21 → parseFieldDescriptor (TX2 k).2.2.1 = some (tyX2 k) := by decide +kernel
abbrev cX2_init : ByteArray := prog_7_method_1_code
def yX2_init : MethodName := ⟨RX2, "<init>", "()V"⟩
abbrev cX2_phase : ByteArray := prog_7_method_11_code
def yX2_phase : MethodName := ⟨RX2, "phase", "()I"⟩
abbrev cX2_slot : ByteArray := prog_7_method_10_code
def yX2_slot : MethodName := ⟨RX2, "slot", "(I)I"⟩
abbrev cX2_boots : ByteArray := prog_7_method_8_code
def yX2_boots : MethodName := ⟨RX2, "boots", "()Z"⟩
abbrev cX2_step : ByteArray := prog_7_method_9_code
def yX2_step : MethodName := ⟨RX2, "step", "()Z"⟩
abbrev cX2_begin : ByteArray := prog_7_method_6_code
def yX2_begin : MethodName := ⟨RX2, "begin", "()V"⟩
abbrev cX2_clear : ByteArray := prog_7_method_4_code
def yX2_clear : MethodName := ⟨RX2, "clear", "()V"⟩
abbrev cX2_fail : ByteArray := prog_7_method_7_code
def yX2_fail : MethodName := ⟨RX2, "fail", "()V"⟩
abbrev cX2_isTrying : ByteArray := prog_7_method_2_code
def yX2_isTrying : MethodName := ⟨RX2, "isTrying", "()Z"⟩
abbrev cX2_succeeded : ByteArray := prog_7_method_5_code
def yX2_succeeded : MethodName := ⟨RX2, "succeeded", "()V"⟩
abbrev cX2_leave : ByteArray := prog_7_method_3_code
def yX2_leave : MethodName := ⟨RX2, "leave", "()V"⟩
theorem q39 : (Jvm.Cond.initialized "ThriftNode$Node") ∈ lw_all := lw_g (lw_at lw_m1 2 rfl) rfl
theorem q83 : (Jvm.Cond.instantiable "ThriftNode$Node" (21 : Nat)) ∈ lw_all := lw_g (lw_at lw_m1 46 rfl) rfl
theorem q85 : (Jvm.Cond.instanceMethod ({ cls := "ThriftNode$Node", name := "<init>", desc := "()V" } : Jvm.MethodName)) ∈ lw_all := lw_g (lw_at lw_m1 48 rfl) rfl
theorem q86 : (Jvm.Cond.code ({ cls := "ThriftNode$Node", name := "<init>", desc := "()V" } : Jvm.MethodName) prog_7_method_1_code (1 : Nat) (Option.none : Option Jvm.ClassFile.FieldType)) ∈ lw_all := lw_g (lw_at lw_m1 49 rfl) rfl
theorem q87 : (Jvm.Cond.methodLink "ThriftNode$Node" (3 : Nat) ({ cls := "java/lang/Object", name := "<init>", desc := "()V" } : Jvm.MethodName)) ∈ lw_all := lw_g (lw_at lw_m1 50 rfl) rfl
theorem q88 : (Jvm.Cond.classLink "ThriftNode$Node" (9 : Nat) "ThriftNode$Kept") ∈ lw_all := lw_g (lw_at lw_m1 51 rfl) rfl
theorem q90 : (Jvm.Cond.methodLinkNest "ThriftNode$Node" (11 : Nat) ({ cls := "ThriftNode$Kept", name := "<init>", desc := "()V" } : Jvm.MethodName) "ThriftNode") ∈ lw_tbl := lw_at lw_m1 53 rfl
theorem q100 : (Jvm.Cond.fieldLinkNest "ThriftNode$Node" (114 : Nat) "ThriftNode$Kept" "words" "[I" "ThriftNode") ∈ lw_tbl := lw_at lw_m1 63 rfl
theorem q110 : (Jvm.Cond.classLink "ThriftNode$Node" (18 : Nat) "ThriftNode$Pending") ∈ lw_all := lw_g (lw_at lw_m1 73 rfl) rfl
theorem q112 : (Jvm.Cond.methodLink "ThriftNode$Node" (20 : Nat) ({ cls := "ThriftNode$Pending", name := "<init>", desc := "(LThriftNode$Kept;)V" } : Jvm.MethodName)) ∈ lw_all := lw_g (lw_at lw_m1 75 rfl) rfl
theorem q122 : (Jvm.Cond.fieldLinkNest "ThriftNode$Node" (102 : Nat) "ThriftNode$Pending" "many" "I" "ThriftNode") ∈ lw_tbl := lw_at lw_m1 85 rfl
theorem q134 : (Jvm.Cond.classLink "ThriftNode$Node" (27 : Nat) "ThriftNode$Program") ∈ lw_all := lw_g (lw_at lw_m1 97 rfl) rfl
theorem q136 : (Jvm.Cond.methodLink "ThriftNode$Node" (29 : Nat) ({ cls := "ThriftNode$Program", name := "<init>", desc := "()V" } : Jvm.MethodName)) ∈ lw_all := lw_g (lw_at lw_m1 99 rfl) rfl
theorem q512 : (Jvm.Cond.selects "ThriftNode$Node" ({ cls := "java/lang/Object", name := "getClass", desc := "()Ljava/lang/Class;" } : Jvm.MethodName) ({ cls := "java/lang/Object", name := "getClass", desc := "()Ljava/lang/Class;" } : Jvm.MethodName)) ∈ lw_all := lw_g (lw_at lw_m2 235 rfl) rfl
theorem q541 : (Jvm.Cond.classLink "ThriftNode$Node" (34 : Nat) "ThriftNode$Air") ∈ lw_all := lw_g (lw_at lw_m3 24 rfl) rfl
theorem q543 : (Jvm.Cond.methodLinkNest "ThriftNode$Node" (36 : Nat) ({ cls := "ThriftNode$Air", name := "<init>", desc := "()V" } : Jvm.MethodName) "ThriftNode") ∈ lw_tbl := lw_at lw_m3 26 rfl
theorem q567 : (Jvm.Cond.classLink "ThriftNode$Node" (54 : Nat) "ThriftNode$Replay") ∈ lw_all := lw_g (lw_at lw_m3 50 rfl) rfl
theorem q569 : (Jvm.Cond.methodLink "ThriftNode$Node" (56 : Nat) ({ cls := "ThriftNode$Replay", name := "<init>", desc := "(LThriftNode$Node;)V" } : Jvm.MethodName)) ∈ lw_all := lw_g (lw_at lw_m3 52 rfl) rfl
theorem q577 : (Jvm.Cond.fieldLinkNest "ThriftNode$Node" (135 : Nat) "ThriftNode$Replay" "next" "I" "ThriftNode") ∈ lw_tbl := lw_at lw_m3 60 rfl
theorem q592 : (Jvm.Cond.classLink "ThriftNode$Node" (63 : Nat) "ThriftNode$Airing") ∈ lw_all := lw_g (lw_at lw_m3 75 rfl) rfl
theorem q594 : (Jvm.Cond.methodLink "ThriftNode$Node" (65 : Nat) ({ cls := "ThriftNode$Airing", name := "<init>", desc := "(LThriftNode$Node;)V" } : Jvm.MethodName)) ∈ lw_all := lw_g (lw_at lw_m3 77 rfl) rfl
theorem q599 : (Jvm.Cond.fieldLinkNest "ThriftNode$Node" (92 : Nat) "ThriftNode$Airing" "noting" "Z" "ThriftNode") ∈ lw_tbl := lw_at lw_m3 82 rfl
theorem q604 : (Jvm.Cond.classLink "ThriftNode$Node" (70 : Nat) "ThriftNode$Run") ∈ lw_all := lw_g (lw_at lw_m3 87 rfl) rfl
theorem q606 : (Jvm.Cond.methodLink "ThriftNode$Node" (72 : Nat) ({ cls := "ThriftNode$Run", name := "<init>", desc := "(LThriftNode$Node;)V" } : Jvm.MethodName)) ∈ lw_all := lw_g (lw_at lw_m3 89 rfl) rfl
theorem q619 : (Jvm.Cond.classLink "ThriftNode$Node" (77 : Nat) "ThriftNode$Commit") ∈ lw_all := lw_g (lw_at lw_m3 102 rfl) rfl
theorem q621 : (Jvm.Cond.methodLink "ThriftNode$Node" (79 : Nat) ({ cls := "ThriftNode$Commit", name := "<init>", desc := "(LThriftNode$Node;)V" } : Jvm.MethodName)) ∈ lw_all := lw_g (lw_at lw_m3 104 rfl) rfl
theorem q630 : (Jvm.Cond.fieldLink "ThriftNode$Node" (12 : Nat) "ThriftNode$Node" "kept" "LThriftNode$Kept;") ∈ lw_all := lw_g (lw_at lw_m3 113 rfl) rfl
theorem q636 : (Jvm.Cond.fieldLink "ThriftNode$Node" (23 : Nat) "ThriftNode$Node" "pending" "LThriftNode$Pending;") ∈ lw_all := lw_g (lw_at lw_m3 119 rfl) rfl
theorem q640 : (Jvm.Cond.fieldLink "ThriftNode$Node" (30 : Nat) "ThriftNode$Node" "program" "LThriftNode$Program;") ∈ lw_all := lw_g (lw_at lw_m3 123 rfl) rfl
theorem q643 : (Jvm.Cond.fieldLink "ThriftNode$Node" (37 : Nat) "ThriftNode$Node" "outside" "LThriftNode$Air;") ∈ lw_all := lw_g (lw_at lw_m3 126 rfl) rfl
theorem q646 : (Jvm.Cond.fieldLink "ThriftNode$Node" (41 : Nat) "ThriftNode$Node" "registers" "[I") ∈ lw_all := lw_g (lw_at lw_m3 129 rfl) rfl
theorem q649 : (Jvm.Cond.fieldLink "ThriftNode$Node" (45 : Nat) "ThriftNode$Node" "sensors" "[I") ∈ lw_all := lw_g (lw_at lw_m3 132 rfl) rfl
theorem q652 : (Jvm.Cond.fieldLink "ThriftNode$Node" (48 : Nat) "ThriftNode$Node" "estimates" "[I") ∈ lw_all := lw_g (lw_at lw_m3 135 rfl) rfl
theorem q654 : (Jvm.Cond.fieldLink "ThriftNode$Node" (51 : Nat) "ThriftNode$Node" "failures" "[I") ∈ lw_all := lw_g (lw_at lw_m3 137 rfl) rfl
theorem q656 : (Jvm.Cond.fieldLink "ThriftNode$Node" (59 : Nat) "ThriftNode$Node" "replay" "LThriftNode$Replay;") ∈ lw_all := lw_g (lw_at lw_m3 139 rfl) rfl
theorem q657 : (Jvm.Cond.fieldLink "ThriftNode$Node" (66 : Nat) "ThriftNode$Node" "air" "LThriftNode$Airing;") ∈ lw_all := lw_g (lw_at lw_m3 140 rfl) rfl
theorem q659 : (Jvm.Cond.fieldLink "ThriftNode$Node" (73 : Nat) "ThriftNode$Node" "run" "LThriftNode$Run;") ∈ lw_all := lw_g (lw_at lw_m3 142 rfl) rfl
theorem q661 : (Jvm.Cond.fieldLink "ThriftNode$Node" (80 : Nat) "ThriftNode$Node" "commit" "LThriftNode$Commit;") ∈ lw_all := lw_g (lw_at lw_m3 144 rfl) rfl
theorem q664 : (Jvm.Cond.fieldLink "ThriftNode$Node" (88 : Nat) "ThriftNode$Node" "stage" "LThriftNode$Stage;") ∈ lw_all := lw_g (lw_at lw_m3 147 rfl) rfl
theorem q668 : (Jvm.Cond.fieldLink "ThriftNode$Node" (132 : Nat) "ThriftNode$Node" "energy" "I") ∈ lw_all := lw_g (lw_at lw_m3 151 rfl) rfl
theorem q671 : (Jvm.Cond.fieldLink "ThriftNode$Node" (158 : Nat) "ThriftNode$Node" "slot" "I") ∈ lw_all := lw_g (lw_at lw_m3 154 rfl) rfl
theorem q673 : (Jvm.Cond.fieldLink "ThriftNode$Node" (99 : Nat) "ThriftNode$Node" "spent" "I") ∈ lw_all := lw_g (lw_at lw_m3 156 rfl) rfl
theorem q676 : (Jvm.Cond.fieldLink "ThriftNode$Node" (155 : Nat) "ThriftNode$Node" "cut" "I") ∈ lw_all := lw_g (lw_at lw_m3 159 rfl) rfl
theorem q677 : (Jvm.Cond.fieldLink "ThriftNode$Node" (84 : Nat) "ThriftNode$Node" "given" "I") ∈ lw_all := lw_g (lw_at lw_m3 160 rfl) rfl
theorem q679 : (Jvm.Cond.fieldLink "ThriftNode$Node" (120 : Nat) "ThriftNode$Node" "failed" "I") ∈ lw_all := lw_g (lw_at lw_m3 162 rfl) rfl
theorem q683 : (Jvm.Cond.fieldLink "ThriftNode$Node" (105 : Nat) "ThriftNode$Node" "task" "I") ∈ lw_all := lw_g (lw_at lw_m3 166 rfl) rfl
theorem q684 : (Jvm.Cond.laysFinal "ThriftNode$Node" "ThriftNode$Node" "kept" "LThriftNode$Kept;") ∈ lw_all := lw_g (lw_at lw_m3 167 rfl) rfl
theorem q685 : (Jvm.Cond.soleField "ThriftNode$Node" "kept") ∈ lw_all := lw_g (lw_at lw_m3 168 rfl) rfl
theorem q686 : (Jvm.Cond.laysFinal "ThriftNode$Node" "ThriftNode$Node" "pending" "LThriftNode$Pending;") ∈ lw_all := lw_g (lw_at lw_m3 169 rfl) rfl
theorem q687 : (Jvm.Cond.soleField "ThriftNode$Node" "pending") ∈ lw_all := lw_g (lw_at lw_m3 170 rfl) rfl
theorem q688 : (Jvm.Cond.laysFinal "ThriftNode$Node" "ThriftNode$Node" "program" "LThriftNode$Program;") ∈ lw_all := lw_g (lw_at lw_m3 171 rfl) rfl
theorem q689 : (Jvm.Cond.soleField "ThriftNode$Node" "program") ∈ lw_all := lw_g (lw_at lw_m3 172 rfl) rfl
theorem q690 : (Jvm.Cond.laysFinal "ThriftNode$Node" "ThriftNode$Node" "outside" "LThriftNode$Air;") ∈ lw_all := lw_g (lw_at lw_m3 173 rfl) rfl
theorem q691 : (Jvm.Cond.soleField "ThriftNode$Node" "outside") ∈ lw_all := lw_g (lw_at lw_m3 174 rfl) rfl
theorem q692 : (Jvm.Cond.laysFinal "ThriftNode$Node" "ThriftNode$Node" "registers" "[I") ∈ lw_all := lw_g (lw_at lw_m3 175 rfl) rfl
theorem q693 : (Jvm.Cond.soleField "ThriftNode$Node" "registers") ∈ lw_all := lw_g (lw_at lw_m3 176 rfl) rfl
theorem q694 : (Jvm.Cond.laysFinal "ThriftNode$Node" "ThriftNode$Node" "sensors" "[I") ∈ lw_all := lw_g (lw_at lw_m3 177 rfl) rfl
theorem q695 : (Jvm.Cond.soleField "ThriftNode$Node" "sensors") ∈ lw_all := lw_g (lw_at lw_m3 178 rfl) rfl
theorem q696 : (Jvm.Cond.laysFinal "ThriftNode$Node" "ThriftNode$Node" "estimates" "[I") ∈ lw_all := lw_g (lw_at lw_m3 179 rfl) rfl
theorem q697 : (Jvm.Cond.soleField "ThriftNode$Node" "estimates") ∈ lw_all := lw_g (lw_at lw_m3 180 rfl) rfl
theorem q698 : (Jvm.Cond.laysFinal "ThriftNode$Node" "ThriftNode$Node" "failures" "[I") ∈ lw_all := lw_g (lw_at lw_m3 181 rfl) rfl
theorem q699 : (Jvm.Cond.soleField "ThriftNode$Node" "failures") ∈ lw_all := lw_g (lw_at lw_m3 182 rfl) rfl
theorem q700 : (Jvm.Cond.laysFinal "ThriftNode$Node" "ThriftNode$Node" "replay" "LThriftNode$Replay;") ∈ lw_all := lw_g (lw_at lw_m3 183 rfl) rfl
theorem q701 : (Jvm.Cond.soleField "ThriftNode$Node" "replay") ∈ lw_all := lw_g (lw_at lw_m3 184 rfl) rfl
theorem q702 : (Jvm.Cond.laysFinal "ThriftNode$Node" "ThriftNode$Node" "air" "LThriftNode$Airing;") ∈ lw_all := lw_g (lw_at lw_m3 185 rfl) rfl
theorem q703 : (Jvm.Cond.soleField "ThriftNode$Node" "air") ∈ lw_all := lw_g (lw_at lw_m3 186 rfl) rfl
theorem q704 : (Jvm.Cond.laysFinal "ThriftNode$Node" "ThriftNode$Node" "run" "LThriftNode$Run;") ∈ lw_all := lw_g (lw_at lw_m3 187 rfl) rfl
theorem q705 : (Jvm.Cond.soleField "ThriftNode$Node" "run") ∈ lw_all := lw_g (lw_at lw_m3 188 rfl) rfl
theorem q706 : (Jvm.Cond.laysFinal "ThriftNode$Node" "ThriftNode$Node" "commit" "LThriftNode$Commit;") ∈ lw_all := lw_g (lw_at lw_m3 189 rfl) rfl
theorem q707 : (Jvm.Cond.soleField "ThriftNode$Node" "commit") ∈ lw_all := lw_g (lw_at lw_m3 190 rfl) rfl
theorem q708 : (Jvm.Cond.lays "ThriftNode$Node" "ThriftNode$Node" "stage" "LThriftNode$Stage;") ∈ lw_all := lw_g (lw_at lw_m3 191 rfl) rfl
theorem q709 : (Jvm.Cond.soleField "ThriftNode$Node" "stage") ∈ lw_all := lw_g (lw_at lw_m3 192 rfl) rfl
theorem q710 : (Jvm.Cond.lays "ThriftNode$Node" "ThriftNode$Node" "energy" "I") ∈ lw_all := lw_g (lw_at lw_m3 193 rfl) rfl
theorem q711 : (Jvm.Cond.soleField "ThriftNode$Node" "energy") ∈ lw_all := lw_g (lw_at lw_m3 194 rfl) rfl
theorem q712 : (Jvm.Cond.lays "ThriftNode$Node" "ThriftNode$Node" "slot" "I") ∈ lw_all := lw_g (lw_at lw_m3 195 rfl) rfl
theorem q713 : (Jvm.Cond.soleField "ThriftNode$Node" "slot") ∈ lw_all := lw_g (lw_at lw_m3 196 rfl) rfl
theorem q714 : (Jvm.Cond.lays "ThriftNode$Node" "ThriftNode$Node" "spent" "I") ∈ lw_all := lw_g (lw_at lw_m3 197 rfl) rfl
theorem q715 : (Jvm.Cond.soleField "ThriftNode$Node" "spent") ∈ lw_all := lw_g (lw_at lw_m3 198 rfl) rfl
theorem q716 : (Jvm.Cond.lays "ThriftNode$Node" "ThriftNode$Node" "cut" "I") ∈ lw_all := lw_g (lw_at lw_m3 199 rfl) rfl
theorem q717 : (Jvm.Cond.soleField "ThriftNode$Node" "cut") ∈ lw_all := lw_g (lw_at lw_m3 200 rfl) rfl
theorem q718 : (Jvm.Cond.lays "ThriftNode$Node" "ThriftNode$Node" "given" "I") ∈ lw_all := lw_g (lw_at lw_m3 201 rfl) rfl
theorem q719 : (Jvm.Cond.soleField "ThriftNode$Node" "given") ∈ lw_all := lw_g (lw_at lw_m3 202 rfl) rfl
theorem q720 : (Jvm.Cond.lays "ThriftNode$Node" "ThriftNode$Node" "failed" "I") ∈ lw_all := lw_g (lw_at lw_m3 203 rfl) rfl
theorem q721 : (Jvm.Cond.soleField "ThriftNode$Node" "failed") ∈ lw_all := lw_g (lw_at lw_m3 204 rfl) rfl
theorem q722 : (Jvm.Cond.lays "ThriftNode$Node" "ThriftNode$Node" "abandoned" "I") ∈ lw_all := lw_g (lw_at lw_m3 205 rfl) rfl
theorem q723 : (Jvm.Cond.soleField "ThriftNode$Node" "abandoned") ∈ lw_all := lw_g (lw_at lw_m3 206 rfl) rfl
theorem q724 : (Jvm.Cond.lays "ThriftNode$Node" "ThriftNode$Node" "task" "I") ∈ lw_all := lw_g (lw_at lw_m3 207 rfl) rfl
theorem q725 : (Jvm.Cond.soleField "ThriftNode$Node" "task") ∈ lw_all := lw_g (lw_at lw_m3 208 rfl) rfl
theorem q726 : (Jvm.Cond.superclass "ThriftNode$Node" "java/lang/Object") ∈ lw_all := lw_g (lw_at lw_m3 209 rfl) rfl
theorem q838 : (Jvm.Cond.instanceMethod ({ cls := "ThriftNode$Node", name := "phase", desc := "()I" } : Jvm.MethodName)) ∈ lw_all := lw_g (lw_at lw_m4 81 rfl) rfl
theorem q839 : (Jvm.Cond.selects "ThriftNode$Node" ({ cls := "ThriftNode$Node", name := "phase", desc := "()I" } : Jvm.MethodName) ({ cls := "ThriftNode$Node", name := "phase", desc := "()I" } : Jvm.MethodName)) ∈ lw_all := lw_g (lw_at lw_m4 82 rfl) rfl
theorem q840 : (Jvm.Cond.code ({ cls := "ThriftNode$Node", name := "phase", desc := "()I" } : Jvm.MethodName) prog_7_method_11_code (1 : Nat) (Option.some Jvm.ClassFile.FieldType.int)) ∈ lw_all := lw_g (lw_at lw_m4 83 rfl) rfl
theorem q885 : (Jvm.Cond.instanceMethod ({ cls := "ThriftNode$Node", name := "slot", desc := "(I)I" } : Jvm.MethodName)) ∈ lw_all := lw_g (lw_at lw_m4 128 rfl) rfl
theorem q886 : (Jvm.Cond.selects "ThriftNode$Node" ({ cls := "ThriftNode$Node", name := "slot", desc := "(I)I" } : Jvm.MethodName) ({ cls := "ThriftNode$Node", name := "slot", desc := "(I)I" } : Jvm.MethodName)) ∈ lw_all := lw_g (lw_at lw_m4 129 rfl) rfl
theorem q887 : (Jvm.Cond.code ({ cls := "ThriftNode$Node", name := "slot", desc := "(I)I" } : Jvm.MethodName) prog_7_method_10_code (3 : Nat) (Option.some Jvm.ClassFile.FieldType.int)) ∈ lw_all := lw_g (lw_at lw_m4 130 rfl) rfl
theorem q888 : (Jvm.Cond.methodLink "ThriftNode$Node" (129 : Nat) ({ cls := "java/lang/Math", name := "min", desc := "(II)I" } : Jvm.MethodName)) ∈ lw_all := lw_g (lw_at lw_m4 131 rfl) rfl
theorem q889 : (Jvm.Cond.methodLink "ThriftNode$Node" (161 : Nat) ({ cls := "ThriftNode$Node", name := "boots", desc := "()Z" } : Jvm.MethodName)) ∈ lw_all := lw_g (lw_at lw_m4 132 rfl) rfl
theorem q890 : (Jvm.Cond.privateMethod ({ cls := "ThriftNode$Node", name := "boots", desc := "()Z" } : Jvm.MethodName)) ∈ lw_tbl := lw_at lw_m4 133 rfl
theorem q891 : (Jvm.Cond.instanceMethod ({ cls := "ThriftNode$Node", name := "boots", desc := "()Z" } : Jvm.MethodName)) ∈ lw_all := lw_g (lw_at lw_m4 134 rfl) rfl
theorem q892 : (Jvm.Cond.code ({ cls := "ThriftNode$Node", name := "boots", desc := "()Z" } : Jvm.MethodName) prog_7_method_8_code (1 : Nat) (Option.some Jvm.ClassFile.FieldType.boolean)) ∈ lw_all := lw_g (lw_at lw_m4 135 rfl) rfl
theorem q893 : (Jvm.Cond.methodLink "ThriftNode$Node" (164 : Nat) ({ cls := "ThriftNode$Node", name := "step", desc := "()Z" } : Jvm.MethodName)) ∈ lw_all := lw_g (lw_at lw_m4 136 rfl) rfl
theorem q894 : (Jvm.Cond.privateMethod ({ cls := "ThriftNode$Node", name := "step", desc := "()Z" } : Jvm.MethodName)) ∈ lw_tbl := lw_at lw_m4 137 rfl
theorem q895 : (Jvm.Cond.instanceMethod ({ cls := "ThriftNode$Node", name := "step", desc := "()Z" } : Jvm.MethodName)) ∈ lw_all := lw_g (lw_at lw_m4 138 rfl) rfl
theorem q896 : (Jvm.Cond.code ({ cls := "ThriftNode$Node", name := "step", desc := "()Z" } : Jvm.MethodName) prog_7_method_9_code (2 : Nat) (Option.some Jvm.ClassFile.FieldType.boolean)) ∈ lw_all := lw_g (lw_at lw_m4 139 rfl) rfl
theorem q897 : (Jvm.Cond.methodLink "ThriftNode$Node" (138 : Nat) ({ cls := "ThriftNode$Airing", name := "isIdle", desc := "()Z" } : Jvm.MethodName)) ∈ lw_all := lw_g (lw_at lw_m4 140 rfl) rfl
theorem q901 : (Jvm.Cond.methodLink "ThriftNode$Node" (141 : Nat) ({ cls := "ThriftNode$Node", name := "begin", desc := "()V" } : Jvm.MethodName)) ∈ lw_all := lw_g (lw_at lw_m4 144 rfl) rfl
theorem q902 : (Jvm.Cond.privateMethod ({ cls := "ThriftNode$Node", name := "begin", desc := "()V" } : Jvm.MethodName)) ∈ lw_tbl := lw_at lw_m4 145 rfl
theorem q903 : (Jvm.Cond.instanceMethod ({ cls := "ThriftNode$Node", name := "begin", desc := "()V" } : Jvm.MethodName)) ∈ lw_all := lw_g (lw_at lw_m4 146 rfl) rfl
theorem q904 : (Jvm.Cond.code ({ cls := "ThriftNode$Node", name := "begin", desc := "()V" } : Jvm.MethodName) prog_7_method_6_code (1 : Nat) (Option.none : Option Jvm.ClassFile.FieldType)) ∈ lw_all := lw_g (lw_at lw_m4 147 rfl) rfl
theorem q905 : (Jvm.Cond.methodLink "ThriftNode$Node" (96 : Nat) ({ cls := "ThriftNode$Node", name := "clear", desc := "()V" } : Jvm.MethodName)) ∈ lw_all := lw_g (lw_at lw_m4 148 rfl) rfl
theorem q906 : (Jvm.Cond.privateMethod ({ cls := "ThriftNode$Node", name := "clear", desc := "()V" } : Jvm.MethodName)) ∈ lw_tbl := lw_at lw_m4 149 rfl
theorem q907 : (Jvm.Cond.instanceMethod ({ cls := "ThriftNode$Node", name := "clear", desc := "()V" } : Jvm.MethodName)) ∈ lw_all := lw_g (lw_at lw_m4 150 rfl) rfl
theorem q908 : (Jvm.Cond.code ({ cls := "ThriftNode$Node", name := "clear", desc := "()V" } : Jvm.MethodName) prog_7_method_4_code (2 : Nat) (Option.none : Option Jvm.ClassFile.FieldType)) ∈ lw_all := lw_g (lw_at lw_m4 151 rfl) rfl
theorem q909 : (Jvm.Cond.methodLink "ThriftNode$Node" (117 : Nat) ({ cls := "ThriftNode$Run", name := "begin", desc := "()V" } : Jvm.MethodName)) ∈ lw_all := lw_g (lw_at lw_m4 152 rfl) rfl
theorem q913 : (Jvm.Cond.methodLink "ThriftNode$Node" (142 : Nat) ({ cls := "ThriftNode$Stage", name := "cost", desc := "()I" } : Jvm.MethodName)) ∈ lw_all := lw_g (lw_at lw_m4 156 rfl) rfl
theorem q939 : (Jvm.Cond.methodLink "ThriftNode$Node" (146 : Nat) ({ cls := "ThriftNode$Node", name := "fail", desc := "()V" } : Jvm.MethodName)) ∈ lw_all := lw_g (lw_at lw_m4 182 rfl) rfl
theorem q940 : (Jvm.Cond.privateMethod ({ cls := "ThriftNode$Node", name := "fail", desc := "()V" } : Jvm.MethodName)) ∈ lw_tbl := lw_at lw_m4 183 rfl
theorem q941 : (Jvm.Cond.instanceMethod ({ cls := "ThriftNode$Node", name := "fail", desc := "()V" } : Jvm.MethodName)) ∈ lw_all := lw_g (lw_at lw_m4 184 rfl) rfl
theorem q942 : (Jvm.Cond.code ({ cls := "ThriftNode$Node", name := "fail", desc := "()V" } : Jvm.MethodName) prog_7_method_7_code (1 : Nat) (Option.none : Option Jvm.ClassFile.FieldType)) ∈ lw_all := lw_g (lw_at lw_m4 185 rfl) rfl
theorem q943 : (Jvm.Cond.methodLink "ThriftNode$Node" (123 : Nat) ({ cls := "ThriftNode$Stage", name := "counts", desc := "()Z" } : Jvm.MethodName)) ∈ lw_all := lw_g (lw_at lw_m4 186 rfl) rfl
theorem q955 : (Jvm.Cond.methodLink "ThriftNode$Node" (108 : Nat) ({ cls := "java/lang/Math", name := "max", desc := "(II)I" } : Jvm.MethodName)) ∈ lw_all := lw_g (lw_at lw_m4 198 rfl) rfl
theorem q956 : (Jvm.Cond.methodLink "ThriftNode$Node" (149 : Nat) ({ cls := "ThriftNode$Node", name := "isTrying", desc := "()Z" } : Jvm.MethodName)) ∈ lw_all := lw_g (lw_at lw_m4 199 rfl) rfl
theorem q957 : (Jvm.Cond.instanceMethod ({ cls := "ThriftNode$Node", name := "isTrying", desc := "()Z" } : Jvm.MethodName)) ∈ lw_all := lw_g (lw_at lw_m4 200 rfl) rfl
theorem q958 : (Jvm.Cond.selects "ThriftNode$Node" ({ cls := "ThriftNode$Node", name := "isTrying", desc := "()Z" } : Jvm.MethodName) ({ cls := "ThriftNode$Node", name := "isTrying", desc := "()Z" } : Jvm.MethodName)) ∈ lw_all := lw_g (lw_at lw_m4 201 rfl) rfl
theorem q959 : (Jvm.Cond.code ({ cls := "ThriftNode$Node", name := "isTrying", desc := "()Z" } : Jvm.MethodName) prog_7_method_2_code (1 : Nat) (Option.some Jvm.ClassFile.FieldType.boolean)) ∈ lw_all := lw_g (lw_at lw_m4 202 rfl) rfl
theorem q960 : (Jvm.Cond.methodLink "ThriftNode$Node" (152 : Nat) ({ cls := "ThriftNode$Stage", name := "act", desc := "()V" } : Jvm.MethodName)) ∈ lw_all := lw_g (lw_at lw_m4 203 rfl) rfl
theorem q983 : (Jvm.Cond.instanceMethod ({ cls := "ThriftNode$Node", name := "succeeded", desc := "()V" } : Jvm.MethodName)) ∈ lw_all := lw_g (lw_at lw_m4 226 rfl) rfl
theorem q984 : (Jvm.Cond.selects "ThriftNode$Node" ({ cls := "ThriftNode$Node", name := "succeeded", desc := "()V" } : Jvm.MethodName) ({ cls := "ThriftNode$Node", name := "succeeded", desc := "()V" } : Jvm.MethodName)) ∈ lw_all := lw_g (lw_at lw_m4 227 rfl) rfl
theorem q985 : (Jvm.Cond.code ({ cls := "ThriftNode$Node", name := "succeeded", desc := "()V" } : Jvm.MethodName) prog_7_method_5_code (1 : Nat) (Option.none : Option Jvm.ClassFile.FieldType)) ∈ lw_all := lw_g (lw_at lw_m4 228 rfl) rfl
theorem q987 : (Jvm.Cond.instanceMethod ({ cls := "ThriftNode$Node", name := "leave", desc := "()V" } : Jvm.MethodName)) ∈ lw_all := lw_g (lw_at lw_m4 230 rfl) rfl
theorem q988 : (Jvm.Cond.selects "ThriftNode$Node" ({ cls := "ThriftNode$Node", name := "leave", desc := "()V" } : Jvm.MethodName) ({ cls := "ThriftNode$Node", name := "leave", desc := "()V" } : Jvm.MethodName)) ∈ lw_all := lw_g (lw_at lw_m4 231 rfl) rfl
theorem q989 : (Jvm.Cond.code ({ cls := "ThriftNode$Node", name := "leave", desc := "()V" } : Jvm.MethodName) prog_7_method_3_code (1 : Nat) (Option.none : Option Jvm.ClassFile.FieldType)) ∈ lw_all := lw_g (lw_at lw_m4 232 rfl) rfl
theorem q1351 : (Jvm.Cond.castable "ThriftNode$Node" "java/lang/Object") ∈ lw_tbl := lw_at lw_m6 114 rfl
theorem in_X2 : ∀ w ∈ wsX20, w ∈ lw_all := lw_in wsX20 [684, 686, 688, 690, 692, 694, 696, 698, 700, 702, 704, 706, 708, 710, 712, 714, 716, 718, 720, 722, 724] (by decide +kernel) (by decide +kernel)

/-! ThriftNode$Kept -/
set_option maxRecDepth 100000
def RX3 : String := "ThriftNode$Kept"
def TX3 : u_T := fun k => match k with
  | 0 => ("ThriftNode$Kept", "words", "[I", true)
  | _ => ("ThriftNode$Kept", "wear", "[I", true)
def tyX3 : Nat → FieldType := fun k => match k with
  | 0 => .array .int
  | _ => .array .int
abbrev wsX30 : List Cond := u_ws RX3 TX3 2
theorem nmX3 : ∀ a, a < 2 → ∀ b, b < 2 → a ≠ b → (TX3 a).2.1 ≠ (TX3 b).2.1 := by decide +kernel
theorem tyX3_ok : ∀ k, k < 2 → parseFieldDescriptor (TX3 k).2.2.1 = some (tyX3 k) := by decide +kernel
abbrev cX3_init : ByteArray := prog_6_method_1_code
def yX3_init : MethodName := ⟨RX3, "<init>", "()V"⟩
abbrev cX3_write : ByteArray := prog_6_method_2_code
def yX3_write : MethodName := ⟨RX3, "write", "(II)V"⟩
theorem q40 : (Jvm.Cond.initialized "ThriftNode$Kept") ∈ lw_all := lw_g (lw_at lw_m1 3 rfl) rfl
theorem q89 : (Jvm.Cond.instantiable "ThriftNode$Kept" (2 : Nat)) ∈ lw_all := lw_g (lw_at lw_m1 52 rfl) rfl
theorem q91 : (Jvm.Cond.instanceMethod ({ cls := "ThriftNode$Kept", name := "<init>", desc := "()V" } : Jvm.MethodName)) ∈ lw_all := lw_g (lw_at lw_m1 54 rfl) rfl
theorem q92 : (Jvm.Cond.code ({ cls := "ThriftNode$Kept", name := "<init>", desc := "()V" } : Jvm.MethodName) prog_6_method_1_code (1 : Nat) (Option.none : Option Jvm.ClassFile.FieldType)) ∈ lw_all := lw_g (lw_at lw_m1 55 rfl) rfl
theorem q93 : (Jvm.Cond.methodLink "ThriftNode$Kept" (1 : Nat) ({ cls := "java/lang/Object", name := "<init>", desc := "()V" } : Jvm.MethodName)) ∈ lw_all := lw_g (lw_at lw_m1 56 rfl) rfl
theorem q94 : (Jvm.Cond.fieldLink "ThriftNode$Kept" (9 : Nat) "ThriftNode$Kept" "words" "[I") ∈ lw_all := lw_g (lw_at lw_m1 57 rfl) rfl
theorem q102 : (Jvm.Cond.fieldLink "ThriftNode$Kept" (13 : Nat) "ThriftNode$Kept" "wear" "[I") ∈ lw_all := lw_g (lw_at lw_m1 65 rfl) rfl
theorem q104 : (Jvm.Cond.laysFinal "ThriftNode$Kept" "ThriftNode$Kept" "words" "[I") ∈ lw_all := lw_g (lw_at lw_m1 67 rfl) rfl
theorem q105 : (Jvm.Cond.soleField "ThriftNode$Kept" "words") ∈ lw_all := lw_g (lw_at lw_m1 68 rfl) rfl
theorem q106 : (Jvm.Cond.laysFinal "ThriftNode$Kept" "ThriftNode$Kept" "wear" "[I") ∈ lw_all := lw_g (lw_at lw_m1 69 rfl) rfl
theorem q107 : (Jvm.Cond.soleField "ThriftNode$Kept" "wear") ∈ lw_all := lw_g (lw_at lw_m1 70 rfl) rfl
theorem q108 : (Jvm.Cond.superclass "ThriftNode$Kept" "java/lang/Object") ∈ lw_all := lw_g (lw_at lw_m1 71 rfl) rfl
theorem q511 : (Jvm.Cond.selects "ThriftNode$Kept" ({ cls := "java/lang/Object", name := "getClass", desc := "()Ljava/lang/Class;" } : Jvm.MethodName) ({ cls := "java/lang/Object", name := "getClass", desc := "()Ljava/lang/Class;" } : Jvm.MethodName)) ∈ lw_all := lw_g (lw_at lw_m2 234 rfl) rfl
theorem q967 : (Jvm.Cond.instanceMethod ({ cls := "ThriftNode$Kept", name := "write", desc := "(II)V" } : Jvm.MethodName)) ∈ lw_all := lw_g (lw_at lw_m4 210 rfl) rfl
theorem q968 : (Jvm.Cond.selects "ThriftNode$Kept" ({ cls := "ThriftNode$Kept", name := "write", desc := "(II)V" } : Jvm.MethodName) ({ cls := "ThriftNode$Kept", name := "write", desc := "(II)V" } : Jvm.MethodName)) ∈ lw_all := lw_g (lw_at lw_m4 211 rfl) rfl
theorem q969 : (Jvm.Cond.code ({ cls := "ThriftNode$Kept", name := "write", desc := "(II)V" } : Jvm.MethodName) prog_6_method_2_code (3 : Nat) (Option.none : Option Jvm.ClassFile.FieldType)) ∈ lw_all := lw_g (lw_at lw_m4 212 rfl) rfl
theorem q1352 : (Jvm.Cond.castable "ThriftNode$Kept" "java/lang/Object") ∈ lw_tbl := lw_at lw_m6 115 rfl
theorem in_X3 : ∀ w ∈ wsX30, w ∈ lw_all := lw_in wsX30 [104, 106] (by decide +kernel) (by decide +kernel)

/-! ThriftNode$Pending -/
set_option maxRecDepth 100000
def RX4 : String := "ThriftNode$Pending"
def TX4 : u_T := fun k => match k with
  | 0 => ("ThriftNode$Pending", "kept", "LThriftNode$Kept;", true)
  | 1 => ("ThriftNode$Pending", "where", "[I", true)
  | 2 => ("ThriftNode$Pending", "what", "[I", true)
  | _ => ("ThriftNode$Pending", "many", "I", false)
def tyX4 : Nat → FieldType := fun k => match k with
  | 0 => .object "ThriftNode$Kept"
  | 1 => .array .int
  | 2 => .array .int
  | _ => .int
abbrev wsX40 : List Cond := u_ws RX4 TX4 4
theorem nmX4 : ∀ a, a < 4 → ∀ b, b < 4 → a ≠ b → (TX4 a).2.1 ≠ (TX4 b).2.1 := by decide +kernel
theorem tyX4_ok : ∀ k, k < 4 → parseFieldDescriptor (TX4 k).2.2.1 = some (tyX4 k) := by decide +kernel
abbrev cX4_init : ByteArray := prog_8_method_1_code
def yX4_init : MethodName := ⟨RX4, "<init>", "(LThriftNode$Kept;)V"⟩
abbrev cX4_write : ByteArray := prog_8_method_5_code
def yX4_write : MethodName := ⟨RX4, "write", "(II)V"⟩
abbrev cX4_find : ByteArray := prog_8_method_2_code
def yX4_find : MethodName := ⟨RX4, "find", "(I)I"⟩
abbrev cX4_read : ByteArray := prog_8_method_3_code
def yX4_read : MethodName := ⟨RX4, "read", "(I)I"⟩
abbrev cX4_takes : ByteArray := prog_8_method_4_code
def yX4_takes : MethodName := ⟨RX4, "takes", "(II)Z"⟩
theorem q41 : (Jvm.Cond.initialized "ThriftNode$Pending") ∈ lw_all := lw_g (lw_at lw_m1 4 rfl) rfl
theorem q99 : (Jvm.Cond.fieldLinkNest "ThriftNode$Pending" (30 : Nat) "ThriftNode$Kept" "words" "[I" "ThriftNode") ∈ lw_tbl := lw_at lw_m1 62 rfl
theorem q111 : (Jvm.Cond.instantiable "ThriftNode$Pending" (4 : Nat)) ∈ lw_all := lw_g (lw_at lw_m1 74 rfl) rfl
theorem q113 : (Jvm.Cond.instanceMethod ({ cls := "ThriftNode$Pending", name := "<init>", desc := "(LThriftNode$Kept;)V" } : Jvm.MethodName)) ∈ lw_all := lw_g (lw_at lw_m1 76 rfl) rfl
theorem q114 : (Jvm.Cond.code ({ cls := "ThriftNode$Pending", name := "<init>", desc := "(LThriftNode$Kept;)V" } : Jvm.MethodName) prog_8_method_1_code (2 : Nat) (Option.none : Option Jvm.ClassFile.FieldType)) ∈ lw_all := lw_g (lw_at lw_m1 77 rfl) rfl
theorem q115 : (Jvm.Cond.methodLink "ThriftNode$Pending" (3 : Nat) ({ cls := "java/lang/Object", name := "<init>", desc := "()V" } : Jvm.MethodName)) ∈ lw_all := lw_g (lw_at lw_m1 78 rfl) rfl
theorem q116 : (Jvm.Cond.fieldLink "ThriftNode$Pending" (18 : Nat) "ThriftNode$Pending" "kept" "LThriftNode$Kept;") ∈ lw_all := lw_g (lw_at lw_m1 79 rfl) rfl
theorem q117 : (Jvm.Cond.fieldLink "ThriftNode$Pending" (11 : Nat) "ThriftNode$Pending" "where" "[I") ∈ lw_all := lw_g (lw_at lw_m1 80 rfl) rfl
theorem q119 : (Jvm.Cond.fieldLink "ThriftNode$Pending" (15 : Nat) "ThriftNode$Pending" "what" "[I") ∈ lw_all := lw_g (lw_at lw_m1 82 rfl) rfl
theorem q121 : (Jvm.Cond.fieldLink "ThriftNode$Pending" (22 : Nat) "ThriftNode$Pending" "many" "I") ∈ lw_all := lw_g (lw_at lw_m1 84 rfl) rfl
theorem q125 : (Jvm.Cond.laysFinal "ThriftNode$Pending" "ThriftNode$Pending" "kept" "LThriftNode$Kept;") ∈ lw_all := lw_g (lw_at lw_m1 88 rfl) rfl
theorem q126 : (Jvm.Cond.soleField "ThriftNode$Pending" "kept") ∈ lw_all := lw_g (lw_at lw_m1 89 rfl) rfl
theorem q127 : (Jvm.Cond.laysFinal "ThriftNode$Pending" "ThriftNode$Pending" "where" "[I") ∈ lw_all := lw_g (lw_at lw_m1 90 rfl) rfl
theorem q128 : (Jvm.Cond.soleField "ThriftNode$Pending" "where") ∈ lw_all := lw_g (lw_at lw_m1 91 rfl) rfl
theorem q129 : (Jvm.Cond.laysFinal "ThriftNode$Pending" "ThriftNode$Pending" "what" "[I") ∈ lw_all := lw_g (lw_at lw_m1 92 rfl) rfl
theorem q130 : (Jvm.Cond.soleField "ThriftNode$Pending" "what") ∈ lw_all := lw_g (lw_at lw_m1 93 rfl) rfl
theorem q131 : (Jvm.Cond.lays "ThriftNode$Pending" "ThriftNode$Pending" "many" "I") ∈ lw_all := lw_g (lw_at lw_m1 94 rfl) rfl
theorem q132 : (Jvm.Cond.soleField "ThriftNode$Pending" "many") ∈ lw_all := lw_g (lw_at lw_m1 95 rfl) rfl
theorem q133 : (Jvm.Cond.superclass "ThriftNode$Pending" "java/lang/Object") ∈ lw_all := lw_g (lw_at lw_m1 96 rfl) rfl
theorem q513 : (Jvm.Cond.selects "ThriftNode$Pending" ({ cls := "java/lang/Object", name := "getClass", desc := "()Ljava/lang/Class;" } : Jvm.MethodName) ({ cls := "java/lang/Object", name := "getClass", desc := "()Ljava/lang/Class;" } : Jvm.MethodName)) ∈ lw_all := lw_g (lw_at lw_m2 236 rfl) rfl
theorem q1002 : (Jvm.Cond.instanceMethod ({ cls := "ThriftNode$Pending", name := "write", desc := "(II)V" } : Jvm.MethodName)) ∈ lw_all := lw_g (lw_at lw_m5 5 rfl) rfl
theorem q1003 : (Jvm.Cond.selects "ThriftNode$Pending" ({ cls := "ThriftNode$Pending", name := "write", desc := "(II)V" } : Jvm.MethodName) ({ cls := "ThriftNode$Pending", name := "write", desc := "(II)V" } : Jvm.MethodName)) ∈ lw_all := lw_g (lw_at lw_m5 6 rfl) rfl
theorem q1004 : (Jvm.Cond.code ({ cls := "ThriftNode$Pending", name := "write", desc := "(II)V" } : Jvm.MethodName) prog_8_method_5_code (4 : Nat) (Option.none : Option Jvm.ClassFile.FieldType)) ∈ lw_all := lw_g (lw_at lw_m5 7 rfl) rfl
theorem q1005 : (Jvm.Cond.methodLink "ThriftNode$Pending" (26 : Nat) ({ cls := "ThriftNode$Pending", name := "find", desc := "(I)I" } : Jvm.MethodName)) ∈ lw_all := lw_g (lw_at lw_m5 8 rfl) rfl
theorem q1006 : (Jvm.Cond.privateMethod ({ cls := "ThriftNode$Pending", name := "find", desc := "(I)I" } : Jvm.MethodName)) ∈ lw_tbl := lw_at lw_m5 9 rfl
theorem q1007 : (Jvm.Cond.instanceMethod ({ cls := "ThriftNode$Pending", name := "find", desc := "(I)I" } : Jvm.MethodName)) ∈ lw_all := lw_g (lw_at lw_m5 10 rfl) rfl
theorem q1008 : (Jvm.Cond.code ({ cls := "ThriftNode$Pending", name := "find", desc := "(I)I" } : Jvm.MethodName) prog_8_method_2_code (3 : Nat) (Option.some Jvm.ClassFile.FieldType.int)) ∈ lw_all := lw_g (lw_at lw_m5 11 rfl) rfl
theorem q1010 : (Jvm.Cond.instanceMethod ({ cls := "ThriftNode$Pending", name := "read", desc := "(I)I" } : Jvm.MethodName)) ∈ lw_all := lw_g (lw_at lw_m5 13 rfl) rfl
theorem q1011 : (Jvm.Cond.selects "ThriftNode$Pending" ({ cls := "ThriftNode$Pending", name := "read", desc := "(I)I" } : Jvm.MethodName) ({ cls := "ThriftNode$Pending", name := "read", desc := "(I)I" } : Jvm.MethodName)) ∈ lw_all := lw_g (lw_at lw_m5 14 rfl) rfl
theorem q1012 : (Jvm.Cond.code ({ cls := "ThriftNode$Pending", name := "read", desc := "(I)I" } : Jvm.MethodName) prog_8_method_3_code (3 : Nat) (Option.some Jvm.ClassFile.FieldType.int)) ∈ lw_all := lw_g (lw_at lw_m5 15 rfl) rfl
theorem q1018 : (Jvm.Cond.instanceMethod ({ cls := "ThriftNode$Pending", name := "takes", desc := "(II)Z" } : Jvm.MethodName)) ∈ lw_all := lw_g (lw_at lw_m5 21 rfl) rfl
theorem q1019 : (Jvm.Cond.selects "ThriftNode$Pending" ({ cls := "ThriftNode$Pending", name := "takes", desc := "(II)Z" } : Jvm.MethodName) ({ cls := "ThriftNode$Pending", name := "takes", desc := "(II)Z" } : Jvm.MethodName)) ∈ lw_all := lw_g (lw_at lw_m5 22 rfl) rfl
theorem q1020 : (Jvm.Cond.code ({ cls := "ThriftNode$Pending", name := "takes", desc := "(II)Z" } : Jvm.MethodName) prog_8_method_4_code (3 : Nat) (Option.some Jvm.ClassFile.FieldType.boolean)) ∈ lw_all := lw_g (lw_at lw_m5 23 rfl) rfl
theorem q1353 : (Jvm.Cond.castable "ThriftNode$Pending" "java/lang/Object") ∈ lw_tbl := lw_at lw_m6 116 rfl
theorem in_X4 : ∀ w ∈ wsX40, w ∈ lw_all := lw_in wsX40 [125, 127, 129, 131] (by decide +kernel) (by decide +kernel)

/-! ThriftNode$Program -/
set_option maxRecDepth 100000
def RX5 : String := "ThriftNode$Program"
def TX5 : u_T := fun k => match k with
  | 0 => ("ThriftNode$Program", "tasks", "Ljava/util/ArrayList;", true)
  | _ => ("ThriftNode$Program", "isSealed", "Z", false)
def tyX5 : Nat → FieldType := fun k => match k with
  | 0 => .object "java/util/ArrayList"
  | _ => .boolean
abbrev wsX50 : List Cond := u_ws RX5 TX5 2
theorem nmX5 : ∀ a, a < 2 → ∀ b, b < 2 → a ≠ b → (TX5 a).2.1 ≠ (TX5 b).2.1 := by decide +kernel
theorem tyX5_ok : ∀ k, k < 2 → parseFieldDescriptor (TX5 k).2.2.1 = some (tyX5 k) := by decide +kernel
abbrev cX5_init : ByteArray := prog_9_method_1_code
def yX5_init : MethodName := ⟨RX5, "<init>", "()V"⟩
abbrev cX5_size : ByteArray := prog_9_method_2_code
def yX5_size : MethodName := ⟨RX5, "size", "(I)I"⟩
abbrev cX5_seal : ByteArray := prog_9_method_6_code
def yX5_seal : MethodName := ⟨RX5, "seal", "()I"⟩
abbrev cX5_isGood : ByteArray := prog_9_method_5_code
def yX5_isGood : MethodName := ⟨RX5, "isGood", "(II)Z"⟩
abbrev cX5_at : ByteArray := prog_9_method_3_code
def yX5_at : MethodName := ⟨RX5, "at", "(II)LThriftNode$Instruction;"⟩
abbrev cX5_isRegister : ByteArray := prog_9_method_4_code
def yX5_isRegister : MethodName := ⟨RX5, "isRegister", "(I)Z"⟩
theorem q42 : (Jvm.Cond.initialized "ThriftNode$Program") ∈ lw_all := lw_g (lw_at lw_m1 5 rfl) rfl
theorem q135 : (Jvm.Cond.instantiable "ThriftNode$Program" (2 : Nat)) ∈ lw_all := lw_g (lw_at lw_m1 98 rfl) rfl
theorem q137 : (Jvm.Cond.instanceMethod ({ cls := "ThriftNode$Program", name := "<init>", desc := "()V" } : Jvm.MethodName)) ∈ lw_all := lw_g (lw_at lw_m1 100 rfl) rfl
theorem q138 : (Jvm.Cond.code ({ cls := "ThriftNode$Program", name := "<init>", desc := "()V" } : Jvm.MethodName) prog_9_method_1_code (2 : Nat) (Option.none : Option Jvm.ClassFile.FieldType)) ∈ lw_all := lw_g (lw_at lw_m1 101 rfl) rfl
theorem q139 : (Jvm.Cond.methodLink "ThriftNode$Program" (3 : Nat) ({ cls := "java/lang/Object", name := "<init>", desc := "()V" } : Jvm.MethodName)) ∈ lw_all := lw_g (lw_at lw_m1 102 rfl) rfl
theorem q140 : (Jvm.Cond.classLink "ThriftNode$Program" (9 : Nat) "java/util/ArrayList") ∈ lw_all := lw_g (lw_at lw_m1 103 rfl) rfl
theorem q142 : (Jvm.Cond.methodLink "ThriftNode$Program" (11 : Nat) ({ cls := "java/util/ArrayList", name := "<init>", desc := "(I)V" } : Jvm.MethodName)) ∈ lw_all := lw_g (lw_at lw_m1 105 rfl) rfl
theorem q481 : (Jvm.Cond.methodLink "ThriftNode$Program" (20 : Nat) ({ cls := "java/util/ArrayList", name := "add", desc := "(Ljava/lang/Object;)Z" } : Jvm.MethodName)) ∈ lw_all := lw_g (lw_at lw_m2 204 rfl) rfl
theorem q514 : (Jvm.Cond.selects "ThriftNode$Program" ({ cls := "java/lang/Object", name := "getClass", desc := "()Ljava/lang/Class;" } : Jvm.MethodName) ({ cls := "java/lang/Object", name := "getClass", desc := "()Ljava/lang/Class;" } : Jvm.MethodName)) ∈ lw_all := lw_g (lw_at lw_m2 237 rfl) rfl
theorem q532 : (Jvm.Cond.fieldLink "ThriftNode$Program" (14 : Nat) "ThriftNode$Program" "tasks" "Ljava/util/ArrayList;") ∈ lw_all := lw_g (lw_at lw_m3 15 rfl) rfl
theorem q535 : (Jvm.Cond.fieldLink "ThriftNode$Program" (58 : Nat) "ThriftNode$Program" "isSealed" "Z") ∈ lw_all := lw_g (lw_at lw_m3 18 rfl) rfl
theorem q536 : (Jvm.Cond.laysFinal "ThriftNode$Program" "ThriftNode$Program" "tasks" "Ljava/util/ArrayList;") ∈ lw_all := lw_g (lw_at lw_m3 19 rfl) rfl
theorem q537 : (Jvm.Cond.soleField "ThriftNode$Program" "tasks") ∈ lw_all := lw_g (lw_at lw_m3 20 rfl) rfl
theorem q538 : (Jvm.Cond.lays "ThriftNode$Program" "ThriftNode$Program" "isSealed" "Z") ∈ lw_all := lw_g (lw_at lw_m3 21 rfl) rfl
theorem q539 : (Jvm.Cond.soleField "ThriftNode$Program" "isSealed") ∈ lw_all := lw_g (lw_at lw_m3 22 rfl) rfl
theorem q540 : (Jvm.Cond.superclass "ThriftNode$Program" "java/lang/Object") ∈ lw_all := lw_g (lw_at lw_m3 23 rfl) rfl
theorem q739 : (Jvm.Cond.instanceMethod ({ cls := "ThriftNode$Program", name := "size", desc := "(I)I" } : Jvm.MethodName)) ∈ lw_all := lw_g (lw_at lw_m3 222 rfl) rfl
theorem q740 : (Jvm.Cond.selects "ThriftNode$Program" ({ cls := "ThriftNode$Program", name := "size", desc := "(I)I" } : Jvm.MethodName) ({ cls := "ThriftNode$Program", name := "size", desc := "(I)I" } : Jvm.MethodName)) ∈ lw_all := lw_g (lw_at lw_m3 223 rfl) rfl
theorem q741 : (Jvm.Cond.code ({ cls := "ThriftNode$Program", name := "size", desc := "(I)I" } : Jvm.MethodName) prog_9_method_2_code (2 : Nat) (Option.some Jvm.ClassFile.FieldType.int)) ∈ lw_all := lw_g (lw_at lw_m3 224 rfl) rfl
theorem q742 : (Jvm.Cond.methodLink "ThriftNode$Program" (24 : Nat) ({ cls := "java/util/ArrayList", name := "get", desc := "(I)Ljava/lang/Object;" } : Jvm.MethodName)) ∈ lw_all := lw_g (lw_at lw_m3 225 rfl) rfl
theorem q756 : (Jvm.Cond.methodLink "ThriftNode$Program" (28 : Nat) ({ cls := "java/util/ArrayList", name := "size", desc := "()I" } : Jvm.MethodName)) ∈ lw_all := lw_g (lw_at lw_m3 239 rfl) rfl
theorem q773 : (Jvm.Cond.fieldLinkNest "ThriftNode$Program" (41 : Nat) "ThriftNode$Instruction" "op" "I" "ThriftNode") ∈ lw_tbl := lw_at lw_m4 16 rfl
theorem q776 : (Jvm.Cond.fieldLinkNest "ThriftNode$Program" (45 : Nat) "ThriftNode$Instruction" "a" "I" "ThriftNode") ∈ lw_tbl := lw_at lw_m4 19 rfl
theorem q779 : (Jvm.Cond.fieldLinkNest "ThriftNode$Program" (48 : Nat) "ThriftNode$Instruction" "b" "I" "ThriftNode") ∈ lw_tbl := lw_at lw_m4 22 rfl
theorem q782 : (Jvm.Cond.fieldLinkNest "ThriftNode$Program" (55 : Nat) "ThriftNode$Instruction" "c" "I" "ThriftNode") ∈ lw_tbl := lw_at lw_m4 25 rfl
theorem q805 : (Jvm.Cond.instanceMethod ({ cls := "ThriftNode$Program", name := "seal", desc := "()I" } : Jvm.MethodName)) ∈ lw_all := lw_g (lw_at lw_m4 48 rfl) rfl
theorem q806 : (Jvm.Cond.selects "ThriftNode$Program" ({ cls := "ThriftNode$Program", name := "seal", desc := "()I" } : Jvm.MethodName) ({ cls := "ThriftNode$Program", name := "seal", desc := "()I" } : Jvm.MethodName)) ∈ lw_all := lw_g (lw_at lw_m4 49 rfl) rfl
theorem q807 : (Jvm.Cond.code ({ cls := "ThriftNode$Program", name := "seal", desc := "()I" } : Jvm.MethodName) prog_9_method_6_code (3 : Nat) (Option.some Jvm.ClassFile.FieldType.int)) ∈ lw_all := lw_g (lw_at lw_m4 50 rfl) rfl
theorem q808 : (Jvm.Cond.methodLink "ThriftNode$Program" (38 : Nat) ({ cls := "ThriftNode$Program", name := "size", desc := "(I)I" } : Jvm.MethodName)) ∈ lw_all := lw_g (lw_at lw_m4 51 rfl) rfl
theorem q809 : (Jvm.Cond.methodLink "ThriftNode$Program" (62 : Nat) ({ cls := "ThriftNode$Program", name := "isGood", desc := "(II)Z" } : Jvm.MethodName)) ∈ lw_all := lw_g (lw_at lw_m4 52 rfl) rfl
theorem q810 : (Jvm.Cond.privateMethod ({ cls := "ThriftNode$Program", name := "isGood", desc := "(II)Z" } : Jvm.MethodName)) ∈ lw_tbl := lw_at lw_m4 53 rfl
theorem q811 : (Jvm.Cond.instanceMethod ({ cls := "ThriftNode$Program", name := "isGood", desc := "(II)Z" } : Jvm.MethodName)) ∈ lw_all := lw_g (lw_at lw_m4 54 rfl) rfl
theorem q812 : (Jvm.Cond.code ({ cls := "ThriftNode$Program", name := "isGood", desc := "(II)Z" } : Jvm.MethodName) prog_9_method_5_code (5 : Nat) (Option.some Jvm.ClassFile.FieldType.boolean)) ∈ lw_all := lw_g (lw_at lw_m4 55 rfl) rfl
theorem q813 : (Jvm.Cond.methodLink "ThriftNode$Program" (34 : Nat) ({ cls := "ThriftNode$Program", name := "at", desc := "(II)LThriftNode$Instruction;" } : Jvm.MethodName)) ∈ lw_all := lw_g (lw_at lw_m4 56 rfl) rfl
theorem q814 : (Jvm.Cond.instanceMethod ({ cls := "ThriftNode$Program", name := "at", desc := "(II)LThriftNode$Instruction;" } : Jvm.MethodName)) ∈ lw_all := lw_g (lw_at lw_m4 57 rfl) rfl
theorem q815 : (Jvm.Cond.selects "ThriftNode$Program" ({ cls := "ThriftNode$Program", name := "at", desc := "(II)LThriftNode$Instruction;" } : Jvm.MethodName) ({ cls := "ThriftNode$Program", name := "at", desc := "(II)LThriftNode$Instruction;" } : Jvm.MethodName)) ∈ lw_all := lw_g (lw_at lw_m4 58 rfl) rfl
theorem q816 : (Jvm.Cond.code ({ cls := "ThriftNode$Program", name := "at", desc := "(II)LThriftNode$Instruction;" } : Jvm.MethodName) prog_9_method_3_code (3 : Nat) (Option.some (Jvm.ClassFile.FieldType.object "ThriftNode$Instruction"))) ∈ lw_all := lw_g (lw_at lw_m4 59 rfl) rfl
theorem q817 : (Jvm.Cond.classLink "ThriftNode$Program" (32 : Nat) "ThriftNode$Instruction") ∈ lw_all := lw_g (lw_at lw_m4 60 rfl) rfl
theorem q818 : (Jvm.Cond.methodLink "ThriftNode$Program" (51 : Nat) ({ cls := "ThriftNode$Program", name := "isRegister", desc := "(I)Z" } : Jvm.MethodName)) ∈ lw_all := lw_g (lw_at lw_m4 61 rfl) rfl
theorem q819 : (Jvm.Cond.static ({ cls := "ThriftNode$Program", name := "isRegister", desc := "(I)Z" } : Jvm.MethodName)) ∈ lw_all := lw_g (lw_at lw_m4 62 rfl) rfl
theorem q820 : (Jvm.Cond.code ({ cls := "ThriftNode$Program", name := "isRegister", desc := "(I)Z" } : Jvm.MethodName) prog_9_method_4_code (1 : Nat) (Option.some Jvm.ClassFile.FieldType.boolean)) ∈ lw_all := lw_g (lw_at lw_m4 63 rfl) rfl
theorem q1354 : (Jvm.Cond.castable "ThriftNode$Program" "java/lang/Object") ∈ lw_tbl := lw_at lw_m6 117 rfl
theorem in_X5 : ∀ w ∈ wsX50, w ∈ lw_all := lw_in wsX50 [536, 538] (by decide +kernel) (by decide +kernel)

/-! ThriftNode$Air -/
set_option maxRecDepth 100000
def RX6 : String := "ThriftNode$Air"
def TX6 : u_T := fun k => match k with
  | 0 => ("ThriftNode$Air", "numbers", "[I", true)
  | 1 => ("ThriftNode$Air", "payloads", "[I", true)
  | 2 => ("ThriftNode$Air", "kept", "[I", true)
  | 3 => ("ThriftNode$Air", "many", "I", false)
  | _ => ("ThriftNode$Air", "heard", "I", false)
def tyX6 : Nat → FieldType := fun k => match k with
  | 0 => .array .int
  | 1 => .array .int
  | 2 => .array .int
  | 3 => .int
  | _ => .int
abbrev wsX60 : List Cond := u_ws RX6 TX6 5
theorem nmX6 : ∀ a, a < 5 → ∀ b, b < 5 → a ≠ b → (TX6 a).2.1 ≠ (TX6 b).2.1 := by decide +kernel
theorem tyX6_ok : ∀ k, k < 5 → parseFieldDescriptor (TX6 k).2.2.1 = some (tyX6 k) := by decide +kernel
abbrev cX6_init : ByteArray := prog_2_method_1_code
def yX6_init : MethodName := ⟨RX6, "<init>", "()V"⟩
abbrev cX6_put : ByteArray := prog_2_method_2_code
def yX6_put : MethodName := ⟨RX6, "put", "(II)V"⟩
abbrev cX6_keeps : ByteArray := prog_2_method_3_code
def yX6_keeps : MethodName := ⟨RX6, "keeps", "(I)Z"⟩
theorem q61 : (Jvm.Cond.initialized "ThriftNode$Air") ∈ lw_all := lw_g (lw_at lw_m1 24 rfl) rfl
theorem q507 : (Jvm.Cond.selects "ThriftNode$Air" ({ cls := "java/lang/Object", name := "getClass", desc := "()Ljava/lang/Class;" } : Jvm.MethodName) ({ cls := "java/lang/Object", name := "getClass", desc := "()Ljava/lang/Class;" } : Jvm.MethodName)) ∈ lw_all := lw_g (lw_at lw_m2 230 rfl) rfl
theorem q542 : (Jvm.Cond.instantiable "ThriftNode$Air" (5 : Nat)) ∈ lw_all := lw_g (lw_at lw_m3 25 rfl) rfl
theorem q544 : (Jvm.Cond.instanceMethod ({ cls := "ThriftNode$Air", name := "<init>", desc := "()V" } : Jvm.MethodName)) ∈ lw_all := lw_g (lw_at lw_m3 27 rfl) rfl
theorem q545 : (Jvm.Cond.code ({ cls := "ThriftNode$Air", name := "<init>", desc := "()V" } : Jvm.MethodName) prog_2_method_1_code (1 : Nat) (Option.none : Option Jvm.ClassFile.FieldType)) ∈ lw_all := lw_g (lw_at lw_m3 28 rfl) rfl
theorem q546 : (Jvm.Cond.methodLink "ThriftNode$Air" (1 : Nat) ({ cls := "java/lang/Object", name := "<init>", desc := "()V" } : Jvm.MethodName)) ∈ lw_all := lw_g (lw_at lw_m3 29 rfl) rfl
theorem q547 : (Jvm.Cond.fieldLink "ThriftNode$Air" (9 : Nat) "ThriftNode$Air" "numbers" "[I") ∈ lw_all := lw_g (lw_at lw_m3 30 rfl) rfl
theorem q549 : (Jvm.Cond.fieldLink "ThriftNode$Air" (13 : Nat) "ThriftNode$Air" "payloads" "[I") ∈ lw_all := lw_g (lw_at lw_m3 32 rfl) rfl
theorem q551 : (Jvm.Cond.fieldLink "ThriftNode$Air" (16 : Nat) "ThriftNode$Air" "kept" "[I") ∈ lw_all := lw_g (lw_at lw_m3 34 rfl) rfl
theorem q553 : (Jvm.Cond.fieldLink "ThriftNode$Air" (19 : Nat) "ThriftNode$Air" "many" "I") ∈ lw_all := lw_g (lw_at lw_m3 36 rfl) rfl
theorem q555 : (Jvm.Cond.fieldLink "ThriftNode$Air" (23 : Nat) "ThriftNode$Air" "heard" "I") ∈ lw_all := lw_g (lw_at lw_m3 38 rfl) rfl
theorem q556 : (Jvm.Cond.laysFinal "ThriftNode$Air" "ThriftNode$Air" "numbers" "[I") ∈ lw_all := lw_g (lw_at lw_m3 39 rfl) rfl
theorem q557 : (Jvm.Cond.soleField "ThriftNode$Air" "numbers") ∈ lw_all := lw_g (lw_at lw_m3 40 rfl) rfl
theorem q558 : (Jvm.Cond.laysFinal "ThriftNode$Air" "ThriftNode$Air" "payloads" "[I") ∈ lw_all := lw_g (lw_at lw_m3 41 rfl) rfl
theorem q559 : (Jvm.Cond.soleField "ThriftNode$Air" "payloads") ∈ lw_all := lw_g (lw_at lw_m3 42 rfl) rfl
theorem q560 : (Jvm.Cond.laysFinal "ThriftNode$Air" "ThriftNode$Air" "kept" "[I") ∈ lw_all := lw_g (lw_at lw_m3 43 rfl) rfl
theorem q561 : (Jvm.Cond.soleField "ThriftNode$Air" "kept") ∈ lw_all := lw_g (lw_at lw_m3 44 rfl) rfl
theorem q562 : (Jvm.Cond.lays "ThriftNode$Air" "ThriftNode$Air" "many" "I") ∈ lw_all := lw_g (lw_at lw_m3 45 rfl) rfl
theorem q563 : (Jvm.Cond.soleField "ThriftNode$Air" "many") ∈ lw_all := lw_g (lw_at lw_m3 46 rfl) rfl
theorem q564 : (Jvm.Cond.lays "ThriftNode$Air" "ThriftNode$Air" "heard" "I") ∈ lw_all := lw_g (lw_at lw_m3 47 rfl) rfl
theorem q565 : (Jvm.Cond.soleField "ThriftNode$Air" "heard") ∈ lw_all := lw_g (lw_at lw_m3 48 rfl) rfl
theorem q566 : (Jvm.Cond.superclass "ThriftNode$Air" "java/lang/Object") ∈ lw_all := lw_g (lw_at lw_m3 49 rfl) rfl
theorem q971 : (Jvm.Cond.instanceMethod ({ cls := "ThriftNode$Air", name := "put", desc := "(II)V" } : Jvm.MethodName)) ∈ lw_all := lw_g (lw_at lw_m4 214 rfl) rfl
theorem q972 : (Jvm.Cond.selects "ThriftNode$Air" ({ cls := "ThriftNode$Air", name := "put", desc := "(II)V" } : Jvm.MethodName) ({ cls := "ThriftNode$Air", name := "put", desc := "(II)V" } : Jvm.MethodName)) ∈ lw_all := lw_g (lw_at lw_m4 215 rfl) rfl
theorem q973 : (Jvm.Cond.code ({ cls := "ThriftNode$Air", name := "put", desc := "(II)V" } : Jvm.MethodName) prog_2_method_2_code (3 : Nat) (Option.none : Option Jvm.ClassFile.FieldType)) ∈ lw_all := lw_g (lw_at lw_m4 216 rfl) rfl
theorem q1088 : (Jvm.Cond.instanceMethod ({ cls := "ThriftNode$Air", name := "keeps", desc := "(I)Z" } : Jvm.MethodName)) ∈ lw_all := lw_g (lw_at lw_m5 91 rfl) rfl
theorem q1089 : (Jvm.Cond.selects "ThriftNode$Air" ({ cls := "ThriftNode$Air", name := "keeps", desc := "(I)Z" } : Jvm.MethodName) ({ cls := "ThriftNode$Air", name := "keeps", desc := "(I)Z" } : Jvm.MethodName)) ∈ lw_all := lw_g (lw_at lw_m5 92 rfl) rfl
theorem q1090 : (Jvm.Cond.code ({ cls := "ThriftNode$Air", name := "keeps", desc := "(I)Z" } : Jvm.MethodName) prog_2_method_3_code (2 : Nat) (Option.some Jvm.ClassFile.FieldType.boolean)) ∈ lw_all := lw_g (lw_at lw_m5 93 rfl) rfl
theorem q1359 : (Jvm.Cond.castable "ThriftNode$Air" "java/lang/Object") ∈ lw_tbl := lw_at lw_m6 122 rfl
theorem in_X6 : ∀ w ∈ wsX60, w ∈ lw_all := lw_in wsX60 [556, 558, 560, 562, 564] (by decide +kernel) (by decide +kernel)

/-! ThriftNode$Stage -/
set_option maxRecDepth 100000
def RX7 : String := "ThriftNode$Stage"
abbrev cX7_init : ByteArray := prog_12_method_1_code
def yX7_init : MethodName := ⟨RX7, "<init>", "(LThriftNode$Node;)V"⟩
abbrev cX7_counts : ByteArray := prog_12_method_4_code
def yX7_counts : MethodName := ⟨RX7, "counts", "()Z"⟩
theorem q62 : (Jvm.Cond.initialized "ThriftNode$Stage") ∈ lw_all := lw_g (lw_at lw_m1 25 rfl) rfl
theorem q573 : (Jvm.Cond.instanceMethod ({ cls := "ThriftNode$Stage", name := "<init>", desc := "(LThriftNode$Node;)V" } : Jvm.MethodName)) ∈ lw_all := lw_g (lw_at lw_m3 56 rfl) rfl
theorem q574 : (Jvm.Cond.code ({ cls := "ThriftNode$Stage", name := "<init>", desc := "(LThriftNode$Node;)V" } : Jvm.MethodName) prog_12_method_1_code (2 : Nat) (Option.none : Option Jvm.ClassFile.FieldType)) ∈ lw_all := lw_g (lw_at lw_m3 57 rfl) rfl
theorem q575 : (Jvm.Cond.methodLink "ThriftNode$Stage" (1 : Nat) ({ cls := "java/lang/Object", name := "<init>", desc := "()V" } : Jvm.MethodName)) ∈ lw_all := lw_g (lw_at lw_m3 58 rfl) rfl
theorem q578 : (Jvm.Cond.fieldLink "ThriftNode$Stage" (7 : Nat) "ThriftNode$Stage" "node" "LThriftNode$Node;") ∈ lw_all := lw_g (lw_at lw_m3 61 rfl) rfl
theorem q590 : (Jvm.Cond.soleField "ThriftNode$Stage" "node") ∈ lw_all := lw_g (lw_at lw_m3 73 rfl) rfl
theorem q914 : (Jvm.Cond.declares ({ cls := "ThriftNode$Stage", name := "cost", desc := "()I" } : Jvm.MethodName)) ∈ lw_tbl := lw_at lw_m4 157 rfl
theorem q915 : (Jvm.Cond.sameMethod "ThriftNode$Stage" "ThriftNode$Stage" "cost" "()I") ∈ lw_all := lw_g (lw_at lw_m4 158 rfl) rfl
theorem q944 : (Jvm.Cond.instanceMethod ({ cls := "ThriftNode$Stage", name := "counts", desc := "()Z" } : Jvm.MethodName)) ∈ lw_all := lw_g (lw_at lw_m4 187 rfl) rfl
theorem q945 : (Jvm.Cond.sameMethod "ThriftNode$Stage" "ThriftNode$Stage" "counts" "()Z") ∈ lw_all := lw_g (lw_at lw_m4 188 rfl) rfl
theorem q954 : (Jvm.Cond.code ({ cls := "ThriftNode$Stage", name := "counts", desc := "()Z" } : Jvm.MethodName) prog_12_method_4_code (1 : Nat) (Option.some Jvm.ClassFile.FieldType.boolean)) ∈ lw_all := lw_g (lw_at lw_m4 197 rfl) rfl
theorem q961 : (Jvm.Cond.declares ({ cls := "ThriftNode$Stage", name := "act", desc := "()V" } : Jvm.MethodName)) ∈ lw_tbl := lw_at lw_m4 204 rfl
theorem q962 : (Jvm.Cond.sameMethod "ThriftNode$Stage" "ThriftNode$Stage" "act" "()V") ∈ lw_all := lw_g (lw_at lw_m4 205 rfl) rfl

/-! ThriftNode$Replay -/
set_option maxRecDepth 100000
def RX8 : String := "ThriftNode$Replay"
def TX8 : u_T := fun k => match k with
  | 0 => ("ThriftNode$Stage", "node", "LThriftNode$Node;", true)
  | _ => ("ThriftNode$Replay", "next", "I", false)
def tyX8 : Nat → FieldType := fun k => match k with
  | 0 => .object "ThriftNode$Node"
  | _ => .int
abbrev wsX80 : List Cond := u_ws RX8 TX8 2
theorem nmX8 : ∀ a, a < 2 → ∀ b, b < 2 → a ≠ b → (TX8 a).2.1 ≠ (TX8 b).2.1 := by decide +kernel
theorem tyX8_ok : ∀ k, k < 2 → parseFieldDescriptor (TX8 k).2.2.1 = some (tyX8 k) := by decide +kernel
abbrev cX8_init : ByteArray := prog_10_method_1_code
def yX8_init : MethodName := ⟨RX8, "<init>", "(LThriftNode$Node;)V"⟩
abbrev cX8_cost : ByteArray := prog_10_method_2_code
def yX8_cost : MethodName := ⟨RX8, "cost", "()I"⟩
abbrev cX8_act : ByteArray := prog_10_method_3_code
def yX8_act : MethodName := ⟨RX8, "act", "()V"⟩
theorem q63 : (Jvm.Cond.initialized "ThriftNode$Replay") ∈ lw_all := lw_g (lw_at lw_m1 26 rfl) rfl
theorem q97 : (Jvm.Cond.fieldLinkNest "ThriftNode$Replay" (25 : Nat) "ThriftNode$Kept" "words" "[I" "ThriftNode") ∈ lw_tbl := lw_at lw_m1 60 rfl
theorem q515 : (Jvm.Cond.selects "ThriftNode$Replay" ({ cls := "java/lang/Object", name := "getClass", desc := "()Ljava/lang/Class;" } : Jvm.MethodName) ({ cls := "java/lang/Object", name := "getClass", desc := "()Ljava/lang/Class;" } : Jvm.MethodName)) ∈ lw_all := lw_g (lw_at lw_m2 238 rfl) rfl
theorem q568 : (Jvm.Cond.instantiable "ThriftNode$Replay" (2 : Nat)) ∈ lw_all := lw_g (lw_at lw_m3 51 rfl) rfl
theorem q570 : (Jvm.Cond.instanceMethod ({ cls := "ThriftNode$Replay", name := "<init>", desc := "(LThriftNode$Node;)V" } : Jvm.MethodName)) ∈ lw_all := lw_g (lw_at lw_m3 53 rfl) rfl
theorem q571 : (Jvm.Cond.code ({ cls := "ThriftNode$Replay", name := "<init>", desc := "(LThriftNode$Node;)V" } : Jvm.MethodName) prog_10_method_1_code (2 : Nat) (Option.none : Option Jvm.ClassFile.FieldType)) ∈ lw_all := lw_g (lw_at lw_m3 54 rfl) rfl
theorem q572 : (Jvm.Cond.methodLink "ThriftNode$Replay" (3 : Nat) ({ cls := "ThriftNode$Stage", name := "<init>", desc := "(LThriftNode$Node;)V" } : Jvm.MethodName)) ∈ lw_all := lw_g (lw_at lw_m3 55 rfl) rfl
theorem q576 : (Jvm.Cond.fieldLink "ThriftNode$Replay" (21 : Nat) "ThriftNode$Replay" "next" "I") ∈ lw_all := lw_g (lw_at lw_m3 59 rfl) rfl
theorem q585 : (Jvm.Cond.fieldLink "ThriftNode$Replay" (9 : Nat) "ThriftNode$Replay" "node" "LThriftNode$Node;") ∈ lw_all := lw_g (lw_at lw_m3 68 rfl) rfl
theorem q586 : (Jvm.Cond.sameField "ThriftNode$Replay" "ThriftNode$Stage" "node" "LThriftNode$Node;") ∈ lw_all := lw_g (lw_at lw_m3 69 rfl) rfl
theorem q587 : (Jvm.Cond.lays "ThriftNode$Replay" "ThriftNode$Replay" "next" "I") ∈ lw_all := lw_g (lw_at lw_m3 70 rfl) rfl
theorem q588 : (Jvm.Cond.soleField "ThriftNode$Replay" "next") ∈ lw_all := lw_g (lw_at lw_m3 71 rfl) rfl
theorem q589 : (Jvm.Cond.laysFinal "ThriftNode$Replay" "ThriftNode$Stage" "node" "LThriftNode$Node;") ∈ lw_all := lw_g (lw_at lw_m3 72 rfl) rfl
theorem q591 : (Jvm.Cond.superclass "ThriftNode$Replay" "ThriftNode$Stage") ∈ lw_all := lw_g (lw_at lw_m3 74 rfl) rfl
theorem q633 : (Jvm.Cond.fieldLinkNest "ThriftNode$Replay" (15 : Nat) "ThriftNode$Node" "kept" "LThriftNode$Kept;" "ThriftNode") ∈ lw_tbl := lw_at lw_m3 116 rfl
theorem q658 : (Jvm.Cond.fieldLinkNest "ThriftNode$Replay" (35 : Nat) "ThriftNode$Node" "air" "LThriftNode$Airing;" "ThriftNode") ∈ lw_tbl := lw_at lw_m3 141 rfl
theorem q666 : (Jvm.Cond.fieldLinkNest "ThriftNode$Replay" (39 : Nat) "ThriftNode$Node" "stage" "LThriftNode$Stage;" "ThriftNode") ∈ lw_tbl := lw_at lw_m3 149 rfl
theorem q922 : (Jvm.Cond.selects "ThriftNode$Replay" ({ cls := "ThriftNode$Stage", name := "cost", desc := "()I" } : Jvm.MethodName) ({ cls := "ThriftNode$Replay", name := "cost", desc := "()I" } : Jvm.MethodName)) ∈ lw_all := lw_g (lw_at lw_m4 165 rfl) rfl
theorem q923 : (Jvm.Cond.instanceMethod ({ cls := "ThriftNode$Replay", name := "cost", desc := "()I" } : Jvm.MethodName)) ∈ lw_all := lw_g (lw_at lw_m4 166 rfl) rfl
theorem q924 : (Jvm.Cond.code ({ cls := "ThriftNode$Replay", name := "cost", desc := "()I" } : Jvm.MethodName) prog_10_method_2_code (1 : Nat) (Option.some Jvm.ClassFile.FieldType.int)) ∈ lw_all := lw_g (lw_at lw_m4 167 rfl) rfl
theorem q950 : (Jvm.Cond.selects "ThriftNode$Replay" ({ cls := "ThriftNode$Stage", name := "counts", desc := "()Z" } : Jvm.MethodName) ({ cls := "ThriftNode$Stage", name := "counts", desc := "()Z" } : Jvm.MethodName)) ∈ lw_all := lw_g (lw_at lw_m4 193 rfl) rfl
theorem q990 : (Jvm.Cond.selects "ThriftNode$Replay" ({ cls := "ThriftNode$Stage", name := "act", desc := "()V" } : Jvm.MethodName) ({ cls := "ThriftNode$Replay", name := "act", desc := "()V" } : Jvm.MethodName)) ∈ lw_all := lw_g (lw_at lw_m4 233 rfl) rfl
theorem q991 : (Jvm.Cond.instanceMethod ({ cls := "ThriftNode$Replay", name := "act", desc := "()V" } : Jvm.MethodName)) ∈ lw_all := lw_g (lw_at lw_m4 234 rfl) rfl
theorem q992 : (Jvm.Cond.code ({ cls := "ThriftNode$Replay", name := "act", desc := "()V" } : Jvm.MethodName) prog_10_method_3_code (2 : Nat) (Option.none : Option Jvm.ClassFile.FieldType)) ∈ lw_all := lw_g (lw_at lw_m4 235 rfl) rfl
theorem q993 : (Jvm.Cond.methodLink "ThriftNode$Replay" (31 : Nat) ({ cls := "ThriftNode$Kept", name := "write", desc := "(II)V" } : Jvm.MethodName)) ∈ lw_all := lw_g (lw_at lw_m4 236 rfl) rfl
theorem q1360 : (Jvm.Cond.castable "ThriftNode$Replay" "java/lang/Object") ∈ lw_tbl := lw_at lw_m6 123 rfl
theorem in_X8 : ∀ w ∈ wsX80, w ∈ lw_all := lw_in wsX80 [589, 587] (by decide +kernel) (by decide +kernel)

/-! ThriftNode$Airing -/
set_option maxRecDepth 100000
def RX9 : String := "ThriftNode$Airing"
def TX9 : u_T := fun k => match k with
  | 0 => ("ThriftNode$Stage", "node", "LThriftNode$Node;", true)
  | _ => ("ThriftNode$Airing", "noting", "Z", false)
def tyX9 : Nat → FieldType := fun k => match k with
  | 0 => .object "ThriftNode$Node"
  | _ => .boolean
abbrev wsX90 : List Cond := u_ws RX9 TX9 2
theorem nmX9 : ∀ a, a < 2 → ∀ b, b < 2 → a ≠ b → (TX9 a).2.1 ≠ (TX9 b).2.1 := by decide +kernel
theorem tyX9_ok : ∀ k, k < 2 → parseFieldDescriptor (TX9 k).2.2.1 = some (tyX9 k) := by decide +kernel
abbrev cX9_init : ByteArray := prog_3_method_1_code
def yX9_init : MethodName := ⟨RX9, "<init>", "(LThriftNode$Node;)V"⟩
abbrev cX9_isIdle : ByteArray := prog_3_method_2_code
def yX9_isIdle : MethodName := ⟨RX9, "isIdle", "()Z"⟩
abbrev cX9_cost : ByteArray := prog_3_method_3_code
def yX9_cost : MethodName := ⟨RX9, "cost", "()I"⟩
abbrev cX9_act : ByteArray := prog_3_method_4_code
def yX9_act : MethodName := ⟨RX9, "act", "()V"⟩
theorem q64 : (Jvm.Cond.initialized "ThriftNode$Airing") ∈ lw_all := lw_g (lw_at lw_m1 27 rfl) rfl
theorem q95 : (Jvm.Cond.fieldLinkNest "ThriftNode$Airing" (21 : Nat) "ThriftNode$Kept" "words" "[I" "ThriftNode") ∈ lw_tbl := lw_at lw_m1 58 rfl
theorem q508 : (Jvm.Cond.selects "ThriftNode$Airing" ({ cls := "java/lang/Object", name := "getClass", desc := "()Ljava/lang/Class;" } : Jvm.MethodName) ({ cls := "java/lang/Object", name := "getClass", desc := "()Ljava/lang/Class;" } : Jvm.MethodName)) ∈ lw_all := lw_g (lw_at lw_m2 231 rfl) rfl
theorem q579 : (Jvm.Cond.fieldLink "ThriftNode$Airing" (9 : Nat) "ThriftNode$Airing" "node" "LThriftNode$Node;") ∈ lw_all := lw_g (lw_at lw_m3 62 rfl) rfl
theorem q580 : (Jvm.Cond.sameField "ThriftNode$Airing" "ThriftNode$Stage" "node" "LThriftNode$Node;") ∈ lw_all := lw_g (lw_at lw_m3 63 rfl) rfl
theorem q593 : (Jvm.Cond.instantiable "ThriftNode$Airing" (2 : Nat)) ∈ lw_all := lw_g (lw_at lw_m3 76 rfl) rfl
theorem q595 : (Jvm.Cond.instanceMethod ({ cls := "ThriftNode$Airing", name := "<init>", desc := "(LThriftNode$Node;)V" } : Jvm.MethodName)) ∈ lw_all := lw_g (lw_at lw_m3 78 rfl) rfl
theorem q596 : (Jvm.Cond.code ({ cls := "ThriftNode$Airing", name := "<init>", desc := "(LThriftNode$Node;)V" } : Jvm.MethodName) prog_3_method_1_code (2 : Nat) (Option.none : Option Jvm.ClassFile.FieldType)) ∈ lw_all := lw_g (lw_at lw_m3 79 rfl) rfl
theorem q597 : (Jvm.Cond.methodLink "ThriftNode$Airing" (3 : Nat) ({ cls := "ThriftNode$Stage", name := "<init>", desc := "(LThriftNode$Node;)V" } : Jvm.MethodName)) ∈ lw_all := lw_g (lw_at lw_m3 80 rfl) rfl
theorem q598 : (Jvm.Cond.fieldLink "ThriftNode$Airing" (27 : Nat) "ThriftNode$Airing" "noting" "Z") ∈ lw_all := lw_g (lw_at lw_m3 81 rfl) rfl
theorem q600 : (Jvm.Cond.lays "ThriftNode$Airing" "ThriftNode$Airing" "noting" "Z") ∈ lw_all := lw_g (lw_at lw_m3 83 rfl) rfl
theorem q601 : (Jvm.Cond.soleField "ThriftNode$Airing" "noting") ∈ lw_all := lw_g (lw_at lw_m3 84 rfl) rfl
theorem q602 : (Jvm.Cond.laysFinal "ThriftNode$Airing" "ThriftNode$Stage" "node" "LThriftNode$Node;") ∈ lw_all := lw_g (lw_at lw_m3 85 rfl) rfl
theorem q603 : (Jvm.Cond.superclass "ThriftNode$Airing" "ThriftNode$Stage") ∈ lw_all := lw_g (lw_at lw_m3 86 rfl) rfl
theorem q631 : (Jvm.Cond.fieldLinkNest "ThriftNode$Airing" (15 : Nat) "ThriftNode$Node" "kept" "LThriftNode$Kept;" "ThriftNode") ∈ lw_tbl := lw_at lw_m3 114 rfl
theorem q644 : (Jvm.Cond.fieldLinkNest "ThriftNode$Airing" (35 : Nat) "ThriftNode$Node" "outside" "LThriftNode$Air;" "ThriftNode") ∈ lw_tbl := lw_at lw_m3 127 rfl
theorem q898 : (Jvm.Cond.instanceMethod ({ cls := "ThriftNode$Airing", name := "isIdle", desc := "()Z" } : Jvm.MethodName)) ∈ lw_all := lw_g (lw_at lw_m4 141 rfl) rfl
theorem q899 : (Jvm.Cond.selects "ThriftNode$Airing" ({ cls := "ThriftNode$Airing", name := "isIdle", desc := "()Z" } : Jvm.MethodName) ({ cls := "ThriftNode$Airing", name := "isIdle", desc := "()Z" } : Jvm.MethodName)) ∈ lw_all := lw_g (lw_at lw_m4 142 rfl) rfl
theorem q900 : (Jvm.Cond.code ({ cls := "ThriftNode$Airing", name := "isIdle", desc := "()Z" } : Jvm.MethodName) prog_3_method_2_code (1 : Nat) (Option.some Jvm.ClassFile.FieldType.boolean)) ∈ lw_all := lw_g (lw_at lw_m4 143 rfl) rfl
theorem q916 : (Jvm.Cond.selects "ThriftNode$Airing" ({ cls := "ThriftNode$Stage", name := "cost", desc := "()I" } : Jvm.MethodName) ({ cls := "ThriftNode$Airing", name := "cost", desc := "()I" } : Jvm.MethodName)) ∈ lw_all := lw_g (lw_at lw_m4 159 rfl) rfl
theorem q917 : (Jvm.Cond.instanceMethod ({ cls := "ThriftNode$Airing", name := "cost", desc := "()I" } : Jvm.MethodName)) ∈ lw_all := lw_g (lw_at lw_m4 160 rfl) rfl
theorem q918 : (Jvm.Cond.code ({ cls := "ThriftNode$Airing", name := "cost", desc := "()I" } : Jvm.MethodName) prog_3_method_3_code (1 : Nat) (Option.some Jvm.ClassFile.FieldType.int)) ∈ lw_all := lw_g (lw_at lw_m4 161 rfl) rfl
theorem q946 : (Jvm.Cond.selects "ThriftNode$Airing" ({ cls := "ThriftNode$Stage", name := "counts", desc := "()Z" } : Jvm.MethodName) ({ cls := "ThriftNode$Stage", name := "counts", desc := "()Z" } : Jvm.MethodName)) ∈ lw_all := lw_g (lw_at lw_m4 189 rfl) rfl
theorem q963 : (Jvm.Cond.selects "ThriftNode$Airing" ({ cls := "ThriftNode$Stage", name := "act", desc := "()V" } : Jvm.MethodName) ({ cls := "ThriftNode$Airing", name := "act", desc := "()V" } : Jvm.MethodName)) ∈ lw_all := lw_g (lw_at lw_m4 206 rfl) rfl
theorem q964 : (Jvm.Cond.instanceMethod ({ cls := "ThriftNode$Airing", name := "act", desc := "()V" } : Jvm.MethodName)) ∈ lw_all := lw_g (lw_at lw_m4 207 rfl) rfl
theorem q965 : (Jvm.Cond.code ({ cls := "ThriftNode$Airing", name := "act", desc := "()V" } : Jvm.MethodName) prog_3_method_4_code (2 : Nat) (Option.none : Option Jvm.ClassFile.FieldType)) ∈ lw_all := lw_g (lw_at lw_m4 208 rfl) rfl
theorem q966 : (Jvm.Cond.methodLink "ThriftNode$Airing" (31 : Nat) ({ cls := "ThriftNode$Kept", name := "write", desc := "(II)V" } : Jvm.MethodName)) ∈ lw_all := lw_g (lw_at lw_m4 209 rfl) rfl
theorem q970 : (Jvm.Cond.methodLink "ThriftNode$Airing" (39 : Nat) ({ cls := "ThriftNode$Air", name := "put", desc := "(II)V" } : Jvm.MethodName)) ∈ lw_all := lw_g (lw_at lw_m4 213 rfl) rfl
theorem q1361 : (Jvm.Cond.castable "ThriftNode$Airing" "java/lang/Object") ∈ lw_tbl := lw_at lw_m6 124 rfl
theorem in_X9 : ∀ w ∈ wsX90, w ∈ lw_all := lw_in wsX90 [602, 600] (by decide +kernel) (by decide +kernel)

/-! ThriftNode$Run -/
set_option maxRecDepth 100000
def RX10 : String := "ThriftNode$Run"
def TX10 : u_T := fun k => match k with
  | 0 => ("ThriftNode$Stage", "node", "LThriftNode$Node;", true)
  | 1 => ("ThriftNode$Run", "next", "I", false)
  | _ => ("ThriftNode$Run", "bound", "I", false)
def tyX10 : Nat → FieldType := fun k => match k with
  | 0 => .object "ThriftNode$Node"
  | 1 => .int
  | _ => .int
abbrev wsX100 : List Cond := u_ws RX10 TX10 3
theorem nmX10 : ∀ a, a < 3 → ∀ b, b < 3 → a ≠ b → (TX10 a).2.1 ≠ (TX10 b).2.1 := by decide +kernel
theorem tyX10_ok : ∀ k, k < 3 → parseFieldDescriptor (TX10 k).2.2.1 = some (tyX10 k) := by decide +kernel
abbrev cX10_init : ByteArray := prog_11_method_1_code
def yX10_init : MethodName := ⟨RX10, "<init>", "(LThriftNode$Node;)V"⟩
abbrev cX10_begin : ByteArray := prog_11_method_2_code
def yX10_begin : MethodName := ⟨RX10, "begin", "()V"⟩
abbrev cX10_cost : ByteArray := prog_11_method_5_code
def yX10_cost : MethodName := ⟨RX10, "cost", "()I"⟩
abbrev cX10_instruction : ByteArray := prog_11_method_3_code
def yX10_instruction : MethodName := ⟨RX10, "instruction", "()LThriftNode$Instruction;"⟩
abbrev cX10_counts : ByteArray := prog_11_method_4_code
def yX10_counts : MethodName := ⟨RX10, "counts", "()Z"⟩
abbrev cX10_act : ByteArray := prog_11_method_6_code
def yX10_act : MethodName := ⟨RX10, "act", "()V"⟩
abbrev cX10_put : ByteArray := prog_11_method_7_code
def yX10_put : MethodName := ⟨RX10, "put", "(II)V"⟩
abbrev cX10_push : ByteArray := prog_11_method_8_code
def yX10_push : MethodName := ⟨RX10, "push", "(II)V"⟩
abbrev cX10_pop : ByteArray := prog_11_method_9_code
def yX10_pop : MethodName := ⟨RX10, "pop", "(II)V"⟩
abbrev cX10_send : ByteArray := prog_11_method_10_code
def yX10_send : MethodName := ⟨RX10, "send", "(I)V"⟩
abbrev cX10_abandon : ByteArray := prog_11_method_11_code
def yX10_abandon : MethodName := ⟨RX10, "abandon", "()V"⟩
theorem q65 : (Jvm.Cond.initialized "ThriftNode$Run") ∈ lw_all := lw_g (lw_at lw_m1 28 rfl) rfl
theorem q98 : (Jvm.Cond.fieldLinkNest "ThriftNode$Run" (32 : Nat) "ThriftNode$Kept" "words" "[I" "ThriftNode") ∈ lw_tbl := lw_at lw_m1 61 rfl
theorem q516 : (Jvm.Cond.selects "ThriftNode$Run" ({ cls := "java/lang/Object", name := "getClass", desc := "()Ljava/lang/Class;" } : Jvm.MethodName) ({ cls := "java/lang/Object", name := "getClass", desc := "()Ljava/lang/Class;" } : Jvm.MethodName)) ∈ lw_all := lw_g (lw_at lw_m2 239 rfl) rfl
theorem q583 : (Jvm.Cond.fieldLink "ThriftNode$Run" (18 : Nat) "ThriftNode$Run" "node" "LThriftNode$Node;") ∈ lw_all := lw_g (lw_at lw_m3 66 rfl) rfl
theorem q584 : (Jvm.Cond.sameField "ThriftNode$Run" "ThriftNode$Stage" "node" "LThriftNode$Node;") ∈ lw_all := lw_g (lw_at lw_m3 67 rfl) rfl
theorem q605 : (Jvm.Cond.instantiable "ThriftNode$Run" (3 : Nat)) ∈ lw_all := lw_g (lw_at lw_m3 88 rfl) rfl
theorem q607 : (Jvm.Cond.instanceMethod ({ cls := "ThriftNode$Run", name := "<init>", desc := "(LThriftNode$Node;)V" } : Jvm.MethodName)) ∈ lw_all := lw_g (lw_at lw_m3 90 rfl) rfl
theorem q608 : (Jvm.Cond.code ({ cls := "ThriftNode$Run", name := "<init>", desc := "(LThriftNode$Node;)V" } : Jvm.MethodName) prog_11_method_1_code (2 : Nat) (Option.none : Option Jvm.ClassFile.FieldType)) ∈ lw_all := lw_g (lw_at lw_m3 91 rfl) rfl
theorem q609 : (Jvm.Cond.methodLink "ThriftNode$Run" (3 : Nat) ({ cls := "ThriftNode$Stage", name := "<init>", desc := "(LThriftNode$Node;)V" } : Jvm.MethodName)) ∈ lw_all := lw_g (lw_at lw_m3 92 rfl) rfl
theorem q610 : (Jvm.Cond.fieldLink "ThriftNode$Run" (9 : Nat) "ThriftNode$Run" "next" "I") ∈ lw_all := lw_g (lw_at lw_m3 93 rfl) rfl
theorem q612 : (Jvm.Cond.fieldLink "ThriftNode$Run" (15 : Nat) "ThriftNode$Run" "bound" "I") ∈ lw_all := lw_g (lw_at lw_m3 95 rfl) rfl
theorem q613 : (Jvm.Cond.lays "ThriftNode$Run" "ThriftNode$Run" "next" "I") ∈ lw_all := lw_g (lw_at lw_m3 96 rfl) rfl
theorem q614 : (Jvm.Cond.soleField "ThriftNode$Run" "next") ∈ lw_all := lw_g (lw_at lw_m3 97 rfl) rfl
theorem q615 : (Jvm.Cond.lays "ThriftNode$Run" "ThriftNode$Run" "bound" "I") ∈ lw_all := lw_g (lw_at lw_m3 98 rfl) rfl
theorem q616 : (Jvm.Cond.soleField "ThriftNode$Run" "bound") ∈ lw_all := lw_g (lw_at lw_m3 99 rfl) rfl
theorem q617 : (Jvm.Cond.laysFinal "ThriftNode$Run" "ThriftNode$Stage" "node" "LThriftNode$Node;") ∈ lw_all := lw_g (lw_at lw_m3 100 rfl) rfl
theorem q618 : (Jvm.Cond.superclass "ThriftNode$Run" "ThriftNode$Stage") ∈ lw_all := lw_g (lw_at lw_m3 101 rfl) rfl
theorem q634 : (Jvm.Cond.fieldLinkNest "ThriftNode$Run" (28 : Nat) "ThriftNode$Node" "kept" "LThriftNode$Kept;" "ThriftNode") ∈ lw_tbl := lw_at lw_m3 117 rfl
theorem q638 : (Jvm.Cond.fieldLinkNest "ThriftNode$Run" (79 : Nat) "ThriftNode$Node" "pending" "LThriftNode$Pending;" "ThriftNode") ∈ lw_tbl := lw_at lw_m3 121 rfl
theorem q642 : (Jvm.Cond.fieldLinkNest "ThriftNode$Run" (22 : Nat) "ThriftNode$Node" "program" "LThriftNode$Program;" "ThriftNode") ∈ lw_tbl := lw_at lw_m3 125 rfl
theorem q647 : (Jvm.Cond.fieldLinkNest "ThriftNode$Run" (54 : Nat) "ThriftNode$Node" "registers" "[I" "ThriftNode") ∈ lw_tbl := lw_at lw_m3 130 rfl
theorem q650 : (Jvm.Cond.fieldLinkNest "ThriftNode$Run" (99 : Nat) "ThriftNode$Node" "sensors" "[I" "ThriftNode") ∈ lw_tbl := lw_at lw_m3 133 rfl
theorem q662 : (Jvm.Cond.fieldLinkNest "ThriftNode$Run" (60 : Nat) "ThriftNode$Node" "commit" "LThriftNode$Commit;" "ThriftNode") ∈ lw_tbl := lw_at lw_m3 145 rfl
theorem q670 : (Jvm.Cond.fieldLinkNest "ThriftNode$Run" (105 : Nat) "ThriftNode$Node" "slot" "I" "ThriftNode") ∈ lw_tbl := lw_at lw_m3 153 rfl
theorem q681 : (Jvm.Cond.fieldLinkNest "ThriftNode$Run" (119 : Nat) "ThriftNode$Node" "abandoned" "I" "ThriftNode") ∈ lw_tbl := lw_at lw_m3 164 rfl
theorem q774 : (Jvm.Cond.fieldLinkNest "ThriftNode$Run" (57 : Nat) "ThriftNode$Instruction" "op" "I" "ThriftNode") ∈ lw_tbl := lw_at lw_m4 17 rfl
theorem q777 : (Jvm.Cond.fieldLinkNest "ThriftNode$Run" (64 : Nat) "ThriftNode$Instruction" "a" "I" "ThriftNode") ∈ lw_tbl := lw_at lw_m4 20 rfl
theorem q780 : (Jvm.Cond.fieldLinkNest "ThriftNode$Run" (73 : Nat) "ThriftNode$Instruction" "b" "I" "ThriftNode") ∈ lw_tbl := lw_at lw_m4 23 rfl
theorem q783 : (Jvm.Cond.fieldLinkNest "ThriftNode$Run" (76 : Nat) "ThriftNode$Instruction" "c" "I" "ThriftNode") ∈ lw_tbl := lw_at lw_m4 26 rfl
theorem q910 : (Jvm.Cond.instanceMethod ({ cls := "ThriftNode$Run", name := "begin", desc := "()V" } : Jvm.MethodName)) ∈ lw_all := lw_g (lw_at lw_m4 153 rfl) rfl
theorem q911 : (Jvm.Cond.selects "ThriftNode$Run" ({ cls := "ThriftNode$Run", name := "begin", desc := "()V" } : Jvm.MethodName) ({ cls := "ThriftNode$Run", name := "begin", desc := "()V" } : Jvm.MethodName)) ∈ lw_all := lw_g (lw_at lw_m4 154 rfl) rfl
theorem q912 : (Jvm.Cond.code ({ cls := "ThriftNode$Run", name := "begin", desc := "()V" } : Jvm.MethodName) prog_11_method_2_code (1 : Nat) (Option.none : Option Jvm.ClassFile.FieldType)) ∈ lw_all := lw_g (lw_at lw_m4 155 rfl) rfl
theorem q925 : (Jvm.Cond.selects "ThriftNode$Run" ({ cls := "ThriftNode$Stage", name := "cost", desc := "()I" } : Jvm.MethodName) ({ cls := "ThriftNode$Run", name := "cost", desc := "()I" } : Jvm.MethodName)) ∈ lw_all := lw_g (lw_at lw_m4 168 rfl) rfl
theorem q926 : (Jvm.Cond.instanceMethod ({ cls := "ThriftNode$Run", name := "cost", desc := "()I" } : Jvm.MethodName)) ∈ lw_all := lw_g (lw_at lw_m4 169 rfl) rfl
theorem q927 : (Jvm.Cond.code ({ cls := "ThriftNode$Run", name := "cost", desc := "()I" } : Jvm.MethodName) prog_11_method_5_code (1 : Nat) (Option.some Jvm.ClassFile.FieldType.int)) ∈ lw_all := lw_g (lw_at lw_m4 170 rfl) rfl
theorem q928 : (Jvm.Cond.methodLink "ThriftNode$Run" (44 : Nat) ({ cls := "ThriftNode$Run", name := "instruction", desc := "()LThriftNode$Instruction;" } : Jvm.MethodName)) ∈ lw_all := lw_g (lw_at lw_m4 171 rfl) rfl
theorem q929 : (Jvm.Cond.privateMethod ({ cls := "ThriftNode$Run", name := "instruction", desc := "()LThriftNode$Instruction;" } : Jvm.MethodName)) ∈ lw_tbl := lw_at lw_m4 172 rfl
theorem q930 : (Jvm.Cond.instanceMethod ({ cls := "ThriftNode$Run", name := "instruction", desc := "()LThriftNode$Instruction;" } : Jvm.MethodName)) ∈ lw_all := lw_g (lw_at lw_m4 173 rfl) rfl
theorem q931 : (Jvm.Cond.code ({ cls := "ThriftNode$Run", name := "instruction", desc := "()LThriftNode$Instruction;" } : Jvm.MethodName) prog_11_method_3_code (1 : Nat) (Option.some (Jvm.ClassFile.FieldType.object "ThriftNode$Instruction"))) ∈ lw_all := lw_g (lw_at lw_m4 174 rfl) rfl
theorem q932 : (Jvm.Cond.methodLink "ThriftNode$Run" (38 : Nat) ({ cls := "ThriftNode$Program", name := "at", desc := "(II)LThriftNode$Instruction;" } : Jvm.MethodName)) ∈ lw_all := lw_g (lw_at lw_m4 175 rfl) rfl
theorem q933 : (Jvm.Cond.methodLink "ThriftNode$Run" (48 : Nat) ({ cls := "ThriftNode$Instruction", name := "cost", desc := "()I" } : Jvm.MethodName)) ∈ lw_all := lw_g (lw_at lw_m4 176 rfl) rfl
theorem q951 : (Jvm.Cond.selects "ThriftNode$Run" ({ cls := "ThriftNode$Stage", name := "counts", desc := "()Z" } : Jvm.MethodName) ({ cls := "ThriftNode$Run", name := "counts", desc := "()Z" } : Jvm.MethodName)) ∈ lw_all := lw_g (lw_at lw_m4 194 rfl) rfl
theorem q952 : (Jvm.Cond.instanceMethod ({ cls := "ThriftNode$Run", name := "counts", desc := "()Z" } : Jvm.MethodName)) ∈ lw_all := lw_g (lw_at lw_m4 195 rfl) rfl
theorem q953 : (Jvm.Cond.code ({ cls := "ThriftNode$Run", name := "counts", desc := "()Z" } : Jvm.MethodName) prog_11_method_4_code (1 : Nat) (Option.some Jvm.ClassFile.FieldType.boolean)) ∈ lw_all := lw_g (lw_at lw_m4 196 rfl) rfl
theorem q994 : (Jvm.Cond.selects "ThriftNode$Run" ({ cls := "ThriftNode$Stage", name := "act", desc := "()V" } : Jvm.MethodName) ({ cls := "ThriftNode$Run", name := "act", desc := "()V" } : Jvm.MethodName)) ∈ lw_all := lw_g (lw_at lw_m4 237 rfl) rfl
theorem q995 : (Jvm.Cond.instanceMethod ({ cls := "ThriftNode$Run", name := "act", desc := "()V" } : Jvm.MethodName)) ∈ lw_all := lw_g (lw_at lw_m4 238 rfl) rfl
theorem q996 : (Jvm.Cond.code ({ cls := "ThriftNode$Run", name := "act", desc := "()V" } : Jvm.MethodName) prog_11_method_6_code (3 : Nat) (Option.none : Option Jvm.ClassFile.FieldType)) ∈ lw_all := lw_g (lw_at lw_m4 239 rfl) rfl
theorem q997 : (Jvm.Cond.methodLink "ThriftNode$Run" (67 : Nat) ({ cls := "ThriftNode$Commit", name := "begin", desc := "(I)V" } : Jvm.MethodName)) ∈ lw_all := lw_g (lw_at lw_m5 0 rfl) rfl
theorem q1009 : (Jvm.Cond.methodLink "ThriftNode$Run" (83 : Nat) ({ cls := "ThriftNode$Pending", name := "read", desc := "(I)I" } : Jvm.MethodName)) ∈ lw_all := lw_g (lw_at lw_m5 12 rfl) rfl
theorem q1013 : (Jvm.Cond.methodLink "ThriftNode$Run" (89 : Nat) ({ cls := "ThriftNode$Run", name := "put", desc := "(II)V" } : Jvm.MethodName)) ∈ lw_all := lw_g (lw_at lw_m5 16 rfl) rfl
theorem q1014 : (Jvm.Cond.privateMethod ({ cls := "ThriftNode$Run", name := "put", desc := "(II)V" } : Jvm.MethodName)) ∈ lw_tbl := lw_at lw_m5 17 rfl
theorem q1015 : (Jvm.Cond.instanceMethod ({ cls := "ThriftNode$Run", name := "put", desc := "(II)V" } : Jvm.MethodName)) ∈ lw_all := lw_g (lw_at lw_m5 18 rfl) rfl
theorem q1016 : (Jvm.Cond.code ({ cls := "ThriftNode$Run", name := "put", desc := "(II)V" } : Jvm.MethodName) prog_11_method_7_code (3 : Nat) (Option.none : Option Jvm.ClassFile.FieldType)) ∈ lw_all := lw_g (lw_at lw_m5 19 rfl) rfl
theorem q1017 : (Jvm.Cond.methodLink "ThriftNode$Run" (112 : Nat) ({ cls := "ThriftNode$Pending", name := "takes", desc := "(II)Z" } : Jvm.MethodName)) ∈ lw_all := lw_g (lw_at lw_m5 20 rfl) rfl
theorem q1021 : (Jvm.Cond.methodLink "ThriftNode$Run" (116 : Nat) ({ cls := "ThriftNode$Pending", name := "write", desc := "(II)V" } : Jvm.MethodName)) ∈ lw_all := lw_g (lw_at lw_m5 24 rfl) rfl
theorem q1022 : (Jvm.Cond.methodLink "ThriftNode$Run" (93 : Nat) ({ cls := "ThriftNode$Run", name := "push", desc := "(II)V" } : Jvm.MethodName)) ∈ lw_all := lw_g (lw_at lw_m5 25 rfl) rfl
theorem q1023 : (Jvm.Cond.privateMethod ({ cls := "ThriftNode$Run", name := "push", desc := "(II)V" } : Jvm.MethodName)) ∈ lw_tbl := lw_at lw_m5 26 rfl
theorem q1024 : (Jvm.Cond.instanceMethod ({ cls := "ThriftNode$Run", name := "push", desc := "(II)V" } : Jvm.MethodName)) ∈ lw_all := lw_g (lw_at lw_m5 27 rfl) rfl
theorem q1025 : (Jvm.Cond.code ({ cls := "ThriftNode$Run", name := "push", desc := "(II)V" } : Jvm.MethodName) prog_11_method_8_code (7 : Nat) (Option.none : Option Jvm.ClassFile.FieldType)) ∈ lw_all := lw_g (lw_at lw_m5 28 rfl) rfl
theorem q1026 : (Jvm.Cond.methodLink "ThriftNode$Run" (96 : Nat) ({ cls := "ThriftNode$Run", name := "pop", desc := "(II)V" } : Jvm.MethodName)) ∈ lw_all := lw_g (lw_at lw_m5 29 rfl) rfl
theorem q1027 : (Jvm.Cond.privateMethod ({ cls := "ThriftNode$Run", name := "pop", desc := "(II)V" } : Jvm.MethodName)) ∈ lw_tbl := lw_at lw_m5 30 rfl
theorem q1028 : (Jvm.Cond.instanceMethod ({ cls := "ThriftNode$Run", name := "pop", desc := "(II)V" } : Jvm.MethodName)) ∈ lw_all := lw_g (lw_at lw_m5 31 rfl) rfl
theorem q1029 : (Jvm.Cond.code ({ cls := "ThriftNode$Run", name := "pop", desc := "(II)V" } : Jvm.MethodName) prog_11_method_9_code (7 : Nat) (Option.none : Option Jvm.ClassFile.FieldType)) ∈ lw_all := lw_g (lw_at lw_m5 32 rfl) rfl
theorem q1030 : (Jvm.Cond.methodLink "ThriftNode$Run" (102 : Nat) ({ cls := "ThriftNode$Run", name := "send", desc := "(I)V" } : Jvm.MethodName)) ∈ lw_all := lw_g (lw_at lw_m5 33 rfl) rfl
theorem q1031 : (Jvm.Cond.privateMethod ({ cls := "ThriftNode$Run", name := "send", desc := "(I)V" } : Jvm.MethodName)) ∈ lw_tbl := lw_at lw_m5 34 rfl
theorem q1032 : (Jvm.Cond.instanceMethod ({ cls := "ThriftNode$Run", name := "send", desc := "(I)V" } : Jvm.MethodName)) ∈ lw_all := lw_g (lw_at lw_m5 35 rfl) rfl
theorem q1033 : (Jvm.Cond.code ({ cls := "ThriftNode$Run", name := "send", desc := "(I)V" } : Jvm.MethodName) prog_11_method_10_code (6 : Nat) (Option.none : Option Jvm.ClassFile.FieldType)) ∈ lw_all := lw_g (lw_at lw_m5 36 rfl) rfl
theorem q1034 : (Jvm.Cond.methodLink "ThriftNode$Run" (108 : Nat) ({ cls := "ThriftNode$Run", name := "abandon", desc := "()V" } : Jvm.MethodName)) ∈ lw_all := lw_g (lw_at lw_m5 37 rfl) rfl
theorem q1035 : (Jvm.Cond.privateMethod ({ cls := "ThriftNode$Run", name := "abandon", desc := "()V" } : Jvm.MethodName)) ∈ lw_tbl := lw_at lw_m5 38 rfl
theorem q1036 : (Jvm.Cond.instanceMethod ({ cls := "ThriftNode$Run", name := "abandon", desc := "()V" } : Jvm.MethodName)) ∈ lw_all := lw_g (lw_at lw_m5 39 rfl) rfl
theorem q1037 : (Jvm.Cond.code ({ cls := "ThriftNode$Run", name := "abandon", desc := "()V" } : Jvm.MethodName) prog_11_method_11_code (1 : Nat) (Option.none : Option Jvm.ClassFile.FieldType)) ∈ lw_all := lw_g (lw_at lw_m5 40 rfl) rfl
theorem q1038 : (Jvm.Cond.methodLink "ThriftNode$Run" (122 : Nat) ({ cls := "ThriftNode$Node", name := "leave", desc := "()V" } : Jvm.MethodName)) ∈ lw_all := lw_g (lw_at lw_m5 41 rfl) rfl
theorem q1362 : (Jvm.Cond.castable "ThriftNode$Run" "java/lang/Object") ∈ lw_tbl := lw_at lw_m6 125 rfl
theorem in_X10 : ∀ w ∈ wsX100, w ∈ lw_all := lw_in wsX100 [617, 613, 615] (by decide +kernel) (by decide +kernel)

/-! ThriftNode$Commit -/
set_option maxRecDepth 100000
def RX11 : String := "ThriftNode$Commit"
def TX11 : u_T := fun k => match k with
  | 0 => ("ThriftNode$Stage", "node", "LThriftNode$Node;", true)
  | _ => ("ThriftNode$Commit", "done", "I", false)
def tyX11 : Nat → FieldType := fun k => match k with
  | 0 => .object "ThriftNode$Node"
  | _ => .int
abbrev wsX110 : List Cond := u_ws RX11 TX11 2
theorem nmX11 : ∀ a, a < 2 → ∀ b, b < 2 → a ≠ b → (TX11 a).2.1 ≠ (TX11 b).2.1 := by decide +kernel
theorem tyX11_ok : ∀ k, k < 2 → parseFieldDescriptor (TX11 k).2.2.1 = some (tyX11 k) := by decide +kernel
abbrev cX11_init : ByteArray := prog_4_method_1_code
def yX11_init : MethodName := ⟨RX11, "<init>", "(LThriftNode$Node;)V"⟩
abbrev cX11_cost : ByteArray := prog_4_method_4_code
def yX11_cost : MethodName := ⟨RX11, "cost", "()I"⟩
abbrev cX11_counts : ByteArray := prog_4_method_3_code
def yX11_counts : MethodName := ⟨RX11, "counts", "()Z"⟩
abbrev cX11_act : ByteArray := prog_4_method_5_code
def yX11_act : MethodName := ⟨RX11, "act", "()V"⟩
abbrev cX11_end : ByteArray := prog_4_method_6_code
def yX11_end : MethodName := ⟨RX11, "end", "()V"⟩
abbrev cX11_begin : ByteArray := prog_4_method_2_code
def yX11_begin : MethodName := ⟨RX11, "begin", "(I)V"⟩
theorem q66 : (Jvm.Cond.initialized "ThriftNode$Commit") ∈ lw_all := lw_g (lw_at lw_m1 29 rfl) rfl
theorem q96 : (Jvm.Cond.fieldLinkNest "ThriftNode$Commit" (33 : Nat) "ThriftNode$Kept" "words" "[I" "ThriftNode") ∈ lw_tbl := lw_at lw_m1 59 rfl
theorem q118 : (Jvm.Cond.fieldLinkNest "ThriftNode$Commit" (48 : Nat) "ThriftNode$Pending" "where" "[I" "ThriftNode") ∈ lw_tbl := lw_at lw_m1 81 rfl
theorem q120 : (Jvm.Cond.fieldLinkNest "ThriftNode$Commit" (51 : Nat) "ThriftNode$Pending" "what" "[I" "ThriftNode") ∈ lw_tbl := lw_at lw_m1 83 rfl
theorem q123 : (Jvm.Cond.fieldLinkNest "ThriftNode$Commit" (45 : Nat) "ThriftNode$Pending" "many" "I" "ThriftNode") ∈ lw_tbl := lw_at lw_m1 86 rfl
theorem q509 : (Jvm.Cond.selects "ThriftNode$Commit" ({ cls := "java/lang/Object", name := "getClass", desc := "()Ljava/lang/Class;" } : Jvm.MethodName) ({ cls := "java/lang/Object", name := "getClass", desc := "()Ljava/lang/Class;" } : Jvm.MethodName)) ∈ lw_all := lw_g (lw_at lw_m2 232 rfl) rfl
theorem q581 : (Jvm.Cond.fieldLink "ThriftNode$Commit" (9 : Nat) "ThriftNode$Commit" "node" "LThriftNode$Node;") ∈ lw_all := lw_g (lw_at lw_m3 64 rfl) rfl
theorem q582 : (Jvm.Cond.sameField "ThriftNode$Commit" "ThriftNode$Stage" "node" "LThriftNode$Node;") ∈ lw_all := lw_g (lw_at lw_m3 65 rfl) rfl
theorem q620 : (Jvm.Cond.instantiable "ThriftNode$Commit" (2 : Nat)) ∈ lw_all := lw_g (lw_at lw_m3 103 rfl) rfl
theorem q622 : (Jvm.Cond.instanceMethod ({ cls := "ThriftNode$Commit", name := "<init>", desc := "(LThriftNode$Node;)V" } : Jvm.MethodName)) ∈ lw_all := lw_g (lw_at lw_m3 105 rfl) rfl
theorem q623 : (Jvm.Cond.code ({ cls := "ThriftNode$Commit", name := "<init>", desc := "(LThriftNode$Node;)V" } : Jvm.MethodName) prog_4_method_1_code (2 : Nat) (Option.none : Option Jvm.ClassFile.FieldType)) ∈ lw_all := lw_g (lw_at lw_m3 106 rfl) rfl
theorem q624 : (Jvm.Cond.methodLink "ThriftNode$Commit" (3 : Nat) ({ cls := "ThriftNode$Stage", name := "<init>", desc := "(LThriftNode$Node;)V" } : Jvm.MethodName)) ∈ lw_all := lw_g (lw_at lw_m3 107 rfl) rfl
theorem q625 : (Jvm.Cond.fieldLink "ThriftNode$Commit" (37 : Nat) "ThriftNode$Commit" "done" "I") ∈ lw_all := lw_g (lw_at lw_m3 108 rfl) rfl
theorem q626 : (Jvm.Cond.lays "ThriftNode$Commit" "ThriftNode$Commit" "done" "I") ∈ lw_all := lw_g (lw_at lw_m3 109 rfl) rfl
theorem q627 : (Jvm.Cond.soleField "ThriftNode$Commit" "done") ∈ lw_all := lw_g (lw_at lw_m3 110 rfl) rfl
theorem q628 : (Jvm.Cond.laysFinal "ThriftNode$Commit" "ThriftNode$Stage" "node" "LThriftNode$Node;") ∈ lw_all := lw_g (lw_at lw_m3 111 rfl) rfl
theorem q629 : (Jvm.Cond.superclass "ThriftNode$Commit" "ThriftNode$Stage") ∈ lw_all := lw_g (lw_at lw_m3 112 rfl) rfl
theorem q632 : (Jvm.Cond.fieldLinkNest "ThriftNode$Commit" (29 : Nat) "ThriftNode$Node" "kept" "LThriftNode$Kept;" "ThriftNode") ∈ lw_tbl := lw_at lw_m3 115 rfl
theorem q637 : (Jvm.Cond.fieldLinkNest "ThriftNode$Commit" (15 : Nat) "ThriftNode$Node" "pending" "LThriftNode$Pending;" "ThriftNode") ∈ lw_tbl := lw_at lw_m3 120 rfl
theorem q665 : (Jvm.Cond.fieldLinkNest "ThriftNode$Commit" (41 : Nat) "ThriftNode$Node" "stage" "LThriftNode$Stage;" "ThriftNode") ∈ lw_tbl := lw_at lw_m3 148 rfl
theorem q919 : (Jvm.Cond.selects "ThriftNode$Commit" ({ cls := "ThriftNode$Stage", name := "cost", desc := "()I" } : Jvm.MethodName) ({ cls := "ThriftNode$Commit", name := "cost", desc := "()I" } : Jvm.MethodName)) ∈ lw_all := lw_g (lw_at lw_m4 162 rfl) rfl
theorem q920 : (Jvm.Cond.instanceMethod ({ cls := "ThriftNode$Commit", name := "cost", desc := "()I" } : Jvm.MethodName)) ∈ lw_all := lw_g (lw_at lw_m4 163 rfl) rfl
theorem q921 : (Jvm.Cond.code ({ cls := "ThriftNode$Commit", name := "cost", desc := "()I" } : Jvm.MethodName) prog_4_method_4_code (1 : Nat) (Option.some Jvm.ClassFile.FieldType.int)) ∈ lw_all := lw_g (lw_at lw_m4 164 rfl) rfl
theorem q947 : (Jvm.Cond.selects "ThriftNode$Commit" ({ cls := "ThriftNode$Stage", name := "counts", desc := "()Z" } : Jvm.MethodName) ({ cls := "ThriftNode$Commit", name := "counts", desc := "()Z" } : Jvm.MethodName)) ∈ lw_all := lw_g (lw_at lw_m4 190 rfl) rfl
theorem q948 : (Jvm.Cond.instanceMethod ({ cls := "ThriftNode$Commit", name := "counts", desc := "()Z" } : Jvm.MethodName)) ∈ lw_all := lw_g (lw_at lw_m4 191 rfl) rfl
theorem q949 : (Jvm.Cond.code ({ cls := "ThriftNode$Commit", name := "counts", desc := "()Z" } : Jvm.MethodName) prog_4_method_3_code (1 : Nat) (Option.some Jvm.ClassFile.FieldType.boolean)) ∈ lw_all := lw_g (lw_at lw_m4 192 rfl) rfl
theorem q974 : (Jvm.Cond.selects "ThriftNode$Commit" ({ cls := "ThriftNode$Stage", name := "act", desc := "()V" } : Jvm.MethodName) ({ cls := "ThriftNode$Commit", name := "act", desc := "()V" } : Jvm.MethodName)) ∈ lw_all := lw_g (lw_at lw_m4 217 rfl) rfl
theorem q975 : (Jvm.Cond.instanceMethod ({ cls := "ThriftNode$Commit", name := "act", desc := "()V" } : Jvm.MethodName)) ∈ lw_all := lw_g (lw_at lw_m4 218 rfl) rfl
theorem q976 : (Jvm.Cond.code ({ cls := "ThriftNode$Commit", name := "act", desc := "()V" } : Jvm.MethodName) prog_4_method_5_code (3 : Nat) (Option.none : Option Jvm.ClassFile.FieldType)) ∈ lw_all := lw_g (lw_at lw_m4 219 rfl) rfl
theorem q977 : (Jvm.Cond.methodLink "ThriftNode$Commit" (54 : Nat) ({ cls := "ThriftNode$Kept", name := "write", desc := "(II)V" } : Jvm.MethodName)) ∈ lw_all := lw_g (lw_at lw_m4 220 rfl) rfl
theorem q978 : (Jvm.Cond.methodLink "ThriftNode$Commit" (55 : Nat) ({ cls := "ThriftNode$Commit", name := "end", desc := "()V" } : Jvm.MethodName)) ∈ lw_all := lw_g (lw_at lw_m4 221 rfl) rfl
theorem q979 : (Jvm.Cond.privateMethod ({ cls := "ThriftNode$Commit", name := "end", desc := "()V" } : Jvm.MethodName)) ∈ lw_tbl := lw_at lw_m4 222 rfl
theorem q980 : (Jvm.Cond.instanceMethod ({ cls := "ThriftNode$Commit", name := "end", desc := "()V" } : Jvm.MethodName)) ∈ lw_all := lw_g (lw_at lw_m4 223 rfl) rfl
theorem q981 : (Jvm.Cond.code ({ cls := "ThriftNode$Commit", name := "end", desc := "()V" } : Jvm.MethodName) prog_4_method_6_code (1 : Nat) (Option.none : Option Jvm.ClassFile.FieldType)) ∈ lw_all := lw_g (lw_at lw_m4 224 rfl) rfl
theorem q982 : (Jvm.Cond.methodLink "ThriftNode$Commit" (59 : Nat) ({ cls := "ThriftNode$Node", name := "succeeded", desc := "()V" } : Jvm.MethodName)) ∈ lw_all := lw_g (lw_at lw_m4 225 rfl) rfl
theorem q986 : (Jvm.Cond.methodLink "ThriftNode$Commit" (62 : Nat) ({ cls := "ThriftNode$Node", name := "leave", desc := "()V" } : Jvm.MethodName)) ∈ lw_all := lw_g (lw_at lw_m4 229 rfl) rfl
theorem q998 : (Jvm.Cond.instanceMethod ({ cls := "ThriftNode$Commit", name := "begin", desc := "(I)V" } : Jvm.MethodName)) ∈ lw_all := lw_g (lw_at lw_m5 1 rfl) rfl
theorem q999 : (Jvm.Cond.selects "ThriftNode$Commit" ({ cls := "ThriftNode$Commit", name := "begin", desc := "(I)V" } : Jvm.MethodName) ({ cls := "ThriftNode$Commit", name := "begin", desc := "(I)V" } : Jvm.MethodName)) ∈ lw_all := lw_g (lw_at lw_m5 2 rfl) rfl
theorem q1000 : (Jvm.Cond.code ({ cls := "ThriftNode$Commit", name := "begin", desc := "(I)V" } : Jvm.MethodName) prog_4_method_2_code (3 : Nat) (Option.none : Option Jvm.ClassFile.FieldType)) ∈ lw_all := lw_g (lw_at lw_m5 3 rfl) rfl
theorem q1001 : (Jvm.Cond.methodLink "ThriftNode$Commit" (23 : Nat) ({ cls := "ThriftNode$Pending", name := "write", desc := "(II)V" } : Jvm.MethodName)) ∈ lw_all := lw_g (lw_at lw_m5 4 rfl) rfl
theorem q1363 : (Jvm.Cond.castable "ThriftNode$Commit" "java/lang/Object") ∈ lw_tbl := lw_at lw_m6 126 rfl
theorem in_X11 : ∀ w ∈ wsX110, w ∈ lw_all := lw_in wsX110 [628, 626] (by decide +kernel) (by decide +kernel)

/-! ThriftNodeModel -/
set_option maxRecDepth 100000
def RX12 : String := "ThriftNodeModel"
def TX12 : u_T := fun k => match k with
  | 0 => ("ThriftNodeModel", "thrown", "I", false)
  | 1 => ("ThriftNodeModel", "code", "[I", true)
  | 2 => ("ThriftNodeModel", "size", "[I", true)
  | 3 => ("ThriftNodeModel", "sealed", "Z", false)
  | 4 => ("ThriftNodeModel", "kept", "[I", true)
  | 5 => ("ThriftNodeModel", "wear", "[I", true)
  | 6 => ("ThriftNodeModel", "sensor", "[I", true)
  | 7 => ("ThriftNodeModel", "estimate", "[I", true)
  | 8 => ("ThriftNodeModel", "failures", "[I", true)
  | 9 => ("ThriftNodeModel", "energy", "I", false)
  | 10 => ("ThriftNodeModel", "slots", "I", false)
  | 11 => ("ThriftNodeModel", "phase", "I", false)
  | 12 => ("ThriftNodeModel", "givenUp", "I", false)
  | 13 => ("ThriftNodeModel", "fails", "I", false)
  | 14 => ("ThriftNodeModel", "abandoned", "I", false)
  | 15 => ("ThriftNodeModel", "cutIn", "I", false)
  | 16 => ("ThriftNodeModel", "applied", "I", false)
  | 17 => ("ThriftNodeModel", "onAir", "Z", false)
  | 18 => ("ThriftNodeModel", "register", "[I", true)
  | 19 => ("ThriftNodeModel", "next", "I", false)
  | 20 => ("ThriftNodeModel", "spent", "I", false)
  | 21 => ("ThriftNodeModel", "bound", "I", false)
  | 22 => ("ThriftNodeModel", "pending", "I", false)
  | 23 => ("ThriftNodeModel", "where", "[I", true)
  | 24 => ("ThriftNodeModel", "what", "[I", true)
  | 25 => ("ThriftNodeModel", "commitStep", "I", false)
  | 26 => ("ThriftNodeModel", "aired", "I", false)
  | 27 => ("ThriftNodeModel", "airNumber", "[I", true)
  | 28 => ("ThriftNodeModel", "airPayload", "[I", true)
  | 29 => ("ThriftNodeModel", "farNumber", "[I", true)
  | 30 => ("ThriftNodeModel", "farPayload", "[I", true)
  | _ => ("ThriftNodeModel", "runningTask", "I", false)
def tyX12 : Nat → FieldType := fun k => match k with
  | 0 => .int
  | 1 => .array .int
  | 2 => .array .int
  | 3 => .boolean
  | 4 => .array .int
  | 5 => .array .int
  | 6 => .array .int
  | 7 => .array .int
  | 8 => .array .int
  | 9 => .int
  | 10 => .int
  | 11 => .int
  | 12 => .int
  | 13 => .int
  | 14 => .int
  | 15 => .int
  | 16 => .int
  | 17 => .boolean
  | 18 => .array .int
  | 19 => .int
  | 20 => .int
  | 21 => .int
  | 22 => .int
  | 23 => .array .int
  | 24 => .array .int
  | 25 => .int
  | 26 => .int
  | 27 => .array .int
  | 28 => .array .int
  | 29 => .array .int
  | 30 => .array .int
  | _ => .int
abbrev wsX120 : List Cond := u_ws RX12 TX12 32
set_option maxRecDepth 100000 in
theorem nmX12 : ∀ a, a < 32 → ∀ b, b < 32 → a ≠ b → (TX12 a).2.1 ≠ (TX12 b).2.1 := by decide +kernel
set_option maxRecDepth 100000 in
theorem tyX12_ok : ∀ k, k < 32 → parseFieldDescriptor (TX12 k).2.2.1 = some (tyX12 k) := by decide +kernel
abbrev cX12_init : ByteArray := prog_14_method_1_code
def yX12_init : MethodName := ⟨RX12, "<init>", "()V"⟩
abbrev cX12_thrown : ByteArray := prog_14_method_2_code
def yX12_thrown : MethodName := ⟨RX12, "thrown", "()I"⟩
abbrev cX12_program : ByteArray := prog_14_method_5_code
def yX12_program : MethodName := ⟨RX12, "program", "(III)Z"⟩
abbrev cX12_isTask : ByteArray := prog_14_method_4_code
def yX12_isTask : MethodName := ⟨RX12, "isTask", "(I)Z"⟩
abbrev cX12_seal : ByteArray := prog_14_method_11_code
def yX12_seal : MethodName := ⟨RX12, "seal", "()I"⟩
abbrev cX12_isRight : ByteArray := prog_14_method_10_code
def yX12_isRight : MethodName := ⟨RX12, "isRight", "(II)Z"⟩
abbrev cX12_op : ByteArray := prog_14_method_6_code
def yX12_op : MethodName := ⟨RX12, "op", "(I)I"⟩
abbrev cX12_a : ByteArray := prog_14_method_7_code
def yX12_a : MethodName := ⟨RX12, "a", "(I)I"⟩
abbrev cX12_b : ByteArray := prog_14_method_8_code
def yX12_b : MethodName := ⟨RX12, "b", "(I)I"⟩
abbrev cX12_c : ByteArray := prog_14_method_9_code
def yX12_c : MethodName := ⟨RX12, "c", "(I)I"⟩
abbrev cX12_slot : ByteArray := prog_14_method_30_code
def yX12_slot : MethodName := ⟨RX12, "slot", "(I)I"⟩
abbrev cX12_stepOnce : ByteArray := prog_14_method_29_code
def yX12_stepOnce : MethodName := ⟨RX12, "stepOnce", "()Z"⟩
abbrev cX12_beginAttempt : ByteArray := prog_14_method_28_code
def yX12_beginAttempt : MethodName := ⟨RX12, "beginAttempt", "()V"⟩
abbrev cX12_endAttempt : ByteArray := prog_14_method_18_code
def yX12_endAttempt : MethodName := ⟨RX12, "endAttempt", "()V"⟩
abbrev cX12_replayStep : ByteArray := prog_14_method_20_code
def yX12_replayStep : MethodName := ⟨RX12, "replayStep", "()V"⟩
abbrev cX12_pays : ByteArray := prog_14_method_19_code
def yX12_pays : MethodName := ⟨RX12, "pays", "(I)Z"⟩
abbrev cX12_fail : ByteArray := prog_14_method_17_code
def yX12_fail : MethodName := ⟨RX12, "fail", "()V"⟩
abbrev cX12_write : ByteArray := prog_14_method_12_code
def yX12_write : MethodName := ⟨RX12, "write", "(II)V"⟩
abbrev cX12_airStep : ByteArray := prog_14_method_21_code
def yX12_airStep : MethodName := ⟨RX12, "airStep", "()V"⟩
abbrev cX12_runStep : ByteArray := prog_14_method_26_code
def yX12_runStep : MethodName := ⟨RX12, "runStep", "()V"⟩
abbrev cX12_cost : ByteArray := prog_14_method_22_code
def yX12_cost : MethodName := ⟨RX12, "cost", "(I)I"⟩
abbrev cX12_see : ByteArray := prog_14_method_14_code
def yX12_see : MethodName := ⟨RX12, "see", "(I)I"⟩
abbrev cX12_place : ByteArray := prog_14_method_13_code
def yX12_place : MethodName := ⟨RX12, "place", "(I)I"⟩
abbrev cX12_hasRoom : ByteArray := prog_14_method_16_code
def yX12_hasRoom : MethodName := ⟨RX12, "hasRoom", "(II)Z"⟩
abbrev cX12_put : ByteArray := prog_14_method_15_code
def yX12_put : MethodName := ⟨RX12, "put", "(II)V"⟩
abbrev cX12_push : ByteArray := prog_14_method_23_code
def yX12_push : MethodName := ⟨RX12, "push", "(II)V"⟩
abbrev cX12_pop : ByteArray := prog_14_method_24_code
def yX12_pop : MethodName := ⟨RX12, "pop", "(II)V"⟩
abbrev cX12_sendFrame : ByteArray := prog_14_method_25_code
def yX12_sendFrame : MethodName := ⟨RX12, "sendFrame", "(I)V"⟩
abbrev cX12_commitOne : ByteArray := prog_14_method_27_code
def yX12_commitOne : MethodName := ⟨RX12, "commitOne", "()V"⟩
abbrev cX12_cut : ByteArray := prog_14_method_31_code
def yX12_cut : MethodName := ⟨RX12, "cut", "(I)Z"⟩
abbrev cX12_sense : ByteArray := prog_14_method_32_code
def yX12_sense : MethodName := ⟨RX12, "sense", "(II)Z"⟩
abbrev cX12_kept : ByteArray := prog_14_method_33_code
def yX12_kept : MethodName := ⟨RX12, "kept", "(IZ)I"⟩
abbrev cX12_raise : ByteArray := prog_14_method_3_code
def yX12_raise : MethodName := ⟨RX12, "raise", "(I)I"⟩
abbrev cX12_aired : ByteArray := prog_14_method_34_code
def yX12_aired : MethodName := ⟨RX12, "aired", "(II)I"⟩
abbrev cX12_heard : ByteArray := prog_14_method_35_code
def yX12_heard : MethodName := ⟨RX12, "heard", "(I)I"⟩
abbrev cX12_state : ByteArray := prog_14_method_36_code
def yX12_state : MethodName := ⟨RX12, "state", "(I)I"⟩
abbrev cX12_task : ByteArray := prog_14_method_37_code
def yX12_task : MethodName := ⟨RX12, "task", "(II)I"⟩
abbrev cX12_register : ByteArray := prog_14_method_38_code
def yX12_register : MethodName := ⟨RX12, "register", "(I)I"⟩
theorem q67 : (Jvm.Cond.initialized "ThriftNodeModel") ∈ lw_all := lw_g (lw_at lw_m1 30 rfl) rfl
theorem q517 : (Jvm.Cond.selects "ThriftNodeModel" ({ cls := "java/lang/Object", name := "getClass", desc := "()Ljava/lang/Class;" } : Jvm.MethodName) ({ cls := "java/lang/Object", name := "getClass", desc := "()Ljava/lang/Class;" } : Jvm.MethodName)) ∈ lw_all := lw_g (lw_at lw_m3 0 rfl) rfl
theorem q1092 : (Jvm.Cond.instantiable "ThriftNodeModel" (32 : Nat)) ∈ lw_all := lw_g (lw_at lw_m5 95 rfl) rfl
theorem q1094 : (Jvm.Cond.instanceMethod ({ cls := "ThriftNodeModel", name := "<init>", desc := "()V" } : Jvm.MethodName)) ∈ lw_all := lw_g (lw_at lw_m5 97 rfl) rfl
theorem q1095 : (Jvm.Cond.code ({ cls := "ThriftNodeModel", name := "<init>", desc := "()V" } : Jvm.MethodName) prog_14_method_1_code (2 : Nat) (Option.none : Option Jvm.ClassFile.FieldType)) ∈ lw_all := lw_g (lw_at lw_m5 98 rfl) rfl
theorem q1096 : (Jvm.Cond.methodLink "ThriftNodeModel" (1 : Nat) ({ cls := "java/lang/Object", name := "<init>", desc := "()V" } : Jvm.MethodName)) ∈ lw_all := lw_g (lw_at lw_m5 99 rfl) rfl
theorem q1097 : (Jvm.Cond.fieldLink "ThriftNodeModel" (56 : Nat) "ThriftNodeModel" "thrown" "I") ∈ lw_all := lw_g (lw_at lw_m5 100 rfl) rfl
theorem q1098 : (Jvm.Cond.fieldLink "ThriftNodeModel" (7 : Nat) "ThriftNodeModel" "code" "[I") ∈ lw_all := lw_g (lw_at lw_m5 101 rfl) rfl
theorem q1099 : (Jvm.Cond.fieldLink "ThriftNodeModel" (13 : Nat) "ThriftNodeModel" "size" "[I") ∈ lw_all := lw_g (lw_at lw_m5 102 rfl) rfl
theorem q1100 : (Jvm.Cond.fieldLink "ThriftNodeModel" (59 : Nat) "ThriftNodeModel" "sealed" "Z") ∈ lw_all := lw_g (lw_at lw_m5 103 rfl) rfl
theorem q1101 : (Jvm.Cond.fieldLink "ThriftNodeModel" (16 : Nat) "ThriftNodeModel" "kept" "[I") ∈ lw_all := lw_g (lw_at lw_m5 104 rfl) rfl
theorem q1102 : (Jvm.Cond.fieldLink "ThriftNodeModel" (19 : Nat) "ThriftNodeModel" "wear" "[I") ∈ lw_all := lw_g (lw_at lw_m5 105 rfl) rfl
theorem q1103 : (Jvm.Cond.fieldLink "ThriftNodeModel" (22 : Nat) "ThriftNodeModel" "sensor" "[I") ∈ lw_all := lw_g (lw_at lw_m5 106 rfl) rfl
theorem q1104 : (Jvm.Cond.fieldLink "ThriftNodeModel" (25 : Nat) "ThriftNodeModel" "estimate" "[I") ∈ lw_all := lw_g (lw_at lw_m5 107 rfl) rfl
theorem q1105 : (Jvm.Cond.fieldLink "ThriftNodeModel" (28 : Nat) "ThriftNodeModel" "failures" "[I") ∈ lw_all := lw_g (lw_at lw_m5 108 rfl) rfl
theorem q1106 : (Jvm.Cond.fieldLink "ThriftNodeModel" (111 : Nat) "ThriftNodeModel" "energy" "I") ∈ lw_all := lw_g (lw_at lw_m5 109 rfl) rfl
theorem q1107 : (Jvm.Cond.fieldLink "ThriftNodeModel" (155 : Nat) "ThriftNodeModel" "slots" "I") ∈ lw_all := lw_g (lw_at lw_m5 110 rfl) rfl
theorem q1108 : (Jvm.Cond.fieldLink "ThriftNodeModel" (93 : Nat) "ThriftNodeModel" "phase" "I") ∈ lw_all := lw_g (lw_at lw_m5 111 rfl) rfl
theorem q1109 : (Jvm.Cond.fieldLink "ThriftNodeModel" (31 : Nat) "ThriftNodeModel" "givenUp" "I") ∈ lw_all := lw_g (lw_at lw_m5 112 rfl) rfl
theorem q1110 : (Jvm.Cond.fieldLink "ThriftNodeModel" (90 : Nat) "ThriftNodeModel" "fails" "I") ∈ lw_all := lw_g (lw_at lw_m5 113 rfl) rfl
theorem q1111 : (Jvm.Cond.fieldLink "ThriftNodeModel" (158 : Nat) "ThriftNodeModel" "abandoned" "I") ∈ lw_all := lw_g (lw_at lw_m5 114 rfl) rfl
theorem q1112 : (Jvm.Cond.fieldLink "ThriftNodeModel" (179 : Nat) "ThriftNodeModel" "cutIn" "I") ∈ lw_all := lw_g (lw_at lw_m5 115 rfl) rfl
theorem q1113 : (Jvm.Cond.fieldLink "ThriftNodeModel" (120 : Nat) "ThriftNodeModel" "applied" "I") ∈ lw_all := lw_g (lw_at lw_m5 116 rfl) rfl
theorem q1114 : (Jvm.Cond.fieldLink "ThriftNodeModel" (127 : Nat) "ThriftNodeModel" "onAir" "Z") ∈ lw_all := lw_g (lw_at lw_m5 117 rfl) rfl
theorem q1115 : (Jvm.Cond.fieldLink "ThriftNodeModel" (35 : Nat) "ThriftNodeModel" "register" "[I") ∈ lw_all := lw_g (lw_at lw_m5 118 rfl) rfl
theorem q1116 : (Jvm.Cond.fieldLink "ThriftNodeModel" (102 : Nat) "ThriftNodeModel" "next" "I") ∈ lw_all := lw_g (lw_at lw_m5 119 rfl) rfl
theorem q1117 : (Jvm.Cond.fieldLink "ThriftNodeModel" (96 : Nat) "ThriftNodeModel" "spent" "I") ∈ lw_all := lw_g (lw_at lw_m5 120 rfl) rfl
theorem q1118 : (Jvm.Cond.fieldLink "ThriftNodeModel" (105 : Nat) "ThriftNodeModel" "bound" "I") ∈ lw_all := lw_g (lw_at lw_m5 121 rfl) rfl
theorem q1119 : (Jvm.Cond.fieldLink "ThriftNodeModel" (84 : Nat) "ThriftNodeModel" "pending" "I") ∈ lw_all := lw_g (lw_at lw_m5 122 rfl) rfl
theorem q1120 : (Jvm.Cond.fieldLink "ThriftNodeModel" (38 : Nat) "ThriftNodeModel" "where" "[I") ∈ lw_all := lw_g (lw_at lw_m5 123 rfl) rfl
theorem q1121 : (Jvm.Cond.fieldLink "ThriftNodeModel" (41 : Nat) "ThriftNodeModel" "what" "[I") ∈ lw_all := lw_g (lw_at lw_m5 124 rfl) rfl
theorem q1122 : (Jvm.Cond.fieldLink "ThriftNodeModel" (108 : Nat) "ThriftNodeModel" "commitStep" "I") ∈ lw_all := lw_g (lw_at lw_m5 125 rfl) rfl
theorem q1123 : (Jvm.Cond.fieldLink "ThriftNodeModel" (130 : Nat) "ThriftNodeModel" "aired" "I") ∈ lw_all := lw_g (lw_at lw_m5 126 rfl) rfl
theorem q1124 : (Jvm.Cond.fieldLink "ThriftNodeModel" (44 : Nat) "ThriftNodeModel" "airNumber" "[I") ∈ lw_all := lw_g (lw_at lw_m5 127 rfl) rfl
theorem q1125 : (Jvm.Cond.fieldLink "ThriftNodeModel" (47 : Nat) "ThriftNodeModel" "airPayload" "[I") ∈ lw_all := lw_g (lw_at lw_m5 128 rfl) rfl
theorem q1126 : (Jvm.Cond.fieldLink "ThriftNodeModel" (50 : Nat) "ThriftNodeModel" "farNumber" "[I") ∈ lw_all := lw_g (lw_at lw_m5 129 rfl) rfl
theorem q1127 : (Jvm.Cond.fieldLink "ThriftNodeModel" (53 : Nat) "ThriftNodeModel" "farPayload" "[I") ∈ lw_all := lw_g (lw_at lw_m5 130 rfl) rfl
theorem q1128 : (Jvm.Cond.fieldLink "ThriftNodeModel" (161 : Nat) "ThriftNodeModel" "runningTask" "I") ∈ lw_all := lw_g (lw_at lw_m5 131 rfl) rfl
theorem q1129 : (Jvm.Cond.lays "ThriftNodeModel" "ThriftNodeModel" "thrown" "I") ∈ lw_all := lw_g (lw_at lw_m5 132 rfl) rfl
theorem q1130 : (Jvm.Cond.soleField "ThriftNodeModel" "thrown") ∈ lw_all := lw_g (lw_at lw_m5 133 rfl) rfl
theorem q1131 : (Jvm.Cond.laysFinal "ThriftNodeModel" "ThriftNodeModel" "code" "[I") ∈ lw_all := lw_g (lw_at lw_m5 134 rfl) rfl
theorem q1132 : (Jvm.Cond.soleField "ThriftNodeModel" "code") ∈ lw_all := lw_g (lw_at lw_m5 135 rfl) rfl
theorem q1133 : (Jvm.Cond.laysFinal "ThriftNodeModel" "ThriftNodeModel" "size" "[I") ∈ lw_all := lw_g (lw_at lw_m5 136 rfl) rfl
theorem q1134 : (Jvm.Cond.soleField "ThriftNodeModel" "size") ∈ lw_all := lw_g (lw_at lw_m5 137 rfl) rfl
theorem q1135 : (Jvm.Cond.lays "ThriftNodeModel" "ThriftNodeModel" "sealed" "Z") ∈ lw_all := lw_g (lw_at lw_m5 138 rfl) rfl
theorem q1136 : (Jvm.Cond.soleField "ThriftNodeModel" "sealed") ∈ lw_all := lw_g (lw_at lw_m5 139 rfl) rfl
theorem q1137 : (Jvm.Cond.laysFinal "ThriftNodeModel" "ThriftNodeModel" "kept" "[I") ∈ lw_all := lw_g (lw_at lw_m5 140 rfl) rfl
theorem q1138 : (Jvm.Cond.soleField "ThriftNodeModel" "kept") ∈ lw_all := lw_g (lw_at lw_m5 141 rfl) rfl
theorem q1139 : (Jvm.Cond.laysFinal "ThriftNodeModel" "ThriftNodeModel" "wear" "[I") ∈ lw_all := lw_g (lw_at lw_m5 142 rfl) rfl
theorem q1140 : (Jvm.Cond.soleField "ThriftNodeModel" "wear") ∈ lw_all := lw_g (lw_at lw_m5 143 rfl) rfl
theorem q1141 : (Jvm.Cond.laysFinal "ThriftNodeModel" "ThriftNodeModel" "sensor" "[I") ∈ lw_all := lw_g (lw_at lw_m5 144 rfl) rfl
theorem q1142 : (Jvm.Cond.soleField "ThriftNodeModel" "sensor") ∈ lw_all := lw_g (lw_at lw_m5 145 rfl) rfl
theorem q1143 : (Jvm.Cond.laysFinal "ThriftNodeModel" "ThriftNodeModel" "estimate" "[I") ∈ lw_all := lw_g (lw_at lw_m5 146 rfl) rfl
theorem q1144 : (Jvm.Cond.soleField "ThriftNodeModel" "estimate") ∈ lw_all := lw_g (lw_at lw_m5 147 rfl) rfl
theorem q1145 : (Jvm.Cond.laysFinal "ThriftNodeModel" "ThriftNodeModel" "failures" "[I") ∈ lw_all := lw_g (lw_at lw_m5 148 rfl) rfl
theorem q1146 : (Jvm.Cond.soleField "ThriftNodeModel" "failures") ∈ lw_all := lw_g (lw_at lw_m5 149 rfl) rfl
theorem q1147 : (Jvm.Cond.lays "ThriftNodeModel" "ThriftNodeModel" "energy" "I") ∈ lw_all := lw_g (lw_at lw_m5 150 rfl) rfl
theorem q1148 : (Jvm.Cond.soleField "ThriftNodeModel" "energy") ∈ lw_all := lw_g (lw_at lw_m5 151 rfl) rfl
theorem q1149 : (Jvm.Cond.lays "ThriftNodeModel" "ThriftNodeModel" "slots" "I") ∈ lw_all := lw_g (lw_at lw_m5 152 rfl) rfl
theorem q1150 : (Jvm.Cond.soleField "ThriftNodeModel" "slots") ∈ lw_all := lw_g (lw_at lw_m5 153 rfl) rfl
theorem q1151 : (Jvm.Cond.lays "ThriftNodeModel" "ThriftNodeModel" "phase" "I") ∈ lw_all := lw_g (lw_at lw_m5 154 rfl) rfl
theorem q1152 : (Jvm.Cond.soleField "ThriftNodeModel" "phase") ∈ lw_all := lw_g (lw_at lw_m5 155 rfl) rfl
theorem q1153 : (Jvm.Cond.lays "ThriftNodeModel" "ThriftNodeModel" "givenUp" "I") ∈ lw_all := lw_g (lw_at lw_m5 156 rfl) rfl
theorem q1154 : (Jvm.Cond.soleField "ThriftNodeModel" "givenUp") ∈ lw_all := lw_g (lw_at lw_m5 157 rfl) rfl
theorem q1155 : (Jvm.Cond.lays "ThriftNodeModel" "ThriftNodeModel" "fails" "I") ∈ lw_all := lw_g (lw_at lw_m5 158 rfl) rfl
theorem q1156 : (Jvm.Cond.soleField "ThriftNodeModel" "fails") ∈ lw_all := lw_g (lw_at lw_m5 159 rfl) rfl
theorem q1157 : (Jvm.Cond.lays "ThriftNodeModel" "ThriftNodeModel" "abandoned" "I") ∈ lw_all := lw_g (lw_at lw_m5 160 rfl) rfl
theorem q1158 : (Jvm.Cond.soleField "ThriftNodeModel" "abandoned") ∈ lw_all := lw_g (lw_at lw_m5 161 rfl) rfl
theorem q1159 : (Jvm.Cond.lays "ThriftNodeModel" "ThriftNodeModel" "cutIn" "I") ∈ lw_all := lw_g (lw_at lw_m5 162 rfl) rfl
theorem q1160 : (Jvm.Cond.soleField "ThriftNodeModel" "cutIn") ∈ lw_all := lw_g (lw_at lw_m5 163 rfl) rfl
theorem q1161 : (Jvm.Cond.lays "ThriftNodeModel" "ThriftNodeModel" "applied" "I") ∈ lw_all := lw_g (lw_at lw_m5 164 rfl) rfl
theorem q1162 : (Jvm.Cond.soleField "ThriftNodeModel" "applied") ∈ lw_all := lw_g (lw_at lw_m5 165 rfl) rfl
theorem q1163 : (Jvm.Cond.lays "ThriftNodeModel" "ThriftNodeModel" "onAir" "Z") ∈ lw_all := lw_g (lw_at lw_m5 166 rfl) rfl
theorem q1164 : (Jvm.Cond.soleField "ThriftNodeModel" "onAir") ∈ lw_all := lw_g (lw_at lw_m5 167 rfl) rfl
theorem q1165 : (Jvm.Cond.laysFinal "ThriftNodeModel" "ThriftNodeModel" "register" "[I") ∈ lw_all := lw_g (lw_at lw_m5 168 rfl) rfl
theorem q1166 : (Jvm.Cond.soleField "ThriftNodeModel" "register") ∈ lw_all := lw_g (lw_at lw_m5 169 rfl) rfl
theorem q1167 : (Jvm.Cond.lays "ThriftNodeModel" "ThriftNodeModel" "next" "I") ∈ lw_all := lw_g (lw_at lw_m5 170 rfl) rfl
theorem q1168 : (Jvm.Cond.soleField "ThriftNodeModel" "next") ∈ lw_all := lw_g (lw_at lw_m5 171 rfl) rfl
theorem q1169 : (Jvm.Cond.lays "ThriftNodeModel" "ThriftNodeModel" "spent" "I") ∈ lw_all := lw_g (lw_at lw_m5 172 rfl) rfl
theorem q1170 : (Jvm.Cond.soleField "ThriftNodeModel" "spent") ∈ lw_all := lw_g (lw_at lw_m5 173 rfl) rfl
theorem q1171 : (Jvm.Cond.lays "ThriftNodeModel" "ThriftNodeModel" "bound" "I") ∈ lw_all := lw_g (lw_at lw_m5 174 rfl) rfl
theorem q1172 : (Jvm.Cond.soleField "ThriftNodeModel" "bound") ∈ lw_all := lw_g (lw_at lw_m5 175 rfl) rfl
theorem q1173 : (Jvm.Cond.lays "ThriftNodeModel" "ThriftNodeModel" "pending" "I") ∈ lw_all := lw_g (lw_at lw_m5 176 rfl) rfl
theorem q1174 : (Jvm.Cond.soleField "ThriftNodeModel" "pending") ∈ lw_all := lw_g (lw_at lw_m5 177 rfl) rfl
theorem q1175 : (Jvm.Cond.laysFinal "ThriftNodeModel" "ThriftNodeModel" "where" "[I") ∈ lw_all := lw_g (lw_at lw_m5 178 rfl) rfl
theorem q1176 : (Jvm.Cond.soleField "ThriftNodeModel" "where") ∈ lw_all := lw_g (lw_at lw_m5 179 rfl) rfl
theorem q1177 : (Jvm.Cond.laysFinal "ThriftNodeModel" "ThriftNodeModel" "what" "[I") ∈ lw_all := lw_g (lw_at lw_m5 180 rfl) rfl
theorem q1178 : (Jvm.Cond.soleField "ThriftNodeModel" "what") ∈ lw_all := lw_g (lw_at lw_m5 181 rfl) rfl
theorem q1179 : (Jvm.Cond.lays "ThriftNodeModel" "ThriftNodeModel" "commitStep" "I") ∈ lw_all := lw_g (lw_at lw_m5 182 rfl) rfl
theorem q1180 : (Jvm.Cond.soleField "ThriftNodeModel" "commitStep") ∈ lw_all := lw_g (lw_at lw_m5 183 rfl) rfl
theorem q1181 : (Jvm.Cond.lays "ThriftNodeModel" "ThriftNodeModel" "aired" "I") ∈ lw_all := lw_g (lw_at lw_m5 184 rfl) rfl
theorem q1182 : (Jvm.Cond.soleField "ThriftNodeModel" "aired") ∈ lw_all := lw_g (lw_at lw_m5 185 rfl) rfl
theorem q1183 : (Jvm.Cond.laysFinal "ThriftNodeModel" "ThriftNodeModel" "airNumber" "[I") ∈ lw_all := lw_g (lw_at lw_m5 186 rfl) rfl
theorem q1184 : (Jvm.Cond.soleField "ThriftNodeModel" "airNumber") ∈ lw_all := lw_g (lw_at lw_m5 187 rfl) rfl
theorem q1185 : (Jvm.Cond.laysFinal "ThriftNodeModel" "ThriftNodeModel" "airPayload" "[I") ∈ lw_all := lw_g (lw_at lw_m5 188 rfl) rfl
theorem q1186 : (Jvm.Cond.soleField "ThriftNodeModel" "airPayload") ∈ lw_all := lw_g (lw_at lw_m5 189 rfl) rfl
theorem q1187 : (Jvm.Cond.laysFinal "ThriftNodeModel" "ThriftNodeModel" "farNumber" "[I") ∈ lw_all := lw_g (lw_at lw_m5 190 rfl) rfl
theorem q1188 : (Jvm.Cond.soleField "ThriftNodeModel" "farNumber") ∈ lw_all := lw_g (lw_at lw_m5 191 rfl) rfl
theorem q1189 : (Jvm.Cond.laysFinal "ThriftNodeModel" "ThriftNodeModel" "farPayload" "[I") ∈ lw_all := lw_g (lw_at lw_m5 192 rfl) rfl
theorem q1190 : (Jvm.Cond.soleField "ThriftNodeModel" "farPayload") ∈ lw_all := lw_g (lw_at lw_m5 193 rfl) rfl
theorem q1191 : (Jvm.Cond.lays "ThriftNodeModel" "ThriftNodeModel" "runningTask" "I") ∈ lw_all := lw_g (lw_at lw_m5 194 rfl) rfl
theorem q1192 : (Jvm.Cond.soleField "ThriftNodeModel" "runningTask") ∈ lw_all := lw_g (lw_at lw_m5 195 rfl) rfl
theorem q1193 : (Jvm.Cond.superclass "ThriftNodeModel" "java/lang/Object") ∈ lw_all := lw_g (lw_at lw_m5 196 rfl) rfl
theorem q1195 : (Jvm.Cond.instanceMethod ({ cls := "ThriftNodeModel", name := "thrown", desc := "()I" } : Jvm.MethodName)) ∈ lw_all := lw_g (lw_at lw_m5 198 rfl) rfl
theorem q1196 : (Jvm.Cond.selects "ThriftNodeModel" ({ cls := "ThriftNodeModel", name := "thrown", desc := "()I" } : Jvm.MethodName) ({ cls := "ThriftNodeModel", name := "thrown", desc := "()I" } : Jvm.MethodName)) ∈ lw_all := lw_g (lw_at lw_m5 199 rfl) rfl
theorem q1197 : (Jvm.Cond.code ({ cls := "ThriftNodeModel", name := "thrown", desc := "()I" } : Jvm.MethodName) prog_14_method_2_code (1 : Nat) (Option.some Jvm.ClassFile.FieldType.int)) ∈ lw_all := lw_g (lw_at lw_m5 200 rfl) rfl
theorem q1199 : (Jvm.Cond.instanceMethod ({ cls := "ThriftNodeModel", name := "program", desc := "(III)Z" } : Jvm.MethodName)) ∈ lw_all := lw_g (lw_at lw_m5 202 rfl) rfl
theorem q1200 : (Jvm.Cond.selects "ThriftNodeModel" ({ cls := "ThriftNodeModel", name := "program", desc := "(III)Z" } : Jvm.MethodName) ({ cls := "ThriftNodeModel", name := "program", desc := "(III)Z" } : Jvm.MethodName)) ∈ lw_all := lw_g (lw_at lw_m5 203 rfl) rfl
theorem q1201 : (Jvm.Cond.code ({ cls := "ThriftNodeModel", name := "program", desc := "(III)Z" } : Jvm.MethodName) prog_14_method_5_code (4 : Nat) (Option.some Jvm.ClassFile.FieldType.boolean)) ∈ lw_all := lw_g (lw_at lw_m5 204 rfl) rfl
theorem q1202 : (Jvm.Cond.methodLink "ThriftNodeModel" (63 : Nat) ({ cls := "ThriftNodeModel", name := "isTask", desc := "(I)Z" } : Jvm.MethodName)) ∈ lw_all := lw_g (lw_at lw_m5 205 rfl) rfl
theorem q1203 : (Jvm.Cond.static ({ cls := "ThriftNodeModel", name := "isTask", desc := "(I)Z" } : Jvm.MethodName)) ∈ lw_all := lw_g (lw_at lw_m5 206 rfl) rfl
theorem q1204 : (Jvm.Cond.code ({ cls := "ThriftNodeModel", name := "isTask", desc := "(I)Z" } : Jvm.MethodName) prog_14_method_4_code (1 : Nat) (Option.some Jvm.ClassFile.FieldType.boolean)) ∈ lw_all := lw_g (lw_at lw_m5 207 rfl) rfl
theorem q1206 : (Jvm.Cond.instanceMethod ({ cls := "ThriftNodeModel", name := "seal", desc := "()I" } : Jvm.MethodName)) ∈ lw_all := lw_g (lw_at lw_m5 209 rfl) rfl
theorem q1207 : (Jvm.Cond.selects "ThriftNodeModel" ({ cls := "ThriftNodeModel", name := "seal", desc := "()I" } : Jvm.MethodName) ({ cls := "ThriftNodeModel", name := "seal", desc := "()I" } : Jvm.MethodName)) ∈ lw_all := lw_g (lw_at lw_m5 210 rfl) rfl
theorem q1208 : (Jvm.Cond.code ({ cls := "ThriftNodeModel", name := "seal", desc := "()I" } : Jvm.MethodName) prog_14_method_11_code (3 : Nat) (Option.some Jvm.ClassFile.FieldType.int)) ∈ lw_all := lw_g (lw_at lw_m5 211 rfl) rfl
theorem q1209 : (Jvm.Cond.methodLink "ThriftNodeModel" (80 : Nat) ({ cls := "ThriftNodeModel", name := "isRight", desc := "(II)Z" } : Jvm.MethodName)) ∈ lw_all := lw_g (lw_at lw_m5 212 rfl) rfl
theorem q1210 : (Jvm.Cond.privateMethod ({ cls := "ThriftNodeModel", name := "isRight", desc := "(II)Z" } : Jvm.MethodName)) ∈ lw_tbl := lw_at lw_m5 213 rfl
theorem q1211 : (Jvm.Cond.instanceMethod ({ cls := "ThriftNodeModel", name := "isRight", desc := "(II)Z" } : Jvm.MethodName)) ∈ lw_all := lw_g (lw_at lw_m5 214 rfl) rfl
theorem q1212 : (Jvm.Cond.code ({ cls := "ThriftNodeModel", name := "isRight", desc := "(II)Z" } : Jvm.MethodName) prog_14_method_10_code (6 : Nat) (Option.some Jvm.ClassFile.FieldType.boolean)) ∈ lw_all := lw_g (lw_at lw_m5 215 rfl) rfl
theorem q1213 : (Jvm.Cond.methodLink "ThriftNodeModel" (67 : Nat) ({ cls := "ThriftNodeModel", name := "op", desc := "(I)I" } : Jvm.MethodName)) ∈ lw_all := lw_g (lw_at lw_m5 216 rfl) rfl
theorem q1214 : (Jvm.Cond.static ({ cls := "ThriftNodeModel", name := "op", desc := "(I)I" } : Jvm.MethodName)) ∈ lw_all := lw_g (lw_at lw_m5 217 rfl) rfl
theorem q1215 : (Jvm.Cond.code ({ cls := "ThriftNodeModel", name := "op", desc := "(I)I" } : Jvm.MethodName) prog_14_method_6_code (1 : Nat) (Option.some Jvm.ClassFile.FieldType.int)) ∈ lw_all := lw_g (lw_at lw_m5 218 rfl) rfl
theorem q1216 : (Jvm.Cond.methodLink "ThriftNodeModel" (71 : Nat) ({ cls := "ThriftNodeModel", name := "a", desc := "(I)I" } : Jvm.MethodName)) ∈ lw_all := lw_g (lw_at lw_m5 219 rfl) rfl
theorem q1217 : (Jvm.Cond.static ({ cls := "ThriftNodeModel", name := "a", desc := "(I)I" } : Jvm.MethodName)) ∈ lw_all := lw_g (lw_at lw_m5 220 rfl) rfl
theorem q1218 : (Jvm.Cond.code ({ cls := "ThriftNodeModel", name := "a", desc := "(I)I" } : Jvm.MethodName) prog_14_method_7_code (1 : Nat) (Option.some Jvm.ClassFile.FieldType.int)) ∈ lw_all := lw_g (lw_at lw_m5 221 rfl) rfl
theorem q1219 : (Jvm.Cond.methodLink "ThriftNodeModel" (74 : Nat) ({ cls := "ThriftNodeModel", name := "b", desc := "(I)I" } : Jvm.MethodName)) ∈ lw_all := lw_g (lw_at lw_m5 222 rfl) rfl
theorem q1220 : (Jvm.Cond.static ({ cls := "ThriftNodeModel", name := "b", desc := "(I)I" } : Jvm.MethodName)) ∈ lw_all := lw_g (lw_at lw_m5 223 rfl) rfl
theorem q1221 : (Jvm.Cond.code ({ cls := "ThriftNodeModel", name := "b", desc := "(I)I" } : Jvm.MethodName) prog_14_method_8_code (1 : Nat) (Option.some Jvm.ClassFile.FieldType.int)) ∈ lw_all := lw_g (lw_at lw_m5 224 rfl) rfl
theorem q1222 : (Jvm.Cond.methodLink "ThriftNodeModel" (77 : Nat) ({ cls := "ThriftNodeModel", name := "c", desc := "(I)I" } : Jvm.MethodName)) ∈ lw_all := lw_g (lw_at lw_m5 225 rfl) rfl
theorem q1223 : (Jvm.Cond.static ({ cls := "ThriftNodeModel", name := "c", desc := "(I)I" } : Jvm.MethodName)) ∈ lw_all := lw_g (lw_at lw_m5 226 rfl) rfl
theorem q1224 : (Jvm.Cond.code ({ cls := "ThriftNodeModel", name := "c", desc := "(I)I" } : Jvm.MethodName) prog_14_method_9_code (1 : Nat) (Option.some Jvm.ClassFile.FieldType.int)) ∈ lw_all := lw_g (lw_at lw_m5 227 rfl) rfl
theorem q1226 : (Jvm.Cond.instanceMethod ({ cls := "ThriftNodeModel", name := "slot", desc := "(I)I" } : Jvm.MethodName)) ∈ lw_all := lw_g (lw_at lw_m5 229 rfl) rfl
theorem q1227 : (Jvm.Cond.selects "ThriftNodeModel" ({ cls := "ThriftNodeModel", name := "slot", desc := "(I)I" } : Jvm.MethodName) ({ cls := "ThriftNodeModel", name := "slot", desc := "(I)I" } : Jvm.MethodName)) ∈ lw_all := lw_g (lw_at lw_m5 230 rfl) rfl
theorem q1228 : (Jvm.Cond.code ({ cls := "ThriftNodeModel", name := "slot", desc := "(I)I" } : Jvm.MethodName) prog_14_method_30_code (4 : Nat) (Option.some Jvm.ClassFile.FieldType.int)) ∈ lw_all := lw_g (lw_at lw_m5 231 rfl) rfl
theorem q1229 : (Jvm.Cond.methodLink "ThriftNodeModel" (182 : Nat) ({ cls := "ThriftNodeModel", name := "stepOnce", desc := "()Z" } : Jvm.MethodName)) ∈ lw_all := lw_g (lw_at lw_m5 232 rfl) rfl
theorem q1230 : (Jvm.Cond.privateMethod ({ cls := "ThriftNodeModel", name := "stepOnce", desc := "()Z" } : Jvm.MethodName)) ∈ lw_tbl := lw_at lw_m5 233 rfl
theorem q1231 : (Jvm.Cond.instanceMethod ({ cls := "ThriftNodeModel", name := "stepOnce", desc := "()Z" } : Jvm.MethodName)) ∈ lw_all := lw_g (lw_at lw_m5 234 rfl) rfl
theorem q1232 : (Jvm.Cond.code ({ cls := "ThriftNodeModel", name := "stepOnce", desc := "()Z" } : Jvm.MethodName) prog_14_method_29_code (2 : Nat) (Option.some Jvm.ClassFile.FieldType.boolean)) ∈ lw_all := lw_g (lw_at lw_m5 235 rfl) rfl
theorem q1233 : (Jvm.Cond.methodLink "ThriftNodeModel" (164 : Nat) ({ cls := "ThriftNodeModel", name := "beginAttempt", desc := "()V" } : Jvm.MethodName)) ∈ lw_all := lw_g (lw_at lw_m5 236 rfl) rfl
theorem q1234 : (Jvm.Cond.privateMethod ({ cls := "ThriftNodeModel", name := "beginAttempt", desc := "()V" } : Jvm.MethodName)) ∈ lw_tbl := lw_at lw_m5 237 rfl
theorem q1235 : (Jvm.Cond.instanceMethod ({ cls := "ThriftNodeModel", name := "beginAttempt", desc := "()V" } : Jvm.MethodName)) ∈ lw_all := lw_g (lw_at lw_m5 238 rfl) rfl
theorem q1236 : (Jvm.Cond.code ({ cls := "ThriftNodeModel", name := "beginAttempt", desc := "()V" } : Jvm.MethodName) prog_14_method_28_code (1 : Nat) (Option.none : Option Jvm.ClassFile.FieldType)) ∈ lw_all := lw_g (lw_at lw_m5 239 rfl) rfl
theorem q1237 : (Jvm.Cond.methodLink "ThriftNodeModel" (99 : Nat) ({ cls := "ThriftNodeModel", name := "endAttempt", desc := "()V" } : Jvm.MethodName)) ∈ lw_all := lw_g (lw_at lw_m6 0 rfl) rfl
theorem q1238 : (Jvm.Cond.privateMethod ({ cls := "ThriftNodeModel", name := "endAttempt", desc := "()V" } : Jvm.MethodName)) ∈ lw_tbl := lw_at lw_m6 1 rfl
theorem q1239 : (Jvm.Cond.instanceMethod ({ cls := "ThriftNodeModel", name := "endAttempt", desc := "()V" } : Jvm.MethodName)) ∈ lw_all := lw_g (lw_at lw_m6 2 rfl) rfl
theorem q1240 : (Jvm.Cond.code ({ cls := "ThriftNodeModel", name := "endAttempt", desc := "()V" } : Jvm.MethodName) prog_14_method_18_code (2 : Nat) (Option.none : Option Jvm.ClassFile.FieldType)) ∈ lw_all := lw_g (lw_at lw_m6 3 rfl) rfl
theorem q1241 : (Jvm.Cond.methodLink "ThriftNodeModel" (167 : Nat) ({ cls := "ThriftNodeModel", name := "replayStep", desc := "()V" } : Jvm.MethodName)) ∈ lw_all := lw_g (lw_at lw_m6 4 rfl) rfl
theorem q1242 : (Jvm.Cond.privateMethod ({ cls := "ThriftNodeModel", name := "replayStep", desc := "()V" } : Jvm.MethodName)) ∈ lw_tbl := lw_at lw_m6 5 rfl
theorem q1243 : (Jvm.Cond.instanceMethod ({ cls := "ThriftNodeModel", name := "replayStep", desc := "()V" } : Jvm.MethodName)) ∈ lw_all := lw_g (lw_at lw_m6 6 rfl) rfl
theorem q1244 : (Jvm.Cond.code ({ cls := "ThriftNodeModel", name := "replayStep", desc := "()V" } : Jvm.MethodName) prog_14_method_20_code (1 : Nat) (Option.none : Option Jvm.ClassFile.FieldType)) ∈ lw_all := lw_g (lw_at lw_m6 7 rfl) rfl
theorem q1245 : (Jvm.Cond.methodLink "ThriftNodeModel" (117 : Nat) ({ cls := "ThriftNodeModel", name := "pays", desc := "(I)Z" } : Jvm.MethodName)) ∈ lw_all := lw_g (lw_at lw_m6 8 rfl) rfl
theorem q1246 : (Jvm.Cond.privateMethod ({ cls := "ThriftNodeModel", name := "pays", desc := "(I)Z" } : Jvm.MethodName)) ∈ lw_tbl := lw_at lw_m6 9 rfl
theorem q1247 : (Jvm.Cond.instanceMethod ({ cls := "ThriftNodeModel", name := "pays", desc := "(I)Z" } : Jvm.MethodName)) ∈ lw_all := lw_g (lw_at lw_m6 10 rfl) rfl
theorem q1248 : (Jvm.Cond.code ({ cls := "ThriftNodeModel", name := "pays", desc := "(I)Z" } : Jvm.MethodName) prog_14_method_19_code (2 : Nat) (Option.some Jvm.ClassFile.FieldType.boolean)) ∈ lw_all := lw_g (lw_at lw_m6 11 rfl) rfl
theorem q1249 : (Jvm.Cond.methodLink "ThriftNodeModel" (114 : Nat) ({ cls := "ThriftNodeModel", name := "fail", desc := "()V" } : Jvm.MethodName)) ∈ lw_all := lw_g (lw_at lw_m6 12 rfl) rfl
theorem q1250 : (Jvm.Cond.privateMethod ({ cls := "ThriftNodeModel", name := "fail", desc := "()V" } : Jvm.MethodName)) ∈ lw_tbl := lw_at lw_m6 13 rfl
theorem q1251 : (Jvm.Cond.instanceMethod ({ cls := "ThriftNodeModel", name := "fail", desc := "()V" } : Jvm.MethodName)) ∈ lw_all := lw_g (lw_at lw_m6 14 rfl) rfl
theorem q1252 : (Jvm.Cond.code ({ cls := "ThriftNodeModel", name := "fail", desc := "()V" } : Jvm.MethodName) prog_14_method_17_code (3 : Nat) (Option.none : Option Jvm.ClassFile.FieldType)) ∈ lw_all := lw_g (lw_at lw_m6 15 rfl) rfl
theorem q1253 : (Jvm.Cond.methodLink "ThriftNodeModel" (123 : Nat) ({ cls := "ThriftNodeModel", name := "write", desc := "(II)V" } : Jvm.MethodName)) ∈ lw_all := lw_g (lw_at lw_m6 16 rfl) rfl
theorem q1254 : (Jvm.Cond.privateMethod ({ cls := "ThriftNodeModel", name := "write", desc := "(II)V" } : Jvm.MethodName)) ∈ lw_tbl := lw_at lw_m6 17 rfl
theorem q1255 : (Jvm.Cond.instanceMethod ({ cls := "ThriftNodeModel", name := "write", desc := "(II)V" } : Jvm.MethodName)) ∈ lw_all := lw_g (lw_at lw_m6 18 rfl) rfl
theorem q1256 : (Jvm.Cond.code ({ cls := "ThriftNodeModel", name := "write", desc := "(II)V" } : Jvm.MethodName) prog_14_method_12_code (3 : Nat) (Option.none : Option Jvm.ClassFile.FieldType)) ∈ lw_all := lw_g (lw_at lw_m6 19 rfl) rfl
theorem q1257 : (Jvm.Cond.methodLink "ThriftNodeModel" (170 : Nat) ({ cls := "ThriftNodeModel", name := "airStep", desc := "()V" } : Jvm.MethodName)) ∈ lw_all := lw_g (lw_at lw_m6 20 rfl) rfl
theorem q1258 : (Jvm.Cond.privateMethod ({ cls := "ThriftNodeModel", name := "airStep", desc := "()V" } : Jvm.MethodName)) ∈ lw_tbl := lw_at lw_m6 21 rfl
theorem q1259 : (Jvm.Cond.instanceMethod ({ cls := "ThriftNodeModel", name := "airStep", desc := "()V" } : Jvm.MethodName)) ∈ lw_all := lw_g (lw_at lw_m6 22 rfl) rfl
theorem q1260 : (Jvm.Cond.code ({ cls := "ThriftNodeModel", name := "airStep", desc := "()V" } : Jvm.MethodName) prog_14_method_21_code (3 : Nat) (Option.none : Option Jvm.ClassFile.FieldType)) ∈ lw_all := lw_g (lw_at lw_m6 23 rfl) rfl
theorem q1261 : (Jvm.Cond.methodLink "ThriftNodeModel" (173 : Nat) ({ cls := "ThriftNodeModel", name := "runStep", desc := "()V" } : Jvm.MethodName)) ∈ lw_all := lw_g (lw_at lw_m6 24 rfl) rfl
theorem q1262 : (Jvm.Cond.privateMethod ({ cls := "ThriftNodeModel", name := "runStep", desc := "()V" } : Jvm.MethodName)) ∈ lw_tbl := lw_at lw_m6 25 rfl
theorem q1263 : (Jvm.Cond.instanceMethod ({ cls := "ThriftNodeModel", name := "runStep", desc := "()V" } : Jvm.MethodName)) ∈ lw_all := lw_g (lw_at lw_m6 26 rfl) rfl
theorem q1264 : (Jvm.Cond.code ({ cls := "ThriftNodeModel", name := "runStep", desc := "()V" } : Jvm.MethodName) prog_14_method_26_code (7 : Nat) (Option.none : Option Jvm.ClassFile.FieldType)) ∈ lw_all := lw_g (lw_at lw_m6 27 rfl) rfl
theorem q1265 : (Jvm.Cond.methodLink "ThriftNodeModel" (142 : Nat) ({ cls := "ThriftNodeModel", name := "cost", desc := "(I)I" } : Jvm.MethodName)) ∈ lw_all := lw_g (lw_at lw_m6 28 rfl) rfl
theorem q1266 : (Jvm.Cond.static ({ cls := "ThriftNodeModel", name := "cost", desc := "(I)I" } : Jvm.MethodName)) ∈ lw_all := lw_g (lw_at lw_m6 29 rfl) rfl
theorem q1267 : (Jvm.Cond.code ({ cls := "ThriftNodeModel", name := "cost", desc := "(I)I" } : Jvm.MethodName) prog_14_method_22_code (1 : Nat) (Option.some Jvm.ClassFile.FieldType.int)) ∈ lw_all := lw_g (lw_at lw_m6 30 rfl) rfl
theorem q1268 : (Jvm.Cond.methodLink "ThriftNodeModel" (133 : Nat) ({ cls := "ThriftNodeModel", name := "see", desc := "(I)I" } : Jvm.MethodName)) ∈ lw_all := lw_g (lw_at lw_m6 31 rfl) rfl
theorem q1269 : (Jvm.Cond.privateMethod ({ cls := "ThriftNodeModel", name := "see", desc := "(I)I" } : Jvm.MethodName)) ∈ lw_tbl := lw_at lw_m6 32 rfl
theorem q1270 : (Jvm.Cond.instanceMethod ({ cls := "ThriftNodeModel", name := "see", desc := "(I)I" } : Jvm.MethodName)) ∈ lw_all := lw_g (lw_at lw_m6 33 rfl) rfl
theorem q1271 : (Jvm.Cond.code ({ cls := "ThriftNodeModel", name := "see", desc := "(I)I" } : Jvm.MethodName) prog_14_method_14_code (3 : Nat) (Option.some Jvm.ClassFile.FieldType.int)) ∈ lw_all := lw_g (lw_at lw_m6 34 rfl) rfl
theorem q1272 : (Jvm.Cond.methodLink "ThriftNodeModel" (87 : Nat) ({ cls := "ThriftNodeModel", name := "place", desc := "(I)I" } : Jvm.MethodName)) ∈ lw_all := lw_g (lw_at lw_m6 35 rfl) rfl
theorem q1273 : (Jvm.Cond.privateMethod ({ cls := "ThriftNodeModel", name := "place", desc := "(I)I" } : Jvm.MethodName)) ∈ lw_tbl := lw_at lw_m6 36 rfl
theorem q1274 : (Jvm.Cond.instanceMethod ({ cls := "ThriftNodeModel", name := "place", desc := "(I)I" } : Jvm.MethodName)) ∈ lw_all := lw_g (lw_at lw_m6 37 rfl) rfl
theorem q1275 : (Jvm.Cond.code ({ cls := "ThriftNodeModel", name := "place", desc := "(I)I" } : Jvm.MethodName) prog_14_method_13_code (3 : Nat) (Option.some Jvm.ClassFile.FieldType.int)) ∈ lw_all := lw_g (lw_at lw_m6 38 rfl) rfl
theorem q1276 : (Jvm.Cond.methodLink "ThriftNodeModel" (136 : Nat) ({ cls := "ThriftNodeModel", name := "hasRoom", desc := "(II)Z" } : Jvm.MethodName)) ∈ lw_all := lw_g (lw_at lw_m6 39 rfl) rfl
theorem q1277 : (Jvm.Cond.privateMethod ({ cls := "ThriftNodeModel", name := "hasRoom", desc := "(II)Z" } : Jvm.MethodName)) ∈ lw_tbl := lw_at lw_m6 40 rfl
theorem q1278 : (Jvm.Cond.instanceMethod ({ cls := "ThriftNodeModel", name := "hasRoom", desc := "(II)Z" } : Jvm.MethodName)) ∈ lw_all := lw_g (lw_at lw_m6 41 rfl) rfl
theorem q1279 : (Jvm.Cond.code ({ cls := "ThriftNodeModel", name := "hasRoom", desc := "(II)Z" } : Jvm.MethodName) prog_14_method_16_code (4 : Nat) (Option.some Jvm.ClassFile.FieldType.boolean)) ∈ lw_all := lw_g (lw_at lw_m6 42 rfl) rfl
theorem q1280 : (Jvm.Cond.methodLink "ThriftNodeModel" (139 : Nat) ({ cls := "ThriftNodeModel", name := "put", desc := "(II)V" } : Jvm.MethodName)) ∈ lw_all := lw_g (lw_at lw_m6 43 rfl) rfl
theorem q1281 : (Jvm.Cond.privateMethod ({ cls := "ThriftNodeModel", name := "put", desc := "(II)V" } : Jvm.MethodName)) ∈ lw_tbl := lw_at lw_m6 44 rfl
theorem q1282 : (Jvm.Cond.instanceMethod ({ cls := "ThriftNodeModel", name := "put", desc := "(II)V" } : Jvm.MethodName)) ∈ lw_all := lw_g (lw_at lw_m6 45 rfl) rfl
theorem q1283 : (Jvm.Cond.code ({ cls := "ThriftNodeModel", name := "put", desc := "(II)V" } : Jvm.MethodName) prog_14_method_15_code (4 : Nat) (Option.none : Option Jvm.ClassFile.FieldType)) ∈ lw_all := lw_g (lw_at lw_m6 46 rfl) rfl
theorem q1284 : (Jvm.Cond.methodLink "ThriftNodeModel" (145 : Nat) ({ cls := "ThriftNodeModel", name := "push", desc := "(II)V" } : Jvm.MethodName)) ∈ lw_all := lw_g (lw_at lw_m6 47 rfl) rfl
theorem q1285 : (Jvm.Cond.privateMethod ({ cls := "ThriftNodeModel", name := "push", desc := "(II)V" } : Jvm.MethodName)) ∈ lw_tbl := lw_at lw_m6 48 rfl
theorem q1286 : (Jvm.Cond.instanceMethod ({ cls := "ThriftNodeModel", name := "push", desc := "(II)V" } : Jvm.MethodName)) ∈ lw_all := lw_g (lw_at lw_m6 49 rfl) rfl
theorem q1287 : (Jvm.Cond.code ({ cls := "ThriftNodeModel", name := "push", desc := "(II)V" } : Jvm.MethodName) prog_14_method_23_code (6 : Nat) (Option.none : Option Jvm.ClassFile.FieldType)) ∈ lw_all := lw_g (lw_at lw_m6 50 rfl) rfl
theorem q1288 : (Jvm.Cond.methodLink "ThriftNodeModel" (148 : Nat) ({ cls := "ThriftNodeModel", name := "pop", desc := "(II)V" } : Jvm.MethodName)) ∈ lw_all := lw_g (lw_at lw_m6 51 rfl) rfl
theorem q1289 : (Jvm.Cond.privateMethod ({ cls := "ThriftNodeModel", name := "pop", desc := "(II)V" } : Jvm.MethodName)) ∈ lw_tbl := lw_at lw_m6 52 rfl
theorem q1290 : (Jvm.Cond.instanceMethod ({ cls := "ThriftNodeModel", name := "pop", desc := "(II)V" } : Jvm.MethodName)) ∈ lw_all := lw_g (lw_at lw_m6 53 rfl) rfl
theorem q1291 : (Jvm.Cond.code ({ cls := "ThriftNodeModel", name := "pop", desc := "(II)V" } : Jvm.MethodName) prog_14_method_24_code (6 : Nat) (Option.none : Option Jvm.ClassFile.FieldType)) ∈ lw_all := lw_g (lw_at lw_m6 54 rfl) rfl
theorem q1292 : (Jvm.Cond.methodLink "ThriftNodeModel" (151 : Nat) ({ cls := "ThriftNodeModel", name := "sendFrame", desc := "(I)V" } : Jvm.MethodName)) ∈ lw_all := lw_g (lw_at lw_m6 55 rfl) rfl
theorem q1293 : (Jvm.Cond.privateMethod ({ cls := "ThriftNodeModel", name := "sendFrame", desc := "(I)V" } : Jvm.MethodName)) ∈ lw_tbl := lw_at lw_m6 56 rfl
theorem q1294 : (Jvm.Cond.instanceMethod ({ cls := "ThriftNodeModel", name := "sendFrame", desc := "(I)V" } : Jvm.MethodName)) ∈ lw_all := lw_g (lw_at lw_m6 57 rfl) rfl
theorem q1295 : (Jvm.Cond.code ({ cls := "ThriftNodeModel", name := "sendFrame", desc := "(I)V" } : Jvm.MethodName) prog_14_method_25_code (3 : Nat) (Option.none : Option Jvm.ClassFile.FieldType)) ∈ lw_all := lw_g (lw_at lw_m6 58 rfl) rfl
theorem q1296 : (Jvm.Cond.methodLink "ThriftNodeModel" (176 : Nat) ({ cls := "ThriftNodeModel", name := "commitOne", desc := "()V" } : Jvm.MethodName)) ∈ lw_all := lw_g (lw_at lw_m6 59 rfl) rfl
theorem q1297 : (Jvm.Cond.privateMethod ({ cls := "ThriftNodeModel", name := "commitOne", desc := "()V" } : Jvm.MethodName)) ∈ lw_tbl := lw_at lw_m6 60 rfl
theorem q1298 : (Jvm.Cond.instanceMethod ({ cls := "ThriftNodeModel", name := "commitOne", desc := "()V" } : Jvm.MethodName)) ∈ lw_all := lw_g (lw_at lw_m6 61 rfl) rfl
theorem q1299 : (Jvm.Cond.code ({ cls := "ThriftNodeModel", name := "commitOne", desc := "()V" } : Jvm.MethodName) prog_14_method_27_code (4 : Nat) (Option.none : Option Jvm.ClassFile.FieldType)) ∈ lw_all := lw_g (lw_at lw_m6 62 rfl) rfl
theorem q1301 : (Jvm.Cond.instanceMethod ({ cls := "ThriftNodeModel", name := "cut", desc := "(I)Z" } : Jvm.MethodName)) ∈ lw_all := lw_g (lw_at lw_m6 64 rfl) rfl
theorem q1302 : (Jvm.Cond.selects "ThriftNodeModel" ({ cls := "ThriftNodeModel", name := "cut", desc := "(I)Z" } : Jvm.MethodName) ({ cls := "ThriftNodeModel", name := "cut", desc := "(I)Z" } : Jvm.MethodName)) ∈ lw_all := lw_g (lw_at lw_m6 65 rfl) rfl
theorem q1303 : (Jvm.Cond.code ({ cls := "ThriftNodeModel", name := "cut", desc := "(I)Z" } : Jvm.MethodName) prog_14_method_31_code (2 : Nat) (Option.some Jvm.ClassFile.FieldType.boolean)) ∈ lw_all := lw_g (lw_at lw_m6 66 rfl) rfl
theorem q1305 : (Jvm.Cond.instanceMethod ({ cls := "ThriftNodeModel", name := "sense", desc := "(II)Z" } : Jvm.MethodName)) ∈ lw_all := lw_g (lw_at lw_m6 68 rfl) rfl
theorem q1306 : (Jvm.Cond.selects "ThriftNodeModel" ({ cls := "ThriftNodeModel", name := "sense", desc := "(II)Z" } : Jvm.MethodName) ({ cls := "ThriftNodeModel", name := "sense", desc := "(II)Z" } : Jvm.MethodName)) ∈ lw_all := lw_g (lw_at lw_m6 69 rfl) rfl
theorem q1307 : (Jvm.Cond.code ({ cls := "ThriftNodeModel", name := "sense", desc := "(II)Z" } : Jvm.MethodName) prog_14_method_32_code (3 : Nat) (Option.some Jvm.ClassFile.FieldType.boolean)) ∈ lw_all := lw_g (lw_at lw_m6 70 rfl) rfl
theorem q1309 : (Jvm.Cond.instanceMethod ({ cls := "ThriftNodeModel", name := "kept", desc := "(IZ)I" } : Jvm.MethodName)) ∈ lw_all := lw_g (lw_at lw_m6 72 rfl) rfl
theorem q1310 : (Jvm.Cond.selects "ThriftNodeModel" ({ cls := "ThriftNodeModel", name := "kept", desc := "(IZ)I" } : Jvm.MethodName) ({ cls := "ThriftNodeModel", name := "kept", desc := "(IZ)I" } : Jvm.MethodName)) ∈ lw_all := lw_g (lw_at lw_m6 73 rfl) rfl
theorem q1311 : (Jvm.Cond.code ({ cls := "ThriftNodeModel", name := "kept", desc := "(IZ)I" } : Jvm.MethodName) prog_14_method_33_code (3 : Nat) (Option.some Jvm.ClassFile.FieldType.int)) ∈ lw_all := lw_g (lw_at lw_m6 74 rfl) rfl
theorem q1312 : (Jvm.Cond.methodLink "ThriftNodeModel" (186 : Nat) ({ cls := "ThriftNodeModel", name := "raise", desc := "(I)I" } : Jvm.MethodName)) ∈ lw_all := lw_g (lw_at lw_m6 75 rfl) rfl
theorem q1313 : (Jvm.Cond.privateMethod ({ cls := "ThriftNodeModel", name := "raise", desc := "(I)I" } : Jvm.MethodName)) ∈ lw_tbl := lw_at lw_m6 76 rfl
theorem q1314 : (Jvm.Cond.instanceMethod ({ cls := "ThriftNodeModel", name := "raise", desc := "(I)I" } : Jvm.MethodName)) ∈ lw_all := lw_g (lw_at lw_m6 77 rfl) rfl
theorem q1315 : (Jvm.Cond.code ({ cls := "ThriftNodeModel", name := "raise", desc := "(I)I" } : Jvm.MethodName) prog_14_method_3_code (2 : Nat) (Option.some Jvm.ClassFile.FieldType.int)) ∈ lw_all := lw_g (lw_at lw_m6 78 rfl) rfl
theorem q1317 : (Jvm.Cond.instanceMethod ({ cls := "ThriftNodeModel", name := "aired", desc := "(II)I" } : Jvm.MethodName)) ∈ lw_all := lw_g (lw_at lw_m6 80 rfl) rfl
theorem q1318 : (Jvm.Cond.selects "ThriftNodeModel" ({ cls := "ThriftNodeModel", name := "aired", desc := "(II)I" } : Jvm.MethodName) ({ cls := "ThriftNodeModel", name := "aired", desc := "(II)I" } : Jvm.MethodName)) ∈ lw_all := lw_g (lw_at lw_m6 81 rfl) rfl
theorem q1319 : (Jvm.Cond.code ({ cls := "ThriftNodeModel", name := "aired", desc := "(II)I" } : Jvm.MethodName) prog_14_method_34_code (4 : Nat) (Option.some Jvm.ClassFile.FieldType.int)) ∈ lw_all := lw_g (lw_at lw_m6 82 rfl) rfl
theorem q1321 : (Jvm.Cond.instanceMethod ({ cls := "ThriftNodeModel", name := "heard", desc := "(I)I" } : Jvm.MethodName)) ∈ lw_all := lw_g (lw_at lw_m6 84 rfl) rfl
theorem q1322 : (Jvm.Cond.selects "ThriftNodeModel" ({ cls := "ThriftNodeModel", name := "heard", desc := "(I)I" } : Jvm.MethodName) ({ cls := "ThriftNodeModel", name := "heard", desc := "(I)I" } : Jvm.MethodName)) ∈ lw_all := lw_g (lw_at lw_m6 85 rfl) rfl
theorem q1323 : (Jvm.Cond.code ({ cls := "ThriftNodeModel", name := "heard", desc := "(I)I" } : Jvm.MethodName) prog_14_method_35_code (2 : Nat) (Option.some Jvm.ClassFile.FieldType.int)) ∈ lw_all := lw_g (lw_at lw_m6 86 rfl) rfl
theorem q1325 : (Jvm.Cond.instanceMethod ({ cls := "ThriftNodeModel", name := "state", desc := "(I)I" } : Jvm.MethodName)) ∈ lw_all := lw_g (lw_at lw_m6 88 rfl) rfl
theorem q1326 : (Jvm.Cond.selects "ThriftNodeModel" ({ cls := "ThriftNodeModel", name := "state", desc := "(I)I" } : Jvm.MethodName) ({ cls := "ThriftNodeModel", name := "state", desc := "(I)I" } : Jvm.MethodName)) ∈ lw_all := lw_g (lw_at lw_m6 89 rfl) rfl
theorem q1327 : (Jvm.Cond.code ({ cls := "ThriftNodeModel", name := "state", desc := "(I)I" } : Jvm.MethodName) prog_14_method_36_code (3 : Nat) (Option.some Jvm.ClassFile.FieldType.int)) ∈ lw_all := lw_g (lw_at lw_m6 90 rfl) rfl
theorem q1329 : (Jvm.Cond.instanceMethod ({ cls := "ThriftNodeModel", name := "task", desc := "(II)I" } : Jvm.MethodName)) ∈ lw_all := lw_g (lw_at lw_m6 92 rfl) rfl
theorem q1330 : (Jvm.Cond.selects "ThriftNodeModel" ({ cls := "ThriftNodeModel", name := "task", desc := "(II)I" } : Jvm.MethodName) ({ cls := "ThriftNodeModel", name := "task", desc := "(II)I" } : Jvm.MethodName)) ∈ lw_all := lw_g (lw_at lw_m6 93 rfl) rfl
theorem q1331 : (Jvm.Cond.code ({ cls := "ThriftNodeModel", name := "task", desc := "(II)I" } : Jvm.MethodName) prog_14_method_37_code (3 : Nat) (Option.some Jvm.ClassFile.FieldType.int)) ∈ lw_all := lw_g (lw_at lw_m6 94 rfl) rfl
theorem q1333 : (Jvm.Cond.instanceMethod ({ cls := "ThriftNodeModel", name := "register", desc := "(I)I" } : Jvm.MethodName)) ∈ lw_all := lw_g (lw_at lw_m6 96 rfl) rfl
theorem q1334 : (Jvm.Cond.selects "ThriftNodeModel" ({ cls := "ThriftNodeModel", name := "register", desc := "(I)I" } : Jvm.MethodName) ({ cls := "ThriftNodeModel", name := "register", desc := "(I)I" } : Jvm.MethodName)) ∈ lw_all := lw_g (lw_at lw_m6 97 rfl) rfl
theorem q1335 : (Jvm.Cond.code ({ cls := "ThriftNodeModel", name := "register", desc := "(I)I" } : Jvm.MethodName) prog_14_method_38_code (2 : Nat) (Option.some Jvm.ClassFile.FieldType.int)) ∈ lw_all := lw_g (lw_at lw_m6 98 rfl) rfl
theorem q1364 : (Jvm.Cond.castable "ThriftNodeModel" "java/lang/Object") ∈ lw_tbl := lw_at lw_m6 127 rfl
theorem in_X12 : ∀ w ∈ wsX120, w ∈ lw_all := lw_in wsX120 [1129, 1131, 1133, 1135, 1137, 1139, 1141, 1143, 1145, 1147, 1149, 1151, 1153, 1155, 1157, 1159, 1161, 1163, 1165, 1167, 1169, 1171, 1173, 1175, 1177, 1179, 1181, 1183, 1185, 1187, 1189, 1191] (by decide +kernel) (by decide +kernel)

/-! ThriftNode$Instruction -/
set_option maxRecDepth 100000
def RX13 : String := "ThriftNode$Instruction"
def TX13 : u_T := fun k => match k with
  | 0 => ("ThriftNode$Instruction", "op", "I", true)
  | 1 => ("ThriftNode$Instruction", "a", "I", true)
  | 2 => ("ThriftNode$Instruction", "b", "I", true)
  | _ => ("ThriftNode$Instruction", "c", "I", true)
def tyX13 : Nat → FieldType := fun k => match k with
  | 0 => .int
  | 1 => .int
  | 2 => .int
  | _ => .int
abbrev wsX130 : List Cond := u_ws RX13 TX13 4
theorem nmX13 : ∀ a, a < 4 → ∀ b, b < 4 → a ≠ b → (TX13 a).2.1 ≠ (TX13 b).2.1 := by decide +kernel
theorem tyX13_ok : ∀ k, k < 4 → parseFieldDescriptor (TX13 k).2.2.1 = some (tyX13 k) := by decide +kernel
abbrev cX13_of : ByteArray := prog_5_method_2_code
def yX13_of : MethodName := ⟨RX13, "of", "(I)LThriftNode$Instruction;"⟩
abbrev cX13_init : ByteArray := prog_5_method_1_code
def yX13_init : MethodName := ⟨RX13, "<init>", "(IIII)V"⟩
abbrev cX13_cost : ByteArray := prog_5_method_3_code
def yX13_cost : MethodName := ⟨RX13, "cost", "()I"⟩
theorem q70 : (Jvm.Cond.initialized "ThriftNode$Instruction") ∈ lw_all := lw_g (lw_at lw_m1 33 rfl) rfl
theorem q510 : (Jvm.Cond.selects "ThriftNode$Instruction" ({ cls := "java/lang/Object", name := "getClass", desc := "()Ljava/lang/Class;" } : Jvm.MethodName) ({ cls := "java/lang/Object", name := "getClass", desc := "()Ljava/lang/Class;" } : Jvm.MethodName)) ∈ lw_all := lw_g (lw_at lw_m2 233 rfl) rfl
theorem q761 : (Jvm.Cond.static ({ cls := "ThriftNode$Instruction", name := "of", desc := "(I)LThriftNode$Instruction;" } : Jvm.MethodName)) ∈ lw_all := lw_g (lw_at lw_m4 4 rfl) rfl
theorem q762 : (Jvm.Cond.code ({ cls := "ThriftNode$Instruction", name := "of", desc := "(I)LThriftNode$Instruction;" } : Jvm.MethodName) prog_5_method_2_code (1 : Nat) (Option.some (Jvm.ClassFile.FieldType.object "ThriftNode$Instruction"))) ∈ lw_all := lw_g (lw_at lw_m4 5 rfl) rfl
theorem q763 : (Jvm.Cond.classLink "ThriftNode$Instruction" (8 : Nat) "ThriftNode$Instruction") ∈ lw_all := lw_g (lw_at lw_m4 6 rfl) rfl
theorem q764 : (Jvm.Cond.instantiable "ThriftNode$Instruction" (4 : Nat)) ∈ lw_all := lw_g (lw_at lw_m4 7 rfl) rfl
theorem q765 : (Jvm.Cond.methodLink "ThriftNode$Instruction" (22 : Nat) ({ cls := "ThriftNode$Instruction", name := "<init>", desc := "(IIII)V" } : Jvm.MethodName)) ∈ lw_all := lw_g (lw_at lw_m4 8 rfl) rfl
theorem q766 : (Jvm.Cond.instanceMethod ({ cls := "ThriftNode$Instruction", name := "<init>", desc := "(IIII)V" } : Jvm.MethodName)) ∈ lw_all := lw_g (lw_at lw_m4 9 rfl) rfl
theorem q767 : (Jvm.Cond.code ({ cls := "ThriftNode$Instruction", name := "<init>", desc := "(IIII)V" } : Jvm.MethodName) prog_5_method_1_code (5 : Nat) (Option.none : Option Jvm.ClassFile.FieldType)) ∈ lw_all := lw_g (lw_at lw_m4 10 rfl) rfl
theorem q768 : (Jvm.Cond.methodLink "ThriftNode$Instruction" (1 : Nat) ({ cls := "java/lang/Record", name := "<init>", desc := "()V" } : Jvm.MethodName)) ∈ lw_all := lw_g (lw_at lw_m4 11 rfl) rfl
theorem q772 : (Jvm.Cond.fieldLink "ThriftNode$Instruction" (7 : Nat) "ThriftNode$Instruction" "op" "I") ∈ lw_all := lw_g (lw_at lw_m4 15 rfl) rfl
theorem q775 : (Jvm.Cond.fieldLink "ThriftNode$Instruction" (13 : Nat) "ThriftNode$Instruction" "a" "I") ∈ lw_all := lw_g (lw_at lw_m4 18 rfl) rfl
theorem q778 : (Jvm.Cond.fieldLink "ThriftNode$Instruction" (16 : Nat) "ThriftNode$Instruction" "b" "I") ∈ lw_all := lw_g (lw_at lw_m4 21 rfl) rfl
theorem q781 : (Jvm.Cond.fieldLink "ThriftNode$Instruction" (19 : Nat) "ThriftNode$Instruction" "c" "I") ∈ lw_all := lw_g (lw_at lw_m4 24 rfl) rfl
theorem q784 : (Jvm.Cond.laysFinal "ThriftNode$Instruction" "ThriftNode$Instruction" "op" "I") ∈ lw_all := lw_g (lw_at lw_m4 27 rfl) rfl
theorem q785 : (Jvm.Cond.soleField "ThriftNode$Instruction" "op") ∈ lw_all := lw_g (lw_at lw_m4 28 rfl) rfl
theorem q786 : (Jvm.Cond.laysFinal "ThriftNode$Instruction" "ThriftNode$Instruction" "a" "I") ∈ lw_all := lw_g (lw_at lw_m4 29 rfl) rfl
theorem q787 : (Jvm.Cond.soleField "ThriftNode$Instruction" "a") ∈ lw_all := lw_g (lw_at lw_m4 30 rfl) rfl
theorem q788 : (Jvm.Cond.laysFinal "ThriftNode$Instruction" "ThriftNode$Instruction" "b" "I") ∈ lw_all := lw_g (lw_at lw_m4 31 rfl) rfl
theorem q789 : (Jvm.Cond.soleField "ThriftNode$Instruction" "b") ∈ lw_all := lw_g (lw_at lw_m4 32 rfl) rfl
theorem q790 : (Jvm.Cond.laysFinal "ThriftNode$Instruction" "ThriftNode$Instruction" "c" "I") ∈ lw_all := lw_g (lw_at lw_m4 33 rfl) rfl
theorem q791 : (Jvm.Cond.soleField "ThriftNode$Instruction" "c") ∈ lw_all := lw_g (lw_at lw_m4 34 rfl) rfl
theorem q792 : (Jvm.Cond.superclass "ThriftNode$Instruction" "java/lang/Record") ∈ lw_all := lw_g (lw_at lw_m4 35 rfl) rfl
theorem q934 : (Jvm.Cond.instanceMethod ({ cls := "ThriftNode$Instruction", name := "cost", desc := "()I" } : Jvm.MethodName)) ∈ lw_all := lw_g (lw_at lw_m4 177 rfl) rfl
theorem q935 : (Jvm.Cond.selects "ThriftNode$Instruction" ({ cls := "ThriftNode$Instruction", name := "cost", desc := "()I" } : Jvm.MethodName) ({ cls := "ThriftNode$Instruction", name := "cost", desc := "()I" } : Jvm.MethodName)) ∈ lw_all := lw_g (lw_at lw_m4 178 rfl) rfl
theorem q936 : (Jvm.Cond.code ({ cls := "ThriftNode$Instruction", name := "cost", desc := "()I" } : Jvm.MethodName) prog_5_method_3_code (1 : Nat) (Option.some Jvm.ClassFile.FieldType.int)) ∈ lw_all := lw_g (lw_at lw_m4 179 rfl) rfl
theorem q937 : (Jvm.Cond.fieldLink "ThriftNode$Instruction" (25 : Nat) "ThriftNode$Instruction" "COSTS" "[I") ∈ lw_all := lw_g (lw_at lw_m4 180 rfl) rfl
theorem q938 : (Jvm.Cond.laysStatic "ThriftNode$Instruction" "COSTS" "[I") ∈ lw_tbl := lw_at lw_m4 181 rfl
theorem q1365 : (Jvm.Cond.castable "ThriftNode$Instruction" "java/lang/Object") ∈ lw_tbl := lw_at lw_m6 128 rfl
theorem in_X13 : ∀ w ∈ wsX130, w ∈ lw_all := lw_in wsX130 [784, 786, 788, 790] (by decide +kernel) (by decide +kernel)

/-! java/util/AbstractCollection -/
set_option maxRecDepth 100000
def RJ0 : String := "java/util/AbstractCollection"
abbrev cJ0_init : ByteArray := prog_34_method_1_code
def yJ0_init : MethodName := ⟨RJ0, "<init>", "()V"⟩
theorem q43 : (Jvm.Cond.initialized "java/util/AbstractCollection") ∈ lw_all := lw_g (lw_at lw_m1 6 rfl) rfl
theorem q149 : (Jvm.Cond.instanceMethod ({ cls := "java/util/AbstractCollection", name := "<init>", desc := "()V" } : Jvm.MethodName)) ∈ lw_all := lw_g (lw_at lw_m1 112 rfl) rfl
theorem q150 : (Jvm.Cond.code ({ cls := "java/util/AbstractCollection", name := "<init>", desc := "()V" } : Jvm.MethodName) prog_34_method_1_code (1 : Nat) (Option.none : Option Jvm.ClassFile.FieldType)) ∈ lw_all := lw_g (lw_at lw_m1 113 rfl) rfl
theorem q151 : (Jvm.Cond.methodLink "java/util/AbstractCollection" (1 : Nat) ({ cls := "java/lang/Object", name := "<init>", desc := "()V" } : Jvm.MethodName)) ∈ lw_all := lw_g (lw_at lw_m1 114 rfl) rfl

/-! java/util/AbstractList -/
set_option maxRecDepth 100000
def RJ1 : String := "java/util/AbstractList"
abbrev cJ1_init : ByteArray := prog_35_method_1_code
def yJ1_init : MethodName := ⟨RJ1, "<init>", "()V"⟩
theorem q44 : (Jvm.Cond.initialized "java/util/AbstractList") ∈ lw_all := lw_g (lw_at lw_m1 7 rfl) rfl
theorem q146 : (Jvm.Cond.instanceMethod ({ cls := "java/util/AbstractList", name := "<init>", desc := "()V" } : Jvm.MethodName)) ∈ lw_all := lw_g (lw_at lw_m1 109 rfl) rfl
theorem q147 : (Jvm.Cond.code ({ cls := "java/util/AbstractList", name := "<init>", desc := "()V" } : Jvm.MethodName) prog_35_method_1_code (1 : Nat) (Option.none : Option Jvm.ClassFile.FieldType)) ∈ lw_all := lw_g (lw_at lw_m1 110 rfl) rfl
theorem q148 : (Jvm.Cond.methodLink "java/util/AbstractList" (1 : Nat) ({ cls := "java/util/AbstractCollection", name := "<init>", desc := "()V" } : Jvm.MethodName)) ∈ lw_all := lw_g (lw_at lw_m1 111 rfl) rfl
theorem q471 : (Jvm.Cond.fieldLink "java/util/AbstractList" (7 : Nat) "java/util/AbstractList" "modCount" "I") ∈ lw_all := lw_g (lw_at lw_m2 194 rfl) rfl
theorem q479 : (Jvm.Cond.soleField "java/util/AbstractList" "modCount") ∈ lw_all := lw_g (lw_at lw_m2 202 rfl) rfl

/-! java/util/ArrayList -/
set_option maxRecDepth 100000
def RJ2 : String := "java/util/ArrayList"
def TJ2 : u_T := fun k => match k with
  | 0 => ("java/util/AbstractList", "modCount", "I", false)
  | 1 => ("java/util/ArrayList", "elementData", "[Ljava/lang/Object;", false)
  | _ => ("java/util/ArrayList", "size", "I", false)
def tyJ2 : Nat → FieldType := fun k => match k with
  | 0 => .int
  | 1 => .array (.object "java/lang/Object")
  | _ => .int
abbrev wsJ20 : List Cond := u_ws RJ2 TJ2 3
theorem nmJ2 : ∀ a, a < 3 → ∀ b, b < 3 → a ≠ b → (TJ2 a).2.1 ≠ (TJ2 b).2.1 := by decide +kernel
theorem tyJ2_ok : ∀ k, k < 3 → parseFieldDescriptor (TJ2 k).2.2.1 = some (tyJ2 k) := by decide +kernel
abbrev cJ2_init : ByteArray := prog_36_method_1_code
def yJ2_init : MethodName := ⟨RJ2, "<init>", "(I)V"⟩
abbrev cJ2_add : ByteArray := prog_36_method_25_code
def yJ2_add : MethodName := ⟨RJ2, "add", "(Ljava/lang/Object;)Z"⟩
abbrev cJ2_add_2 : ByteArray := prog_36_method_24_code
def yJ2_add_2 : MethodName := ⟨RJ2, "add", "(Ljava/lang/Object;[Ljava/lang/Object;I)V"⟩
abbrev cJ2_grow : ByteArray := prog_36_method_7_code
def yJ2_grow : MethodName := ⟨RJ2, "grow", "()[Ljava/lang/Object;"⟩
abbrev cJ2_grow_2 : ByteArray := prog_36_method_6_code
def yJ2_grow_2 : MethodName := ⟨RJ2, "grow", "(I)[Ljava/lang/Object;"⟩
abbrev cJ2_get : ByteArray := prog_36_method_20_code
def yJ2_get : MethodName := ⟨RJ2, "get", "(I)Ljava/lang/Object;"⟩
abbrev cJ2_elementData : ByteArray := prog_36_method_18_code
def yJ2_elementData : MethodName := ⟨RJ2, "elementData", "(I)Ljava/lang/Object;"⟩
abbrev cJ2_size : ByteArray := prog_36_method_8_code
def yJ2_size : MethodName := ⟨RJ2, "size", "()I"⟩
abbrev cJ2_set : ByteArray := prog_36_method_23_code
def yJ2_set : MethodName := ⟨RJ2, "set", "(ILjava/lang/Object;)Ljava/lang/Object;"⟩
theorem q45 : (Jvm.Cond.initialized "java/util/ArrayList") ∈ lw_all := lw_g (lw_at lw_m1 8 rfl) rfl
theorem q141 : (Jvm.Cond.instantiable "java/util/ArrayList" (3 : Nat)) ∈ lw_all := lw_g (lw_at lw_m1 104 rfl) rfl
theorem q143 : (Jvm.Cond.instanceMethod ({ cls := "java/util/ArrayList", name := "<init>", desc := "(I)V" } : Jvm.MethodName)) ∈ lw_all := lw_g (lw_at lw_m1 106 rfl) rfl
theorem q144 : (Jvm.Cond.code ({ cls := "java/util/ArrayList", name := "<init>", desc := "(I)V" } : Jvm.MethodName) prog_36_method_1_code (2 : Nat) (Option.none : Option Jvm.ClassFile.FieldType)) ∈ lw_all := lw_g (lw_at lw_m1 107 rfl) rfl
theorem q145 : (Jvm.Cond.methodLink "java/util/ArrayList" (1 : Nat) ({ cls := "java/util/AbstractList", name := "<init>", desc := "()V" } : Jvm.MethodName)) ∈ lw_all := lw_g (lw_at lw_m1 108 rfl) rfl
theorem q152 : (Jvm.Cond.classLink "java/util/ArrayList" (7 : Nat) "java/lang/Object") ∈ lw_all := lw_g (lw_at lw_m1 115 rfl) rfl
theorem q154 : (Jvm.Cond.fieldLink "java/util/ArrayList" (15 : Nat) "java/util/ArrayList" "EMPTY_ELEMENTDATA" "[Ljava/lang/Object;") ∈ lw_all := lw_g (lw_at lw_m1 117 rfl) rfl
theorem q155 : (Jvm.Cond.laysStatic "java/util/ArrayList" "EMPTY_ELEMENTDATA" "[Ljava/lang/Object;") ∈ lw_tbl := lw_at lw_m1 118 rfl
theorem q156 : (Jvm.Cond.classLink "java/util/ArrayList" (18 : Nat) "java/lang/IllegalArgumentException") ∈ lw_all := lw_g (lw_at lw_m1 119 rfl) rfl
theorem q198 : (Jvm.Cond.classLink "java/util/ArrayList" (20 : Nat) "java/lang/StringBuilder") ∈ lw_all := lw_g (lw_at lw_m1 161 rfl) rfl
theorem q200 : (Jvm.Cond.methodLink "java/util/ArrayList" (22 : Nat) ({ cls := "java/lang/StringBuilder", name := "<init>", desc := "()V" } : Jvm.MethodName)) ∈ lw_all := lw_g (lw_at lw_m1 163 rfl) rfl
theorem q230 : (Jvm.Cond.stringRef "java/util/ArrayList" (23 : Nat) "Illegal Capacity: ") ∈ lw_tbl := lw_at lw_m1 193 rfl
theorem q231 : (Jvm.Cond.methodLink "java/util/ArrayList" (25 : Nat) ({ cls := "java/lang/StringBuilder", name := "append", desc := "(Ljava/lang/String;)Ljava/lang/StringBuilder;" } : Jvm.MethodName)) ∈ lw_all := lw_g (lw_at lw_m1 194 rfl) rfl
theorem q351 : (Jvm.Cond.methodLink "java/util/ArrayList" (29 : Nat) ({ cls := "java/lang/StringBuilder", name := "append", desc := "(I)Ljava/lang/StringBuilder;" } : Jvm.MethodName)) ∈ lw_all := lw_g (lw_at lw_m2 74 rfl) rfl
theorem q376 : (Jvm.Cond.methodLink "java/util/ArrayList" (32 : Nat) ({ cls := "java/lang/StringBuilder", name := "toString", desc := "()Ljava/lang/String;" } : Jvm.MethodName)) ∈ lw_all := lw_g (lw_at lw_m2 99 rfl) rfl
theorem q468 : (Jvm.Cond.methodLink "java/util/ArrayList" (36 : Nat) ({ cls := "java/lang/IllegalArgumentException", name := "<init>", desc := "(Ljava/lang/String;)V" } : Jvm.MethodName)) ∈ lw_all := lw_g (lw_at lw_m2 191 rfl) rfl
theorem q469 : (Jvm.Cond.fieldLink "java/util/ArrayList" (9 : Nat) "java/util/ArrayList" "elementData" "[Ljava/lang/Object;") ∈ lw_all := lw_g (lw_at lw_m2 192 rfl) rfl
theorem q470 : (Jvm.Cond.fieldLink "java/util/ArrayList" (48 : Nat) "java/util/ArrayList" "size" "I") ∈ lw_all := lw_g (lw_at lw_m2 193 rfl) rfl
theorem q472 : (Jvm.Cond.fieldLink "java/util/ArrayList" (63 : Nat) "java/util/ArrayList" "modCount" "I") ∈ lw_all := lw_g (lw_at lw_m2 195 rfl) rfl
theorem q473 : (Jvm.Cond.sameField "java/util/ArrayList" "java/util/AbstractList" "modCount" "I") ∈ lw_all := lw_g (lw_at lw_m2 196 rfl) rfl
theorem q474 : (Jvm.Cond.lays "java/util/ArrayList" "java/util/ArrayList" "elementData" "[Ljava/lang/Object;") ∈ lw_all := lw_g (lw_at lw_m2 197 rfl) rfl
theorem q475 : (Jvm.Cond.soleField "java/util/ArrayList" "elementData") ∈ lw_all := lw_g (lw_at lw_m2 198 rfl) rfl
theorem q476 : (Jvm.Cond.lays "java/util/ArrayList" "java/util/ArrayList" "size" "I") ∈ lw_all := lw_g (lw_at lw_m2 199 rfl) rfl
theorem q477 : (Jvm.Cond.soleField "java/util/ArrayList" "size") ∈ lw_all := lw_g (lw_at lw_m2 200 rfl) rfl
theorem q478 : (Jvm.Cond.lays "java/util/ArrayList" "java/util/AbstractList" "modCount" "I") ∈ lw_all := lw_g (lw_at lw_m2 201 rfl) rfl
theorem q480 : (Jvm.Cond.superclass "java/util/ArrayList" "java/util/AbstractList") ∈ lw_all := lw_g (lw_at lw_m2 203 rfl) rfl
theorem q482 : (Jvm.Cond.instanceMethod ({ cls := "java/util/ArrayList", name := "add", desc := "(Ljava/lang/Object;)Z" } : Jvm.MethodName)) ∈ lw_all := lw_g (lw_at lw_m2 205 rfl) rfl
theorem q483 : (Jvm.Cond.selects "java/util/ArrayList" ({ cls := "java/util/ArrayList", name := "add", desc := "(Ljava/lang/Object;)Z" } : Jvm.MethodName) ({ cls := "java/util/ArrayList", name := "add", desc := "(Ljava/lang/Object;)Z" } : Jvm.MethodName)) ∈ lw_all := lw_g (lw_at lw_m2 206 rfl) rfl
theorem q484 : (Jvm.Cond.code ({ cls := "java/util/ArrayList", name := "add", desc := "(Ljava/lang/Object;)Z" } : Jvm.MethodName) prog_36_method_25_code (2 : Nat) (Option.some Jvm.ClassFile.FieldType.boolean)) ∈ lw_all := lw_g (lw_at lw_m2 207 rfl) rfl
theorem q485 : (Jvm.Cond.methodLink "java/util/ArrayList" (131 : Nat) ({ cls := "java/util/ArrayList", name := "add", desc := "(Ljava/lang/Object;[Ljava/lang/Object;I)V" } : Jvm.MethodName)) ∈ lw_all := lw_g (lw_at lw_m2 208 rfl) rfl
theorem q486 : (Jvm.Cond.privateMethod ({ cls := "java/util/ArrayList", name := "add", desc := "(Ljava/lang/Object;[Ljava/lang/Object;I)V" } : Jvm.MethodName)) ∈ lw_tbl := lw_at lw_m2 209 rfl
theorem q487 : (Jvm.Cond.instanceMethod ({ cls := "java/util/ArrayList", name := "add", desc := "(Ljava/lang/Object;[Ljava/lang/Object;I)V" } : Jvm.MethodName)) ∈ lw_all := lw_g (lw_at lw_m2 210 rfl) rfl
theorem q488 : (Jvm.Cond.code ({ cls := "java/util/ArrayList", name := "add", desc := "(Ljava/lang/Object;[Ljava/lang/Object;I)V" } : Jvm.MethodName) prog_36_method_24_code (4 : Nat) (Option.none : Option Jvm.ClassFile.FieldType)) ∈ lw_all := lw_g (lw_at lw_m2 211 rfl) rfl
theorem q489 : (Jvm.Cond.methodLink "java/util/ArrayList" (129 : Nat) ({ cls := "java/util/ArrayList", name := "grow", desc := "()[Ljava/lang/Object;" } : Jvm.MethodName)) ∈ lw_all := lw_g (lw_at lw_m2 212 rfl) rfl
theorem q490 : (Jvm.Cond.privateMethod ({ cls := "java/util/ArrayList", name := "grow", desc := "()[Ljava/lang/Object;" } : Jvm.MethodName)) ∈ lw_tbl := lw_at lw_m2 213 rfl
theorem q491 : (Jvm.Cond.instanceMethod ({ cls := "java/util/ArrayList", name := "grow", desc := "()[Ljava/lang/Object;" } : Jvm.MethodName)) ∈ lw_all := lw_g (lw_at lw_m2 214 rfl) rfl
theorem q492 : (Jvm.Cond.code ({ cls := "java/util/ArrayList", name := "grow", desc := "()[Ljava/lang/Object;" } : Jvm.MethodName) prog_36_method_7_code (1 : Nat) (Option.some (Jvm.ClassFile.FieldType.array (Jvm.ClassFile.FieldType.object "java/lang/Object")))) ∈ lw_all := lw_g (lw_at lw_m2 215 rfl) rfl
theorem q493 : (Jvm.Cond.methodLink "java/util/ArrayList" (69 : Nat) ({ cls := "java/util/ArrayList", name := "grow", desc := "(I)[Ljava/lang/Object;" } : Jvm.MethodName)) ∈ lw_all := lw_g (lw_at lw_m2 216 rfl) rfl
theorem q494 : (Jvm.Cond.privateMethod ({ cls := "java/util/ArrayList", name := "grow", desc := "(I)[Ljava/lang/Object;" } : Jvm.MethodName)) ∈ lw_tbl := lw_at lw_m2 217 rfl
theorem q495 : (Jvm.Cond.instanceMethod ({ cls := "java/util/ArrayList", name := "grow", desc := "(I)[Ljava/lang/Object;" } : Jvm.MethodName)) ∈ lw_all := lw_g (lw_at lw_m2 218 rfl) rfl
theorem q496 : (Jvm.Cond.code ({ cls := "java/util/ArrayList", name := "grow", desc := "(I)[Ljava/lang/Object;" } : Jvm.MethodName) prog_36_method_6_code (4 : Nat) (Option.some (Jvm.ClassFile.FieldType.array (Jvm.ClassFile.FieldType.object "java/lang/Object")))) ∈ lw_all := lw_g (lw_at lw_m2 219 rfl) rfl
theorem q497 : (Jvm.Cond.fieldLink "java/util/ArrayList" (39 : Nat) "java/util/ArrayList" "DEFAULTCAPACITY_EMPTY_ELEMENTDATA" "[Ljava/lang/Object;") ∈ lw_all := lw_g (lw_at lw_m2 220 rfl) rfl
theorem q498 : (Jvm.Cond.laysStatic "java/util/ArrayList" "DEFAULTCAPACITY_EMPTY_ELEMENTDATA" "[Ljava/lang/Object;") ∈ lw_tbl := lw_at lw_m2 221 rfl
theorem q499 : (Jvm.Cond.methodLink "java/util/ArrayList" (73 : Nat) ({ cls := "jdk/internal/util/ArraysSupport", name := "newLength", desc := "(III)I" } : Jvm.MethodName)) ∈ lw_all := lw_g (lw_at lw_m2 222 rfl) rfl
theorem q500 : (Jvm.Cond.methodLink "java/util/ArrayList" (66 : Nat) ({ cls := "java/util/Arrays", name := "copyOf", desc := "([Ljava/lang/Object;I)[Ljava/lang/Object;" } : Jvm.MethodName)) ∈ lw_all := lw_g (lw_at lw_m2 223 rfl) rfl
theorem q524 : (Jvm.Cond.selects "java/util/ArrayList" ({ cls := "java/lang/Object", name := "getClass", desc := "()Ljava/lang/Class;" } : Jvm.MethodName) ({ cls := "java/lang/Object", name := "getClass", desc := "()Ljava/lang/Class;" } : Jvm.MethodName)) ∈ lw_all := lw_g (lw_at lw_m3 7 rfl) rfl
theorem q531 : (Jvm.Cond.methodLink "java/util/ArrayList" (79 : Nat) ({ cls := "java/lang/Math", name := "max", desc := "(II)I" } : Jvm.MethodName)) ∈ lw_all := lw_g (lw_at lw_m3 14 rfl) rfl
theorem q743 : (Jvm.Cond.instanceMethod ({ cls := "java/util/ArrayList", name := "get", desc := "(I)Ljava/lang/Object;" } : Jvm.MethodName)) ∈ lw_all := lw_g (lw_at lw_m3 226 rfl) rfl
theorem q744 : (Jvm.Cond.selects "java/util/ArrayList" ({ cls := "java/util/ArrayList", name := "get", desc := "(I)Ljava/lang/Object;" } : Jvm.MethodName) ({ cls := "java/util/ArrayList", name := "get", desc := "(I)Ljava/lang/Object;" } : Jvm.MethodName)) ∈ lw_all := lw_g (lw_at lw_m3 227 rfl) rfl
theorem q745 : (Jvm.Cond.code ({ cls := "java/util/ArrayList", name := "get", desc := "(I)Ljava/lang/Object;" } : Jvm.MethodName) prog_36_method_20_code (2 : Nat) (Option.some (Jvm.ClassFile.FieldType.object "java/lang/Object"))) ∈ lw_all := lw_g (lw_at lw_m3 228 rfl) rfl
theorem q746 : (Jvm.Cond.methodLink "java/util/ArrayList" (118 : Nat) ({ cls := "java/util/Objects", name := "checkIndex", desc := "(II)I" } : Jvm.MethodName)) ∈ lw_all := lw_g (lw_at lw_m3 229 rfl) rfl
theorem q752 : (Jvm.Cond.methodLink "java/util/ArrayList" (123 : Nat) ({ cls := "java/util/ArrayList", name := "elementData", desc := "(I)Ljava/lang/Object;" } : Jvm.MethodName)) ∈ lw_all := lw_g (lw_at lw_m3 235 rfl) rfl
theorem q753 : (Jvm.Cond.instanceMethod ({ cls := "java/util/ArrayList", name := "elementData", desc := "(I)Ljava/lang/Object;" } : Jvm.MethodName)) ∈ lw_all := lw_g (lw_at lw_m3 236 rfl) rfl
theorem q754 : (Jvm.Cond.selects "java/util/ArrayList" ({ cls := "java/util/ArrayList", name := "elementData", desc := "(I)Ljava/lang/Object;" } : Jvm.MethodName) ({ cls := "java/util/ArrayList", name := "elementData", desc := "(I)Ljava/lang/Object;" } : Jvm.MethodName)) ∈ lw_all := lw_g (lw_at lw_m3 237 rfl) rfl
theorem q755 : (Jvm.Cond.code ({ cls := "java/util/ArrayList", name := "elementData", desc := "(I)Ljava/lang/Object;" } : Jvm.MethodName) prog_36_method_18_code (2 : Nat) (Option.some (Jvm.ClassFile.FieldType.object "java/lang/Object"))) ∈ lw_all := lw_g (lw_at lw_m3 238 rfl) rfl
theorem q757 : (Jvm.Cond.instanceMethod ({ cls := "java/util/ArrayList", name := "size", desc := "()I" } : Jvm.MethodName)) ∈ lw_all := lw_g (lw_at lw_m4 0 rfl) rfl
theorem q758 : (Jvm.Cond.selects "java/util/ArrayList" ({ cls := "java/util/ArrayList", name := "size", desc := "()I" } : Jvm.MethodName) ({ cls := "java/util/ArrayList", name := "size", desc := "()I" } : Jvm.MethodName)) ∈ lw_all := lw_g (lw_at lw_m4 1 rfl) rfl
theorem q759 : (Jvm.Cond.code ({ cls := "java/util/ArrayList", name := "size", desc := "()I" } : Jvm.MethodName) prog_36_method_8_code (1 : Nat) (Option.some Jvm.ClassFile.FieldType.int)) ∈ lw_all := lw_g (lw_at lw_m4 2 rfl) rfl
theorem q797 : (Jvm.Cond.instanceMethod ({ cls := "java/util/ArrayList", name := "set", desc := "(ILjava/lang/Object;)Ljava/lang/Object;" } : Jvm.MethodName)) ∈ lw_all := lw_g (lw_at lw_m4 40 rfl) rfl
theorem q798 : (Jvm.Cond.selects "java/util/ArrayList" ({ cls := "java/util/ArrayList", name := "set", desc := "(ILjava/lang/Object;)Ljava/lang/Object;" } : Jvm.MethodName) ({ cls := "java/util/ArrayList", name := "set", desc := "(ILjava/lang/Object;)Ljava/lang/Object;" } : Jvm.MethodName)) ∈ lw_all := lw_g (lw_at lw_m4 41 rfl) rfl
theorem q799 : (Jvm.Cond.code ({ cls := "java/util/ArrayList", name := "set", desc := "(ILjava/lang/Object;)Ljava/lang/Object;" } : Jvm.MethodName) prog_36_method_23_code (4 : Nat) (Option.some (Jvm.ClassFile.FieldType.object "java/lang/Object"))) ∈ lw_all := lw_g (lw_at lw_m4 42 rfl) rfl
theorem q1355 : (Jvm.Cond.castable "java/util/ArrayList" "java/lang/Object") ∈ lw_tbl := lw_at lw_m6 118 rfl
theorem in_J2 : ∀ w ∈ wsJ20, w ∈ lw_all := lw_in wsJ20 [478, 474, 476] (by decide +kernel) (by decide +kernel)

/-! java/lang/Throwable -/
set_option maxRecDepth 100000
def RJ3 : String := "java/lang/Throwable"
def TJ3 : u_T := fun k => match k with
  | 0 => ("java/lang/Throwable", "cause", "Ljava/lang/Throwable;", false)
  | 1 => ("java/lang/Throwable", "stackTrace", "[Ljava/lang/StackTraceElement;", false)
  | 2 => ("java/lang/Throwable", "suppressedExceptions", "Ljava/util/List;", false)
  | 3 => ("java/lang/Throwable", "detailMessage", "Ljava/lang/String;", false)
  | _ => ("java/lang/Throwable", "backtrace", "Ljava/lang/Object;", false)
def tyJ3 : Nat → FieldType := fun k => match k with
  | 0 => .object "java/lang/Throwable"
  | 1 => .array (.object "java/lang/StackTraceElement")
  | 2 => .object "java/util/List"
  | 3 => .object "java/lang/String"
  | _ => .object "java/lang/Object"
abbrev wsJ30 : List Cond := u_ws RJ3 TJ3 5
theorem nmJ3 : ∀ a, a < 5 → ∀ b, b < 5 → a ≠ b → (TJ3 a).2.1 ≠ (TJ3 b).2.1 := by decide +kernel
theorem tyJ3_ok : ∀ k, k < 5 → parseFieldDescriptor (TJ3 k).2.2.1 = some (tyJ3 k) := by decide +kernel
abbrev cJ3_init : ByteArray := prog_33_method_1_code
def yJ3_init : MethodName := ⟨RJ3, "<init>", "()V"⟩
abbrev cJ3_init_2 : ByteArray := prog_33_method_2_code
def yJ3_init_2 : MethodName := ⟨RJ3, "<init>", "(Ljava/lang/String;)V"⟩
theorem q46 : (Jvm.Cond.initialized "java/lang/Throwable") ∈ lw_all := lw_g (lw_at lw_m1 9 rfl) rfl
theorem q163 : (Jvm.Cond.declares ({ cls := "java/lang/Throwable", name := "<init>", desc := "()V" } : Jvm.MethodName)) ∈ lw_tbl := lw_at lw_m1 126 rfl
theorem q164 : (Jvm.Cond.declares ({ cls := "java/lang/Throwable", name := "<init>", desc := "(Ljava/lang/String;)V" } : Jvm.MethodName)) ∈ lw_tbl := lw_at lw_m1 127 rfl
theorem q168 : (Jvm.Cond.lays "java/lang/Throwable" "java/lang/Throwable" "cause" "Ljava/lang/Throwable;") ∈ lw_all := lw_g (lw_at lw_m1 131 rfl) rfl
theorem q170 : (Jvm.Cond.lays "java/lang/Throwable" "java/lang/Throwable" "stackTrace" "[Ljava/lang/StackTraceElement;") ∈ lw_all := lw_g (lw_at lw_m1 133 rfl) rfl
theorem q172 : (Jvm.Cond.lays "java/lang/Throwable" "java/lang/Throwable" "suppressedExceptions" "Ljava/util/List;") ∈ lw_all := lw_g (lw_at lw_m1 135 rfl) rfl
theorem q174 : (Jvm.Cond.lays "java/lang/Throwable" "java/lang/Throwable" "detailMessage" "Ljava/lang/String;") ∈ lw_all := lw_g (lw_at lw_m1 137 rfl) rfl
theorem q176 : (Jvm.Cond.lays "java/lang/Throwable" "java/lang/Throwable" "backtrace" "Ljava/lang/Object;") ∈ lw_all := lw_g (lw_at lw_m1 139 rfl) rfl
theorem q177 : (Jvm.Cond.fieldLink "java/lang/Throwable" (198 : Nat) "java/lang/Throwable" "backtrace" "Ljava/lang/Object;") ∈ lw_all := lw_g (lw_at lw_m1 140 rfl) rfl
theorem q178 : (Jvm.Cond.superclass "java/lang/Throwable" "java/lang/Object") ∈ lw_all := lw_g (lw_at lw_m1 141 rfl) rfl
theorem q179 : (Jvm.Cond.instanceMethod ({ cls := "java/lang/Throwable", name := "<init>", desc := "()V" } : Jvm.MethodName)) ∈ lw_all := lw_g (lw_at lw_m1 142 rfl) rfl
theorem q180 : (Jvm.Cond.code ({ cls := "java/lang/Throwable", name := "<init>", desc := "()V" } : Jvm.MethodName) prog_33_method_1_code (1 : Nat) (Option.none : Option Jvm.ClassFile.FieldType)) ∈ lw_all := lw_g (lw_at lw_m1 143 rfl) rfl
theorem q181 : (Jvm.Cond.methodLink "java/lang/Throwable" (1 : Nat) ({ cls := "java/lang/Object", name := "<init>", desc := "()V" } : Jvm.MethodName)) ∈ lw_all := lw_g (lw_at lw_m1 144 rfl) rfl
theorem q182 : (Jvm.Cond.fieldLink "java/lang/Throwable" (13 : Nat) "java/lang/Throwable" "UNASSIGNED_STACK" "[Ljava/lang/StackTraceElement;") ∈ lw_all := lw_g (lw_at lw_m1 145 rfl) rfl
theorem q183 : (Jvm.Cond.laysStatic "java/lang/Throwable" "UNASSIGNED_STACK" "[Ljava/lang/StackTraceElement;") ∈ lw_tbl := lw_at lw_m1 146 rfl
theorem q184 : (Jvm.Cond.fieldLink "java/lang/Throwable" (20 : Nat) "java/lang/Throwable" "SUPPRESSED_SENTINEL" "Ljava/util/List;") ∈ lw_all := lw_g (lw_at lw_m1 147 rfl) rfl
theorem q185 : (Jvm.Cond.laysStatic "java/lang/Throwable" "SUPPRESSED_SENTINEL" "Ljava/util/List;") ∈ lw_tbl := lw_at lw_m1 148 rfl
theorem q186 : (Jvm.Cond.methodLink "java/lang/Throwable" (27 : Nat) ({ cls := "java/lang/Throwable", name := "fillInStackTrace", desc := "()Ljava/lang/Throwable;" } : Jvm.MethodName)) ∈ lw_all := lw_g (lw_at lw_m1 149 rfl) rfl
theorem q187 : (Jvm.Cond.instanceMethod ({ cls := "java/lang/Throwable", name := "fillInStackTrace", desc := "()Ljava/lang/Throwable;" } : Jvm.MethodName)) ∈ lw_all := lw_g (lw_at lw_m1 150 rfl) rfl
theorem q188 : (Jvm.Cond.sameMethod "java/lang/Throwable" "java/lang/Throwable" "fillInStackTrace" "()Ljava/lang/Throwable;") ∈ lw_all := lw_g (lw_at lw_m1 151 rfl) rfl
theorem q192 : (Jvm.Cond.codeSync ({ cls := "java/lang/Throwable", name := "fillInStackTrace", desc := "()Ljava/lang/Throwable;" } : Jvm.MethodName) prog_33_method_18_code (1 : Nat) (Option.some (Jvm.ClassFile.FieldType.object "java/lang/Throwable"))) ∈ lw_all := lw_g (lw_at lw_m1 155 rfl) rfl
theorem q193 : (Jvm.Cond.methodLink "java/lang/Throwable" (202 : Nat) ({ cls := "java/lang/Throwable", name := "fillInStackTrace", desc := "(I)Ljava/lang/Throwable;" } : Jvm.MethodName)) ∈ lw_all := lw_g (lw_at lw_m1 156 rfl) rfl
theorem q194 : (Jvm.Cond.privateMethod ({ cls := "java/lang/Throwable", name := "fillInStackTrace", desc := "(I)Ljava/lang/Throwable;" } : Jvm.MethodName)) ∈ lw_tbl := lw_at lw_m1 157 rfl
theorem q195 : (Jvm.Cond.instanceMethod ({ cls := "java/lang/Throwable", name := "fillInStackTrace", desc := "(I)Ljava/lang/Throwable;" } : Jvm.MethodName)) ∈ lw_all := lw_g (lw_at lw_m1 158 rfl) rfl
theorem q196 : (Jvm.Cond.instantiable "java/lang/Throwable" (6 : Nat)) ∈ lw_all := lw_g (lw_at lw_m1 159 rfl) rfl
theorem q197 : (Jvm.Cond.native ({ cls := "java/lang/Throwable", name := "fillInStackTrace", desc := "(I)Ljava/lang/Throwable;" } : Jvm.MethodName)) ∈ lw_all := lw_g (lw_at lw_m1 160 rfl) rfl
theorem q429 : (Jvm.Cond.instanceMethod ({ cls := "java/lang/Throwable", name := "<init>", desc := "(Ljava/lang/String;)V" } : Jvm.MethodName)) ∈ lw_all := lw_g (lw_at lw_m2 152 rfl) rfl
theorem q430 : (Jvm.Cond.code ({ cls := "java/lang/Throwable", name := "<init>", desc := "(Ljava/lang/String;)V" } : Jvm.MethodName) prog_33_method_2_code (2 : Nat) (Option.none : Option Jvm.ClassFile.FieldType)) ∈ lw_all := lw_g (lw_at lw_m2 153 rfl) rfl
theorem q431 : (Jvm.Cond.fieldLink "java/lang/Throwable" (198 : Nat) "java/lang/Throwable" "backtrace" "Ljava/lang/Object;") ∈ lw_all := lw_g (lw_at lw_m2 154 rfl) rfl
theorem q432 : (Jvm.Cond.fieldLink "java/lang/Throwable" (31 : Nat) "java/lang/Throwable" "detailMessage" "Ljava/lang/String;") ∈ lw_all := lw_g (lw_at lw_m2 155 rfl) rfl
theorem q433 : (Jvm.Cond.fieldLink "java/lang/Throwable" (7 : Nat) "java/lang/Throwable" "cause" "Ljava/lang/Throwable;") ∈ lw_all := lw_g (lw_at lw_m2 156 rfl) rfl
theorem q434 : (Jvm.Cond.fieldLink "java/lang/Throwable" (17 : Nat) "java/lang/Throwable" "stackTrace" "[Ljava/lang/StackTraceElement;") ∈ lw_all := lw_g (lw_at lw_m2 157 rfl) rfl
theorem q435 : (Jvm.Cond.fieldLink "java/lang/Throwable" (24 : Nat) "java/lang/Throwable" "suppressedExceptions" "Ljava/util/List;") ∈ lw_all := lw_g (lw_at lw_m2 158 rfl) rfl
theorem q436 : (Jvm.Cond.soleField "java/lang/Throwable" "backtrace") ∈ lw_all := lw_g (lw_at lw_m2 159 rfl) rfl
theorem q437 : (Jvm.Cond.soleField "java/lang/Throwable" "detailMessage") ∈ lw_all := lw_g (lw_at lw_m2 160 rfl) rfl
theorem q438 : (Jvm.Cond.soleField "java/lang/Throwable" "cause") ∈ lw_all := lw_g (lw_at lw_m2 161 rfl) rfl
theorem q439 : (Jvm.Cond.soleField "java/lang/Throwable" "stackTrace") ∈ lw_all := lw_g (lw_at lw_m2 162 rfl) rfl
theorem q441 : (Jvm.Cond.soleField "java/lang/Throwable" "depth") ∈ lw_all := lw_g (lw_at lw_m2 164 rfl) rfl
theorem q442 : (Jvm.Cond.soleField "java/lang/Throwable" "suppressedExceptions") ∈ lw_all := lw_g (lw_at lw_m2 165 rfl) rfl
theorem q1337 : (Jvm.Cond.sameMethod "java/lang/Throwable" "java/lang/Throwable" "fillInStackTrace" "(I)Ljava/lang/Throwable;") ∈ lw_all := lw_g (lw_at lw_m6 100 rfl) rfl
theorem q1369 : (Jvm.Cond.castable "java/lang/Throwable" "java/lang/Object") ∈ lw_tbl := lw_at lw_m6 132 rfl
theorem in_J3 : ∀ w ∈ wsJ30, w ∈ lw_all := lw_in wsJ30 [168, 170, 172, 174, 176] (by decide +kernel) (by decide +kernel)

/-! java/lang/Exception -/
set_option maxRecDepth 100000
def RJ4 : String := "java/lang/Exception"
abbrev cJ4_init : ByteArray := prog_19_method_2_code
def yJ4_init : MethodName := ⟨RJ4, "<init>", "(Ljava/lang/String;)V"⟩
abbrev cJ4_init_2 : ByteArray := prog_19_method_1_code
def yJ4_init_2 : MethodName := ⟨RJ4, "<init>", "()V"⟩
theorem q47 : (Jvm.Cond.initialized "java/lang/Exception") ∈ lw_all := lw_g (lw_at lw_m1 10 rfl) rfl
theorem q161 : (Jvm.Cond.declares ({ cls := "java/lang/Exception", name := "<init>", desc := "()V" } : Jvm.MethodName)) ∈ lw_tbl := lw_at lw_m1 124 rfl
theorem q162 : (Jvm.Cond.declares ({ cls := "java/lang/Exception", name := "<init>", desc := "(Ljava/lang/String;)V" } : Jvm.MethodName)) ∈ lw_tbl := lw_at lw_m1 125 rfl
theorem q426 : (Jvm.Cond.instanceMethod ({ cls := "java/lang/Exception", name := "<init>", desc := "(Ljava/lang/String;)V" } : Jvm.MethodName)) ∈ lw_all := lw_g (lw_at lw_m2 149 rfl) rfl
theorem q427 : (Jvm.Cond.code ({ cls := "java/lang/Exception", name := "<init>", desc := "(Ljava/lang/String;)V" } : Jvm.MethodName) prog_19_method_2_code (2 : Nat) (Option.none : Option Jvm.ClassFile.FieldType)) ∈ lw_all := lw_g (lw_at lw_m2 150 rfl) rfl
theorem q428 : (Jvm.Cond.methodLink "java/lang/Exception" (7 : Nat) ({ cls := "java/lang/Throwable", name := "<init>", desc := "(Ljava/lang/String;)V" } : Jvm.MethodName)) ∈ lw_all := lw_g (lw_at lw_m2 151 rfl) rfl
theorem q874 : (Jvm.Cond.instanceMethod ({ cls := "java/lang/Exception", name := "<init>", desc := "()V" } : Jvm.MethodName)) ∈ lw_all := lw_g (lw_at lw_m4 117 rfl) rfl
theorem q875 : (Jvm.Cond.code ({ cls := "java/lang/Exception", name := "<init>", desc := "()V" } : Jvm.MethodName) prog_19_method_1_code (1 : Nat) (Option.none : Option Jvm.ClassFile.FieldType)) ∈ lw_all := lw_g (lw_at lw_m4 118 rfl) rfl
theorem q876 : (Jvm.Cond.methodLink "java/lang/Exception" (1 : Nat) ({ cls := "java/lang/Throwable", name := "<init>", desc := "()V" } : Jvm.MethodName)) ∈ lw_all := lw_g (lw_at lw_m4 119 rfl) rfl

/-! java/lang/RuntimeException -/
set_option maxRecDepth 100000
def RJ5 : String := "java/lang/RuntimeException"
abbrev cJ5_init : ByteArray := prog_27_method_2_code
def yJ5_init : MethodName := ⟨RJ5, "<init>", "(Ljava/lang/String;)V"⟩
abbrev cJ5_init_2 : ByteArray := prog_27_method_1_code
def yJ5_init_2 : MethodName := ⟨RJ5, "<init>", "()V"⟩
theorem q48 : (Jvm.Cond.initialized "java/lang/RuntimeException") ∈ lw_all := lw_g (lw_at lw_m1 11 rfl) rfl
theorem q159 : (Jvm.Cond.declares ({ cls := "java/lang/RuntimeException", name := "<init>", desc := "()V" } : Jvm.MethodName)) ∈ lw_tbl := lw_at lw_m1 122 rfl
theorem q160 : (Jvm.Cond.declares ({ cls := "java/lang/RuntimeException", name := "<init>", desc := "(Ljava/lang/String;)V" } : Jvm.MethodName)) ∈ lw_tbl := lw_at lw_m1 123 rfl
theorem q423 : (Jvm.Cond.instanceMethod ({ cls := "java/lang/RuntimeException", name := "<init>", desc := "(Ljava/lang/String;)V" } : Jvm.MethodName)) ∈ lw_all := lw_g (lw_at lw_m2 146 rfl) rfl
theorem q424 : (Jvm.Cond.code ({ cls := "java/lang/RuntimeException", name := "<init>", desc := "(Ljava/lang/String;)V" } : Jvm.MethodName) prog_27_method_2_code (2 : Nat) (Option.none : Option Jvm.ClassFile.FieldType)) ∈ lw_all := lw_g (lw_at lw_m2 147 rfl) rfl
theorem q425 : (Jvm.Cond.methodLink "java/lang/RuntimeException" (7 : Nat) ({ cls := "java/lang/Exception", name := "<init>", desc := "(Ljava/lang/String;)V" } : Jvm.MethodName)) ∈ lw_all := lw_g (lw_at lw_m2 148 rfl) rfl
theorem q871 : (Jvm.Cond.instanceMethod ({ cls := "java/lang/RuntimeException", name := "<init>", desc := "()V" } : Jvm.MethodName)) ∈ lw_all := lw_g (lw_at lw_m4 114 rfl) rfl
theorem q872 : (Jvm.Cond.code ({ cls := "java/lang/RuntimeException", name := "<init>", desc := "()V" } : Jvm.MethodName) prog_27_method_1_code (1 : Nat) (Option.none : Option Jvm.ClassFile.FieldType)) ∈ lw_all := lw_g (lw_at lw_m4 115 rfl) rfl
theorem q873 : (Jvm.Cond.methodLink "java/lang/RuntimeException" (1 : Nat) ({ cls := "java/lang/Exception", name := "<init>", desc := "()V" } : Jvm.MethodName)) ∈ lw_all := lw_g (lw_at lw_m4 116 rfl) rfl

/-! java/lang/IllegalArgumentException -/
set_option maxRecDepth 100000
def RJ6 : String := "java/lang/IllegalArgumentException"
def TJ6 : u_T := fun k => match k with
  | 0 => ("java/lang/Throwable", "cause", "Ljava/lang/Throwable;", false)
  | 1 => ("java/lang/Throwable", "stackTrace", "[Ljava/lang/StackTraceElement;", false)
  | 2 => ("java/lang/Throwable", "suppressedExceptions", "Ljava/util/List;", false)
  | 3 => ("java/lang/Throwable", "detailMessage", "Ljava/lang/String;", false)
  | 4 => ("java/lang/Throwable", "backtrace", "Ljava/lang/Object;", false)
  | _ => ("java/lang/Throwable", "depth", "I", false)
def tyJ6 : Nat → FieldType := fun k => match k with
  | 0 => .object "java/lang/Throwable"
  | 1 => .array (.object "java/lang/StackTraceElement")
  | 2 => .object "java/util/List"
  | 3 => .object "java/lang/String"
  | 4 => .object "java/lang/Object"
  | _ => .int
abbrev wsJ60 : List Cond := u_ws RJ6 TJ6 6
theorem nmJ6 : ∀ a, a < 6 → ∀ b, b < 6 → a ≠ b → (TJ6 a).2.1 ≠ (TJ6 b).2.1 := by decide +kernel
theorem tyJ6_ok : ∀ k, k < 6 → parseFieldDescriptor (TJ6 k).2.2.1 = some (tyJ6 k) := by decide +kernel
abbrev cJ6_init : ByteArray := prog_20_method_2_code
def yJ6_init : MethodName := ⟨RJ6, "<init>", "(Ljava/lang/String;)V"⟩
abbrev cJ6_init_2 : ByteArray := prog_20_method_1_code
def yJ6_init_2 : MethodName := ⟨RJ6, "<init>", "()V"⟩
theorem q49 : (Jvm.Cond.initialized "java/lang/IllegalArgumentException") ∈ lw_all := lw_g (lw_at lw_m1 12 rfl) rfl
theorem q157 : (Jvm.Cond.instantiable "java/lang/IllegalArgumentException" (6 : Nat)) ∈ lw_all := lw_g (lw_at lw_m1 120 rfl) rfl
theorem q158 : (Jvm.Cond.castable "java/lang/IllegalArgumentException" "java/lang/IllegalArgumentException") ∈ lw_tbl := lw_at lw_m1 121 rfl
theorem q165 : (Jvm.Cond.selects "java/lang/IllegalArgumentException" ({ cls := "java/lang/Throwable", name := "fillInStackTrace", desc := "(I)Ljava/lang/Throwable;" } : Jvm.MethodName) ({ cls := "java/lang/Throwable", name := "fillInStackTrace", desc := "(I)Ljava/lang/Throwable;" } : Jvm.MethodName)) ∈ lw_all := lw_g (lw_at lw_m1 128 rfl) rfl
theorem q166 : (Jvm.Cond.selects "java/lang/IllegalArgumentException" ({ cls := "java/lang/Throwable", name := "fillInStackTrace", desc := "()Ljava/lang/Throwable;" } : Jvm.MethodName) ({ cls := "java/lang/Throwable", name := "fillInStackTrace", desc := "()Ljava/lang/Throwable;" } : Jvm.MethodName)) ∈ lw_all := lw_g (lw_at lw_m1 129 rfl) rfl
theorem q167 : (Jvm.Cond.lays "java/lang/IllegalArgumentException" "java/lang/Throwable" "cause" "Ljava/lang/Throwable;") ∈ lw_all := lw_g (lw_at lw_m1 130 rfl) rfl
theorem q169 : (Jvm.Cond.lays "java/lang/IllegalArgumentException" "java/lang/Throwable" "stackTrace" "[Ljava/lang/StackTraceElement;") ∈ lw_all := lw_g (lw_at lw_m1 132 rfl) rfl
theorem q171 : (Jvm.Cond.lays "java/lang/IllegalArgumentException" "java/lang/Throwable" "suppressedExceptions" "Ljava/util/List;") ∈ lw_all := lw_g (lw_at lw_m1 134 rfl) rfl
theorem q173 : (Jvm.Cond.lays "java/lang/IllegalArgumentException" "java/lang/Throwable" "detailMessage" "Ljava/lang/String;") ∈ lw_all := lw_g (lw_at lw_m1 136 rfl) rfl
theorem q175 : (Jvm.Cond.lays "java/lang/IllegalArgumentException" "java/lang/Throwable" "backtrace" "Ljava/lang/Object;") ∈ lw_all := lw_g (lw_at lw_m1 138 rfl) rfl
theorem q420 : (Jvm.Cond.instanceMethod ({ cls := "java/lang/IllegalArgumentException", name := "<init>", desc := "(Ljava/lang/String;)V" } : Jvm.MethodName)) ∈ lw_all := lw_g (lw_at lw_m2 143 rfl) rfl
theorem q421 : (Jvm.Cond.code ({ cls := "java/lang/IllegalArgumentException", name := "<init>", desc := "(Ljava/lang/String;)V" } : Jvm.MethodName) prog_20_method_2_code (2 : Nat) (Option.none : Option Jvm.ClassFile.FieldType)) ∈ lw_all := lw_g (lw_at lw_m2 144 rfl) rfl
theorem q422 : (Jvm.Cond.methodLink "java/lang/IllegalArgumentException" (7 : Nat) ({ cls := "java/lang/RuntimeException", name := "<init>", desc := "(Ljava/lang/String;)V" } : Jvm.MethodName)) ∈ lw_all := lw_g (lw_at lw_m2 145 rfl) rfl
theorem q440 : (Jvm.Cond.lays "java/lang/IllegalArgumentException" "java/lang/Throwable" "depth" "I") ∈ lw_all := lw_g (lw_at lw_m2 163 rfl) rfl
theorem q443 : (Jvm.Cond.superclass "java/lang/IllegalArgumentException" "java/lang/RuntimeException") ∈ lw_all := lw_g (lw_at lw_m2 166 rfl) rfl
theorem q519 : (Jvm.Cond.selects "java/lang/IllegalArgumentException" ({ cls := "java/lang/Object", name := "getClass", desc := "()Ljava/lang/Class;" } : Jvm.MethodName) ({ cls := "java/lang/Object", name := "getClass", desc := "()Ljava/lang/Class;" } : Jvm.MethodName)) ∈ lw_all := lw_g (lw_at lw_m3 2 rfl) rfl
theorem q881 : (Jvm.Cond.instanceMethod ({ cls := "java/lang/IllegalArgumentException", name := "<init>", desc := "()V" } : Jvm.MethodName)) ∈ lw_all := lw_g (lw_at lw_m4 124 rfl) rfl
theorem q882 : (Jvm.Cond.code ({ cls := "java/lang/IllegalArgumentException", name := "<init>", desc := "()V" } : Jvm.MethodName) prog_20_method_1_code (1 : Nat) (Option.none : Option Jvm.ClassFile.FieldType)) ∈ lw_all := lw_g (lw_at lw_m4 125 rfl) rfl
theorem q883 : (Jvm.Cond.methodLink "java/lang/IllegalArgumentException" (1 : Nat) ({ cls := "java/lang/RuntimeException", name := "<init>", desc := "()V" } : Jvm.MethodName)) ∈ lw_all := lw_g (lw_at lw_m4 126 rfl) rfl
theorem q1356 : (Jvm.Cond.castable "java/lang/IllegalArgumentException" "java/lang/Object") ∈ lw_tbl := lw_at lw_m6 119 rfl
theorem in_J6 : ∀ w ∈ wsJ60, w ∈ lw_all := lw_in wsJ60 [167, 169, 171, 173, 175, 440] (by decide +kernel) (by decide +kernel)

/-! jdk/internal/util/ArraysSupport -/
set_option maxRecDepth 100000
def RJ11 : String := "jdk/internal/util/ArraysSupport"
abbrev cJ11_newLength : ByteArray := prog_43_method_27_code
def yJ11_newLength : MethodName := ⟨RJ11, "newLength", "(III)I"⟩
abbrev cJ11_hugeLength : ByteArray := prog_43_method_28_code
def yJ11_hugeLength : MethodName := ⟨RJ11, "hugeLength", "(II)I"⟩
theorem q54 : (Jvm.Cond.initialized "jdk/internal/util/ArraysSupport") ∈ lw_all := lw_g (lw_at lw_m1 17 rfl) rfl
theorem q251 : (Jvm.Cond.static ({ cls := "jdk/internal/util/ArraysSupport", name := "newLength", desc := "(III)I" } : Jvm.MethodName)) ∈ lw_all := lw_g (lw_at lw_m1 214 rfl) rfl
theorem q252 : (Jvm.Cond.code ({ cls := "jdk/internal/util/ArraysSupport", name := "newLength", desc := "(III)I" } : Jvm.MethodName) prog_43_method_27_code (4 : Nat) (Option.some Jvm.ClassFile.FieldType.int)) ∈ lw_all := lw_g (lw_at lw_m1 215 rfl) rfl
theorem q253 : (Jvm.Cond.methodLink "jdk/internal/util/ArraysSupport" (194 : Nat) ({ cls := "java/lang/Math", name := "max", desc := "(II)I" } : Jvm.MethodName)) ∈ lw_all := lw_g (lw_at lw_m1 216 rfl) rfl
theorem q256 : (Jvm.Cond.constant "jdk/internal/util/ArraysSupport" (200 : Nat) (2147483639 : Int32)) ∈ lw_all := lw_g (lw_at lw_m1 219 rfl) rfl
theorem q257 : (Jvm.Cond.methodLink "jdk/internal/util/ArraysSupport" (201 : Nat) ({ cls := "jdk/internal/util/ArraysSupport", name := "hugeLength", desc := "(II)I" } : Jvm.MethodName)) ∈ lw_all := lw_g (lw_at lw_m1 220 rfl) rfl
theorem q258 : (Jvm.Cond.static ({ cls := "jdk/internal/util/ArraysSupport", name := "hugeLength", desc := "(II)I" } : Jvm.MethodName)) ∈ lw_all := lw_g (lw_at lw_m1 221 rfl) rfl
theorem q259 : (Jvm.Cond.code ({ cls := "jdk/internal/util/ArraysSupport", name := "hugeLength", desc := "(II)I" } : Jvm.MethodName) prog_43_method_28_code (3 : Nat) (Option.some Jvm.ClassFile.FieldType.int)) ∈ lw_all := lw_g (lw_at lw_m1 222 rfl) rfl

/-! java/lang/Math -/
set_option maxRecDepth 100000
def RJ12 : String := "java/lang/Math"
abbrev cJ12_max : ByteArray := prog_25_method_65_code
def yJ12_max : MethodName := ⟨RJ12, "max", "(II)I"⟩
abbrev cJ12_min : ByteArray := prog_25_method_69_code
def yJ12_min : MethodName := ⟨RJ12, "min", "(II)I"⟩
theorem q55 : (Jvm.Cond.initialized "java/lang/Math") ∈ lw_all := lw_g (lw_at lw_m1 18 rfl) rfl
theorem q254 : (Jvm.Cond.static ({ cls := "java/lang/Math", name := "max", desc := "(II)I" } : Jvm.MethodName)) ∈ lw_all := lw_g (lw_at lw_m1 217 rfl) rfl
theorem q255 : (Jvm.Cond.code ({ cls := "java/lang/Math", name := "max", desc := "(II)I" } : Jvm.MethodName) prog_25_method_65_code (2 : Nat) (Option.some Jvm.ClassFile.FieldType.int)) ∈ lw_all := lw_g (lw_at lw_m1 218 rfl) rfl
theorem q272 : (Jvm.Cond.static ({ cls := "java/lang/Math", name := "min", desc := "(II)I" } : Jvm.MethodName)) ∈ lw_all := lw_g (lw_at lw_m1 235 rfl) rfl
theorem q273 : (Jvm.Cond.code ({ cls := "java/lang/Math", name := "min", desc := "(II)I" } : Jvm.MethodName) prog_25_method_69_code (2 : Nat) (Option.some Jvm.ClassFile.FieldType.int)) ∈ lw_all := lw_g (lw_at lw_m1 236 rfl) rfl

/-! java/util/Arrays -/
set_option maxRecDepth 100000
def RJ13 : String := "java/util/Arrays"
abbrev cJ13_copyOf : ByteArray := prog_37_method_121_code
def yJ13_copyOf : MethodName := ⟨RJ13, "copyOf", "([BI)[B"⟩
abbrev cJ13_copyOfRange : ByteArray := prog_37_method_132_code
def yJ13_copyOfRange : MethodName := ⟨RJ13, "copyOfRange", "([BII)[B"⟩
abbrev cJ13_copyOfRangeByte : ByteArray := prog_37_method_133_code
def yJ13_copyOfRangeByte : MethodName := ⟨RJ13, "copyOfRangeByte", "([BII)[B"⟩
abbrev cJ13_checkLength : ByteArray := prog_37_method_131_code
def yJ13_checkLength : MethodName := ⟨RJ13, "checkLength", "(II)V"⟩
abbrev cJ13_copyOf_2 : ByteArray := prog_37_method_119_code
def yJ13_copyOf_2 : MethodName := ⟨RJ13, "copyOf", "([Ljava/lang/Object;I)[Ljava/lang/Object;"⟩
abbrev cJ13_copyOf_3 : ByteArray := prog_37_method_120_code
def yJ13_copyOf_3 : MethodName := ⟨RJ13, "copyOf", "([Ljava/lang/Object;ILjava/lang/Class;)[Ljava/lang/Object;"⟩
theorem q56 : (Jvm.Cond.initialized "java/util/Arrays") ∈ lw_all := lw_g (lw_at lw_m1 19 rfl) rfl
theorem q262 : (Jvm.Cond.static ({ cls := "java/util/Arrays", name := "copyOf", desc := "([BI)[B" } : Jvm.MethodName)) ∈ lw_all := lw_g (lw_at lw_m1 225 rfl) rfl
theorem q263 : (Jvm.Cond.code ({ cls := "java/util/Arrays", name := "copyOf", desc := "([BI)[B" } : Jvm.MethodName) prog_37_method_121_code (3 : Nat) (Option.some (Jvm.ClassFile.FieldType.array Jvm.ClassFile.FieldType.byte))) ∈ lw_all := lw_g (lw_at lw_m1 226 rfl) rfl
theorem q264 : (Jvm.Cond.methodLink "java/util/Arrays" (310 : Nat) ({ cls := "[B", name := "clone", desc := "()Ljava/lang/Object;" } : Jvm.MethodName)) ∈ lw_all := lw_g (lw_at lw_m1 227 rfl) rfl
theorem q270 : (Jvm.Cond.classLink "java/util/Arrays" (311 : Nat) "[B") ∈ lw_all := lw_g (lw_at lw_m1 233 rfl) rfl
theorem q271 : (Jvm.Cond.methodLink "java/util/Arrays" (304 : Nat) ({ cls := "java/lang/Math", name := "min", desc := "(II)I" } : Jvm.MethodName)) ∈ lw_all := lw_g (lw_at lw_m1 234 rfl) rfl
theorem q274 : (Jvm.Cond.methodLink "java/util/Arrays" (150 : Nat) ({ cls := "java/lang/System", name := "arraycopy", desc := "(Ljava/lang/Object;ILjava/lang/Object;II)V" } : Jvm.MethodName)) ∈ lw_all := lw_g (lw_at lw_m1 237 rfl) rfl
theorem q404 : (Jvm.Cond.static ({ cls := "java/util/Arrays", name := "copyOfRange", desc := "([BII)[B" } : Jvm.MethodName)) ∈ lw_all := lw_g (lw_at lw_m2 127 rfl) rfl
theorem q405 : (Jvm.Cond.code ({ cls := "java/util/Arrays", name := "copyOfRange", desc := "([BII)[B" } : Jvm.MethodName) prog_37_method_132_code (3 : Nat) (Option.some (Jvm.ClassFile.FieldType.array Jvm.ClassFile.FieldType.byte))) ∈ lw_all := lw_g (lw_at lw_m2 128 rfl) rfl
theorem q406 : (Jvm.Cond.methodLink "java/util/Arrays" (339 : Nat) ({ cls := "java/util/Arrays", name := "copyOfRangeByte", desc := "([BII)[B" } : Jvm.MethodName)) ∈ lw_all := lw_g (lw_at lw_m2 129 rfl) rfl
theorem q407 : (Jvm.Cond.static ({ cls := "java/util/Arrays", name := "copyOfRangeByte", desc := "([BII)[B" } : Jvm.MethodName)) ∈ lw_all := lw_g (lw_at lw_m2 130 rfl) rfl
theorem q408 : (Jvm.Cond.code ({ cls := "java/util/Arrays", name := "copyOfRangeByte", desc := "([BII)[B" } : Jvm.MethodName) prog_37_method_133_code (5 : Nat) (Option.some (Jvm.ClassFile.FieldType.array Jvm.ClassFile.FieldType.byte))) ∈ lw_all := lw_g (lw_at lw_m2 131 rfl) rfl
theorem q409 : (Jvm.Cond.methodLink "java/util/Arrays" (343 : Nat) ({ cls := "java/util/Arrays", name := "checkLength", desc := "(II)V" } : Jvm.MethodName)) ∈ lw_all := lw_g (lw_at lw_m2 132 rfl) rfl
theorem q410 : (Jvm.Cond.static ({ cls := "java/util/Arrays", name := "checkLength", desc := "(II)V" } : Jvm.MethodName)) ∈ lw_all := lw_g (lw_at lw_m2 133 rfl) rfl
theorem q411 : (Jvm.Cond.code ({ cls := "java/util/Arrays", name := "checkLength", desc := "(II)V" } : Jvm.MethodName) prog_37_method_131_code (2 : Nat) (Option.none : Option Jvm.ClassFile.FieldType)) ∈ lw_all := lw_g (lw_at lw_m2 134 rfl) rfl
theorem q412 : (Jvm.Cond.classLink "java/util/Arrays" (43 : Nat) "java/lang/IllegalArgumentException") ∈ lw_all := lw_g (lw_at lw_m2 135 rfl) rfl
theorem q413 : (Jvm.Cond.classLink "java/util/Arrays" (45 : Nat) "java/lang/StringBuilder") ∈ lw_all := lw_g (lw_at lw_m2 136 rfl) rfl
theorem q414 : (Jvm.Cond.methodLink "java/util/Arrays" (47 : Nat) ({ cls := "java/lang/StringBuilder", name := "<init>", desc := "()V" } : Jvm.MethodName)) ∈ lw_all := lw_g (lw_at lw_m2 137 rfl) rfl
theorem q415 : (Jvm.Cond.methodLink "java/util/Arrays" (54 : Nat) ({ cls := "java/lang/StringBuilder", name := "append", desc := "(I)Ljava/lang/StringBuilder;" } : Jvm.MethodName)) ∈ lw_all := lw_g (lw_at lw_m2 138 rfl) rfl
theorem q416 : (Jvm.Cond.stringRef "java/util/Arrays" (337 : Nat) " > ") ∈ lw_tbl := lw_at lw_m2 139 rfl
theorem q417 : (Jvm.Cond.methodLink "java/util/Arrays" (50 : Nat) ({ cls := "java/lang/StringBuilder", name := "append", desc := "(Ljava/lang/String;)Ljava/lang/StringBuilder;" } : Jvm.MethodName)) ∈ lw_all := lw_g (lw_at lw_m2 140 rfl) rfl
theorem q418 : (Jvm.Cond.methodLink "java/util/Arrays" (61 : Nat) ({ cls := "java/lang/StringBuilder", name := "toString", desc := "()Ljava/lang/String;" } : Jvm.MethodName)) ∈ lw_all := lw_g (lw_at lw_m2 141 rfl) rfl
theorem q419 : (Jvm.Cond.methodLink "java/util/Arrays" (65 : Nat) ({ cls := "java/lang/IllegalArgumentException", name := "<init>", desc := "(Ljava/lang/String;)V" } : Jvm.MethodName)) ∈ lw_all := lw_g (lw_at lw_m2 142 rfl) rfl
theorem q501 : (Jvm.Cond.static ({ cls := "java/util/Arrays", name := "copyOf", desc := "([Ljava/lang/Object;I)[Ljava/lang/Object;" } : Jvm.MethodName)) ∈ lw_all := lw_g (lw_at lw_m2 224 rfl) rfl
theorem q502 : (Jvm.Cond.code ({ cls := "java/util/Arrays", name := "copyOf", desc := "([Ljava/lang/Object;I)[Ljava/lang/Object;" } : Jvm.MethodName) prog_37_method_119_code (2 : Nat) (Option.some (Jvm.ClassFile.FieldType.array (Jvm.ClassFile.FieldType.object "java/lang/Object")))) ∈ lw_all := lw_g (lw_at lw_m2 225 rfl) rfl
theorem q503 : (Jvm.Cond.methodLink "java/util/Arrays" (86 : Nat) ({ cls := "java/lang/Object", name := "getClass", desc := "()Ljava/lang/Class;" } : Jvm.MethodName)) ∈ lw_all := lw_g (lw_at lw_m2 226 rfl) rfl
theorem q526 : (Jvm.Cond.methodLink "java/util/Arrays" (300 : Nat) ({ cls := "java/util/Arrays", name := "copyOf", desc := "([Ljava/lang/Object;ILjava/lang/Class;)[Ljava/lang/Object;" } : Jvm.MethodName)) ∈ lw_all := lw_g (lw_at lw_m3 9 rfl) rfl
theorem q527 : (Jvm.Cond.static ({ cls := "java/util/Arrays", name := "copyOf", desc := "([Ljava/lang/Object;ILjava/lang/Class;)[Ljava/lang/Object;" } : Jvm.MethodName)) ∈ lw_all := lw_g (lw_at lw_m3 10 rfl) rfl
theorem q528 : (Jvm.Cond.code ({ cls := "java/util/Arrays", name := "copyOf", desc := "([Ljava/lang/Object;ILjava/lang/Class;)[Ljava/lang/Object;" } : Jvm.MethodName) prog_37_method_120_code (4 : Nat) (Option.some (Jvm.ClassFile.FieldType.array (Jvm.ClassFile.FieldType.object "java/lang/Object")))) ∈ lw_all := lw_g (lw_at lw_m3 11 rfl) rfl
theorem q529 : (Jvm.Cond.classLink "java/util/Arrays" (110 : Nat) "[Ljava/lang/Object;") ∈ lw_all := lw_g (lw_at lw_m3 12 rfl) rfl
theorem q530 : (Jvm.Cond.classLink "java/util/Arrays" (2 : Nat) "java/lang/Object") ∈ lw_all := lw_g (lw_at lw_m3 13 rfl) rfl

/-! jdk/internal/util/Preconditions -/
set_option maxRecDepth 100000
def RJ14 : String := "jdk/internal/util/Preconditions"
abbrev cJ14_checkFromToIndex : ByteArray := prog_44_method_12_code
def yJ14_checkFromToIndex : MethodName := ⟨RJ14, "checkFromToIndex", "(IIILjava/util/function/BiFunction;)I"⟩
abbrev cJ14_checkFromIndexSize : ByteArray := prog_44_method_13_code
def yJ14_checkFromIndexSize : MethodName := ⟨RJ14, "checkFromIndexSize", "(IIILjava/util/function/BiFunction;)I"⟩
abbrev cJ14_checkIndex : ByteArray := prog_44_method_11_code
def yJ14_checkIndex : MethodName := ⟨RJ14, "checkIndex", "(IILjava/util/function/BiFunction;)I"⟩
theorem q58 : (Jvm.Cond.initialized "jdk/internal/util/Preconditions") ∈ lw_all := lw_g (lw_at lw_m1 21 rfl) rfl
theorem q295 : (Jvm.Cond.laysStatic "jdk/internal/util/Preconditions" "SIOOBE_FORMATTER" "Ljava/util/function/BiFunction;") ∈ lw_tbl := lw_at lw_m2 18 rfl
theorem q297 : (Jvm.Cond.static ({ cls := "jdk/internal/util/Preconditions", name := "checkFromToIndex", desc := "(IIILjava/util/function/BiFunction;)I" } : Jvm.MethodName)) ∈ lw_all := lw_g (lw_at lw_m2 20 rfl) rfl
theorem q298 : (Jvm.Cond.code ({ cls := "jdk/internal/util/Preconditions", name := "checkFromToIndex", desc := "(IIILjava/util/function/BiFunction;)I" } : Jvm.MethodName) prog_44_method_12_code (4 : Nat) (Option.some Jvm.ClassFile.FieldType.int)) ∈ lw_all := lw_g (lw_at lw_m2 21 rfl) rfl
theorem q343 : (Jvm.Cond.static ({ cls := "jdk/internal/util/Preconditions", name := "checkFromIndexSize", desc := "(IIILjava/util/function/BiFunction;)I" } : Jvm.MethodName)) ∈ lw_all := lw_g (lw_at lw_m2 66 rfl) rfl
theorem q344 : (Jvm.Cond.code ({ cls := "jdk/internal/util/Preconditions", name := "checkFromIndexSize", desc := "(IIILjava/util/function/BiFunction;)I" } : Jvm.MethodName) prog_44_method_13_code (4 : Nat) (Option.some Jvm.ClassFile.FieldType.int)) ∈ lw_all := lw_g (lw_at lw_m2 67 rfl) rfl
theorem q750 : (Jvm.Cond.static ({ cls := "jdk/internal/util/Preconditions", name := "checkIndex", desc := "(IILjava/util/function/BiFunction;)I" } : Jvm.MethodName)) ∈ lw_all := lw_g (lw_at lw_m3 233 rfl) rfl
theorem q751 : (Jvm.Cond.code ({ cls := "jdk/internal/util/Preconditions", name := "checkIndex", desc := "(IILjava/util/function/BiFunction;)I" } : Jvm.MethodName) prog_44_method_11_code (3 : Nat) (Option.some Jvm.ClassFile.FieldType.int)) ∈ lw_all := lw_g (lw_at lw_m3 234 rfl) rfl

/-! java/util/Objects -/
set_option maxRecDepth 100000
def RJ17 : String := "java/util/Objects"
abbrev cJ17_checkIndex : ByteArray := prog_40_method_17_code
def yJ17_checkIndex : MethodName := ⟨RJ17, "checkIndex", "(II)I"⟩
theorem q68 : (Jvm.Cond.initialized "java/util/Objects") ∈ lw_all := lw_g (lw_at lw_m1 31 rfl) rfl
theorem q747 : (Jvm.Cond.static ({ cls := "java/util/Objects", name := "checkIndex", desc := "(II)I" } : Jvm.MethodName)) ∈ lw_all := lw_g (lw_at lw_m3 230 rfl) rfl
theorem q748 : (Jvm.Cond.code ({ cls := "java/util/Objects", name := "checkIndex", desc := "(II)I" } : Jvm.MethodName) prog_40_method_17_code (2 : Nat) (Option.some Jvm.ClassFile.FieldType.int)) ∈ lw_all := lw_g (lw_at lw_m3 231 rfl) rfl
theorem q749 : (Jvm.Cond.methodLink "java/util/Objects" (105 : Nat) ({ cls := "jdk/internal/util/Preconditions", name := "checkIndex", desc := "(IILjava/util/function/BiFunction;)I" } : Jvm.MethodName)) ∈ lw_all := lw_g (lw_at lw_m3 232 rfl) rfl

/-! java/lang/Record -/
set_option maxRecDepth 100000
def RJ18 : String := "java/lang/Record"
abbrev cJ18_init : ByteArray := prog_26_method_1_code
def yJ18_init : MethodName := ⟨RJ18, "<init>", "()V"⟩
theorem q69 : (Jvm.Cond.initialized "java/lang/Record") ∈ lw_all := lw_g (lw_at lw_m1 32 rfl) rfl
theorem q769 : (Jvm.Cond.instanceMethod ({ cls := "java/lang/Record", name := "<init>", desc := "()V" } : Jvm.MethodName)) ∈ lw_all := lw_g (lw_at lw_m4 12 rfl) rfl
theorem q770 : (Jvm.Cond.code ({ cls := "java/lang/Record", name := "<init>", desc := "()V" } : Jvm.MethodName) prog_26_method_1_code (1 : Nat) (Option.none : Option Jvm.ClassFile.FieldType)) ∈ lw_all := lw_g (lw_at lw_m4 13 rfl) rfl
theorem q771 : (Jvm.Cond.methodLink "java/lang/Record" (1 : Nat) ({ cls := "java/lang/Object", name := "<init>", desc := "()V" } : Jvm.MethodName)) ∈ lw_all := lw_g (lw_at lw_m4 14 rfl) rfl

/-! java/lang/IllegalStateException -/
set_option maxRecDepth 100000
def RJ19 : String := "java/lang/IllegalStateException"
def TJ19 : u_T := fun k => match k with
  | 0 => ("java/lang/Throwable", "cause", "Ljava/lang/Throwable;", false)
  | 1 => ("java/lang/Throwable", "stackTrace", "[Ljava/lang/StackTraceElement;", false)
  | 2 => ("java/lang/Throwable", "suppressedExceptions", "Ljava/util/List;", false)
  | 3 => ("java/lang/Throwable", "detailMessage", "Ljava/lang/String;", false)
  | 4 => ("java/lang/Throwable", "backtrace", "Ljava/lang/Object;", false)
  | _ => ("java/lang/Throwable", "depth", "I", false)
def tyJ19 : Nat → FieldType := fun k => match k with
  | 0 => .object "java/lang/Throwable"
  | 1 => .array (.object "java/lang/StackTraceElement")
  | 2 => .object "java/util/List"
  | 3 => .object "java/lang/String"
  | 4 => .object "java/lang/Object"
  | _ => .int
abbrev wsJ190 : List Cond := u_ws RJ19 TJ19 6
theorem nmJ19 : ∀ a, a < 6 → ∀ b, b < 6 → a ≠ b → (TJ19 a).2.1 ≠ (TJ19 b).2.1 := by decide +kernel
theorem tyJ19_ok : ∀ k, k < 6 → parseFieldDescriptor (TJ19 k).2.2.1 = some (tyJ19 k) := by decide +kernel
abbrev cJ19_init : ByteArray := prog_21_method_1_code
def yJ19_init : MethodName := ⟨RJ19, "<init>", "()V"⟩
theorem q71 : (Jvm.Cond.initialized "java/lang/IllegalStateException") ∈ lw_all := lw_g (lw_at lw_m1 34 rfl) rfl
theorem q190 : (Jvm.Cond.selects "java/lang/IllegalStateException" ({ cls := "java/lang/Throwable", name := "fillInStackTrace", desc := "()Ljava/lang/Throwable;" } : Jvm.MethodName) ({ cls := "java/lang/Throwable", name := "fillInStackTrace", desc := "()Ljava/lang/Throwable;" } : Jvm.MethodName)) ∈ lw_all := lw_g (lw_at lw_m1 153 rfl) rfl
theorem q520 : (Jvm.Cond.selects "java/lang/IllegalStateException" ({ cls := "java/lang/Object", name := "getClass", desc := "()Ljava/lang/Class;" } : Jvm.MethodName) ({ cls := "java/lang/Object", name := "getClass", desc := "()Ljava/lang/Class;" } : Jvm.MethodName)) ∈ lw_all := lw_g (lw_at lw_m3 3 rfl) rfl
theorem q859 : (Jvm.Cond.instantiable "java/lang/IllegalStateException" (6 : Nat)) ∈ lw_all := lw_g (lw_at lw_m4 102 rfl) rfl
theorem q860 : (Jvm.Cond.castable "java/lang/IllegalStateException" "java/lang/IllegalStateException") ∈ lw_tbl := lw_at lw_m4 103 rfl
theorem q861 : (Jvm.Cond.selects "java/lang/IllegalStateException" ({ cls := "java/lang/Throwable", name := "fillInStackTrace", desc := "(I)Ljava/lang/Throwable;" } : Jvm.MethodName) ({ cls := "java/lang/Throwable", name := "fillInStackTrace", desc := "(I)Ljava/lang/Throwable;" } : Jvm.MethodName)) ∈ lw_all := lw_g (lw_at lw_m4 104 rfl) rfl
theorem q862 : (Jvm.Cond.lays "java/lang/IllegalStateException" "java/lang/Throwable" "cause" "Ljava/lang/Throwable;") ∈ lw_all := lw_g (lw_at lw_m4 105 rfl) rfl
theorem q863 : (Jvm.Cond.lays "java/lang/IllegalStateException" "java/lang/Throwable" "stackTrace" "[Ljava/lang/StackTraceElement;") ∈ lw_all := lw_g (lw_at lw_m4 106 rfl) rfl
theorem q864 : (Jvm.Cond.lays "java/lang/IllegalStateException" "java/lang/Throwable" "suppressedExceptions" "Ljava/util/List;") ∈ lw_all := lw_g (lw_at lw_m4 107 rfl) rfl
theorem q865 : (Jvm.Cond.lays "java/lang/IllegalStateException" "java/lang/Throwable" "detailMessage" "Ljava/lang/String;") ∈ lw_all := lw_g (lw_at lw_m4 108 rfl) rfl
theorem q866 : (Jvm.Cond.lays "java/lang/IllegalStateException" "java/lang/Throwable" "backtrace" "Ljava/lang/Object;") ∈ lw_all := lw_g (lw_at lw_m4 109 rfl) rfl
theorem q868 : (Jvm.Cond.instanceMethod ({ cls := "java/lang/IllegalStateException", name := "<init>", desc := "()V" } : Jvm.MethodName)) ∈ lw_all := lw_g (lw_at lw_m4 111 rfl) rfl
theorem q869 : (Jvm.Cond.code ({ cls := "java/lang/IllegalStateException", name := "<init>", desc := "()V" } : Jvm.MethodName) prog_21_method_1_code (1 : Nat) (Option.none : Option Jvm.ClassFile.FieldType)) ∈ lw_all := lw_g (lw_at lw_m4 112 rfl) rfl
theorem q870 : (Jvm.Cond.methodLink "java/lang/IllegalStateException" (1 : Nat) ({ cls := "java/lang/RuntimeException", name := "<init>", desc := "()V" } : Jvm.MethodName)) ∈ lw_all := lw_g (lw_at lw_m4 113 rfl) rfl
theorem q877 : (Jvm.Cond.lays "java/lang/IllegalStateException" "java/lang/Throwable" "depth" "I") ∈ lw_all := lw_g (lw_at lw_m4 120 rfl) rfl
theorem q878 : (Jvm.Cond.superclass "java/lang/IllegalStateException" "java/lang/RuntimeException") ∈ lw_all := lw_g (lw_at lw_m4 121 rfl) rfl
theorem q1366 : (Jvm.Cond.castable "java/lang/IllegalStateException" "java/lang/Object") ∈ lw_tbl := lw_at lw_m6 129 rfl
theorem in_J19 : ∀ w ∈ wsJ190, w ∈ lw_all := lw_in wsJ190 [862, 863, 864, 865, 866, 877] (by decide +kernel) (by decide +kernel)

/-! java/lang/IndexOutOfBoundsException -/
set_option maxRecDepth 100000
def RJ20 : String := "java/lang/IndexOutOfBoundsException"
def TJ20 : u_T := fun k => match k with
  | 0 => ("java/lang/Throwable", "cause", "Ljava/lang/Throwable;", false)
  | 1 => ("java/lang/Throwable", "stackTrace", "[Ljava/lang/StackTraceElement;", false)
  | 2 => ("java/lang/Throwable", "suppressedExceptions", "Ljava/util/List;", false)
  | 3 => ("java/lang/Throwable", "detailMessage", "Ljava/lang/String;", false)
  | 4 => ("java/lang/Throwable", "backtrace", "Ljava/lang/Object;", false)
  | _ => ("java/lang/Throwable", "depth", "I", false)
def tyJ20 : Nat → FieldType := fun k => match k with
  | 0 => .object "java/lang/Throwable"
  | 1 => .array (.object "java/lang/StackTraceElement")
  | 2 => .object "java/util/List"
  | 3 => .object "java/lang/String"
  | 4 => .object "java/lang/Object"
  | _ => .int
abbrev wsJ200 : List Cond := u_ws RJ20 TJ20 6
theorem nmJ20 : ∀ a, a < 6 → ∀ b, b < 6 → a ≠ b → (TJ20 a).2.1 ≠ (TJ20 b).2.1 := by decide +kernel
theorem tyJ20_ok : ∀ k, k < 6 → parseFieldDescriptor (TJ20 k).2.2.1 = some (tyJ20 k) := by decide +kernel
abbrev cJ20_init : ByteArray := prog_22_method_2_code
def yJ20_init : MethodName := ⟨RJ20, "<init>", "(Ljava/lang/String;)V"⟩
abbrev cJ20_init_2 : ByteArray := prog_22_method_1_code
def yJ20_init_2 : MethodName := ⟨RJ20, "<init>", "()V"⟩
theorem q72 : (Jvm.Cond.initialized "java/lang/IndexOutOfBoundsException") ∈ lw_all := lw_g (lw_at lw_m1 35 rfl) rfl
theorem q191 : (Jvm.Cond.selects "java/lang/IndexOutOfBoundsException" ({ cls := "java/lang/Throwable", name := "fillInStackTrace", desc := "()Ljava/lang/Throwable;" } : Jvm.MethodName) ({ cls := "java/lang/Throwable", name := "fillInStackTrace", desc := "()Ljava/lang/Throwable;" } : Jvm.MethodName)) ∈ lw_all := lw_g (lw_at lw_m1 154 rfl) rfl
theorem q521 : (Jvm.Cond.selects "java/lang/IndexOutOfBoundsException" ({ cls := "java/lang/Object", name := "getClass", desc := "()Ljava/lang/Class;" } : Jvm.MethodName) ({ cls := "java/lang/Object", name := "getClass", desc := "()Ljava/lang/Class;" } : Jvm.MethodName)) ∈ lw_all := lw_g (lw_at lw_m3 4 rfl) rfl
theorem q1047 : (Jvm.Cond.instanceMethod ({ cls := "java/lang/IndexOutOfBoundsException", name := "<init>", desc := "(Ljava/lang/String;)V" } : Jvm.MethodName)) ∈ lw_all := lw_g (lw_at lw_m5 50 rfl) rfl
theorem q1048 : (Jvm.Cond.code ({ cls := "java/lang/IndexOutOfBoundsException", name := "<init>", desc := "(Ljava/lang/String;)V" } : Jvm.MethodName) prog_22_method_2_code (2 : Nat) (Option.none : Option Jvm.ClassFile.FieldType)) ∈ lw_all := lw_g (lw_at lw_m5 51 rfl) rfl
theorem q1049 : (Jvm.Cond.methodLink "java/lang/IndexOutOfBoundsException" (7 : Nat) ({ cls := "java/lang/RuntimeException", name := "<init>", desc := "(Ljava/lang/String;)V" } : Jvm.MethodName)) ∈ lw_all := lw_g (lw_at lw_m5 52 rfl) rfl
theorem q1058 : (Jvm.Cond.declares ({ cls := "java/lang/IndexOutOfBoundsException", name := "<init>", desc := "()V" } : Jvm.MethodName)) ∈ lw_tbl := lw_at lw_m5 61 rfl
theorem q1059 : (Jvm.Cond.declares ({ cls := "java/lang/IndexOutOfBoundsException", name := "<init>", desc := "(Ljava/lang/String;)V" } : Jvm.MethodName)) ∈ lw_tbl := lw_at lw_m5 62 rfl
theorem q1066 : (Jvm.Cond.instantiable "java/lang/IndexOutOfBoundsException" (6 : Nat)) ∈ lw_all := lw_g (lw_at lw_m5 69 rfl) rfl
theorem q1067 : (Jvm.Cond.castable "java/lang/IndexOutOfBoundsException" "java/lang/IndexOutOfBoundsException") ∈ lw_tbl := lw_at lw_m5 70 rfl
theorem q1068 : (Jvm.Cond.selects "java/lang/IndexOutOfBoundsException" ({ cls := "java/lang/Throwable", name := "fillInStackTrace", desc := "(I)Ljava/lang/Throwable;" } : Jvm.MethodName) ({ cls := "java/lang/Throwable", name := "fillInStackTrace", desc := "(I)Ljava/lang/Throwable;" } : Jvm.MethodName)) ∈ lw_all := lw_g (lw_at lw_m5 71 rfl) rfl
theorem q1069 : (Jvm.Cond.lays "java/lang/IndexOutOfBoundsException" "java/lang/Throwable" "cause" "Ljava/lang/Throwable;") ∈ lw_all := lw_g (lw_at lw_m5 72 rfl) rfl
theorem q1070 : (Jvm.Cond.lays "java/lang/IndexOutOfBoundsException" "java/lang/Throwable" "stackTrace" "[Ljava/lang/StackTraceElement;") ∈ lw_all := lw_g (lw_at lw_m5 73 rfl) rfl
theorem q1071 : (Jvm.Cond.lays "java/lang/IndexOutOfBoundsException" "java/lang/Throwable" "suppressedExceptions" "Ljava/util/List;") ∈ lw_all := lw_g (lw_at lw_m5 74 rfl) rfl
theorem q1072 : (Jvm.Cond.lays "java/lang/IndexOutOfBoundsException" "java/lang/Throwable" "detailMessage" "Ljava/lang/String;") ∈ lw_all := lw_g (lw_at lw_m5 75 rfl) rfl
theorem q1073 : (Jvm.Cond.lays "java/lang/IndexOutOfBoundsException" "java/lang/Throwable" "backtrace" "Ljava/lang/Object;") ∈ lw_all := lw_g (lw_at lw_m5 76 rfl) rfl
theorem q1075 : (Jvm.Cond.instanceMethod ({ cls := "java/lang/IndexOutOfBoundsException", name := "<init>", desc := "()V" } : Jvm.MethodName)) ∈ lw_all := lw_g (lw_at lw_m5 78 rfl) rfl
theorem q1076 : (Jvm.Cond.code ({ cls := "java/lang/IndexOutOfBoundsException", name := "<init>", desc := "()V" } : Jvm.MethodName) prog_22_method_1_code (1 : Nat) (Option.none : Option Jvm.ClassFile.FieldType)) ∈ lw_all := lw_g (lw_at lw_m5 79 rfl) rfl
theorem q1077 : (Jvm.Cond.methodLink "java/lang/IndexOutOfBoundsException" (1 : Nat) ({ cls := "java/lang/RuntimeException", name := "<init>", desc := "()V" } : Jvm.MethodName)) ∈ lw_all := lw_g (lw_at lw_m5 80 rfl) rfl
theorem q1078 : (Jvm.Cond.lays "java/lang/IndexOutOfBoundsException" "java/lang/Throwable" "depth" "I") ∈ lw_all := lw_g (lw_at lw_m5 81 rfl) rfl
theorem q1079 : (Jvm.Cond.superclass "java/lang/IndexOutOfBoundsException" "java/lang/RuntimeException") ∈ lw_all := lw_g (lw_at lw_m5 82 rfl) rfl
theorem q1368 : (Jvm.Cond.castable "java/lang/IndexOutOfBoundsException" "java/lang/Object") ∈ lw_tbl := lw_at lw_m6 131 rfl
theorem in_J20 : ∀ w ∈ wsJ200, w ∈ lw_all := lw_in wsJ200 [1069, 1070, 1071, 1072, 1073, 1078] (by decide +kernel) (by decide +kernel)

/-! java/lang/Object -/
set_option maxRecDepth 100000
def RJ22 : String := "java/lang/Object"
abbrev cJ22_init : ByteArray := object_method_1_code
def yJ22_init : MethodName := ⟨RJ22, "<init>", "()V"⟩
theorem q80 : (Jvm.Cond.instanceMethod ({ cls := "java/lang/Object", name := "<init>", desc := "()V" } : Jvm.MethodName)) ∈ lw_all := lw_g (lw_at lw_m1 43 rfl) rfl
theorem q81 : (Jvm.Cond.code ({ cls := "java/lang/Object", name := "<init>", desc := "()V" } : Jvm.MethodName) object_method_1_code (1 : Nat) (Option.none : Option Jvm.ClassFile.FieldType)) ∈ lw_all := lw_g (lw_at lw_m1 44 rfl) rfl
theorem q266 : (Jvm.Cond.native ({ cls := "java/lang/Object", name := "clone", desc := "()Ljava/lang/Object;" } : Jvm.MethodName)) ∈ lw_all := lw_g (lw_at lw_m1 229 rfl) rfl
theorem q267 : (Jvm.Cond.instanceMethod ({ cls := "java/lang/Object", name := "clone", desc := "()Ljava/lang/Object;" } : Jvm.MethodName)) ∈ lw_all := lw_g (lw_at lw_m1 230 rfl) rfl
theorem q504 : (Jvm.Cond.instanceMethod ({ cls := "java/lang/Object", name := "getClass", desc := "()Ljava/lang/Class;" } : Jvm.MethodName)) ∈ lw_all := lw_g (lw_at lw_m2 227 rfl) rfl
theorem q505 : (Jvm.Cond.sameMethod "java/lang/Object" "java/lang/Object" "getClass" "()Ljava/lang/Class;") ∈ lw_all := lw_g (lw_at lw_m2 228 rfl) rfl
theorem q525 : (Jvm.Cond.native ({ cls := "java/lang/Object", name := "getClass", desc := "()Ljava/lang/Class;" } : Jvm.MethodName)) ∈ lw_all := lw_g (lw_at lw_m3 8 rfl) rfl
theorem q1349 : (Jvm.Cond.declares ({ cls := "java/lang/Object", name := "getClass", desc := "()Ljava/lang/Class;" } : Jvm.MethodName)) ∈ lw_tbl := lw_at lw_m6 112 rfl

/-! the law's own entry -/
set_option maxRecDepth 100000
abbrev cL_law : ByteArray := code

theorem q109 : (Jvm.Cond.arrayClass Jvm.ClassFile.FieldType.int) ∈ lw_all := lw_g (lw_at lw_m1 72 rfl) rfl
set_option maxRecDepth 100000
theorem q153 : (Jvm.Cond.arrayOver (Jvm.ClassFile.FieldType.object "java/lang/Object")) ∈ lw_tbl := lw_at lw_m1 116 rfl
theorem q229 : (Jvm.Cond.arrayClass Jvm.ClassFile.FieldType.byte) ∈ lw_all := lw_g (lw_at lw_m1 192 rfl) rfl
theorem q1336 : (Jvm.Cond.arrayClass Jvm.ClassFile.FieldType.long) ∈ lw_all := lw_g (lw_at lw_m6 99 rfl) rfl

theorem q57 : (Jvm.Cond.initialized "java/lang/System") ∈ lw_all := lw_g (lw_at lw_m1 20 rfl) rfl
set_option maxRecDepth 100000
theorem q275 : (Jvm.Cond.static ({ cls := "java/lang/System", name := "arraycopy", desc := "(Ljava/lang/Object;ILjava/lang/Object;II)V" } : Jvm.MethodName)) ∈ lw_all := lw_g (lw_at lw_m1 238 rfl) rfl
theorem q276 : (Jvm.Cond.native ({ cls := "java/lang/System", name := "arraycopy", desc := "(Ljava/lang/Object;ILjava/lang/Object;II)V" } : Jvm.MethodName)) ∈ lw_all := lw_g (lw_at lw_m1 239 rfl) rfl

theorem q1347 : (Jvm.Cond.sameMethod "[Ljava/lang/Object;" "java/lang/Object" "getClass" "()Ljava/lang/Class;") ∈ lw_all := lw_g (lw_at lw_m6 110 rfl) rfl
set_option maxRecDepth 100000
theorem q1348 : (Jvm.Cond.selects "[Ljava/lang/Object;" ({ cls := "java/lang/Object", name := "getClass", desc := "()Ljava/lang/Class;" } : Jvm.MethodName) ({ cls := "java/lang/Object", name := "getClass", desc := "()Ljava/lang/Class;" } : Jvm.MethodName)) ∈ lw_all := lw_g (lw_at lw_m6 111 rfl) rfl
theorem q1371 : (Jvm.Cond.castable "[Ljava/lang/Object;" "java/lang/Object") ∈ lw_tbl := lw_at lw_m6 134 rfl

theorem q265 : (Jvm.Cond.sameMethod "[B" "java/lang/Object" "clone" "()Ljava/lang/Object;") ∈ lw_all := lw_g (lw_at lw_m1 228 rfl) rfl
set_option maxRecDepth 100000
theorem q268 : (Jvm.Cond.selects "[B" ({ cls := "[B", name := "clone", desc := "()Ljava/lang/Object;" } : Jvm.MethodName) ({ cls := "java/lang/Object", name := "clone", desc := "()Ljava/lang/Object;" } : Jvm.MethodName)) ∈ lw_all := lw_g (lw_at lw_m1 231 rfl) rfl
theorem q269 : (Jvm.Cond.castable "[B" "java/lang/Cloneable") ∈ lw_tbl := lw_at lw_m1 232 rfl
theorem q1372 : (Jvm.Cond.castable "[B" "java/lang/Object") ∈ lw_tbl := lw_at lw_m6 135 rfl

theorem q1370 : (Jvm.Cond.castable "[I" "java/lang/Object") ∈ lw_tbl := lw_at lw_m6 133 rfl
set_option maxRecDepth 100000

theorem q1373 : (Jvm.Cond.castable "[J" "java/lang/Object") ∈ lw_tbl := lw_at lw_m6 136 rfl
set_option maxRecDepth 100000

