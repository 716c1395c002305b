-- ===== PART A: goes FIRST, ahead of the names: the tables' words, and 'selects' of the private methods out of them =====
/-- a private method of a class that the tables say can be made, by its rows of tables_1 -/
def lw_okq (q : MethodName × Nat) : Prop := (q.1.cls ≠ "java/lang/invoke/MethodHandle" ∧ q.1.cls ≠ "java/lang/invoke/VarHandle") ∧ Cond.instantiable q.1.cls q.2 ∈ tables_1 ∧ Cond.privateMethod q.1 ∈ tables_1 ∧ Cond.instanceMethod q.1 ∈ tables_1
set_option maxRecDepth 100000
theorem lw_t1 {w : Cond} (h : w ∈ tables_1_1) : w ∈ tables_1 := List.mem_append_left _ h
theorem lw_t2 {w : Cond} (h : w ∈ tables_1_2) : w ∈ tables_1 := List.mem_append_right _ (List.mem_append_left _ h)
theorem lw_t3 {w : Cond} (h : w ∈ tables_1_3) : w ∈ tables_1 := List.mem_append_right _ (List.mem_append_right _ (List.mem_append_left _ h))
theorem lw_t4 {w : Cond} (h : w ∈ tables_1_4) : w ∈ tables_1 := List.mem_append_right _ (List.mem_append_right _ (List.mem_append_right _ (List.mem_append_left _ h)))
theorem lw_t5 {w : Cond} (h : w ∈ tables_1_5) : w ∈ tables_1 := List.mem_append_right _ (List.mem_append_right _ (List.mem_append_right _ (List.mem_append_right _ (List.mem_append_left _ h))))
theorem lw_t6 {w : Cond} (h : w ∈ tables_1_6) : w ∈ tables_1 := List.mem_append_right _ (List.mem_append_right _ (List.mem_append_right _ (List.mem_append_right _ (List.mem_append_right _ h))))
theorem lw_p0 : lw_okq (⟨"java/lang/Throwable", "fillInStackTrace", "(I)Ljava/lang/Throwable;"⟩, 6) := ⟨⟨by decide +kernel, by decide +kernel⟩, lw_t1 (List.mem_of_getElem? (i := 159) rfl), lw_t1 (List.mem_of_getElem? (i := 157) rfl), lw_t1 (List.mem_of_getElem? (i := 158) rfl)⟩
theorem lw_p1 : lw_okq (⟨"java/util/ArrayList", "add", "(Ljava/lang/Object;[Ljava/lang/Object;I)V"⟩, 3) := ⟨⟨by decide +kernel, by decide +kernel⟩, lw_t1 (List.mem_of_getElem? (i := 104) rfl), lw_t2 (List.mem_of_getElem? (i := 209) rfl), lw_t2 (List.mem_of_getElem? (i := 210) rfl)⟩
theorem lw_p2 : lw_okq (⟨"java/util/ArrayList", "grow", "()[Ljava/lang/Object;"⟩, 3) := ⟨⟨by decide +kernel, by decide +kernel⟩, lw_t1 (List.mem_of_getElem? (i := 104) rfl), lw_t2 (List.mem_of_getElem? (i := 213) rfl), lw_t2 (List.mem_of_getElem? (i := 214) rfl)⟩
theorem lw_p3 : lw_okq (⟨"java/util/ArrayList", "grow", "(I)[Ljava/lang/Object;"⟩, 3) := ⟨⟨by decide +kernel, by decide +kernel⟩, lw_t1 (List.mem_of_getElem? (i := 104) rfl), lw_t2 (List.mem_of_getElem? (i := 217) rfl), lw_t2 (List.mem_of_getElem? (i := 218) rfl)⟩
theorem lw_p4 : lw_okq (⟨"ThriftNode$Program", "isGood", "(II)Z"⟩, 2) := ⟨⟨by decide +kernel, by decide +kernel⟩, lw_t1 (List.mem_of_getElem? (i := 98) rfl), lw_t4 (List.mem_of_getElem? (i := 53) rfl), lw_t4 (List.mem_of_getElem? (i := 54) rfl)⟩
theorem lw_p5 : lw_okq (⟨"ThriftNode$Node", "boots", "()Z"⟩, 21) := ⟨⟨by decide +kernel, by decide +kernel⟩, lw_t1 (List.mem_of_getElem? (i := 46) rfl), lw_t4 (List.mem_of_getElem? (i := 133) rfl), lw_t4 (List.mem_of_getElem? (i := 134) rfl)⟩
theorem lw_p6 : lw_okq (⟨"ThriftNode$Node", "step", "()Z"⟩, 21) := ⟨⟨by decide +kernel, by decide +kernel⟩, lw_t1 (List.mem_of_getElem? (i := 46) rfl), lw_t4 (List.mem_of_getElem? (i := 137) rfl), lw_t4 (List.mem_of_getElem? (i := 138) rfl)⟩
theorem lw_p7 : lw_okq (⟨"ThriftNode$Node", "begin", "()V"⟩, 21) := ⟨⟨by decide +kernel, by decide +kernel⟩, lw_t1 (List.mem_of_getElem? (i := 46) rfl), lw_t4 (List.mem_of_getElem? (i := 145) rfl), lw_t4 (List.mem_of_getElem? (i := 146) rfl)⟩
theorem lw_p8 : lw_okq (⟨"ThriftNode$Node", "clear", "()V"⟩, 21) := ⟨⟨by decide +kernel, by decide +kernel⟩, lw_t1 (List.mem_of_getElem? (i := 46) rfl), lw_t4 (List.mem_of_getElem? (i := 149) rfl), lw_t4 (List.mem_of_getElem? (i := 150) rfl)⟩
theorem lw_p9 : lw_okq (⟨"ThriftNode$Run", "instruction", "()LThriftNode$Instruction;"⟩, 3) := ⟨⟨by decide +kernel, by decide +kernel⟩, lw_t3 (List.mem_of_getElem? (i := 88) rfl), lw_t4 (List.mem_of_getElem? (i := 172) rfl), lw_t4 (List.mem_of_getElem? (i := 173) rfl)⟩
theorem lw_p10 : lw_okq (⟨"ThriftNode$Node", "fail", "()V"⟩, 21) := ⟨⟨by decide +kernel, by decide +kernel⟩, lw_t1 (List.mem_of_getElem? (i := 46) rfl), lw_t4 (List.mem_of_getElem? (i := 183) rfl), lw_t4 (List.mem_of_getElem? (i := 184) rfl)⟩
theorem lw_p11 : lw_okq (⟨"ThriftNode$Commit", "end", "()V"⟩, 2) := ⟨⟨by decide +kernel, by decide +kernel⟩, lw_t3 (List.mem_of_getElem? (i := 103) rfl), lw_t4 (List.mem_of_getElem? (i := 222) rfl), lw_t4 (List.mem_of_getElem? (i := 223) rfl)⟩
theorem lw_p12 : lw_okq (⟨"ThriftNode$Pending", "find", "(I)I"⟩, 4) := ⟨⟨by decide +kernel, by decide +kernel⟩, lw_t1 (List.mem_of_getElem? (i := 74) rfl), lw_t5 (List.mem_of_getElem? (i := 9) rfl), lw_t5 (List.mem_of_getElem? (i := 10) rfl)⟩
theorem lw_p13 : lw_okq (⟨"ThriftNode$Run", "put", "(II)V"⟩, 3) := ⟨⟨by decide +kernel, by decide +kernel⟩, lw_t3 (List.mem_of_getElem? (i := 88) rfl), lw_t5 (List.mem_of_getElem? (i := 17) rfl), lw_t5 (List.mem_of_getElem? (i := 18) rfl)⟩
theorem lw_p14 : lw_okq (⟨"ThriftNode$Run", "push", "(II)V"⟩, 3) := ⟨⟨by decide +kernel, by decide +kernel⟩, lw_t3 (List.mem_of_getElem? (i := 88) rfl), lw_t5 (List.mem_of_getElem? (i := 26) rfl), lw_t5 (List.mem_of_getElem? (i := 27) rfl)⟩
theorem lw_p15 : lw_okq (⟨"ThriftNode$Run", "pop", "(II)V"⟩, 3) := ⟨⟨by decide +kernel, by decide +kernel⟩, lw_t3 (List.mem_of_getElem? (i := 88) rfl), lw_t5 (List.mem_of_getElem? (i := 30) rfl), lw_t5 (List.mem_of_getElem? (i := 31) rfl)⟩
def lw_privs_1 : List (MethodName × Nat) := [(⟨"java/lang/Throwable", "fillInStackTrace", "(I)Ljava/lang/Throwable;"⟩, 6), (⟨"java/util/ArrayList", "add", "(Ljava/lang/Object;[Ljava/lang/Object;I)V"⟩, 3), (⟨"java/util/ArrayList", "grow", "()[Ljava/lang/Object;"⟩, 3), (⟨"java/util/ArrayList", "grow", "(I)[Ljava/lang/Object;"⟩, 3), (⟨"ThriftNode$Program", "isGood", "(II)Z"⟩, 2), (⟨"ThriftNode$Node", "boots", "()Z"⟩, 21), (⟨"ThriftNode$Node", "step", "()Z"⟩, 21), (⟨"ThriftNode$Node", "begin", "()V"⟩, 21), (⟨"ThriftNode$Node", "clear", "()V"⟩, 21), (⟨"ThriftNode$Run", "instruction", "()LThriftNode$Instruction;"⟩, 3), (⟨"ThriftNode$Node", "fail", "()V"⟩, 21), (⟨"ThriftNode$Commit", "end", "()V"⟩, 2), (⟨"ThriftNode$Pending", "find", "(I)I"⟩, 4), (⟨"ThriftNode$Run", "put", "(II)V"⟩, 3), (⟨"ThriftNode$Run", "push", "(II)V"⟩, 3), (⟨"ThriftNode$Run", "pop", "(II)V"⟩, 3)]
theorem lw_r1 : ∀ q ∈ lw_privs_1, lw_okq q := List.forall_mem_cons.mpr ⟨lw_p0, List.forall_mem_cons.mpr ⟨lw_p1, List.forall_mem_cons.mpr ⟨lw_p2, List.forall_mem_cons.mpr ⟨lw_p3, List.forall_mem_cons.mpr ⟨lw_p4, List.forall_mem_cons.mpr ⟨lw_p5, List.forall_mem_cons.mpr ⟨lw_p6, List.forall_mem_cons.mpr ⟨lw_p7, List.forall_mem_cons.mpr ⟨lw_p8, List.forall_mem_cons.mpr ⟨lw_p9, List.forall_mem_cons.mpr ⟨lw_p10, List.forall_mem_cons.mpr ⟨lw_p11, List.forall_mem_cons.mpr ⟨lw_p12, List.forall_mem_cons.mpr ⟨lw_p13, List.forall_mem_cons.mpr ⟨lw_p14, List.forall_mem_cons.mpr ⟨lw_p15, fun _ h => absurd h List.not_mem_nil⟩⟩⟩⟩⟩⟩⟩⟩⟩⟩⟩⟩⟩⟩⟩⟩
theorem lw_p16 : lw_okq (⟨"ThriftNode$Run", "send", "(I)V"⟩, 3) := ⟨⟨by decide +kernel, by decide +kernel⟩, lw_t3 (List.mem_of_getElem? (i := 88) rfl), lw_t5 (List.mem_of_getElem? (i := 34) rfl), lw_t5 (List.mem_of_getElem? (i := 35) rfl)⟩
theorem lw_p17 : lw_okq (⟨"ThriftNode$Run", "abandon", "()V"⟩, 3) := ⟨⟨by decide +kernel, by decide +kernel⟩, lw_t3 (List.mem_of_getElem? (i := 88) rfl), lw_t5 (List.mem_of_getElem? (i := 38) rfl), lw_t5 (List.mem_of_getElem? (i := 39) rfl)⟩
theorem lw_p18 : lw_okq (⟨"ThriftNodeModel", "isRight", "(II)Z"⟩, 32) := ⟨⟨by decide +kernel, by decide +kernel⟩, lw_t5 (List.mem_of_getElem? (i := 95) rfl), lw_t5 (List.mem_of_getElem? (i := 213) rfl), lw_t5 (List.mem_of_getElem? (i := 214) rfl)⟩
theorem lw_p19 : lw_okq (⟨"ThriftNodeModel", "stepOnce", "()Z"⟩, 32) := ⟨⟨by decide +kernel, by decide +kernel⟩, lw_t5 (List.mem_of_getElem? (i := 95) rfl), lw_t5 (List.mem_of_getElem? (i := 233) rfl), lw_t5 (List.mem_of_getElem? (i := 234) rfl)⟩
theorem lw_p20 : lw_okq (⟨"ThriftNodeModel", "beginAttempt", "()V"⟩, 32) := ⟨⟨by decide +kernel, by decide +kernel⟩, lw_t5 (List.mem_of_getElem? (i := 95) rfl), lw_t5 (List.mem_of_getElem? (i := 237) rfl), lw_t5 (List.mem_of_getElem? (i := 238) rfl)⟩
theorem lw_p21 : lw_okq (⟨"ThriftNodeModel", "endAttempt", "()V"⟩, 32) := ⟨⟨by decide +kernel, by decide +kernel⟩, lw_t5 (List.mem_of_getElem? (i := 95) rfl), lw_t6 (List.mem_of_getElem? (i := 1) rfl), lw_t6 (List.mem_of_getElem? (i := 2) rfl)⟩
theorem lw_p22 : lw_okq (⟨"ThriftNodeModel", "replayStep", "()V"⟩, 32) := ⟨⟨by decide +kernel, by decide +kernel⟩, lw_t5 (List.mem_of_getElem? (i := 95) rfl), lw_t6 (List.mem_of_getElem? (i := 5) rfl), lw_t6 (List.mem_of_getElem? (i := 6) rfl)⟩
theorem lw_p23 : lw_okq (⟨"ThriftNodeModel", "pays", "(I)Z"⟩, 32) := ⟨⟨by decide +kernel, by decide +kernel⟩, lw_t5 (List.mem_of_getElem? (i := 95) rfl), lw_t6 (List.mem_of_getElem? (i := 9) rfl), lw_t6 (List.mem_of_getElem? (i := 10) rfl)⟩
theorem lw_p24 : lw_okq (⟨"ThriftNodeModel", "fail", "()V"⟩, 32) := ⟨⟨by decide +kernel, by decide +kernel⟩, lw_t5 (List.mem_of_getElem? (i := 95) rfl), lw_t6 (List.mem_of_getElem? (i := 13) rfl), lw_t6 (List.mem_of_getElem? (i := 14) rfl)⟩
theorem lw_p25 : lw_okq (⟨"ThriftNodeModel", "write", "(II)V"⟩, 32) := ⟨⟨by decide +kernel, by decide +kernel⟩, lw_t5 (List.mem_of_getElem? (i := 95) rfl), lw_t6 (List.mem_of_getElem? (i := 17) rfl), lw_t6 (List.mem_of_getElem? (i := 18) rfl)⟩
theorem lw_p26 : lw_okq (⟨"ThriftNodeModel", "airStep", "()V"⟩, 32) := ⟨⟨by decide +kernel, by decide +kernel⟩, lw_t5 (List.mem_of_getElem? (i := 95) rfl), lw_t6 (List.mem_of_getElem? (i := 21) rfl), lw_t6 (List.mem_of_getElem? (i := 22) rfl)⟩
theorem lw_p27 : lw_okq (⟨"ThriftNodeModel", "runStep", "()V"⟩, 32) := ⟨⟨by decide +kernel, by decide +kernel⟩, lw_t5 (List.mem_of_getElem? (i := 95) rfl), lw_t6 (List.mem_of_getElem? (i := 25) rfl), lw_t6 (List.mem_of_getElem? (i := 26) rfl)⟩
theorem lw_p28 : lw_okq (⟨"ThriftNodeModel", "see", "(I)I"⟩, 32) := ⟨⟨by decide +kernel, by decide +kernel⟩, lw_t5 (List.mem_of_getElem? (i := 95) rfl), lw_t6 (List.mem_of_getElem? (i := 32) rfl), lw_t6 (List.mem_of_getElem? (i := 33) rfl)⟩
theorem lw_p29 : lw_okq (⟨"ThriftNodeModel", "place", "(I)I"⟩, 32) := ⟨⟨by decide +kernel, by decide +kernel⟩, lw_t5 (List.mem_of_getElem? (i := 95) rfl), lw_t6 (List.mem_of_getElem? (i := 36) rfl), lw_t6 (List.mem_of_getElem? (i := 37) rfl)⟩
theorem lw_p30 : lw_okq (⟨"ThriftNodeModel", "hasRoom", "(II)Z"⟩, 32) := ⟨⟨by decide +kernel, by decide +kernel⟩, lw_t5 (List.mem_of_getElem? (i := 95) rfl), lw_t6 (List.mem_of_getElem? (i := 40) rfl), lw_t6 (List.mem_of_getElem? (i := 41) rfl)⟩
theorem lw_p31 : lw_okq (⟨"ThriftNodeModel", "put", "(II)V"⟩, 32) := ⟨⟨by decide +kernel, by decide +kernel⟩, lw_t5 (List.mem_of_getElem? (i := 95) rfl), lw_t6 (List.mem_of_getElem? (i := 44) rfl), lw_t6 (List.mem_of_getElem? (i := 45) rfl)⟩
def lw_privs_2 : List (MethodName × Nat) := [(⟨"ThriftNode$Run", "send", "(I)V"⟩, 3), (⟨"ThriftNode$Run", "abandon", "()V"⟩, 3), (⟨"ThriftNodeModel", "isRight", "(II)Z"⟩, 32), (⟨"ThriftNodeModel", "stepOnce", "()Z"⟩, 32), (⟨"ThriftNodeModel", "beginAttempt", "()V"⟩, 32), (⟨"ThriftNodeModel", "endAttempt", "()V"⟩, 32), (⟨"ThriftNodeModel", "replayStep", "()V"⟩, 32), (⟨"ThriftNodeModel", "pays", "(I)Z"⟩, 32), (⟨"ThriftNodeModel", "fail", "()V"⟩, 32), (⟨"ThriftNodeModel", "write", "(II)V"⟩, 32), (⟨"ThriftNodeModel", "airStep", "()V"⟩, 32), (⟨"ThriftNodeModel", "runStep", "()V"⟩, 32), (⟨"ThriftNodeModel", "see", "(I)I"⟩, 32), (⟨"ThriftNodeModel", "place", "(I)I"⟩, 32), (⟨"ThriftNodeModel", "hasRoom", "(II)Z"⟩, 32), (⟨"ThriftNodeModel", "put", "(II)V"⟩, 32)]
theorem lw_r2 : ∀ q ∈ lw_privs_2, lw_okq q := List.forall_mem_cons.mpr ⟨lw_p16, List.forall_mem_cons.mpr ⟨lw_p17, List.forall_mem_cons.mpr ⟨lw_p18, List.forall_mem_cons.mpr ⟨lw_p19, List.forall_mem_cons.mpr ⟨lw_p20, List.forall_mem_cons.mpr ⟨lw_p21, List.forall_mem_cons.mpr ⟨lw_p22, List.forall_mem_cons.mpr ⟨lw_p23, List.forall_mem_cons.mpr ⟨lw_p24, List.forall_mem_cons.mpr ⟨lw_p25, List.forall_mem_cons.mpr ⟨lw_p26, List.forall_mem_cons.mpr ⟨lw_p27, List.forall_mem_cons.mpr ⟨lw_p28, List.forall_mem_cons.mpr ⟨lw_p29, List.forall_mem_cons.mpr ⟨lw_p30, List.forall_mem_cons.mpr ⟨lw_p31, fun _ h => absurd h List.not_mem_nil⟩⟩⟩⟩⟩⟩⟩⟩⟩⟩⟩⟩⟩⟩⟩⟩
theorem lw_p32 : lw_okq (⟨"ThriftNodeModel", "push", "(II)V"⟩, 32) := ⟨⟨by decide +kernel, by decide +kernel⟩, lw_t5 (List.mem_of_getElem? (i := 95) rfl), lw_t6 (List.mem_of_getElem? (i := 48) rfl), lw_t6 (List.mem_of_getElem? (i := 49) rfl)⟩
theorem lw_p33 : lw_okq (⟨"ThriftNodeModel", "pop", "(II)V"⟩, 32) := ⟨⟨by decide +kernel, by decide +kernel⟩, lw_t5 (List.mem_of_getElem? (i := 95) rfl), lw_t6 (List.mem_of_getElem? (i := 52) rfl), lw_t6 (List.mem_of_getElem? (i := 53) rfl)⟩
theorem lw_p34 : lw_okq (⟨"ThriftNodeModel", "sendFrame", "(I)V"⟩, 32) := ⟨⟨by decide +kernel, by decide +kernel⟩, lw_t5 (List.mem_of_getElem? (i := 95) rfl), lw_t6 (List.mem_of_getElem? (i := 56) rfl), lw_t6 (List.mem_of_getElem? (i := 57) rfl)⟩
theorem lw_p35 : lw_okq (⟨"ThriftNodeModel", "commitOne", "()V"⟩, 32) := ⟨⟨by decide +kernel, by decide +kernel⟩, lw_t5 (List.mem_of_getElem? (i := 95) rfl), lw_t6 (List.mem_of_getElem? (i := 60) rfl), lw_t6 (List.mem_of_getElem? (i := 61) rfl)⟩
theorem lw_p36 : lw_okq (⟨"ThriftNodeModel", "raise", "(I)I"⟩, 32) := ⟨⟨by decide +kernel, by decide +kernel⟩, lw_t5 (List.mem_of_getElem? (i := 95) rfl), lw_t6 (List.mem_of_getElem? (i := 76) rfl), lw_t6 (List.mem_of_getElem? (i := 77) rfl)⟩
def lw_privs_3 : List (MethodName × Nat) := [(⟨"ThriftNodeModel", "push", "(II)V"⟩, 32), (⟨"ThriftNodeModel", "pop", "(II)V"⟩, 32), (⟨"ThriftNodeModel", "sendFrame", "(I)V"⟩, 32), (⟨"ThriftNodeModel", "commitOne", "()V"⟩, 32), (⟨"ThriftNodeModel", "raise", "(I)I"⟩, 32)]
theorem lw_r3 : ∀ q ∈ lw_privs_3, lw_okq q := List.forall_mem_cons.mpr ⟨lw_p32, List.forall_mem_cons.mpr ⟨lw_p33, List.forall_mem_cons.mpr ⟨lw_p34, List.forall_mem_cons.mpr ⟨lw_p35, List.forall_mem_cons.mpr ⟨lw_p36, fun _ h => absurd h List.not_mem_nil⟩⟩⟩⟩⟩
def lw_privs : List (MethodName × Nat) := lw_privs_1 ++ (lw_privs_2 ++ (lw_privs_3))
def lw_tbl : List Cond := k2_sels lw_privs ++ tables_1
theorem lw_privs_ok : ∀ q ∈ lw_privs, lw_okq q := by
  show ∀ q ∈ lw_privs_1 ++ (lw_privs_2 ++ (lw_privs_3)), lw_okq q
  exact List.forall_mem_append.mpr ⟨lw_r1, List.forall_mem_append.mpr ⟨lw_r2, lw_r3⟩⟩
-- ===== ONE list of words for every method: the tables' words that hold all through a run =====
def lw_all : List Cond := lw_tbl.filter goodWord
/-- a word of the tables by its place: claim/WORDS.tsv -/
theorem lw_w {w : Cond} (i : Nat) (h : lw_tbl[i]? = some w) (g : goodWord w = true) : w ∈ lw_all := List.mem_filter.mpr ⟨List.mem_of_getElem? h, g⟩
theorem lw_all_tbl {w : Cond} (h : w ∈ lw_all) : w ∈ lw_tbl := (List.mem_filter.mp h).1
theorem lw_self : GoodIn lw_all lw_all := fun w h => ⟨h, good_of_word (List.mem_filter.mp h).2⟩
/-- a class's field words, by their places -/
theorem lw_in (ws : List Cond) (ps : List Nat) (hp : ws = ps.filterMap (fun i => lw_tbl[i]?)) (hg : ws.all goodWord = true) : ∀ w ∈ ws, w ∈ lw_all := by
  intro w h
  have h1 := List.all_eq_true.mp hg w h
  rw [hp] at h
  obtain ⟨i, -, hi⟩ := List.mem_filterMap.mp h
  exact lw_w i hi h1
/-- the words of a contract for the method y with code b, L locals, answer r -/
abbrev ws_ (y : MethodName) (b : ByteArray) (L : Nat) (r : Option FieldType) : List Cond := Cond.code y b L r :: lw_all
theorem lw_meth {y : MethodName} {b : ByteArray} {L : Nat} {r : Option FieldType} (h : Cond.code y b L r ∈ lw_all) : GoodIn lw_all (ws_ y b L r) := by
  intro w hw
  rcases List.mem_cons.mp hw with e | e
  · rw [e]
    exact lw_self _ h
  · exact lw_self _ e
theorem lw_app {a c : List Cond} (ha : ∀ w ∈ a, w ∈ lw_all) (hc : GoodIn lw_all c) : GoodIn lw_all (a ++ c) := by
  intro w hw
  rcases List.mem_append.mp hw with e | e
  · exact lw_self w (ha w e)
  · exact hc w e
/-- what a call through an object asks: cwV n hts (lw_V ..) -/
theorem lw_V {own : String} {idx : Nat} {C : String} {y : MethodName} {b : ByteArray} {L : Nat} {r : Option FieldType} (h1 : Cond.methodLink own idx y ∈ lw_all) (h2 : Cond.instanceMethod y ∈ lw_all) (h3 : Cond.selects C y y ∈ lw_all) (h4 : Cond.initialized C ∈ lw_all) (h5 : Cond.code y b L r ∈ lw_all) : GoodIn lw_all (wsV own idx C y (ws_ y b L r)) := by
  refine lw_app ?_ (lw_meth h5)
  intro w hw
  simp only [List.mem_cons, List.not_mem_nil, or_false] at hw
  rcases hw with e | e | e | e
  · rw [e]; exact h1
  · rw [e]; exact h2
  · rw [e]; exact h3
  · rw [e]; exact h4
/-- what a static call asks: va_cwS n hts (lw_S ..) -/
theorem lw_S {own : String} {idx : Nat} {y : MethodName} {b : ByteArray} {L : Nat} {r : Option FieldType} (h1 : Cond.methodLink own idx y ∈ lw_all) (h2 : Cond.static y ∈ lw_all) (h3 : Cond.initialized y.cls ∈ lw_all) (h4 : Cond.code y b L r ∈ lw_all) : GoodIn lw_all (va_wsS own idx y (ws_ y b L r)) := by
  refine lw_app ?_ (lw_meth h4)
  intro w hw
  simp only [List.mem_cons, List.not_mem_nil, or_false] at hw
  rcases hw with e | e | e
  · rw [e]; exact h1
  · rw [e]; exact h2
  · rw [e]; exact h3
/-- the words of a contract for a method WITH HANDLERS (hh: its table) -/
abbrev wsW_ (y : MethodName) (b : ByteArray) (L : Nat) (r : Option FieldType) (hh : List (Nat × Nat × Nat × Nat)) : List Cond := Cond.codeWith y b L r hh :: lw_all
theorem lw_methW {y : MethodName} {b : ByteArray} {L : Nat} {r : Option FieldType} {hh : List (Nat × Nat × Nat × Nat)} (h : Cond.codeWith y b L r hh ∈ lw_all) : GoodIn lw_all (wsW_ y b L r hh) := by
  intro w hw
  rcases List.mem_cons.mp hw with e | e
  · rw [e]
    exact lw_self _ h
  · exact lw_self _ e
/-- any list of words by their places (lw_in), good -/
theorem lw_good {ws : List Cond} (h : ∀ w ∈ ws, w ∈ lw_all) : GoodIn lw_all ws := fun w hw => lw_self w (h w hw)
/-- what a call of a method with handlers asks: vx_cwVW n hts (lw_VW ..), vx_cwSW n hts (lw_SW ..) -/
theorem lw_VW {own : String} {idx : Nat} {C : String} {y : MethodName} {b : ByteArray} {L : Nat} {r : Option FieldType} {hh : List (Nat × Nat × Nat × Nat)} (h1 : Cond.methodLink own idx y ∈ lw_all) (h2 : Cond.instanceMethod y ∈ lw_all) (h3 : Cond.selects C y y ∈ lw_all) (h4 : Cond.initialized C ∈ lw_all) (h5 : Cond.codeWith y b L r hh ∈ lw_all) : GoodIn lw_all (wsV own idx C y (wsW_ y b L r hh)) := by
  refine lw_app ?_ (lw_methW h5)
  intro w hw
  simp only [List.mem_cons, List.not_mem_nil, or_false] at hw
  rcases hw with e | e | e | e
  · rw [e]; exact h1
  · rw [e]; exact h2
  · rw [e]; exact h3
  · rw [e]; exact h4
theorem lw_SW {own : String} {idx : Nat} {y : MethodName} {b : ByteArray} {L : Nat} {r : Option FieldType} {hh : List (Nat × Nat × Nat × Nat)} (h1 : Cond.methodLink own idx y ∈ lw_all) (h2 : Cond.static y ∈ lw_all) (h3 : Cond.initialized y.cls ∈ lw_all) (h4 : Cond.codeWith y b L r hh ∈ lw_all) : GoodIn lw_all (va_wsS own idx y (wsW_ y b L r hh)) := by
  refine lw_app ?_ (lw_methW h4)
  intro w hw
  simp only [List.mem_cons, List.not_mem_nil, or_false] at hw
  rcases hw with e | e | e
  · rw [e]; exact h1
  · rw [e]; exact h2
  · rw [e]; exact h3
/-- a word by its place in its run of the tables -/
theorem lw_at {r : List Cond} (hr : ∀ w ∈ r, w ∈ lw_tbl) {w : Cond} (i : Nat) (h : r[i]? = some w) : w ∈ lw_tbl := hr w (List.mem_of_getElem? h)
theorem lw_g {w : Cond} (h : w ∈ lw_tbl) (g : goodWord w = true) : w ∈ lw_all := List.mem_filter.mpr ⟨h, g⟩
theorem lw_ms : ∀ w ∈ k2_sels lw_privs, w ∈ lw_tbl := fun w h => show w ∈ k2_sels lw_privs ++ tables_1 from List.mem_append_left _ h
theorem lw_m1 : ∀ w ∈ tables_1_1, w ∈ lw_tbl := fun w h => show w ∈ k2_sels lw_privs ++ tables_1 from List.mem_append_right (k2_sels lw_privs) (show w ∈ tables_1 from List.mem_append_left _ h)
theorem lw_m2 : ∀ w ∈ tables_1_2, w ∈ lw_tbl := fun w h => show w ∈ k2_sels lw_privs ++ tables_1 from List.mem_append_right (k2_sels lw_privs) (show w ∈ tables_1 from List.mem_append_right _ (List.mem_append_left _ h))
theorem lw_m3 : ∀ w ∈ tables_1_3, w ∈ lw_tbl := fun w h => show w ∈ k2_sels lw_privs ++ tables_1 from List.mem_append_right (k2_sels lw_privs) (show w ∈ tables_1 from List.mem_append_right _ (List.mem_append_right _ (List.mem_append_left _ h)))
theorem lw_m4 : ∀ w ∈ tables_1_4, w ∈ lw_tbl := fun w h => show w ∈ k2_sels lw_privs ++ tables_1 from List.mem_append_right (k2_sels lw_privs) (show w ∈ tables_1 from List.mem_append_right _ (List.mem_append_right _ (List.mem_append_right _ (List.mem_append_left _ h))))
theorem lw_m5 : ∀ w ∈ tables_1_5, w ∈ lw_tbl := fun w h => show w ∈ k2_sels lw_privs ++ tables_1 from List.mem_append_right (k2_sels lw_privs) (show w ∈ tables_1 from List.mem_append_right _ (List.mem_append_right _ (List.mem_append_right _ (List.mem_append_right _ (List.mem_append_left _ h)))))
theorem lw_m6 : ∀ w ∈ tables_1_6, w ∈ lw_tbl := fun w h => show w ∈ k2_sels lw_privs ++ tables_1 from List.mem_append_right (k2_sels lw_privs) (show w ∈ tables_1 from List.mem_append_right _ (List.mem_append_right _ (List.mem_append_right _ (List.mem_append_right _ (List.mem_append_right _ h)))))
theorem qs0 : (Cond.selects "java/lang/Throwable" ⟨"java/lang/Throwable", "fillInStackTrace", "(I)Ljava/lang/Throwable;"⟩ ⟨"java/lang/Throwable", "fillInStackTrace", "(I)Ljava/lang/Throwable;"⟩) ∈ lw_all := lw_g (lw_at lw_ms 0 rfl) rfl
theorem qs1 : (Cond.selects "java/util/ArrayList" ⟨"java/util/ArrayList", "add", "(Ljava/lang/Object;[Ljava/lang/Object;I)V"⟩ ⟨"java/util/ArrayList", "add", "(Ljava/lang/Object;[Ljava/lang/Object;I)V"⟩) ∈ lw_all := lw_g (lw_at lw_ms 1 rfl) rfl
theorem qs2 : (Cond.selects "java/util/ArrayList" ⟨"java/util/ArrayList", "grow", "()[Ljava/lang/Object;"⟩ ⟨"java/util/ArrayList", "grow", "()[Ljava/lang/Object;"⟩) ∈ lw_all := lw_g (lw_at lw_ms 2 rfl) rfl
theorem qs3 : (Cond.selects "java/util/ArrayList" ⟨"java/util/ArrayList", "grow", "(I)[Ljava/lang/Object;"⟩ ⟨"java/util/ArrayList", "grow", "(I)[Ljava/lang/Object;"⟩) ∈ lw_all := lw_g (lw_at lw_ms 3 rfl) rfl
theorem qs4 : (Cond.selects "ThriftNode$Program" ⟨"ThriftNode$Program", "isGood", "(II)Z"⟩ ⟨"ThriftNode$Program", "isGood", "(II)Z"⟩) ∈ lw_all := lw_g (lw_at lw_ms 4 rfl) rfl
theorem qs5 : (Cond.selects "ThriftNode$Node" ⟨"ThriftNode$Node", "boots", "()Z"⟩ ⟨"ThriftNode$Node", "boots", "()Z"⟩) ∈ lw_all := lw_g (lw_at lw_ms 5 rfl) rfl
theorem qs6 : (Cond.selects "ThriftNode$Node" ⟨"ThriftNode$Node", "step", "()Z"⟩ ⟨"ThriftNode$Node", "step", "()Z"⟩) ∈ lw_all := lw_g (lw_at lw_ms 6 rfl) rfl
theorem qs7 : (Cond.selects "ThriftNode$Node" ⟨"ThriftNode$Node", "begin", "()V"⟩ ⟨"ThriftNode$Node", "begin", "()V"⟩) ∈ lw_all := lw_g (lw_at lw_ms 7 rfl) rfl
theorem qs8 : (Cond.selects "ThriftNode$Node" ⟨"ThriftNode$Node", "clear", "()V"⟩ ⟨"ThriftNode$Node", "clear", "()V"⟩) ∈ lw_all := lw_g (lw_at lw_ms 8 rfl) rfl
theorem qs9 : (Cond.selects "ThriftNode$Run" ⟨"ThriftNode$Run", "instruction", "()LThriftNode$Instruction;"⟩ ⟨"ThriftNode$Run", "instruction", "()LThriftNode$Instruction;"⟩) ∈ lw_all := lw_g (lw_at lw_ms 9 rfl) rfl
theorem qs10 : (Cond.selects "ThriftNode$Node" ⟨"ThriftNode$Node", "fail", "()V"⟩ ⟨"ThriftNode$Node", "fail", "()V"⟩) ∈ lw_all := lw_g (lw_at lw_ms 10 rfl) rfl
theorem qs11 : (Cond.selects "ThriftNode$Commit" ⟨"ThriftNode$Commit", "end", "()V"⟩ ⟨"ThriftNode$Commit", "end", "()V"⟩) ∈ lw_all := lw_g (lw_at lw_ms 11 rfl) rfl
theorem qs12 : (Cond.selects "ThriftNode$Pending" ⟨"ThriftNode$Pending", "find", "(I)I"⟩ ⟨"ThriftNode$Pending", "find", "(I)I"⟩) ∈ lw_all := lw_g (lw_at lw_ms 12 rfl) rfl
theorem qs13 : (Cond.selects "ThriftNode$Run" ⟨"ThriftNode$Run", "put", "(II)V"⟩ ⟨"ThriftNode$Run", "put", "(II)V"⟩) ∈ lw_all := lw_g (lw_at lw_ms 13 rfl) rfl
theorem qs14 : (Cond.selects "ThriftNode$Run" ⟨"ThriftNode$Run", "push", "(II)V"⟩ ⟨"ThriftNode$Run", "push", "(II)V"⟩) ∈ lw_all := lw_g (lw_at lw_ms 14 rfl) rfl
theorem qs15 : (Cond.selects "ThriftNode$Run" ⟨"ThriftNode$Run", "pop", "(II)V"⟩ ⟨"ThriftNode$Run", "pop", "(II)V"⟩) ∈ lw_all := lw_g (lw_at lw_ms 15 rfl) rfl
theorem qs16 : (Cond.selects "ThriftNode$Run" ⟨"ThriftNode$Run", "send", "(I)V"⟩ ⟨"ThriftNode$Run", "send", "(I)V"⟩) ∈ lw_all := lw_g (lw_at lw_ms 16 rfl) rfl
theorem qs17 : (Cond.selects "ThriftNode$Run" ⟨"ThriftNode$Run", "abandon", "()V"⟩ ⟨"ThriftNode$Run", "abandon", "()V"⟩) ∈ lw_all := lw_g (lw_at lw_ms 17 rfl) rfl
theorem qs18 : (Cond.selects "ThriftNodeModel" ⟨"ThriftNodeModel", "isRight", "(II)Z"⟩ ⟨"ThriftNodeModel", "isRight", "(II)Z"⟩) ∈ lw_all := lw_g (lw_at lw_ms 18 rfl) rfl
theorem qs19 : (Cond.selects "ThriftNodeModel" ⟨"ThriftNodeModel", "stepOnce", "()Z"⟩ ⟨"ThriftNodeModel", "stepOnce", "()Z"⟩) ∈ lw_all := lw_g (lw_at lw_ms 19 rfl) rfl
theorem qs20 : (Cond.selects "ThriftNodeModel" ⟨"ThriftNodeModel", "beginAttempt", "()V"⟩ ⟨"ThriftNodeModel", "beginAttempt", "()V"⟩) ∈ lw_all := lw_g (lw_at lw_ms 20 rfl) rfl
theorem qs21 : (Cond.selects "ThriftNodeModel" ⟨"ThriftNodeModel", "endAttempt", "()V"⟩ ⟨"ThriftNodeModel", "endAttempt", "()V"⟩) ∈ lw_all := lw_g (lw_at lw_ms 21 rfl) rfl
theorem qs22 : (Cond.selects "ThriftNodeModel" ⟨"ThriftNodeModel", "replayStep", "()V"⟩ ⟨"ThriftNodeModel", "replayStep", "()V"⟩) ∈ lw_all := lw_g (lw_at lw_ms 22 rfl) rfl
theorem qs23 : (Cond.selects "ThriftNodeModel" ⟨"ThriftNodeModel", "pays", "(I)Z"⟩ ⟨"ThriftNodeModel", "pays", "(I)Z"⟩) ∈ lw_all := lw_g (lw_at lw_ms 23 rfl) rfl
theorem qs24 : (Cond.selects "ThriftNodeModel" ⟨"ThriftNodeModel", "fail", "()V"⟩ ⟨"ThriftNodeModel", "fail", "()V"⟩) ∈ lw_all := lw_g (lw_at lw_ms 24 rfl) rfl
theorem qs25 : (Cond.selects "ThriftNodeModel" ⟨"ThriftNodeModel", "write", "(II)V"⟩ ⟨"ThriftNodeModel", "write", "(II)V"⟩) ∈ lw_all := lw_g (lw_at lw_ms 25 rfl) rfl
theorem qs26 : (Cond.selects "ThriftNodeModel" ⟨"ThriftNodeModel", "airStep", "()V"⟩ ⟨"ThriftNodeModel", "airStep", "()V"⟩) ∈ lw_all := lw_g (lw_at lw_ms 26 rfl) rfl
theorem qs27 : (Cond.selects "ThriftNodeModel" ⟨"ThriftNodeModel", "runStep", "()V"⟩ ⟨"ThriftNodeModel", "runStep", "()V"⟩) ∈ lw_all := lw_g (lw_at lw_ms 27 rfl) rfl
theorem qs28 : (Cond.selects "ThriftNodeModel" ⟨"ThriftNodeModel", "see", "(I)I"⟩ ⟨"ThriftNodeModel", "see", "(I)I"⟩) ∈ lw_all := lw_g (lw_at lw_ms 28 rfl) rfl
theorem qs29 : (Cond.selects "ThriftNodeModel" ⟨"ThriftNodeModel", "place", "(I)I"⟩ ⟨"ThriftNodeModel", "place", "(I)I"⟩) ∈ lw_all := lw_g (lw_at lw_ms 29 rfl) rfl
theorem qs30 : (Cond.selects "ThriftNodeModel" ⟨"ThriftNodeModel", "hasRoom", "(II)Z"⟩ ⟨"ThriftNodeModel", "hasRoom", "(II)Z"⟩) ∈ lw_all := lw_g (lw_at lw_ms 30 rfl) rfl
theorem qs31 : (Cond.selects "ThriftNodeModel" ⟨"ThriftNodeModel", "put", "(II)V"⟩ ⟨"ThriftNodeModel", "put", "(II)V"⟩) ∈ lw_all := lw_g (lw_at lw_ms 31 rfl) rfl
theorem qs32 : (Cond.selects "ThriftNodeModel" ⟨"ThriftNodeModel", "push", "(II)V"⟩ ⟨"ThriftNodeModel", "push", "(II)V"⟩) ∈ lw_all := lw_g (lw_at lw_ms 32 rfl) rfl
theorem qs33 : (Cond.selects "ThriftNodeModel" ⟨"ThriftNodeModel", "pop", "(II)V"⟩ ⟨"ThriftNodeModel", "pop", "(II)V"⟩) ∈ lw_all := lw_g (lw_at lw_ms 33 rfl) rfl
theorem qs34 : (Cond.selects "ThriftNodeModel" ⟨"ThriftNodeModel", "sendFrame", "(I)V"⟩ ⟨"ThriftNodeModel", "sendFrame", "(I)V"⟩) ∈ lw_all := lw_g (lw_at lw_ms 34 rfl) rfl
theorem qs35 : (Cond.selects "ThriftNodeModel" ⟨"ThriftNodeModel", "commitOne", "()V"⟩ ⟨"ThriftNodeModel", "commitOne", "()V"⟩) ∈ lw_all := lw_g (lw_at lw_ms 35 rfl) rfl
theorem qs36 : (Cond.selects "ThriftNodeModel" ⟨"ThriftNodeModel", "raise", "(I)I"⟩ ⟨"ThriftNodeModel", "raise", "(I)I"⟩) ∈ lw_all := lw_g (lw_at lw_ms 36 rfl) rfl
