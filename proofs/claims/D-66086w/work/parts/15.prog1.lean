/-! the component and its program -/
set_option maxRecDepth 100000
set_option maxHeartbeats 4000000 in
set_option maxRecDepth 100000 in
theorem cm_size (dd : ClassId × ClassId × ClassId) (h : Nat → Nat) (ex : va_W) (S : XS) (t : Int32) {P : PA} {cd sz : Nat → Int32} {ex0 : va_W} (hex : ex = pW dd.2.2 h P cd sz ++ ex0) (hp : pOK P sz) (ht : vp_in t 16) : Cx dd yX5_size cX5_size 2 (some .int) 3 cG [.ref (h 4), .int t] h ex S (some (.int (sz (ix t)))) S := by
  refine Cx.introE (by decide) (by simp [Value.category]) (Nat.le_of_ble_eq_true rfl) (fun K e o r hk => ?_)
  subst e
  have o : Y K cX5_size RX5 2 3 := o
  obtain ⟨j, hj, rfl⟩ := vp_in_of ht (by decide)
  rw [show ix (nI j) = j from nI_clamp (by omega)] at r
  have hO := List.mem_append_right (g_W (kd K).1 cG h S) (p_mO hex)
  have hO2 := List.mem_append_right (g_W (kd K).1 cG h S) (p_mO2 hex)
  have hL := List.mem_append_right (g_W (kd K).1 cG h S) (p_mL hex hj)
  refine y_aload o dX5_size_0 rfl ?_
  refine y_getr o tgX5_14 dX5_size_1 ?_
  refine y_iload o dX5_size_4 rfl ?_
  refine y_callVe o kX5_24 (al_get _ _ (h 21) (h 22) 16 (h (23 + j)) 16 16 (nI j) _ hO hO2 (vp_in_nI hj (by decide)) (nI_lt hj (by decide)) (by rw [nI_clamp (by omega)]; exact if_pos hj)) (rc_mem rfl hO) (by decide) rfl rfl (Nat.le_of_ble_eq_true rfl) hk dX5_size_5 ?_
  refine y_cast o hL rfl q140 dX5_size_8 ?_
  refine y_callVe o kX5_28 (al_size _ _ (h (23 + j)) _ _ _ hL) (rc_mem rfl hL) (by decide) rfl rfl (Nat.le_of_ble_eq_true rfl) hk dX5_size_11 ?_
  exact x_iret o r dX5_size_14 (by rfl) (by rfl)
set_option maxHeartbeats 4000000 in
set_option maxRecDepth 100000 in
theorem cm_at (dd : ClassId × ClassId × ClassId) (h : Nat → Nat) (ex : va_W) (S : XS) (t : Int32) (i : Int32) {P : PA} {cd sz : Nat → Int32} {ex0 : va_W} (hex : ex = pW dd.2.2 h P cd sz ++ ex0) (hp : pOK P sz) (ht : vp_in t 16) (hi : vp_in i (ix (sz (ix t)))) : Cx dd yX5_at cX5_at 3 (some (.object "ThriftNode$Instruction")) 3 cG [.ref (h 4), .int t, .int i] h ex S (some (.ref (P.2.2.2 (ix t) (ix i)))) S := by
  refine Cx.introE (by decide) (by simp [Value.category]) (Nat.le_of_ble_eq_true rfl) (fun K e o r hk => ?_)
  subst e
  have o : Y K cX5_at RX5 3 3 := o
  obtain ⟨j, hj, rfl⟩ := vp_in_of ht (by decide)
  obtain ⟨z, z1, z2, z3, z4, z5⟩ := hp j hj
  have ej : ix (nI j) = j := nI_clamp (by omega)
  rw [ej] at hi r
  have ez : ix (sz j) = z := by rw [z2]; exact nI_clamp (by omega)
  rw [ez] at hi
  obtain ⟨i', hi', rfl⟩ := vp_in_of hi (by omega)
  have ei : ix (nI i') = i' := nI_clamp (by omega)
  rw [ei] at r
  have hO := List.mem_append_right (g_W (kd K).1 cG h S) (p_mO hex)
  have hO2 := List.mem_append_right (g_W (kd K).1 cG h S) (p_mO2 hex)
  have hL := List.mem_append_right (g_W (kd K).1 cG h S) (p_mL hex hj)
  have hA := List.mem_append_right (g_W (kd K).1 cG h S) (p_mA hex hj)
  have hI := List.mem_append_right (g_W (kd K).1 cG h S) (p_mI hex hj (i := i') (by omega))
  refine y_aload o dX5_at_0 rfl ?_
  refine y_getr o tgX5_14 dX5_at_1 ?_
  refine y_iload o dX5_at_4 rfl ?_
  refine y_callVe o kX5_24 (al_get _ _ (h 21) (h 22) 16 (h (23 + j)) 16 16 (nI j) _ hO hO2 (vp_in_nI hj (by decide)) (nI_lt hj (by decide)) (by rw [nI_clamp (by omega)]; exact if_pos hj)) (rc_mem rfl hO) (by decide) rfl rfl (Nat.le_of_ble_eq_true rfl) hk dX5_at_5 ?_
  refine y_cast o hL rfl q140 dX5_at_8 ?_
  refine y_iload o dX5_at_11 rfl ?_
  refine y_callVe o kX5_24 (al_get _ _ (h (23 + j)) (P.2.1 j) (P.1 j) (P.2.2.2 j i') (P.2.2.1 j) (sz j) (nI i') _ hL hA (vp_in_nI (by omega) (by omega)) (by rw [z2]; exact nI_lt hi' (by omega)) (by rw [nI_clamp (by omega)]; exact if_pos (by omega))) (rc_mem rfl hL) (by decide) rfl rfl (Nat.le_of_ble_eq_true rfl) hk dX5_at_12 ?_
  refine y_cast o hI rfl q817 dX5_at_15 ?_
  exact x_aret o r (Or.inl ⟨_, rfl⟩) dX5_at_18 (by rfl) (by rfl)
set_option maxHeartbeats 4000000 in
set_option maxRecDepth 100000 in
theorem cm_isReg (dd : ClassId × ClassId × ClassId) (h : Nat → Nat) (ex : va_W) (S : XS) (x : Int32)  : Cx dd yX5_isRegister cX5_isRegister 1 (some .boolean) 0 cG [.int x] h ex S (some (.int (if 8 ≤ x then 0 else 1))) S := by
  refine Cx.intro (by decide) (by simp [Value.category]) (Nat.le_of_ble_eq_true rfl) (fun K o r hk => ?_)
  have o : Y K cX5_isRegister RX5 1 0 := o
  refine y_iload o dX5_isRegister_0 rfl ?_
  refine y_const o dX5_isRegister_1 ?_
  refine y_icmp_ge o dX5_isRegister_3 (fun c3 => ?_) (fun c3 => ?_)
  · skip
    refine y_const o dX5_isRegister_10 ?_
    exact x_zret o r dX5_isRegister_11 (by first | exact Or.inl rfl | exact Or.inr rfl) (by simp only [if_true, if_false, eq_true c3]) (by rfl)
  · skip
    refine y_const o dX5_isRegister_6 ?_
    refine y_goto o dX5_isRegister_7 ?_
    exact x_zret o r dX5_isRegister_11 (by first | exact Or.inl rfl | exact Or.inr rfl) (by simp only [if_true, if_false, eq_false c3]) (by rfl)
set_option maxHeartbeats 4000000 in
set_option maxRecDepth 100000 in
theorem cm_isTask (dd : ClassId × ClassId × ClassId) (h : Nat → Nat) (ex : va_W) (S : XS) (t : Int32)  : Cx dd yX1_isTask cX1_isTask 1 (some .boolean) 0 cG [.int t] h ex S (some (.int (f_isTask t))) S := by
  refine Cx.intro (by decide) (by simp [Value.category]) (Nat.le_of_ble_eq_true rfl) (fun K o r hk => ?_)
  have o : Y K cX1_isTask RX1 1 0 := o
  refine y_iload o dX1_isTask_0 rfl ?_
  refine y_if_lt o dX1_isTask_1 (fun c1 => ?_) (fun c1 => ?_)
  · skip
    refine y_const o dX1_isTask_14 ?_
    exact x_zret o r dX1_isTask_15 (by first | exact Or.inl rfl | exact Or.inr rfl) (by simp only [if_true, if_false, ix, f_isTask, eq_true c1] <;> rfl) (by rfl)
  · skip
    refine y_iload o dX1_isTask_4 rfl ?_
    refine y_const o dX1_isTask_5 ?_
    refine y_icmp_ge o dX1_isTask_7 (fun c7 => ?_) (fun c7 => ?_)
    · skip
      refine y_const o dX1_isTask_14 ?_
      exact x_zret o r dX1_isTask_15 (by first | exact Or.inl rfl | exact Or.inr rfl) (by simp only [if_true, if_false, ix, f_isTask, eq_false c1, eq_true c7] <;> rfl) (by rfl)
    · skip
      refine y_const o dX1_isTask_10 ?_
      refine y_goto o dX1_isTask_11 ?_
      exact x_zret o r dX1_isTask_15 (by first | exact Or.inl rfl | exact Or.inr rfl) (by simp only [if_true, if_false, ix, f_isTask, eq_false c1, eq_false c7] <;> rfl) (by rfl)
theorem ci_cost (dd : ClassId × ClassId × ClassId) (ws : va_W) (b : Nat) (p a c d : Int32) (hI : ((b, .inr (11, [.int p, .int a, .int c, .int d])) : Nat × va_E) ∈ ws) (hp : vp_in p 18) : Ce dd yX13_cost cX13_cost 1 (some .int) 0 0 0 [.ref b] ws (some (.int (y_cost (ix p)))) ws := by
  refine Cw.intro (by decide) (by simp [Value.category]) (Nat.le_of_ble_eq_true rfl) (fun K e o r hk => ?_)
  have o : Y K cX13_cost RX13 1 0 := o
  refine y_costs o q937 dX13_cost_0 (fun t hT => ?_)
  refine y_aload o dX13_cost_3 rfl ?_
  refine y_getM o iFX13_7 hI rfl dX13_cost_4 ?_
  refine y_tald o hT hp dX13_cost_7 ?_
  exact y_iret o r dX13_cost_8 ⟨rfl, rfl⟩
set_option maxHeartbeats 4000000 in
set_option maxRecDepth 100000 in
theorem cm_instr (dd : ClassId × ClassId × ClassId) (h : Nat → Nat) (ex : va_W) (S : XS)  {P : PA} {cd sz : Nat → Int32} {ex0 : va_W} (hex : ex = pW dd.2.2 h P cd sz ++ ex0) (hp : pOK P sz) (ht : vp_in (S.2 0 0) 16) (hi : vp_in (S.1 9) (ix (sz (ix (S.2 0 0))))) : Cx dd yX10_instruction cX10_instruction 1 (some (.object "ThriftNode$Instruction")) 4 cG [.ref (h 8)] h ex S (some (.ref (P.2.2.2 (ix (S.2 0 0)) (ix (S.1 9))))) S := by
  refine Cx.introE (by decide) (by simp [Value.category]) (Nat.le_of_ble_eq_true rfl) (fun K e o r hk => ?_)
  subst e
  have o : Y K cX10_instruction RX10 1 4 := o
  refine y_aload o dX10_instruction_0 rfl ?_
  refine y_getr o tgX10_18 dX10_instruction_1 ?_
  refine y_getr o tgX10_22 dX10_instruction_4 ?_
  refine y_aload o dX10_instruction_7 rfl ?_
  refine y_getr o tgX10_18 dX10_instruction_8 ?_
  refine y_getr o tgX10_28 dX10_instruction_11 ?_
  refine y_getr o tgX10_32 dX10_instruction_14 ?_
  refine y_const o dX10_instruction_17 ?_
  refine y_ialdc (j0 := 0) o ta_words dX10_instruction_18 (by unfold vp_in; decide) (by decide) ?_
  refine y_aload o dX10_instruction_19 rfl ?_
  refine y_get o tgX10_9 dX10_instruction_20 ?_
  refine y_callVr o kX10_38 tr_X5 hk (cm_at _ h ex _ _ _ (hex) (hp) (ht) (hi)) (by decide) rfl rfl (Nat.le_of_ble_eq_true rfl) dX10_instruction_23 ?_
  exact x_aret o r (Or.inl ⟨_, rfl⟩) dX10_instruction_26 (by rfl) (by rfl)
set_option maxHeartbeats 4000000 in
set_option maxRecDepth 100000 in
theorem cm_rucost (dd : ClassId × ClassId × ClassId) (h : Nat → Nat) (ex : va_W) (S : XS)  {P : PA} {cd sz : Nat → Int32} {ex0 : va_W} (hex : ex = pW dd.2.2 h P cd sz ++ ex0) (hp : pOK P sz) (ht : vp_in (S.2 0 0) 16) (hi : vp_in (S.1 9) (ix (sz (ix (S.2 0 0))))) (hcd : S.2 12 = cd) (hw : wOk (f_word S)) : Cx dd yX10_cost cX10_cost 1 (some .int) 5 cG [.ref (h 8)] h ex S (some (.int (y_cost (ix (f_op (f_word S)))))) S := by
  refine Cx.introE (by decide) (by simp [Value.category]) (Nat.le_of_ble_eq_true rfl) (fun K e o r hk => ?_)
  subst e
  have o : Y K cX10_cost RX10 1 5 := o
  have hI := List.mem_append_right (g_W (kd K).1 cG h S) (p_hI hex hp ht hi hcd)
  refine y_aload o dX10_cost_0 rfl ?_
  refine y_callVr o kX10_44 tr_X10 hk (cm_instr _ h ex _ (hex) (hp) (ht) (hi)) (by decide) rfl rfl (Nat.le_of_ble_eq_true rfl) dX10_cost_1 ?_
  refine y_callVe o kX10_48 (ci_cost _ _ _ _ _ _ _ hI (w_op hw)) (rc_mem rfl hI) (by decide) rfl rfl (Nat.le_of_ble_eq_true rfl) hk dX10_cost_4 ?_
  exact x_iret o r dX10_cost_7 (by rfl) (by rfl)
