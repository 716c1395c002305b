/-! decode rows, in this proof's own forms -/
set_option maxRecDepth 100000
theorem dX10_counts_0 : dq cX10_counts 0 1 1 := dq_i (n := 1) (by decide +kernel) (by decide) rfl
theorem dX10_counts_1 : dk cX10_counts 1 (.ireturn) 1 2 := ⟨by decide +kernel, rfl⟩
theorem dX8_cost_0 : dq cX8_cost 0 4 1 := dq_i (n := 4) (by decide +kernel) (by decide) rfl
theorem dX8_cost_1 : dk cX8_cost 1 (.ireturn) 1 2 := ⟨by decide +kernel, rfl⟩
theorem dX7_counts_0 : dq cX7_counts 0 0 1 := dq_i (n := 0) (by decide +kernel) (by decide) rfl
theorem dX7_counts_1 : dk cX7_counts 1 (.ireturn) 1 2 := ⟨by decide +kernel, rfl⟩
theorem dX11_cost_0 : dq cX11_cost 0 4 1 := dq_i (n := 4) (by decide +kernel) (by decide) rfl
theorem dX11_cost_1 : dk cX11_cost 1 (.ireturn) 1 2 := ⟨by decide +kernel, rfl⟩
theorem dX10_init_0 : dla cX10_init 0 0 1 := Or.inl ⟨0, by decide +kernel, rfl, rfl⟩
theorem dX10_init_1 : dla cX10_init 1 1 2 := Or.inl ⟨1, by decide +kernel, rfl, rfl⟩
theorem dX10_init_2 : dk cX10_init 2 (.invokespecial 3) 3 5 := ⟨by decide +kernel, rfl⟩
theorem dX10_init_5 : dk cX10_init 5 (.return_) 1 6 := ⟨by decide +kernel, rfl⟩
theorem dX10_cost_0 : dla cX10_cost 0 0 1 := Or.inl ⟨0, by decide +kernel, rfl, rfl⟩
theorem dX10_cost_1 : dk cX10_cost 1 (.invokevirtual 44) 3 4 := ⟨by decide +kernel, rfl⟩
theorem dX10_cost_4 : dk cX10_cost 4 (.invokevirtual 48) 3 7 := ⟨by decide +kernel, rfl⟩
theorem dX10_cost_7 : dk cX10_cost 7 (.ireturn) 1 8 := ⟨by decide +kernel, rfl⟩
theorem dX8_init_0 : dla cX8_init 0 0 1 := Or.inl ⟨0, by decide +kernel, rfl, rfl⟩
theorem dX8_init_1 : dla cX8_init 1 1 2 := Or.inl ⟨1, by decide +kernel, rfl, rfl⟩
theorem dX8_init_2 : dk cX8_init 2 (.invokespecial 3) 3 5 := ⟨by decide +kernel, rfl⟩
theorem dX8_init_5 : dk cX8_init 5 (.return_) 1 6 := ⟨by decide +kernel, rfl⟩
theorem dX9_init_0 : dla cX9_init 0 0 1 := Or.inl ⟨0, by decide +kernel, rfl, rfl⟩
theorem dX9_init_1 : dla cX9_init 1 1 2 := Or.inl ⟨1, by decide +kernel, rfl, rfl⟩
theorem dX9_init_2 : dk cX9_init 2 (.invokespecial 3) 3 5 := ⟨by decide +kernel, rfl⟩
theorem dX9_init_5 : dk cX9_init 5 (.return_) 1 6 := ⟨by decide +kernel, rfl⟩
theorem dX11_init_0 : dla cX11_init 0 0 1 := Or.inl ⟨0, by decide +kernel, rfl, rfl⟩
theorem dX11_init_1 : dla cX11_init 1 1 2 := Or.inl ⟨1, by decide +kernel, rfl, rfl⟩
theorem dX11_init_2 : dk cX11_init 2 (.invokespecial 3) 3 5 := ⟨by decide +kernel, rfl⟩
theorem dX11_init_5 : dk cX11_init 5 (.return_) 1 6 := ⟨by decide +kernel, rfl⟩
theorem dX13_cost_0 : dk cX13_cost 0 (.getstatic 25) 3 3 := ⟨by decide +kernel, rfl⟩
theorem dX13_cost_3 : dla cX13_cost 3 0 4 := Or.inl ⟨0, by decide +kernel, rfl, rfl⟩
theorem dX13_cost_4 : dk cX13_cost 4 (.getfield 7) 3 7 := ⟨by decide +kernel, rfl⟩
theorem dX13_cost_7 : dk cX13_cost 7 (.iaload) 1 8 := ⟨by decide +kernel, rfl⟩
theorem dX13_cost_8 : dk cX13_cost 8 (.ireturn) 1 9 := ⟨by decide +kernel, rfl⟩
theorem dX1_seal_0 : dla cX1_seal 0 0 1 := Or.inl ⟨0, by decide +kernel, rfl, rfl⟩
theorem dX1_seal_1 : dk cX1_seal 1 (.getfield 10) 3 4 := ⟨by decide +kernel, rfl⟩
theorem dX1_seal_4 : dk cX1_seal 4 (.getfield 16) 3 7 := ⟨by decide +kernel, rfl⟩
theorem dX1_seal_7 : dk cX1_seal 7 (.invokevirtual 58) 3 10 := ⟨by decide +kernel, rfl⟩
theorem dX1_seal_10 : dk cX1_seal 10 (.ireturn) 1 11 := ⟨by decide +kernel, rfl⟩
theorem dX7_init_0 : dla cX7_init 0 0 1 := Or.inl ⟨0, by decide +kernel, rfl, rfl⟩
theorem dX7_init_1 : dk cX7_init 1 (.invokespecial 1) 3 4 := ⟨by decide +kernel, rfl⟩
theorem dX7_init_4 : dla cX7_init 4 0 5 := Or.inl ⟨0, by decide +kernel, rfl, rfl⟩
theorem dX7_init_5 : dla cX7_init 5 1 6 := Or.inl ⟨1, by decide +kernel, rfl, rfl⟩
theorem dX7_init_6 : dk cX7_init 6 (.putfield 7) 3 9 := ⟨by decide +kernel, rfl⟩
theorem dX7_init_9 : dk cX7_init 9 (.return_) 1 10 := ⟨by decide +kernel, rfl⟩
theorem dX10_begin_0 : dla cX10_begin 0 0 1 := Or.inl ⟨0, by decide +kernel, rfl, rfl⟩
theorem dX10_begin_1 : dq cX10_begin 1 0 2 := dq_i (n := 0) (by decide +kernel) (by decide) rfl
theorem dX10_begin_2 : dk cX10_begin 2 (.putfield 9) 3 5 := ⟨by decide +kernel, rfl⟩
theorem dX10_begin_5 : dla cX10_begin 5 0 6 := Or.inl ⟨0, by decide +kernel, rfl, rfl⟩
theorem dX10_begin_6 : dq cX10_begin 6 (-1) 7 := dq_i (n := (-1)) (by decide +kernel) (by decide) rfl
theorem dX10_begin_7 : dk cX10_begin 7 (.putfield 15) 3 10 := ⟨by decide +kernel, rfl⟩
theorem dX10_begin_10 : dk cX10_begin 10 (.return_) 1 11 := ⟨by decide +kernel, rfl⟩
theorem dX9_cost_0 : dla cX9_cost 0 0 1 := Or.inl ⟨0, by decide +kernel, rfl, rfl⟩
theorem dX9_cost_1 : dk cX9_cost 1 (.getfield 27) 3 4 := ⟨by decide +kernel, rfl⟩
theorem dX9_cost_4 : db cX9_cost 4 (.ifCond .eq 7) 7 7 11 := ⟨by decide +kernel, rfl, by decide⟩
theorem dX9_cost_7 : dq cX9_cost 7 4 8 := dq_i (n := 4) (by decide +kernel) (by decide) rfl
theorem dX9_cost_8 : db cX9_cost 8 (.goto 5) 5 11 13 := ⟨by decide +kernel, rfl, by decide⟩
theorem dX9_cost_11 : dq cX9_cost 11 20 13 := dq_b (n := 20) (by decide +kernel) (by decide) rfl
theorem dX9_cost_13 : dk cX9_cost 13 (.ireturn) 1 14 := ⟨by decide +kernel, rfl⟩
theorem dX5_size_0 : dla cX5_size 0 0 1 := Or.inl ⟨0, by decide +kernel, rfl, rfl⟩
theorem dX5_size_1 : dk cX5_size 1 (.getfield 14) 3 4 := ⟨by decide +kernel, rfl⟩
theorem dX5_size_4 : dli cX5_size 4 1 5 := Or.inl ⟨1, by decide +kernel, rfl, rfl⟩
theorem dX5_size_5 : dk cX5_size 5 (.invokevirtual 24) 3 8 := ⟨by decide +kernel, rfl⟩
theorem dX5_size_8 : dk cX5_size 8 (.checkcast 9) 3 11 := ⟨by decide +kernel, rfl⟩
theorem dX5_size_11 : dk cX5_size 11 (.invokevirtual 28) 3 14 := ⟨by decide +kernel, rfl⟩
theorem dX5_size_14 : dk cX5_size 14 (.ireturn) 1 15 := ⟨by decide +kernel, rfl⟩
theorem dX5_isRegister_0 : dli cX5_isRegister 0 0 1 := Or.inl ⟨0, by decide +kernel, rfl, rfl⟩
theorem dX5_isRegister_1 : dq cX5_isRegister 1 8 3 := dq_b (n := 8) (by decide +kernel) (by decide) rfl
theorem dX5_isRegister_3 : db cX5_isRegister 3 (.if_icmp .ge 7) 7 6 10 := ⟨by decide +kernel, rfl, by decide⟩
theorem dX5_isRegister_6 : dq cX5_isRegister 6 1 7 := dq_i (n := 1) (by decide +kernel) (by decide) rfl
theorem dX5_isRegister_7 : db cX5_isRegister 7 (.goto 4) 4 10 11 := ⟨by decide +kernel, rfl, by decide⟩
theorem dX5_isRegister_10 : dq cX5_isRegister 10 0 11 := dq_i (n := 0) (by decide +kernel) (by decide) rfl
theorem dX5_isRegister_11 : dk cX5_isRegister 11 (.ireturn) 1 12 := ⟨by decide +kernel, rfl⟩
theorem dX1_init_0 : dla cX1_init 0 0 1 := Or.inl ⟨0, by decide +kernel, rfl, rfl⟩
theorem dX1_init_1 : dk cX1_init 1 (.invokespecial 1) 3 4 := ⟨by decide +kernel, rfl⟩
theorem dX1_init_4 : dla cX1_init 4 0 5 := Or.inl ⟨0, by decide +kernel, rfl, rfl⟩
theorem dX1_init_5 : dk cX1_init 5 (.new 7) 3 8 := ⟨by decide +kernel, rfl⟩
theorem dX1_init_8 : dk cX1_init 8 (.dup) 1 9 := ⟨by decide +kernel, rfl⟩
theorem dX1_init_9 : dk cX1_init 9 (.invokespecial 9) 3 12 := ⟨by decide +kernel, rfl⟩
theorem dX1_init_12 : dk cX1_init 12 (.putfield 10) 3 15 := ⟨by decide +kernel, rfl⟩
theorem dX1_init_15 : dk cX1_init 15 (.return_) 1 16 := ⟨by decide +kernel, rfl⟩
theorem dX5_at_0 : dla cX5_at 0 0 1 := Or.inl ⟨0, by decide +kernel, rfl, rfl⟩
theorem dX5_at_1 : dk cX5_at 1 (.getfield 14) 3 4 := ⟨by decide +kernel, rfl⟩
theorem dX5_at_4 : dli cX5_at 4 1 5 := Or.inl ⟨1, by decide +kernel, rfl, rfl⟩
theorem dX5_at_5 : dk cX5_at 5 (.invokevirtual 24) 3 8 := ⟨by decide +kernel, rfl⟩
theorem dX5_at_8 : dk cX5_at 8 (.checkcast 9) 3 11 := ⟨by decide +kernel, rfl⟩
theorem dX5_at_11 : dli cX5_at 11 2 12 := Or.inl ⟨2, by decide +kernel, rfl, rfl⟩
theorem dX5_at_12 : dk cX5_at 12 (.invokevirtual 24) 3 15 := ⟨by decide +kernel, rfl⟩
theorem dX5_at_15 : dk cX5_at 15 (.checkcast 32) 3 18 := ⟨by decide +kernel, rfl⟩
theorem dX5_at_18 : dk cX5_at 18 (.areturn) 1 19 := ⟨by decide +kernel, rfl⟩
theorem dX1_isTask_0 : dli cX1_isTask 0 0 1 := Or.inl ⟨0, by decide +kernel, rfl, rfl⟩
theorem dX1_isTask_1 : db cX1_isTask 1 (.ifCond .lt 13) 13 4 14 := ⟨by decide +kernel, rfl, by decide⟩
theorem dX1_isTask_4 : dli cX1_isTask 4 0 5 := Or.inl ⟨0, by decide +kernel, rfl, rfl⟩
theorem dX1_isTask_5 : dq cX1_isTask 5 16 7 := dq_b (n := 16) (by decide +kernel) (by decide) rfl
theorem dX1_isTask_7 : db cX1_isTask 7 (.if_icmp .ge 7) 7 10 14 := ⟨by decide +kernel, rfl, by decide⟩
theorem dX1_isTask_10 : dq cX1_isTask 10 1 11 := dq_i (n := 1) (by decide +kernel) (by decide) rfl
theorem dX1_isTask_11 : db cX1_isTask 11 (.goto 4) 4 14 15 := ⟨by decide +kernel, rfl, by decide⟩
theorem dX1_isTask_14 : dq cX1_isTask 14 0 15 := dq_i (n := 0) (by decide +kernel) (by decide) rfl
theorem dX1_isTask_15 : dk cX1_isTask 15 (.ireturn) 1 16 := ⟨by decide +kernel, rfl⟩
theorem dX10_abandon_0 : dla cX10_abandon 0 0 1 := Or.inl ⟨0, by decide +kernel, rfl, rfl⟩
theorem dX10_abandon_1 : dk cX10_abandon 1 (.getfield 18) 3 4 := ⟨by decide +kernel, rfl⟩
theorem dX10_abandon_4 : dk cX10_abandon 4 (.dup) 1 5 := ⟨by decide +kernel, rfl⟩
theorem dX10_abandon_5 : dk cX10_abandon 5 (.getfield 119) 3 8 := ⟨by decide +kernel, rfl⟩
theorem dX10_abandon_8 : dq cX10_abandon 8 1 9 := dq_i (n := 1) (by decide +kernel) (by decide) rfl
theorem dX10_abandon_9 : dk cX10_abandon 9 (.iadd) 1 10 := ⟨by decide +kernel, rfl⟩
theorem dX10_abandon_10 : dk cX10_abandon 10 (.putfield 119) 3 13 := ⟨by decide +kernel, rfl⟩
theorem dX10_abandon_13 : dla cX10_abandon 13 0 14 := Or.inl ⟨0, by decide +kernel, rfl, rfl⟩
theorem dX10_abandon_14 : dk cX10_abandon 14 (.getfield 18) 3 17 := ⟨by decide +kernel, rfl⟩
theorem dX10_abandon_17 : dk cX10_abandon 17 (.invokevirtual 122) 3 20 := ⟨by decide +kernel, rfl⟩
theorem dX10_abandon_20 : dk cX10_abandon 20 (.return_) 1 21 := ⟨by decide +kernel, rfl⟩
theorem dX3_init_0 : dla cX3_init 0 0 1 := Or.inl ⟨0, by decide +kernel, rfl, rfl⟩
theorem dX3_init_1 : dk cX3_init 1 (.invokespecial 1) 3 4 := ⟨by decide +kernel, rfl⟩
theorem dX3_init_4 : dla cX3_init 4 0 5 := Or.inl ⟨0, by decide +kernel, rfl, rfl⟩
theorem dX3_init_5 : dq cX3_init 5 164 8 := dq_s (n := 164) (by decide +kernel) (by decide) rfl
theorem dX3_init_8 : dk cX3_init 8 (.newarray .int) 2 10 := ⟨by decide +kernel, rfl⟩
theorem dX3_init_10 : dk cX3_init 10 (.putfield 9) 3 13 := ⟨by decide +kernel, rfl⟩
theorem dX3_init_13 : dla cX3_init 13 0 14 := Or.inl ⟨0, by decide +kernel, rfl, rfl⟩
theorem dX3_init_14 : dq cX3_init 14 164 17 := dq_s (n := 164) (by decide +kernel) (by decide) rfl
theorem dX3_init_17 : dk cX3_init 17 (.newarray .int) 2 19 := ⟨by decide +kernel, rfl⟩
theorem dX3_init_19 : dk cX3_init 19 (.putfield 13) 3 22 := ⟨by decide +kernel, rfl⟩
theorem dX3_init_22 : dk cX3_init 22 (.return_) 1 23 := ⟨by decide +kernel, rfl⟩
theorem dX2_leave_0 : dla cX2_leave 0 0 1 := Or.inl ⟨0, by decide +kernel, rfl, rfl⟩
theorem dX2_leave_1 : dla cX2_leave 1 0 2 := Or.inl ⟨0, by decide +kernel, rfl, rfl⟩
theorem dX2_leave_2 : dk cX2_leave 2 (.getfield 66) 3 5 := ⟨by decide +kernel, rfl⟩
theorem dX2_leave_5 : dk cX2_leave 5 (.putfield 88) 3 8 := ⟨by decide +kernel, rfl⟩
theorem dX2_leave_8 : dla cX2_leave 8 0 9 := Or.inl ⟨0, by decide +kernel, rfl, rfl⟩
theorem dX2_leave_9 : dk cX2_leave 9 (.getfield 66) 3 12 := ⟨by decide +kernel, rfl⟩
theorem dX2_leave_12 : dq cX2_leave 12 0 13 := dq_i (n := 0) (by decide +kernel) (by decide) rfl
theorem dX2_leave_13 : dk cX2_leave 13 (.putfield 92) 3 16 := ⟨by decide +kernel, rfl⟩
theorem dX2_leave_16 : dla cX2_leave 16 0 17 := Or.inl ⟨0, by decide +kernel, rfl, rfl⟩
theorem dX2_leave_17 : dk cX2_leave 17 (.invokevirtual 96) 3 20 := ⟨by decide +kernel, rfl⟩
theorem dX2_leave_20 : dk cX2_leave 20 (.return_) 1 21 := ⟨by decide +kernel, rfl⟩
theorem dX11_counts_0 : dla cX11_counts 0 0 1 := Or.inl ⟨0, by decide +kernel, rfl, rfl⟩
theorem dX11_counts_1 : dk cX11_counts 1 (.getfield 9) 3 4 := ⟨by decide +kernel, rfl⟩
theorem dX11_counts_4 : dk cX11_counts 4 (.getfield 29) 3 7 := ⟨by decide +kernel, rfl⟩
theorem dX11_counts_7 : dk cX11_counts 7 (.getfield 33) 3 10 := ⟨by decide +kernel, rfl⟩
theorem dX11_counts_10 : dq cX11_counts 10 2 11 := dq_i (n := 2) (by decide +kernel) (by decide) rfl
theorem dX11_counts_11 : dk cX11_counts 11 (.iaload) 1 12 := ⟨by decide +kernel, rfl⟩
theorem dX11_counts_12 : db cX11_counts 12 (.ifCond .ne 7) 7 15 19 := ⟨by decide +kernel, rfl, by decide⟩
theorem dX11_counts_15 : dq cX11_counts 15 1 16 := dq_i (n := 1) (by decide +kernel) (by decide) rfl
theorem dX11_counts_16 : db cX11_counts 16 (.goto 4) 4 19 20 := ⟨by decide +kernel, rfl, by decide⟩
theorem dX11_counts_19 : dq cX11_counts 19 0 20 := dq_i (n := 0) (by decide +kernel) (by decide) rfl
theorem dX11_counts_20 : dk cX11_counts 20 (.ireturn) 1 21 := ⟨by decide +kernel, rfl⟩
theorem dX10_instruction_0 : dla cX10_instruction 0 0 1 := Or.inl ⟨0, by decide +kernel, rfl, rfl⟩
theorem dX10_instruction_1 : dk cX10_instruction 1 (.getfield 18) 3 4 := ⟨by decide +kernel, rfl⟩
theorem dX10_instruction_4 : dk cX10_instruction 4 (.getfield 22) 3 7 := ⟨by decide +kernel, rfl⟩
theorem dX10_instruction_7 : dla cX10_instruction 7 0 8 := Or.inl ⟨0, by decide +kernel, rfl, rfl⟩
theorem dX10_instruction_8 : dk cX10_instruction 8 (.getfield 18) 3 11 := ⟨by decide +kernel, rfl⟩
theorem dX10_instruction_11 : dk cX10_instruction 11 (.getfield 28) 3 14 := ⟨by decide +kernel, rfl⟩
theorem dX10_instruction_14 : dk cX10_instruction 14 (.getfield 32) 3 17 := ⟨by decide +kernel, rfl⟩
theorem dX10_instruction_17 : dq cX10_instruction 17 0 18 := dq_i (n := 0) (by decide +kernel) (by decide) rfl
theorem dX10_instruction_18 : dk cX10_instruction 18 (.iaload) 1 19 := ⟨by decide +kernel, rfl⟩
theorem dX10_instruction_19 : dla cX10_instruction 19 0 20 := Or.inl ⟨0, by decide +kernel, rfl, rfl⟩
theorem dX10_instruction_20 : dk cX10_instruction 20 (.getfield 9) 3 23 := ⟨by decide +kernel, rfl⟩
theorem dX10_instruction_23 : dk cX10_instruction 23 (.invokevirtual 38) 3 26 := ⟨by decide +kernel, rfl⟩
theorem dX10_instruction_26 : dk cX10_instruction 26 (.areturn) 1 27 := ⟨by decide +kernel, rfl⟩
theorem dX1_cut_0 : dli cX1_cut 0 1 1 := Or.inl ⟨1, by decide +kernel, rfl, rfl⟩
theorem dX1_cut_1 : db cX1_cut 1 (.ifCond .lt 10) 10 4 11 := ⟨by decide +kernel, rfl, by decide⟩
theorem dX1_cut_4 : dli cX1_cut 4 1 5 := Or.inl ⟨1, by decide +kernel, rfl, rfl⟩
theorem dX1_cut_5 : dq cX1_cut 5 10000 8 := dq_s (n := 10000) (by decide +kernel) (by decide) rfl
theorem dX1_cut_8 : db cX1_cut 8 (.if_icmp .le 5) 5 11 13 := ⟨by decide +kernel, rfl, by decide⟩
theorem dX1_cut_11 : dq cX1_cut 11 0 12 := dq_i (n := 0) (by decide +kernel) (by decide) rfl
theorem dX1_cut_12 : dk cX1_cut 12 (.ireturn) 1 13 := ⟨by decide +kernel, rfl⟩
theorem dX1_cut_13 : dla cX1_cut 13 0 14 := Or.inl ⟨0, by decide +kernel, rfl, rfl⟩
theorem dX1_cut_14 : dk cX1_cut 14 (.getfield 10) 3 17 := ⟨by decide +kernel, rfl⟩
theorem dX1_cut_17 : dli cX1_cut 17 1 18 := Or.inl ⟨1, by decide +kernel, rfl, rfl⟩
theorem dX1_cut_18 : dk cX1_cut 18 (.putfield 71) 3 21 := ⟨by decide +kernel, rfl⟩
theorem dX1_cut_21 : dq cX1_cut 21 1 22 := dq_i (n := 1) (by decide +kernel) (by decide) rfl
theorem dX1_cut_22 : dk cX1_cut 22 (.ireturn) 1 23 := ⟨by decide +kernel, rfl⟩
theorem dX1_register_0 : dli cX1_register 0 1 1 := Or.inl ⟨1, by decide +kernel, rfl, rfl⟩
theorem dX1_register_1 : db cX1_register 1 (.ifCond .lt 9) 9 4 10 := ⟨by decide +kernel, rfl, by decide⟩
theorem dX1_register_4 : dli cX1_register 4 1 5 := Or.inl ⟨1, by decide +kernel, rfl, rfl⟩
theorem dX1_register_5 : dq cX1_register 5 8 7 := dq_b (n := 8) (by decide +kernel) (by decide) rfl
theorem dX1_register_7 : db cX1_register 7 (.if_icmp .lt 7) 7 10 14 := ⟨by decide +kernel, rfl, by decide⟩
theorem dX1_register_10 : dq cX1_register 10 0 11 := dq_i (n := 0) (by decide +kernel) (by decide) rfl
theorem dX1_register_11 : db cX1_register 11 (.goto 12) 12 14 23 := ⟨by decide +kernel, rfl, by decide⟩
theorem dX1_register_14 : dla cX1_register 14 0 15 := Or.inl ⟨0, by decide +kernel, rfl, rfl⟩
theorem dX1_register_15 : dk cX1_register 15 (.getfield 10) 3 18 := ⟨by decide +kernel, rfl⟩
theorem dX1_register_18 : dk cX1_register 18 (.getfield 164) 3 21 := ⟨by decide +kernel, rfl⟩
theorem dX1_register_21 : dli cX1_register 21 1 22 := Or.inl ⟨1, by decide +kernel, rfl, rfl⟩
theorem dX1_register_22 : dk cX1_register 22 (.iaload) 1 23 := ⟨by decide +kernel, rfl⟩
theorem dX1_register_23 : dk cX1_register 23 (.ireturn) 1 24 := ⟨by decide +kernel, rfl⟩
theorem dX11_end_0 : dla cX11_end 0 0 1 := Or.inl ⟨0, by decide +kernel, rfl, rfl⟩
theorem dX11_end_1 : dk cX11_end 1 (.getfield 9) 3 4 := ⟨by decide +kernel, rfl⟩
theorem dX11_end_4 : dk cX11_end 4 (.getfield 29) 3 7 := ⟨by decide +kernel, rfl⟩
theorem dX11_end_7 : dq cX11_end 7 2 8 := dq_i (n := 2) (by decide +kernel) (by decide) rfl
theorem dX11_end_8 : dq cX11_end 8 0 9 := dq_i (n := 0) (by decide +kernel) (by decide) rfl
theorem dX11_end_9 : dk cX11_end 9 (.invokevirtual 54) 3 12 := ⟨by decide +kernel, rfl⟩
theorem dX11_end_12 : dla cX11_end 12 0 13 := Or.inl ⟨0, by decide +kernel, rfl, rfl⟩
theorem dX11_end_13 : dk cX11_end 13 (.getfield 9) 3 16 := ⟨by decide +kernel, rfl⟩
theorem dX11_end_16 : dk cX11_end 16 (.invokevirtual 59) 3 19 := ⟨by decide +kernel, rfl⟩
theorem dX11_end_19 : dla cX11_end 19 0 20 := Or.inl ⟨0, by decide +kernel, rfl, rfl⟩
theorem dX11_end_20 : dk cX11_end 20 (.getfield 9) 3 23 := ⟨by decide +kernel, rfl⟩
theorem dX11_end_23 : dk cX11_end 23 (.invokevirtual 62) 3 26 := ⟨by decide +kernel, rfl⟩
theorem dX11_end_26 : dk cX11_end 26 (.return_) 1 27 := ⟨by decide +kernel, rfl⟩
theorem dX10_put_0 : dla cX10_put 0 0 1 := Or.inl ⟨0, by decide +kernel, rfl, rfl⟩
theorem dX10_put_1 : dk cX10_put 1 (.getfield 18) 3 4 := ⟨by decide +kernel, rfl⟩
theorem dX10_put_4 : dk cX10_put 4 (.getfield 79) 3 7 := ⟨by decide +kernel, rfl⟩
theorem dX10_put_7 : dli cX10_put 7 1 8 := Or.inl ⟨1, by decide +kernel, rfl, rfl⟩
theorem dX10_put_8 : dli cX10_put 8 1 9 := Or.inl ⟨1, by decide +kernel, rfl, rfl⟩
theorem dX10_put_9 : dk cX10_put 9 (.invokevirtual 112) 3 12 := ⟨by decide +kernel, rfl⟩
theorem dX10_put_12 : db cX10_put 12 (.ifCond .eq 15) 15 15 27 := ⟨by decide +kernel, rfl, by decide⟩
theorem dX10_put_15 : dla cX10_put 15 0 16 := Or.inl ⟨0, by decide +kernel, rfl, rfl⟩
theorem dX10_put_16 : dk cX10_put 16 (.getfield 18) 3 19 := ⟨by decide +kernel, rfl⟩
theorem dX10_put_19 : dk cX10_put 19 (.getfield 79) 3 22 := ⟨by decide +kernel, rfl⟩
theorem dX10_put_22 : dli cX10_put 22 1 23 := Or.inl ⟨1, by decide +kernel, rfl, rfl⟩
theorem dX10_put_23 : dli cX10_put 23 2 24 := Or.inl ⟨2, by decide +kernel, rfl, rfl⟩
theorem dX10_put_24 : dk cX10_put 24 (.invokevirtual 116) 3 27 := ⟨by decide +kernel, rfl⟩
theorem dX10_put_27 : dk cX10_put 27 (.return_) 1 28 := ⟨by decide +kernel, rfl⟩
theorem dX3_write_0 : dla cX3_write 0 0 1 := Or.inl ⟨0, by decide +kernel, rfl, rfl⟩
theorem dX3_write_1 : dk cX3_write 1 (.getfield 9) 3 4 := ⟨by decide +kernel, rfl⟩
theorem dX3_write_4 : dli cX3_write 4 1 5 := Or.inl ⟨1, by decide +kernel, rfl, rfl⟩
theorem dX3_write_5 : dli cX3_write 5 2 6 := Or.inl ⟨2, by decide +kernel, rfl, rfl⟩
theorem dX3_write_6 : dk cX3_write 6 (.iastore) 1 7 := ⟨by decide +kernel, rfl⟩
theorem dX3_write_7 : dla cX3_write 7 0 8 := Or.inl ⟨0, by decide +kernel, rfl, rfl⟩
theorem dX3_write_8 : dk cX3_write 8 (.getfield 13) 3 11 := ⟨by decide +kernel, rfl⟩
theorem dX3_write_11 : dli cX3_write 11 1 12 := Or.inl ⟨1, by decide +kernel, rfl, rfl⟩
theorem dX3_write_12 : dk cX3_write 12 (.dup2) 1 13 := ⟨by decide +kernel, rfl⟩
theorem dX3_write_13 : dk cX3_write 13 (.iaload) 1 14 := ⟨by decide +kernel, rfl⟩
theorem dX3_write_14 : dq cX3_write 14 1 15 := dq_i (n := 1) (by decide +kernel) (by decide) rfl
theorem dX3_write_15 : dk cX3_write 15 (.iadd) 1 16 := ⟨by decide +kernel, rfl⟩
theorem dX3_write_16 : dk cX3_write 16 (.iastore) 1 17 := ⟨by decide +kernel, rfl⟩
theorem dX3_write_17 : dk cX3_write 17 (.return_) 1 18 := ⟨by decide +kernel, rfl⟩
theorem dX4_init_0 : dla cX4_init 0 0 1 := Or.inl ⟨0, by decide +kernel, rfl, rfl⟩
theorem dX4_init_1 : dk cX4_init 1 (.invokespecial 3) 3 4 := ⟨by decide +kernel, rfl⟩
theorem dX4_init_4 : dla cX4_init 4 0 5 := Or.inl ⟨0, by decide +kernel, rfl, rfl⟩
theorem dX4_init_5 : dq cX4_init 5 40 7 := dq_b (n := 40) (by decide +kernel) (by decide) rfl
theorem dX4_init_7 : dk cX4_init 7 (.newarray .int) 2 9 := ⟨by decide +kernel, rfl⟩
theorem dX4_init_9 : dk cX4_init 9 (.putfield 11) 3 12 := ⟨by decide +kernel, rfl⟩
theorem dX4_init_12 : dla cX4_init 12 0 13 := Or.inl ⟨0, by decide +kernel, rfl, rfl⟩
theorem dX4_init_13 : dq cX4_init 13 40 15 := dq_b (n := 40) (by decide +kernel) (by decide) rfl
theorem dX4_init_15 : dk cX4_init 15 (.newarray .int) 2 17 := ⟨by decide +kernel, rfl⟩
theorem dX4_init_17 : dk cX4_init 17 (.putfield 15) 3 20 := ⟨by decide +kernel, rfl⟩
theorem dX4_init_20 : dla cX4_init 20 0 21 := Or.inl ⟨0, by decide +kernel, rfl, rfl⟩
theorem dX4_init_21 : dla cX4_init 21 1 22 := Or.inl ⟨1, by decide +kernel, rfl, rfl⟩
theorem dX4_init_22 : dk cX4_init 22 (.putfield 18) 3 25 := ⟨by decide +kernel, rfl⟩
theorem dX4_init_25 : dk cX4_init 25 (.return_) 1 26 := ⟨by decide +kernel, rfl⟩
theorem dX2_isTrying_0 : dla cX2_isTrying 0 0 1 := Or.inl ⟨0, by decide +kernel, rfl, rfl⟩
theorem dX2_isTrying_1 : dk cX2_isTrying 1 (.getfield 88) 3 4 := ⟨by decide +kernel, rfl⟩
theorem dX2_isTrying_4 : dla cX2_isTrying 4 0 5 := Or.inl ⟨0, by decide +kernel, rfl, rfl⟩
theorem dX2_isTrying_5 : dk cX2_isTrying 5 (.getfield 73) 3 8 := ⟨by decide +kernel, rfl⟩
theorem dX2_isTrying_8 : db cX2_isTrying 8 (.if_acmp .eq 14) 14 11 22 := ⟨by decide +kernel, rfl, by decide⟩
theorem dX2_isTrying_11 : dla cX2_isTrying 11 0 12 := Or.inl ⟨0, by decide +kernel, rfl, rfl⟩
theorem dX2_isTrying_12 : dk cX2_isTrying 12 (.getfield 88) 3 15 := ⟨by decide +kernel, rfl⟩
theorem dX2_isTrying_15 : dla cX2_isTrying 15 0 16 := Or.inl ⟨0, by decide +kernel, rfl, rfl⟩
theorem dX2_isTrying_16 : dk cX2_isTrying 16 (.getfield 80) 3 19 := ⟨by decide +kernel, rfl⟩
theorem dX2_isTrying_19 : db cX2_isTrying 19 (.if_acmp .ne 7) 7 22 26 := ⟨by decide +kernel, rfl, by decide⟩
theorem dX2_isTrying_22 : dq cX2_isTrying 22 1 23 := dq_i (n := 1) (by decide +kernel) (by decide) rfl
theorem dX2_isTrying_23 : db cX2_isTrying 23 (.goto 4) 4 26 27 := ⟨by decide +kernel, rfl, by decide⟩
theorem dX2_isTrying_26 : dq cX2_isTrying 26 0 27 := dq_i (n := 0) (by decide +kernel) (by decide) rfl
theorem dX2_isTrying_27 : dk cX2_isTrying 27 (.ireturn) 1 28 := ⟨by decide +kernel, rfl⟩
theorem dX13_init_0 : dla cX13_init 0 0 1 := Or.inl ⟨0, by decide +kernel, rfl, rfl⟩
theorem dX13_init_1 : dk cX13_init 1 (.invokespecial 1) 3 4 := ⟨by decide +kernel, rfl⟩
theorem dX13_init_4 : dla cX13_init 4 0 5 := Or.inl ⟨0, by decide +kernel, rfl, rfl⟩
theorem dX13_init_5 : dli cX13_init 5 1 6 := Or.inl ⟨1, by decide +kernel, rfl, rfl⟩
theorem dX13_init_6 : dk cX13_init 6 (.putfield 7) 3 9 := ⟨by decide +kernel, rfl⟩
theorem dX13_init_9 : dla cX13_init 9 0 10 := Or.inl ⟨0, by decide +kernel, rfl, rfl⟩
theorem dX13_init_10 : dli cX13_init 10 2 11 := Or.inl ⟨2, by decide +kernel, rfl, rfl⟩
theorem dX13_init_11 : dk cX13_init 11 (.putfield 13) 3 14 := ⟨by decide +kernel, rfl⟩
theorem dX13_init_14 : dla cX13_init 14 0 15 := Or.inl ⟨0, by decide +kernel, rfl, rfl⟩
theorem dX13_init_15 : dli cX13_init 15 3 16 := Or.inl ⟨3, by decide +kernel, rfl, rfl⟩
theorem dX13_init_16 : dk cX13_init 16 (.putfield 16) 3 19 := ⟨by decide +kernel, rfl⟩
theorem dX13_init_19 : dla cX13_init 19 0 20 := Or.inl ⟨0, by decide +kernel, rfl, rfl⟩
theorem dX13_init_20 : dli cX13_init 20 4 22 := Or.inr ⟨by decide +kernel, rfl⟩
theorem dX13_init_22 : dk cX13_init 22 (.putfield 19) 3 25 := ⟨by decide +kernel, rfl⟩
theorem dX13_init_25 : dk cX13_init 25 (.return_) 1 26 := ⟨by decide +kernel, rfl⟩
theorem dX6_init_0 : dla cX6_init 0 0 1 := Or.inl ⟨0, by decide +kernel, rfl, rfl⟩
theorem dX6_init_1 : dk cX6_init 1 (.invokespecial 1) 3 4 := ⟨by decide +kernel, rfl⟩
theorem dX6_init_4 : dla cX6_init 4 0 5 := Or.inl ⟨0, by decide +kernel, rfl, rfl⟩
theorem dX6_init_5 : dq cX6_init 5 64 7 := dq_b (n := 64) (by decide +kernel) (by decide) rfl
theorem dX6_init_7 : dk cX6_init 7 (.newarray .int) 2 9 := ⟨by decide +kernel, rfl⟩
theorem dX6_init_9 : dk cX6_init 9 (.putfield 9) 3 12 := ⟨by decide +kernel, rfl⟩
theorem dX6_init_12 : dla cX6_init 12 0 13 := Or.inl ⟨0, by decide +kernel, rfl, rfl⟩
theorem dX6_init_13 : dq cX6_init 13 64 15 := dq_b (n := 64) (by decide +kernel) (by decide) rfl
theorem dX6_init_15 : dk cX6_init 15 (.newarray .int) 2 17 := ⟨by decide +kernel, rfl⟩
theorem dX6_init_17 : dk cX6_init 17 (.putfield 13) 3 20 := ⟨by decide +kernel, rfl⟩
theorem dX6_init_20 : dla cX6_init 20 0 21 := Or.inl ⟨0, by decide +kernel, rfl, rfl⟩
theorem dX6_init_21 : dq cX6_init 21 64 23 := dq_b (n := 64) (by decide +kernel) (by decide) rfl
theorem dX6_init_23 : dk cX6_init 23 (.newarray .int) 2 25 := ⟨by decide +kernel, rfl⟩
theorem dX6_init_25 : dk cX6_init 25 (.putfield 16) 3 28 := ⟨by decide +kernel, rfl⟩
theorem dX6_init_28 : dk cX6_init 28 (.return_) 1 29 := ⟨by decide +kernel, rfl⟩
theorem dX1_sense_0 : dli cX1_sense 0 1 1 := Or.inl ⟨1, by decide +kernel, rfl, rfl⟩
theorem dX1_sense_1 : db cX1_sense 1 (.ifCond .lt 8) 8 4 9 := ⟨by decide +kernel, rfl, by decide⟩
theorem dX1_sense_4 : dli cX1_sense 4 1 5 := Or.inl ⟨1, by decide +kernel, rfl, rfl⟩
theorem dX1_sense_5 : dq cX1_sense 5 3 6 := dq_i (n := 3) (by decide +kernel) (by decide) rfl
theorem dX1_sense_6 : db cX1_sense 6 (.if_icmp .le 5) 5 9 11 := ⟨by decide +kernel, rfl, by decide⟩
theorem dX1_sense_9 : dq cX1_sense 9 0 10 := dq_i (n := 0) (by decide +kernel) (by decide) rfl
theorem dX1_sense_10 : dk cX1_sense 10 (.ireturn) 1 11 := ⟨by decide +kernel, rfl⟩
theorem dX1_sense_11 : dla cX1_sense 11 0 12 := Or.inl ⟨0, by decide +kernel, rfl, rfl⟩
theorem dX1_sense_12 : dk cX1_sense 12 (.getfield 10) 3 15 := ⟨by decide +kernel, rfl⟩
theorem dX1_sense_15 : dk cX1_sense 15 (.getfield 75) 3 18 := ⟨by decide +kernel, rfl⟩
theorem dX1_sense_18 : dli cX1_sense 18 1 19 := Or.inl ⟨1, by decide +kernel, rfl, rfl⟩
theorem dX1_sense_19 : dli cX1_sense 19 2 20 := Or.inl ⟨2, by decide +kernel, rfl, rfl⟩
theorem dX1_sense_20 : dk cX1_sense 20 (.iastore) 1 21 := ⟨by decide +kernel, rfl⟩
theorem dX1_sense_21 : dq cX1_sense 21 1 22 := dq_i (n := 1) (by decide +kernel) (by decide) rfl
theorem dX1_sense_22 : dk cX1_sense 22 (.ireturn) 1 23 := ⟨by decide +kernel, rfl⟩
theorem dX6_keeps_0 : dli cX6_keeps 0 1 1 := Or.inl ⟨1, by decide +kernel, rfl, rfl⟩
theorem dX6_keeps_1 : db cX6_keeps 1 (.ifCond .lt 26) 26 4 27 := ⟨by decide +kernel, rfl, by decide⟩
theorem dX6_keeps_4 : dli cX6_keeps 4 1 5 := Or.inl ⟨1, by decide +kernel, rfl, rfl⟩
theorem dX6_keeps_5 : dla cX6_keeps 5 0 6 := Or.inl ⟨0, by decide +kernel, rfl, rfl⟩
theorem dX6_keeps_6 : dk cX6_keeps 6 (.getfield 23) 3 9 := ⟨by decide +kernel, rfl⟩
theorem dX6_keeps_9 : db cX6_keeps 9 (.if_icmp .ge 18) 18 12 27 := ⟨by decide +kernel, rfl, by decide⟩
theorem dX6_keeps_12 : dli cX6_keeps 12 1 13 := Or.inl ⟨1, by decide +kernel, rfl, rfl⟩
theorem dX6_keeps_13 : dla cX6_keeps 13 0 14 := Or.inl ⟨0, by decide +kernel, rfl, rfl⟩
theorem dX6_keeps_14 : dk cX6_keeps 14 (.getfield 23) 3 17 := ⟨by decide +kernel, rfl⟩
theorem dX6_keeps_17 : dq cX6_keeps 17 64 19 := dq_b (n := 64) (by decide +kernel) (by decide) rfl
theorem dX6_keeps_19 : dk cX6_keeps 19 (.isub) 1 20 := ⟨by decide +kernel, rfl⟩
theorem dX6_keeps_20 : db cX6_keeps 20 (.if_icmp .lt 7) 7 23 27 := ⟨by decide +kernel, rfl, by decide⟩
theorem dX6_keeps_23 : dq cX6_keeps 23 1 24 := dq_i (n := 1) (by decide +kernel) (by decide) rfl
theorem dX6_keeps_24 : db cX6_keeps 24 (.goto 4) 4 27 28 := ⟨by decide +kernel, rfl, by decide⟩
theorem dX6_keeps_27 : dq cX6_keeps 27 0 28 := dq_i (n := 0) (by decide +kernel) (by decide) rfl
theorem dX6_keeps_28 : dk cX6_keeps 28 (.ireturn) 1 29 := ⟨by decide +kernel, rfl⟩
theorem dX9_isIdle_0 : dla cX9_isIdle 0 0 1 := Or.inl ⟨0, by decide +kernel, rfl, rfl⟩
theorem dX9_isIdle_1 : dk cX9_isIdle 1 (.getfield 9) 3 4 := ⟨by decide +kernel, rfl⟩
theorem dX9_isIdle_4 : dk cX9_isIdle 4 (.getfield 15) 3 7 := ⟨by decide +kernel, rfl⟩
theorem dX9_isIdle_7 : dk cX9_isIdle 7 (.getfield 21) 3 10 := ⟨by decide +kernel, rfl⟩
theorem dX9_isIdle_10 : dq cX9_isIdle 10 4 11 := dq_i (n := 4) (by decide +kernel) (by decide) rfl
theorem dX9_isIdle_11 : dk cX9_isIdle 11 (.iaload) 1 12 := ⟨by decide +kernel, rfl⟩
theorem dX9_isIdle_12 : dla cX9_isIdle 12 0 13 := Or.inl ⟨0, by decide +kernel, rfl, rfl⟩
theorem dX9_isIdle_13 : dk cX9_isIdle 13 (.getfield 9) 3 16 := ⟨by decide +kernel, rfl⟩
theorem dX9_isIdle_16 : dk cX9_isIdle 16 (.getfield 15) 3 19 := ⟨by decide +kernel, rfl⟩
theorem dX9_isIdle_19 : dk cX9_isIdle 19 (.getfield 21) 3 22 := ⟨by decide +kernel, rfl⟩
theorem dX9_isIdle_22 : dq cX9_isIdle 22 3 23 := dq_i (n := 3) (by decide +kernel) (by decide) rfl
theorem dX9_isIdle_23 : dk cX9_isIdle 23 (.iaload) 1 24 := ⟨by decide +kernel, rfl⟩
theorem dX9_isIdle_24 : db cX9_isIdle 24 (.if_icmp .ne 7) 7 27 31 := ⟨by decide +kernel, rfl, by decide⟩
theorem dX9_isIdle_27 : dq cX9_isIdle 27 1 28 := dq_i (n := 1) (by decide +kernel) (by decide) rfl
theorem dX9_isIdle_28 : db cX9_isIdle 28 (.goto 4) 4 31 32 := ⟨by decide +kernel, rfl, by decide⟩
theorem dX9_isIdle_31 : dq cX9_isIdle 31 0 32 := dq_i (n := 0) (by decide +kernel) (by decide) rfl
theorem dX9_isIdle_32 : dk cX9_isIdle 32 (.ireturn) 1 33 := ⟨by decide +kernel, rfl⟩
theorem dX2_begin_0 : dla cX2_begin 0 0 1 := Or.inl ⟨0, by decide +kernel, rfl, rfl⟩
theorem dX2_begin_1 : dk cX2_begin 1 (.invokevirtual 96) 3 4 := ⟨by decide +kernel, rfl⟩
theorem dX2_begin_4 : dla cX2_begin 4 0 5 := Or.inl ⟨0, by decide +kernel, rfl, rfl⟩
theorem dX2_begin_5 : dla cX2_begin 5 0 6 := Or.inl ⟨0, by decide +kernel, rfl, rfl⟩
theorem dX2_begin_6 : dk cX2_begin 6 (.getfield 12) 3 9 := ⟨by decide +kernel, rfl⟩
theorem dX2_begin_9 : dk cX2_begin 9 (.getfield 114) 3 12 := ⟨by decide +kernel, rfl⟩
theorem dX2_begin_12 : dq cX2_begin 12 0 13 := dq_i (n := 0) (by decide +kernel) (by decide) rfl
theorem dX2_begin_13 : dk cX2_begin 13 (.iaload) 1 14 := ⟨by decide +kernel, rfl⟩
theorem dX2_begin_14 : dk cX2_begin 14 (.putfield 105) 3 17 := ⟨by decide +kernel, rfl⟩
theorem dX2_begin_17 : dla cX2_begin 17 0 18 := Or.inl ⟨0, by decide +kernel, rfl, rfl⟩
theorem dX2_begin_18 : dk cX2_begin 18 (.getfield 73) 3 21 := ⟨by decide +kernel, rfl⟩
theorem dX2_begin_21 : dk cX2_begin 21 (.invokevirtual 117) 3 24 := ⟨by decide +kernel, rfl⟩
theorem dX2_begin_24 : dla cX2_begin 24 0 25 := Or.inl ⟨0, by decide +kernel, rfl, rfl⟩
theorem dX2_begin_25 : dla cX2_begin 25 0 26 := Or.inl ⟨0, by decide +kernel, rfl, rfl⟩
theorem dX2_begin_26 : dk cX2_begin 26 (.getfield 73) 3 29 := ⟨by decide +kernel, rfl⟩
theorem dX2_begin_29 : dk cX2_begin 29 (.putfield 88) 3 32 := ⟨by decide +kernel, rfl⟩
theorem dX2_begin_32 : dk cX2_begin 32 (.return_) 1 33 := ⟨by decide +kernel, rfl⟩
theorem dX4_find_0 : dq cX4_find 0 0 1 := dq_i (n := 0) (by decide +kernel) (by decide) rfl
theorem dX4_find_1 : dsi cX4_find 1 2 2 := Or.inl ⟨2, by decide +kernel, rfl, rfl⟩
theorem dX4_find_2 : dli cX4_find 2 2 3 := Or.inl ⟨2, by decide +kernel, rfl, rfl⟩
theorem dX4_find_3 : dla cX4_find 3 0 4 := Or.inl ⟨0, by decide +kernel, rfl, rfl⟩
theorem dX4_find_4 : dk cX4_find 4 (.getfield 22) 3 7 := ⟨by decide +kernel, rfl⟩
theorem dX4_find_7 : db cX4_find 7 (.if_icmp .ge 21) 21 10 28 := ⟨by decide +kernel, rfl, by decide⟩
theorem dX4_find_10 : dla cX4_find 10 0 11 := Or.inl ⟨0, by decide +kernel, rfl, rfl⟩
theorem dX4_find_11 : dk cX4_find 11 (.getfield 11) 3 14 := ⟨by decide +kernel, rfl⟩
theorem dX4_find_14 : dli cX4_find 14 2 15 := Or.inl ⟨2, by decide +kernel, rfl, rfl⟩
theorem dX4_find_15 : dk cX4_find 15 (.iaload) 1 16 := ⟨by decide +kernel, rfl⟩
theorem dX4_find_16 : dli cX4_find 16 1 17 := Or.inl ⟨1, by decide +kernel, rfl, rfl⟩
theorem dX4_find_17 : db cX4_find 17 (.if_icmp .ne 5) 5 20 22 := ⟨by decide +kernel, rfl, by decide⟩
theorem dX4_find_20 : dli cX4_find 20 2 21 := Or.inl ⟨2, by decide +kernel, rfl, rfl⟩
theorem dX4_find_21 : dk cX4_find 21 (.ireturn) 1 22 := ⟨by decide +kernel, rfl⟩
theorem dX4_find_22 : dk cX4_find 22 (.iinc 2 1) 3 25 := ⟨by decide +kernel, rfl⟩
theorem dX4_find_25 : db cX4_find 25 (.goto (-23)) (-23) 28 2 := ⟨by decide +kernel, rfl, by decide⟩
theorem dX4_find_28 : dq cX4_find 28 (-1) 29 := dq_i (n := (-1)) (by decide +kernel) (by decide) rfl
theorem dX4_find_29 : dk cX4_find 29 (.ireturn) 1 30 := ⟨by decide +kernel, rfl⟩
theorem dX4_read_0 : dla cX4_read 0 0 1 := Or.inl ⟨0, by decide +kernel, rfl, rfl⟩
theorem dX4_read_1 : dli cX4_read 1 1 2 := Or.inl ⟨1, by decide +kernel, rfl, rfl⟩
theorem dX4_read_2 : dk cX4_read 2 (.invokevirtual 26) 3 5 := ⟨by decide +kernel, rfl⟩
theorem dX4_read_5 : dsi cX4_read 5 2 6 := Or.inl ⟨2, by decide +kernel, rfl, rfl⟩
theorem dX4_read_6 : dli cX4_read 6 2 7 := Or.inl ⟨2, by decide +kernel, rfl, rfl⟩
theorem dX4_read_7 : dq cX4_read 7 (-1) 8 := dq_i (n := (-1)) (by decide +kernel) (by decide) rfl
theorem dX4_read_8 : db cX4_read 8 (.if_icmp .ne 15) 15 11 23 := ⟨by decide +kernel, rfl, by decide⟩
theorem dX4_read_11 : dla cX4_read 11 0 12 := Or.inl ⟨0, by decide +kernel, rfl, rfl⟩
theorem dX4_read_12 : dk cX4_read 12 (.getfield 18) 3 15 := ⟨by decide +kernel, rfl⟩
theorem dX4_read_15 : dk cX4_read 15 (.getfield 30) 3 18 := ⟨by decide +kernel, rfl⟩
theorem dX4_read_18 : dli cX4_read 18 1 19 := Or.inl ⟨1, by decide +kernel, rfl, rfl⟩
theorem dX4_read_19 : dk cX4_read 19 (.iaload) 1 20 := ⟨by decide +kernel, rfl⟩
theorem dX4_read_20 : db cX4_read 20 (.goto 9) 9 23 29 := ⟨by decide +kernel, rfl, by decide⟩
theorem dX4_read_23 : dla cX4_read 23 0 24 := Or.inl ⟨0, by decide +kernel, rfl, rfl⟩
theorem dX4_read_24 : dk cX4_read 24 (.getfield 15) 3 27 := ⟨by decide +kernel, rfl⟩
theorem dX4_read_27 : dli cX4_read 27 2 28 := Or.inl ⟨2, by decide +kernel, rfl, rfl⟩
theorem dX4_read_28 : dk cX4_read 28 (.iaload) 1 29 := ⟨by decide +kernel, rfl⟩
theorem dX4_read_29 : dk cX4_read 29 (.ireturn) 1 30 := ⟨by decide +kernel, rfl⟩
theorem dX1_heard_0 : dla cX1_heard 0 0 1 := Or.inl ⟨0, by decide +kernel, rfl, rfl⟩
theorem dX1_heard_1 : dk cX1_heard 1 (.getfield 10) 3 4 := ⟨by decide +kernel, rfl⟩
theorem dX1_heard_4 : dk cX1_heard 4 (.getfield 94) 3 7 := ⟨by decide +kernel, rfl⟩
theorem dX1_heard_7 : dli cX1_heard 7 1 8 := Or.inl ⟨1, by decide +kernel, rfl, rfl⟩
theorem dX1_heard_8 : dk cX1_heard 8 (.invokevirtual 109) 3 11 := ⟨by decide +kernel, rfl⟩
theorem dX1_heard_11 : db cX1_heard 11 (.ifCond .ne 11) 11 14 22 := ⟨by decide +kernel, rfl, by decide⟩
theorem dX1_heard_14 : dk cX1_heard 14 (.new 81) 3 17 := ⟨by decide +kernel, rfl⟩
theorem dX1_heard_17 : dk cX1_heard 17 (.dup) 1 18 := ⟨by decide +kernel, rfl⟩
theorem dX1_heard_18 : dk cX1_heard 18 (.invokespecial 83) 3 21 := ⟨by decide +kernel, rfl⟩
theorem dX1_heard_21 : dk cX1_heard 21 (.athrow) 1 22 := ⟨by decide +kernel, rfl⟩
theorem dX1_heard_22 : dla cX1_heard 22 0 23 := Or.inl ⟨0, by decide +kernel, rfl, rfl⟩
theorem dX1_heard_23 : dk cX1_heard 23 (.getfield 10) 3 26 := ⟨by decide +kernel, rfl⟩
theorem dX1_heard_26 : dk cX1_heard 26 (.getfield 94) 3 29 := ⟨by decide +kernel, rfl⟩
theorem dX1_heard_29 : dk cX1_heard 29 (.getfield 112) 3 32 := ⟨by decide +kernel, rfl⟩
theorem dX1_heard_32 : dli cX1_heard 32 1 33 := Or.inl ⟨1, by decide +kernel, rfl, rfl⟩
theorem dX1_heard_33 : dq cX1_heard 33 64 35 := dq_b (n := 64) (by decide +kernel) (by decide) rfl
theorem dX1_heard_35 : dk cX1_heard 35 (.irem) 1 36 := ⟨by decide +kernel, rfl⟩
theorem dX1_heard_36 : dk cX1_heard 36 (.iaload) 1 37 := ⟨by decide +kernel, rfl⟩
theorem dX1_heard_37 : dk cX1_heard 37 (.ireturn) 1 38 := ⟨by decide +kernel, rfl⟩
theorem dX13_of_0 : dk cX13_of 0 (.new 8) 3 3 := ⟨by decide +kernel, rfl⟩
theorem dX13_of_3 : dk cX13_of 3 (.dup) 1 4 := ⟨by decide +kernel, rfl⟩
theorem dX13_of_4 : dli cX13_of 4 0 5 := Or.inl ⟨0, by decide +kernel, rfl, rfl⟩
theorem dX13_of_5 : dq cX13_of 5 24 7 := dq_b (n := 24) (by decide +kernel) (by decide) rfl
theorem dX13_of_7 : dk cX13_of 7 (.iushr) 1 8 := ⟨by decide +kernel, rfl⟩
theorem dX13_of_8 : dli cX13_of 8 0 9 := Or.inl ⟨0, by decide +kernel, rfl, rfl⟩
theorem dX13_of_9 : dq cX13_of 9 16 11 := dq_b (n := 16) (by decide +kernel) (by decide) rfl
theorem dX13_of_11 : dk cX13_of 11 (.ishr) 1 12 := ⟨by decide +kernel, rfl⟩
theorem dX13_of_12 : dq cX13_of 12 255 15 := dq_s (n := 255) (by decide +kernel) (by decide) rfl
theorem dX13_of_15 : dk cX13_of 15 (.iand) 1 16 := ⟨by decide +kernel, rfl⟩
theorem dX13_of_16 : dli cX13_of 16 0 17 := Or.inl ⟨0, by decide +kernel, rfl, rfl⟩
theorem dX13_of_17 : dq cX13_of 17 8 19 := dq_b (n := 8) (by decide +kernel) (by decide) rfl
theorem dX13_of_19 : dk cX13_of 19 (.ishr) 1 20 := ⟨by decide +kernel, rfl⟩
theorem dX13_of_20 : dq cX13_of 20 255 23 := dq_s (n := 255) (by decide +kernel) (by decide) rfl
theorem dX13_of_23 : dk cX13_of 23 (.iand) 1 24 := ⟨by decide +kernel, rfl⟩
theorem dX13_of_24 : dli cX13_of 24 0 25 := Or.inl ⟨0, by decide +kernel, rfl, rfl⟩
theorem dX13_of_25 : dq cX13_of 25 255 28 := dq_s (n := 255) (by decide +kernel) (by decide) rfl
theorem dX13_of_28 : dk cX13_of 28 (.iand) 1 29 := ⟨by decide +kernel, rfl⟩
theorem dX13_of_29 : dk cX13_of 29 (.invokespecial 22) 3 32 := ⟨by decide +kernel, rfl⟩
theorem dX13_of_32 : dk cX13_of 32 (.areturn) 1 33 := ⟨by decide +kernel, rfl⟩
theorem dX2_clear_0 : dla cX2_clear 0 0 1 := Or.inl ⟨0, by decide +kernel, rfl, rfl⟩
theorem dX2_clear_1 : dq cX2_clear 1 0 2 := dq_i (n := 0) (by decide +kernel) (by decide) rfl
theorem dX2_clear_2 : dk cX2_clear 2 (.putfield 99) 3 5 := ⟨by decide +kernel, rfl⟩
theorem dX2_clear_5 : dla cX2_clear 5 0 6 := Or.inl ⟨0, by decide +kernel, rfl, rfl⟩
theorem dX2_clear_6 : dk cX2_clear 6 (.getfield 23) 3 9 := ⟨by decide +kernel, rfl⟩
theorem dX2_clear_9 : dq cX2_clear 9 0 10 := dq_i (n := 0) (by decide +kernel) (by decide) rfl
theorem dX2_clear_10 : dk cX2_clear 10 (.putfield 102) 3 13 := ⟨by decide +kernel, rfl⟩
theorem dX2_clear_13 : dq cX2_clear 13 0 14 := dq_i (n := 0) (by decide +kernel) (by decide) rfl
theorem dX2_clear_14 : dsi cX2_clear 14 1 15 := Or.inl ⟨1, by decide +kernel, rfl, rfl⟩
theorem dX2_clear_15 : dli cX2_clear 15 1 16 := Or.inl ⟨1, by decide +kernel, rfl, rfl⟩
theorem dX2_clear_16 : dq cX2_clear 16 8 18 := dq_b (n := 8) (by decide +kernel) (by decide) rfl
theorem dX2_clear_18 : db cX2_clear 18 (.if_icmp .ge 16) 16 21 34 := ⟨by decide +kernel, rfl, by decide⟩
theorem dX2_clear_21 : dla cX2_clear 21 0 22 := Or.inl ⟨0, by decide +kernel, rfl, rfl⟩
theorem dX2_clear_22 : dk cX2_clear 22 (.getfield 41) 3 25 := ⟨by decide +kernel, rfl⟩
theorem dX2_clear_25 : dli cX2_clear 25 1 26 := Or.inl ⟨1, by decide +kernel, rfl, rfl⟩
theorem dX2_clear_26 : dq cX2_clear 26 0 27 := dq_i (n := 0) (by decide +kernel) (by decide) rfl
theorem dX2_clear_27 : dk cX2_clear 27 (.iastore) 1 28 := ⟨by decide +kernel, rfl⟩
theorem dX2_clear_28 : dk cX2_clear 28 (.iinc 1 1) 3 31 := ⟨by decide +kernel, rfl⟩
theorem dX2_clear_31 : db cX2_clear 31 (.goto (-16)) (-16) 34 15 := ⟨by decide +kernel, rfl, by decide⟩
theorem dX2_clear_34 : dk cX2_clear 34 (.return_) 1 35 := ⟨by decide +kernel, rfl⟩
theorem dX2_succeeded_0 : dla cX2_succeeded 0 0 1 := Or.inl ⟨0, by decide +kernel, rfl, rfl⟩
theorem dX2_succeeded_1 : dk cX2_succeeded 1 (.getfield 48) 3 4 := ⟨by decide +kernel, rfl⟩
theorem dX2_succeeded_4 : dla cX2_succeeded 4 0 5 := Or.inl ⟨0, by decide +kernel, rfl, rfl⟩
theorem dX2_succeeded_5 : dk cX2_succeeded 5 (.getfield 105) 3 8 := ⟨by decide +kernel, rfl⟩
theorem dX2_succeeded_8 : dla cX2_succeeded 8 0 9 := Or.inl ⟨0, by decide +kernel, rfl, rfl⟩
theorem dX2_succeeded_9 : dk cX2_succeeded 9 (.getfield 48) 3 12 := ⟨by decide +kernel, rfl⟩
theorem dX2_succeeded_12 : dla cX2_succeeded 12 0 13 := Or.inl ⟨0, by decide +kernel, rfl, rfl⟩
theorem dX2_succeeded_13 : dk cX2_succeeded 13 (.getfield 105) 3 16 := ⟨by decide +kernel, rfl⟩
theorem dX2_succeeded_16 : dk cX2_succeeded 16 (.iaload) 1 17 := ⟨by decide +kernel, rfl⟩
theorem dX2_succeeded_17 : dla cX2_succeeded 17 0 18 := Or.inl ⟨0, by decide +kernel, rfl, rfl⟩
theorem dX2_succeeded_18 : dk cX2_succeeded 18 (.getfield 99) 3 21 := ⟨by decide +kernel, rfl⟩
theorem dX2_succeeded_21 : dk cX2_succeeded 21 (.invokestatic 108) 3 24 := ⟨by decide +kernel, rfl⟩
theorem dX2_succeeded_24 : dk cX2_succeeded 24 (.iastore) 1 25 := ⟨by decide +kernel, rfl⟩
theorem dX2_succeeded_25 : dla cX2_succeeded 25 0 26 := Or.inl ⟨0, by decide +kernel, rfl, rfl⟩
theorem dX2_succeeded_26 : dk cX2_succeeded 26 (.getfield 51) 3 29 := ⟨by decide +kernel, rfl⟩
theorem dX2_succeeded_29 : dla cX2_succeeded 29 0 30 := Or.inl ⟨0, by decide +kernel, rfl, rfl⟩
theorem dX2_succeeded_30 : dk cX2_succeeded 30 (.getfield 105) 3 33 := ⟨by decide +kernel, rfl⟩
theorem dX2_succeeded_33 : dq cX2_succeeded 33 0 34 := dq_i (n := 0) (by decide +kernel) (by decide) rfl
theorem dX2_succeeded_34 : dk cX2_succeeded 34 (.iastore) 1 35 := ⟨by decide +kernel, rfl⟩
theorem dX2_succeeded_35 : dk cX2_succeeded 35 (.return_) 1 36 := ⟨by decide +kernel, rfl⟩
theorem dX1_slot_0 : dla cX1_slot 0 0 1 := Or.inl ⟨0, by decide +kernel, rfl, rfl⟩
theorem dX1_slot_1 : dk cX1_slot 1 (.getfield 10) 3 4 := ⟨by decide +kernel, rfl⟩
theorem dX1_slot_4 : dk cX1_slot 4 (.getfield 16) 3 7 := ⟨by decide +kernel, rfl⟩
theorem dX1_slot_7 : dk cX1_slot 7 (.getfield 20) 3 10 := ⟨by decide +kernel, rfl⟩
theorem dX1_slot_10 : db cX1_slot 10 (.ifCond .ne 11) 11 13 21 := ⟨by decide +kernel, rfl, by decide⟩
theorem dX1_slot_13 : dk cX1_slot 13 (.new 62) 3 16 := ⟨by decide +kernel, rfl⟩
theorem dX1_slot_16 : dk cX1_slot 16 (.dup) 1 17 := ⟨by decide +kernel, rfl⟩
theorem dX1_slot_17 : dk cX1_slot 17 (.invokespecial 64) 3 20 := ⟨by decide +kernel, rfl⟩
theorem dX1_slot_20 : dk cX1_slot 20 (.athrow) 1 21 := ⟨by decide +kernel, rfl⟩
theorem dX1_slot_21 : dli cX1_slot 21 1 22 := Or.inl ⟨1, by decide +kernel, rfl, rfl⟩
theorem dX1_slot_22 : db cX1_slot 22 (.ifCond .lt 10) 10 25 32 := ⟨by decide +kernel, rfl, by decide⟩
theorem dX1_slot_25 : dli cX1_slot 25 1 26 := Or.inl ⟨1, by decide +kernel, rfl, rfl⟩
theorem dX1_slot_26 : dq cX1_slot 26 500 29 := dq_s (n := 500) (by decide +kernel) (by decide) rfl
theorem dX1_slot_29 : db cX1_slot 29 (.if_icmp .le 11) 11 32 40 := ⟨by decide +kernel, rfl, by decide⟩
theorem dX1_slot_32 : dk cX1_slot 32 (.new 65) 3 35 := ⟨by decide +kernel, rfl⟩
theorem dX1_slot_35 : dk cX1_slot 35 (.dup) 1 36 := ⟨by decide +kernel, rfl⟩
theorem dX1_slot_36 : dk cX1_slot 36 (.invokespecial 67) 3 39 := ⟨by decide +kernel, rfl⟩
theorem dX1_slot_39 : dk cX1_slot 39 (.athrow) 1 40 := ⟨by decide +kernel, rfl⟩
theorem dX1_slot_40 : dla cX1_slot 40 0 41 := Or.inl ⟨0, by decide +kernel, rfl, rfl⟩
theorem dX1_slot_41 : dk cX1_slot 41 (.getfield 10) 3 44 := ⟨by decide +kernel, rfl⟩
theorem dX1_slot_44 : dli cX1_slot 44 1 45 := Or.inl ⟨1, by decide +kernel, rfl, rfl⟩
theorem dX1_slot_45 : dk cX1_slot 45 (.invokevirtual 68) 3 48 := ⟨by decide +kernel, rfl⟩
theorem dX1_slot_48 : dk cX1_slot 48 (.ireturn) 1 49 := ⟨by decide +kernel, rfl⟩
theorem dX5_init_0 : dla cX5_init 0 0 1 := Or.inl ⟨0, by decide +kernel, rfl, rfl⟩
theorem dX5_init_1 : dk cX5_init 1 (.invokespecial 3) 3 4 := ⟨by decide +kernel, rfl⟩
theorem dX5_init_4 : dla cX5_init 4 0 5 := Or.inl ⟨0, by decide +kernel, rfl, rfl⟩
theorem dX5_init_5 : dk cX5_init 5 (.new 9) 3 8 := ⟨by decide +kernel, rfl⟩
theorem dX5_init_8 : dk cX5_init 8 (.dup) 1 9 := ⟨by decide +kernel, rfl⟩
theorem dX5_init_9 : dq cX5_init 9 16 11 := dq_b (n := 16) (by decide +kernel) (by decide) rfl
theorem dX5_init_11 : dk cX5_init 11 (.invokespecial 11) 3 14 := ⟨by decide +kernel, rfl⟩
theorem dX5_init_14 : dk cX5_init 14 (.putfield 14) 3 17 := ⟨by decide +kernel, rfl⟩
theorem dX5_init_17 : dq cX5_init 17 0 18 := dq_i (n := 0) (by decide +kernel) (by decide) rfl
theorem dX5_init_18 : dsi cX5_init 18 1 19 := Or.inl ⟨1, by decide +kernel, rfl, rfl⟩
theorem dX5_init_19 : dli cX5_init 19 1 20 := Or.inl ⟨1, by decide +kernel, rfl, rfl⟩
theorem dX5_init_20 : dq cX5_init 20 16 22 := dq_b (n := 16) (by decide +kernel) (by decide) rfl
theorem dX5_init_22 : db cX5_init 22 (.if_icmp .ge 25) 25 25 47 := ⟨by decide +kernel, rfl, by decide⟩
theorem dX5_init_25 : dla cX5_init 25 0 26 := Or.inl ⟨0, by decide +kernel, rfl, rfl⟩
theorem dX5_init_26 : dk cX5_init 26 (.getfield 14) 3 29 := ⟨by decide +kernel, rfl⟩
theorem dX5_init_29 : dk cX5_init 29 (.new 9) 3 32 := ⟨by decide +kernel, rfl⟩
theorem dX5_init_32 : dk cX5_init 32 (.dup) 1 33 := ⟨by decide +kernel, rfl⟩
theorem dX5_init_33 : dq cX5_init 33 4 34 := dq_i (n := 4) (by decide +kernel) (by decide) rfl
theorem dX5_init_34 : dk cX5_init 34 (.invokespecial 11) 3 37 := ⟨by decide +kernel, rfl⟩
theorem dX5_init_37 : dk cX5_init 37 (.invokevirtual 20) 3 40 := ⟨by decide +kernel, rfl⟩
theorem dX5_init_40 : dk cX5_init 40 (.pop) 1 41 := ⟨by decide +kernel, rfl⟩
theorem dX5_init_41 : dk cX5_init 41 (.iinc 1 1) 3 44 := ⟨by decide +kernel, rfl⟩
theorem dX5_init_44 : db cX5_init 44 (.goto (-25)) (-25) 47 19 := ⟨by decide +kernel, rfl, by decide⟩
theorem dX5_init_47 : dk cX5_init 47 (.return_) 1 48 := ⟨by decide +kernel, rfl⟩
theorem dX1_kept_0 : dli cX1_kept 0 1 1 := Or.inl ⟨1, by decide +kernel, rfl, rfl⟩
theorem dX1_kept_1 : db cX1_kept 1 (.ifCond .lt 10) 10 4 11 := ⟨by decide +kernel, rfl, by decide⟩
theorem dX1_kept_4 : dli cX1_kept 4 1 5 := Or.inl ⟨1, by decide +kernel, rfl, rfl⟩
theorem dX1_kept_5 : dq cX1_kept 5 164 8 := dq_s (n := 164) (by decide +kernel) (by decide) rfl
theorem dX1_kept_8 : db cX1_kept 8 (.if_icmp .lt 11) 11 11 19 := ⟨by decide +kernel, rfl, by decide⟩
theorem dX1_kept_11 : dk cX1_kept 11 (.new 81) 3 14 := ⟨by decide +kernel, rfl⟩
theorem dX1_kept_14 : dk cX1_kept 14 (.dup) 1 15 := ⟨by decide +kernel, rfl⟩
theorem dX1_kept_15 : dk cX1_kept 15 (.invokespecial 83) 3 18 := ⟨by decide +kernel, rfl⟩
theorem dX1_kept_18 : dk cX1_kept 18 (.athrow) 1 19 := ⟨by decide +kernel, rfl⟩
theorem dX1_kept_19 : dli cX1_kept 19 2 20 := Or.inl ⟨2, by decide +kernel, rfl, rfl⟩
theorem dX1_kept_20 : db cX1_kept 20 (.ifCond .eq 18) 18 23 38 := ⟨by decide +kernel, rfl, by decide⟩
theorem dX1_kept_23 : dla cX1_kept 23 0 24 := Or.inl ⟨0, by decide +kernel, rfl, rfl⟩
theorem dX1_kept_24 : dk cX1_kept 24 (.getfield 10) 3 27 := ⟨by decide +kernel, rfl⟩
theorem dX1_kept_27 : dk cX1_kept 27 (.getfield 84) 3 30 := ⟨by decide +kernel, rfl⟩
theorem dX1_kept_30 : dk cX1_kept 30 (.getfield 88) 3 33 := ⟨by decide +kernel, rfl⟩
theorem dX1_kept_33 : dli cX1_kept 33 1 34 := Or.inl ⟨1, by decide +kernel, rfl, rfl⟩
theorem dX1_kept_34 : dk cX1_kept 34 (.iaload) 1 35 := ⟨by decide +kernel, rfl⟩
theorem dX1_kept_35 : db cX1_kept 35 (.goto 15) 15 38 50 := ⟨by decide +kernel, rfl, by decide⟩
theorem dX1_kept_38 : dla cX1_kept 38 0 39 := Or.inl ⟨0, by decide +kernel, rfl, rfl⟩
theorem dX1_kept_39 : dk cX1_kept 39 (.getfield 10) 3 42 := ⟨by decide +kernel, rfl⟩
theorem dX1_kept_42 : dk cX1_kept 42 (.getfield 84) 3 45 := ⟨by decide +kernel, rfl⟩
theorem dX1_kept_45 : dk cX1_kept 45 (.getfield 91) 3 48 := ⟨by decide +kernel, rfl⟩
theorem dX1_kept_48 : dli cX1_kept 48 1 49 := Or.inl ⟨1, by decide +kernel, rfl, rfl⟩
theorem dX1_kept_49 : dk cX1_kept 49 (.iaload) 1 50 := ⟨by decide +kernel, rfl⟩
theorem dX1_kept_50 : dk cX1_kept 50 (.ireturn) 1 51 := ⟨by decide +kernel, rfl⟩
theorem dX4_write_0 : dla cX4_write 0 0 1 := Or.inl ⟨0, by decide +kernel, rfl, rfl⟩
theorem dX4_write_1 : dli cX4_write 1 1 2 := Or.inl ⟨1, by decide +kernel, rfl, rfl⟩
theorem dX4_write_2 : dk cX4_write 2 (.invokevirtual 26) 3 5 := ⟨by decide +kernel, rfl⟩
theorem dX4_write_5 : dsi cX4_write 5 3 6 := Or.inl ⟨3, by decide +kernel, rfl, rfl⟩
theorem dX4_write_6 : dli cX4_write 6 3 7 := Or.inl ⟨3, by decide +kernel, rfl, rfl⟩
theorem dX4_write_7 : dq cX4_write 7 (-1) 8 := dq_i (n := (-1)) (by decide +kernel) (by decide) rfl
theorem dX4_write_8 : db cX4_write 8 (.if_icmp .ne 25) 25 11 33 := ⟨by decide +kernel, rfl, by decide⟩
theorem dX4_write_11 : dla cX4_write 11 0 12 := Or.inl ⟨0, by decide +kernel, rfl, rfl⟩
theorem dX4_write_12 : dk cX4_write 12 (.getfield 22) 3 15 := ⟨by decide +kernel, rfl⟩
theorem dX4_write_15 : dsi cX4_write 15 3 16 := Or.inl ⟨3, by decide +kernel, rfl, rfl⟩
theorem dX4_write_16 : dla cX4_write 16 0 17 := Or.inl ⟨0, by decide +kernel, rfl, rfl⟩
theorem dX4_write_17 : dk cX4_write 17 (.getfield 11) 3 20 := ⟨by decide +kernel, rfl⟩
theorem dX4_write_20 : dli cX4_write 20 3 21 := Or.inl ⟨3, by decide +kernel, rfl, rfl⟩
theorem dX4_write_21 : dli cX4_write 21 1 22 := Or.inl ⟨1, by decide +kernel, rfl, rfl⟩
theorem dX4_write_22 : dk cX4_write 22 (.iastore) 1 23 := ⟨by decide +kernel, rfl⟩
theorem dX4_write_23 : dla cX4_write 23 0 24 := Or.inl ⟨0, by decide +kernel, rfl, rfl⟩
theorem dX4_write_24 : dk cX4_write 24 (.dup) 1 25 := ⟨by decide +kernel, rfl⟩
theorem dX4_write_25 : dk cX4_write 25 (.getfield 22) 3 28 := ⟨by decide +kernel, rfl⟩
theorem dX4_write_28 : dq cX4_write 28 1 29 := dq_i (n := 1) (by decide +kernel) (by decide) rfl
theorem dX4_write_29 : dk cX4_write 29 (.iadd) 1 30 := ⟨by decide +kernel, rfl⟩
theorem dX4_write_30 : dk cX4_write 30 (.putfield 22) 3 33 := ⟨by decide +kernel, rfl⟩
theorem dX4_write_33 : dla cX4_write 33 0 34 := Or.inl ⟨0, by decide +kernel, rfl, rfl⟩
theorem dX4_write_34 : dk cX4_write 34 (.getfield 15) 3 37 := ⟨by decide +kernel, rfl⟩
theorem dX4_write_37 : dli cX4_write 37 3 38 := Or.inl ⟨3, by decide +kernel, rfl, rfl⟩
theorem dX4_write_38 : dli cX4_write 38 2 39 := Or.inl ⟨2, by decide +kernel, rfl, rfl⟩
theorem dX4_write_39 : dk cX4_write 39 (.iastore) 1 40 := ⟨by decide +kernel, rfl⟩
theorem dX4_write_40 : dk cX4_write 40 (.return_) 1 41 := ⟨by decide +kernel, rfl⟩
theorem dX1_task_0 : dli cX1_task 0 1 1 := Or.inl ⟨1, by decide +kernel, rfl, rfl⟩
theorem dX1_task_1 : dk cX1_task 1 (.invokestatic 26) 3 4 := ⟨by decide +kernel, rfl⟩
theorem dX1_task_4 : db cX1_task 4 (.ifCond .ne 5) 5 7 9 := ⟨by decide +kernel, rfl, by decide⟩
theorem dX1_task_7 : dq cX1_task 7 (-1) 8 := dq_i (n := (-1)) (by decide +kernel) (by decide) rfl
theorem dX1_task_8 : dk cX1_task 8 (.ireturn) 1 9 := ⟨by decide +kernel, rfl⟩
theorem dX1_task_9 : dli cX1_task 9 2 10 := Or.inl ⟨2, by decide +kernel, rfl, rfl⟩
theorem dX1_task_10_0 : decode cX1_task 10 = .ok (.tableswitch 58 0 2 #[26, 36, 46], 26) := by decide +kernel
theorem dX1_task_10_c0 : dt cX1_task 10 0 36 := ⟨_, _, _, _, _, _, dX1_task_10_0, by decide, by decide, rfl, by decide⟩
theorem dX1_task_10_c1 : dt cX1_task 10 1 46 := ⟨_, _, _, _, _, _, dX1_task_10_0, by decide, by decide, rfl, by decide⟩
theorem dX1_task_10_c2 : dt cX1_task 10 2 56 := ⟨_, _, _, _, _, _, dX1_task_10_0, by decide, by decide, rfl, by decide⟩
theorem dX1_task_10_d : dtd cX1_task 10 0 2 68 := ⟨_, _, _, dX1_task_10_0, by decide⟩
theorem dX1_task_36 : dla cX1_task 36 0 37 := Or.inl ⟨0, by decide +kernel, rfl, rfl⟩
theorem dX1_task_37 : dk cX1_task 37 (.getfield 10) 3 40 := ⟨by decide +kernel, rfl⟩
theorem dX1_task_40 : dk cX1_task 40 (.getfield 158) 3 43 := ⟨by decide +kernel, rfl⟩
theorem dX1_task_43 : dli cX1_task 43 1 44 := Or.inl ⟨1, by decide +kernel, rfl, rfl⟩
theorem dX1_task_44 : dk cX1_task 44 (.iaload) 1 45 := ⟨by decide +kernel, rfl⟩
theorem dX1_task_45 : dk cX1_task 45 (.ireturn) 1 46 := ⟨by decide +kernel, rfl⟩
theorem dX1_task_46 : dla cX1_task 46 0 47 := Or.inl ⟨0, by decide +kernel, rfl, rfl⟩
theorem dX1_task_47 : dk cX1_task 47 (.getfield 10) 3 50 := ⟨by decide +kernel, rfl⟩
theorem dX1_task_50 : dk cX1_task 50 (.getfield 161) 3 53 := ⟨by decide +kernel, rfl⟩
theorem dX1_task_53 : dli cX1_task 53 1 54 := Or.inl ⟨1, by decide +kernel, rfl, rfl⟩
theorem dX1_task_54 : dk cX1_task 54 (.iaload) 1 55 := ⟨by decide +kernel, rfl⟩
theorem dX1_task_55 : dk cX1_task 55 (.ireturn) 1 56 := ⟨by decide +kernel, rfl⟩
theorem dX1_task_56 : dla cX1_task 56 0 57 := Or.inl ⟨0, by decide +kernel, rfl, rfl⟩
theorem dX1_task_57 : dk cX1_task 57 (.getfield 10) 3 60 := ⟨by decide +kernel, rfl⟩
theorem dX1_task_60 : dk cX1_task 60 (.getfield 16) 3 63 := ⟨by decide +kernel, rfl⟩
theorem dX1_task_63 : dli cX1_task 63 1 64 := Or.inl ⟨1, by decide +kernel, rfl, rfl⟩
theorem dX1_task_64 : dk cX1_task 64 (.invokevirtual 30) 3 67 := ⟨by decide +kernel, rfl⟩
theorem dX1_task_67 : dk cX1_task 67 (.ireturn) 1 68 := ⟨by decide +kernel, rfl⟩
theorem dX1_task_68 : dq cX1_task 68 (-1) 69 := dq_i (n := (-1)) (by decide +kernel) (by decide) rfl
theorem dX1_task_69 : dk cX1_task 69 (.ireturn) 1 70 := ⟨by decide +kernel, rfl⟩
theorem dX11_begin_0 : dla cX11_begin 0 0 1 := Or.inl ⟨0, by decide +kernel, rfl, rfl⟩
theorem dX11_begin_1 : dk cX11_begin 1 (.getfield 9) 3 4 := ⟨by decide +kernel, rfl⟩
theorem dX11_begin_4 : dk cX11_begin 4 (.getfield 15) 3 7 := ⟨by decide +kernel, rfl⟩
theorem dX11_begin_7 : dsa cX11_begin 7 2 8 := Or.inl ⟨2, by decide +kernel, rfl, rfl⟩
theorem dX11_begin_8 : dla cX11_begin 8 2 9 := Or.inl ⟨2, by decide +kernel, rfl, rfl⟩
theorem dX11_begin_9 : dq cX11_begin 9 0 10 := dq_i (n := 0) (by decide +kernel) (by decide) rfl
theorem dX11_begin_10 : dli cX11_begin 10 1 11 := Or.inl ⟨1, by decide +kernel, rfl, rfl⟩
theorem dX11_begin_11 : dk cX11_begin 11 (.invokevirtual 23) 3 14 := ⟨by decide +kernel, rfl⟩
theorem dX11_begin_14 : dla cX11_begin 14 2 15 := Or.inl ⟨2, by decide +kernel, rfl, rfl⟩
theorem dX11_begin_15 : dq cX11_begin 15 1 16 := dq_i (n := 1) (by decide +kernel) (by decide) rfl
theorem dX11_begin_16 : dla cX11_begin 16 0 17 := Or.inl ⟨0, by decide +kernel, rfl, rfl⟩
theorem dX11_begin_17 : dk cX11_begin 17 (.getfield 9) 3 20 := ⟨by decide +kernel, rfl⟩
theorem dX11_begin_20 : dk cX11_begin 20 (.getfield 29) 3 23 := ⟨by decide +kernel, rfl⟩
theorem dX11_begin_23 : dk cX11_begin 23 (.getfield 33) 3 26 := ⟨by decide +kernel, rfl⟩
theorem dX11_begin_26 : dq cX11_begin 26 1 27 := dq_i (n := 1) (by decide +kernel) (by decide) rfl
theorem dX11_begin_27 : dk cX11_begin 27 (.iaload) 1 28 := ⟨by decide +kernel, rfl⟩
theorem dX11_begin_28 : dq cX11_begin 28 1 29 := dq_i (n := 1) (by decide +kernel) (by decide) rfl
theorem dX11_begin_29 : dk cX11_begin 29 (.iadd) 1 30 := ⟨by decide +kernel, rfl⟩
theorem dX11_begin_30 : dk cX11_begin 30 (.invokevirtual 23) 3 33 := ⟨by decide +kernel, rfl⟩
theorem dX11_begin_33 : dla cX11_begin 33 0 34 := Or.inl ⟨0, by decide +kernel, rfl, rfl⟩
theorem dX11_begin_34 : dq cX11_begin 34 0 35 := dq_i (n := 0) (by decide +kernel) (by decide) rfl
theorem dX11_begin_35 : dk cX11_begin 35 (.putfield 37) 3 38 := ⟨by decide +kernel, rfl⟩
theorem dX11_begin_38 : dla cX11_begin 38 0 39 := Or.inl ⟨0, by decide +kernel, rfl, rfl⟩
theorem dX11_begin_39 : dk cX11_begin 39 (.getfield 9) 3 42 := ⟨by decide +kernel, rfl⟩
theorem dX11_begin_42 : dla cX11_begin 42 0 43 := Or.inl ⟨0, by decide +kernel, rfl, rfl⟩
theorem dX11_begin_43 : dk cX11_begin 43 (.putfield 41) 3 46 := ⟨by decide +kernel, rfl⟩
theorem dX11_begin_46 : dk cX11_begin 46 (.return_) 1 47 := ⟨by decide +kernel, rfl⟩
theorem dX2_phase_0 : dla cX2_phase 0 0 1 := Or.inl ⟨0, by decide +kernel, rfl, rfl⟩
theorem dX2_phase_1 : dk cX2_phase 1 (.getfield 88) 3 4 := ⟨by decide +kernel, rfl⟩
theorem dX2_phase_4 : db cX2_phase 4 (.ifnonnull 7) 7 7 11 := ⟨by decide +kernel, rfl, by decide⟩
theorem dX2_phase_7 : dq cX2_phase 7 0 8 := dq_i (n := 0) (by decide +kernel) (by decide) rfl
theorem dX2_phase_8 : db cX2_phase 8 (.goto 49) 49 11 57 := ⟨by decide +kernel, rfl, by decide⟩
theorem dX2_phase_11 : dla cX2_phase 11 0 12 := Or.inl ⟨0, by decide +kernel, rfl, rfl⟩
theorem dX2_phase_12 : dk cX2_phase 12 (.getfield 88) 3 15 := ⟨by decide +kernel, rfl⟩
theorem dX2_phase_15 : dla cX2_phase 15 0 16 := Or.inl ⟨0, by decide +kernel, rfl, rfl⟩
theorem dX2_phase_16 : dk cX2_phase 16 (.getfield 59) 3 19 := ⟨by decide +kernel, rfl⟩
theorem dX2_phase_19 : db cX2_phase 19 (.if_acmp .ne 7) 7 22 26 := ⟨by decide +kernel, rfl, by decide⟩
theorem dX2_phase_22 : dq cX2_phase 22 1 23 := dq_i (n := 1) (by decide +kernel) (by decide) rfl
theorem dX2_phase_23 : db cX2_phase 23 (.goto 34) 34 26 57 := ⟨by decide +kernel, rfl, by decide⟩
theorem dX2_phase_26 : dla cX2_phase 26 0 27 := Or.inl ⟨0, by decide +kernel, rfl, rfl⟩
theorem dX2_phase_27 : dk cX2_phase 27 (.getfield 88) 3 30 := ⟨by decide +kernel, rfl⟩
theorem dX2_phase_30 : dla cX2_phase 30 0 31 := Or.inl ⟨0, by decide +kernel, rfl, rfl⟩
theorem dX2_phase_31 : dk cX2_phase 31 (.getfield 66) 3 34 := ⟨by decide +kernel, rfl⟩
theorem dX2_phase_34 : db cX2_phase 34 (.if_acmp .ne 7) 7 37 41 := ⟨by decide +kernel, rfl, by decide⟩
theorem dX2_phase_37 : dq cX2_phase 37 2 38 := dq_i (n := 2) (by decide +kernel) (by decide) rfl
theorem dX2_phase_38 : db cX2_phase 38 (.goto 19) 19 41 57 := ⟨by decide +kernel, rfl, by decide⟩
theorem dX2_phase_41 : dla cX2_phase 41 0 42 := Or.inl ⟨0, by decide +kernel, rfl, rfl⟩
theorem dX2_phase_42 : dk cX2_phase 42 (.getfield 88) 3 45 := ⟨by decide +kernel, rfl⟩
theorem dX2_phase_45 : dla cX2_phase 45 0 46 := Or.inl ⟨0, by decide +kernel, rfl, rfl⟩
theorem dX2_phase_46 : dk cX2_phase 46 (.getfield 73) 3 49 := ⟨by decide +kernel, rfl⟩
theorem dX2_phase_49 : db cX2_phase 49 (.if_acmp .ne 7) 7 52 56 := ⟨by decide +kernel, rfl, by decide⟩
theorem dX2_phase_52 : dq cX2_phase 52 3 53 := dq_i (n := 3) (by decide +kernel) (by decide) rfl
theorem dX2_phase_53 : db cX2_phase 53 (.goto 4) 4 56 57 := ⟨by decide +kernel, rfl, by decide⟩
theorem dX2_phase_56 : dq cX2_phase 56 4 57 := dq_i (n := 4) (by decide +kernel) (by decide) rfl
theorem dX2_phase_57 : dk cX2_phase 57 (.ireturn) 1 58 := ⟨by decide +kernel, rfl⟩
