/-! decode rows, in this proof's own forms -/
set_option maxRecDepth 100000
theorem dX12_thrown_0 : dla cX12_thrown 0 0 1 := Or.inl ⟨0, by decide +kernel, rfl, rfl⟩
theorem dX12_thrown_1 : dk cX12_thrown 1 (.getfield 56) 3 4 := ⟨by decide +kernel, rfl⟩
theorem dX12_thrown_4 : dk cX12_thrown 4 (.ireturn) 1 5 := ⟨by decide +kernel, rfl⟩
theorem dX12_op_0 : dli cX12_op 0 0 1 := Or.inl ⟨0, by decide +kernel, rfl, rfl⟩
theorem dX12_op_1 : dq cX12_op 1 24 3 := dq_b (n := 24) (by decide +kernel) (by decide) rfl
theorem dX12_op_3 : dk cX12_op 3 (.iushr) 1 4 := ⟨by decide +kernel, rfl⟩
theorem dX12_op_4 : dk cX12_op 4 (.ireturn) 1 5 := ⟨by decide +kernel, rfl⟩
theorem dX12_c_0 : dli cX12_c 0 0 1 := Or.inl ⟨0, by decide +kernel, rfl, rfl⟩
theorem dX12_c_1 : dq cX12_c 1 255 4 := dq_s (n := 255) (by decide +kernel) (by decide) rfl
theorem dX12_c_4 : dk cX12_c 4 (.iand) 1 5 := ⟨by decide +kernel, rfl⟩
theorem dX12_c_5 : dk cX12_c 5 (.ireturn) 1 6 := ⟨by decide +kernel, rfl⟩
theorem dX12_raise_0 : dla cX12_raise 0 0 1 := Or.inl ⟨0, by decide +kernel, rfl, rfl⟩
theorem dX12_raise_1 : dli cX12_raise 1 1 2 := Or.inl ⟨1, by decide +kernel, rfl, rfl⟩
theorem dX12_raise_2 : dk cX12_raise 2 (.putfield 56) 3 5 := ⟨by decide +kernel, rfl⟩
theorem dX12_raise_5 : dq cX12_raise 5 0 6 := dq_i (n := 0) (by decide +kernel) (by decide) rfl
theorem dX12_raise_6 : dk cX12_raise 6 (.ireturn) 1 7 := ⟨by decide +kernel, rfl⟩
theorem dX12_a_0 : dli cX12_a 0 0 1 := Or.inl ⟨0, by decide +kernel, rfl, rfl⟩
theorem dX12_a_1 : dq cX12_a 1 16 3 := dq_b (n := 16) (by decide +kernel) (by decide) rfl
theorem dX12_a_3 : dk cX12_a 3 (.iushr) 1 4 := ⟨by decide +kernel, rfl⟩
theorem dX12_a_4 : dq cX12_a 4 255 7 := dq_s (n := 255) (by decide +kernel) (by decide) rfl
theorem dX12_a_7 : dk cX12_a 7 (.iand) 1 8 := ⟨by decide +kernel, rfl⟩
theorem dX12_a_8 : dk cX12_a 8 (.ireturn) 1 9 := ⟨by decide +kernel, rfl⟩
theorem dX12_b_0 : dli cX12_b 0 0 1 := Or.inl ⟨0, by decide +kernel, rfl, rfl⟩
theorem dX12_b_1 : dq cX12_b 1 8 3 := dq_b (n := 8) (by decide +kernel) (by decide) rfl
theorem dX12_b_3 : dk cX12_b 3 (.iushr) 1 4 := ⟨by decide +kernel, rfl⟩
theorem dX12_b_4 : dq cX12_b 4 255 7 := dq_s (n := 255) (by decide +kernel) (by decide) rfl
theorem dX12_b_7 : dk cX12_b 7 (.iand) 1 8 := ⟨by decide +kernel, rfl⟩
theorem dX12_b_8 : dk cX12_b 8 (.ireturn) 1 9 := ⟨by decide +kernel, rfl⟩
theorem dX12_beginAttempt_0 : dla cX12_beginAttempt 0 0 1 := Or.inl ⟨0, by decide +kernel, rfl, rfl⟩
theorem dX12_beginAttempt_1 : dk cX12_beginAttempt 1 (.invokevirtual 99) 3 4 := ⟨by decide +kernel, rfl⟩
theorem dX12_beginAttempt_4 : dla cX12_beginAttempt 4 0 5 := Or.inl ⟨0, by decide +kernel, rfl, rfl⟩
theorem dX12_beginAttempt_5 : dq cX12_beginAttempt 5 3 6 := dq_i (n := 3) (by decide +kernel) (by decide) rfl
theorem dX12_beginAttempt_6 : dk cX12_beginAttempt 6 (.putfield 93) 3 9 := ⟨by decide +kernel, rfl⟩
theorem dX12_beginAttempt_9 : dk cX12_beginAttempt 9 (.return_) 1 10 := ⟨by decide +kernel, rfl⟩
theorem dX12_isTask_0 : dli cX12_isTask 0 0 1 := Or.inl ⟨0, by decide +kernel, rfl, rfl⟩
theorem dX12_isTask_1 : db cX12_isTask 1 (.ifCond .lt 13) 13 4 14 := ⟨by decide +kernel, rfl, by decide⟩
theorem dX12_isTask_4 : dli cX12_isTask 4 0 5 := Or.inl ⟨0, by decide +kernel, rfl, rfl⟩
theorem dX12_isTask_5 : dq cX12_isTask 5 16 7 := dq_b (n := 16) (by decide +kernel) (by decide) rfl
theorem dX12_isTask_7 : db cX12_isTask 7 (.if_icmp .ge 7) 7 10 14 := ⟨by decide +kernel, rfl, by decide⟩
theorem dX12_isTask_10 : dq cX12_isTask 10 1 11 := dq_i (n := 1) (by decide +kernel) (by decide) rfl
theorem dX12_isTask_11 : db cX12_isTask 11 (.goto 4) 4 14 15 := ⟨by decide +kernel, rfl, by decide⟩
theorem dX12_isTask_14 : dq cX12_isTask 14 0 15 := dq_i (n := 0) (by decide +kernel) (by decide) rfl
theorem dX12_isTask_15 : dk cX12_isTask 15 (.ireturn) 1 16 := ⟨by decide +kernel, rfl⟩
theorem dX12_cost_0 : dli cX12_cost 0 0 1 := Or.inl ⟨0, by decide +kernel, rfl, rfl⟩
theorem dX12_cost_1_0 : decode cX12_cost 1 = .ok (.tableswitch 72 4 15 #[63, 72, 72, 72, 65, 65, 65, 65, 67, 67, 69, 67], 63) := by decide +kernel
theorem dX12_cost_1_c4 : dt cX12_cost 1 4 64 := ⟨_, _, _, _, _, _, dX12_cost_1_0, by decide, by decide, rfl, by decide⟩
theorem dX12_cost_1_c5 : dt cX12_cost 1 5 73 := ⟨_, _, _, _, _, _, dX12_cost_1_0, by decide, by decide, rfl, by decide⟩
theorem dX12_cost_1_c6 : dt cX12_cost 1 6 73 := ⟨_, _, _, _, _, _, dX12_cost_1_0, by decide, by decide, rfl, by decide⟩
theorem dX12_cost_1_c7 : dt cX12_cost 1 7 73 := ⟨_, _, _, _, _, _, dX12_cost_1_0, by decide, by decide, rfl, by decide⟩
theorem dX12_cost_1_c8 : dt cX12_cost 1 8 66 := ⟨_, _, _, _, _, _, dX12_cost_1_0, by decide, by decide, rfl, by decide⟩
theorem dX12_cost_1_c9 : dt cX12_cost 1 9 66 := ⟨_, _, _, _, _, _, dX12_cost_1_0, by decide, by decide, rfl, by decide⟩
theorem dX12_cost_1_c10 : dt cX12_cost 1 10 66 := ⟨_, _, _, _, _, _, dX12_cost_1_0, by decide, by decide, rfl, by decide⟩
theorem dX12_cost_1_c11 : dt cX12_cost 1 11 66 := ⟨_, _, _, _, _, _, dX12_cost_1_0, by decide, by decide, rfl, by decide⟩
theorem dX12_cost_1_c12 : dt cX12_cost 1 12 68 := ⟨_, _, _, _, _, _, dX12_cost_1_0, by decide, by decide, rfl, by decide⟩
theorem dX12_cost_1_c13 : dt cX12_cost 1 13 68 := ⟨_, _, _, _, _, _, dX12_cost_1_0, by decide, by decide, rfl, by decide⟩
theorem dX12_cost_1_c14 : dt cX12_cost 1 14 70 := ⟨_, _, _, _, _, _, dX12_cost_1_0, by decide, by decide, rfl, by decide⟩
theorem dX12_cost_1_c15 : dt cX12_cost 1 15 68 := ⟨_, _, _, _, _, _, dX12_cost_1_0, by decide, by decide, rfl, by decide⟩
theorem dX12_cost_1_d : dtd cX12_cost 1 4 15 73 := ⟨_, _, _, dX12_cost_1_0, by decide⟩
theorem dX12_cost_64 : dq cX12_cost 64 4 65 := dq_i (n := 4) (by decide +kernel) (by decide) rfl
theorem dX12_cost_65 : dk cX12_cost 65 (.ireturn) 1 66 := ⟨by decide +kernel, rfl⟩
theorem dX12_cost_66 : dq cX12_cost 66 2 67 := dq_i (n := 2) (by decide +kernel) (by decide) rfl
theorem dX12_cost_67 : dk cX12_cost 67 (.ireturn) 1 68 := ⟨by decide +kernel, rfl⟩
theorem dX12_cost_68 : dq cX12_cost 68 3 69 := dq_i (n := 3) (by decide +kernel) (by decide) rfl
theorem dX12_cost_69 : dk cX12_cost 69 (.ireturn) 1 70 := ⟨by decide +kernel, rfl⟩
theorem dX12_cost_70 : dq cX12_cost 70 10 72 := dq_b (n := 10) (by decide +kernel) (by decide) rfl
theorem dX12_cost_72 : dk cX12_cost 72 (.ireturn) 1 73 := ⟨by decide +kernel, rfl⟩
theorem dX12_cost_73 : dq cX12_cost 73 1 74 := dq_i (n := 1) (by decide +kernel) (by decide) rfl
theorem dX12_cost_74 : dk cX12_cost 74 (.ireturn) 1 75 := ⟨by decide +kernel, rfl⟩
theorem dX12_write_0 : dla cX12_write 0 0 1 := Or.inl ⟨0, by decide +kernel, rfl, rfl⟩
theorem dX12_write_1 : dk cX12_write 1 (.getfield 16) 3 4 := ⟨by decide +kernel, rfl⟩
theorem dX12_write_4 : dli cX12_write 4 1 5 := Or.inl ⟨1, by decide +kernel, rfl, rfl⟩
theorem dX12_write_5 : dli cX12_write 5 2 6 := Or.inl ⟨2, by decide +kernel, rfl, rfl⟩
theorem dX12_write_6 : dk cX12_write 6 (.iastore) 1 7 := ⟨by decide +kernel, rfl⟩
theorem dX12_write_7 : dla cX12_write 7 0 8 := Or.inl ⟨0, by decide +kernel, rfl, rfl⟩
theorem dX12_write_8 : dk cX12_write 8 (.getfield 19) 3 11 := ⟨by decide +kernel, rfl⟩
theorem dX12_write_11 : dli cX12_write 11 1 12 := Or.inl ⟨1, by decide +kernel, rfl, rfl⟩
theorem dX12_write_12 : dk cX12_write 12 (.dup2) 1 13 := ⟨by decide +kernel, rfl⟩
theorem dX12_write_13 : dk cX12_write 13 (.iaload) 1 14 := ⟨by decide +kernel, rfl⟩
theorem dX12_write_14 : dq cX12_write 14 1 15 := dq_i (n := 1) (by decide +kernel) (by decide) rfl
theorem dX12_write_15 : dk cX12_write 15 (.iadd) 1 16 := ⟨by decide +kernel, rfl⟩
theorem dX12_write_16 : dk cX12_write 16 (.iastore) 1 17 := ⟨by decide +kernel, rfl⟩
theorem dX12_write_17 : dk cX12_write 17 (.return_) 1 18 := ⟨by decide +kernel, rfl⟩
theorem dX12_cut_0 : dla cX12_cut 0 0 1 := Or.inl ⟨0, by decide +kernel, rfl, rfl⟩
theorem dX12_cut_1 : dq cX12_cut 1 0 2 := dq_i (n := 0) (by decide +kernel) (by decide) rfl
theorem dX12_cut_2 : dk cX12_cut 2 (.putfield 56) 3 5 := ⟨by decide +kernel, rfl⟩
theorem dX12_cut_5 : dli cX12_cut 5 1 6 := Or.inl ⟨1, by decide +kernel, rfl, rfl⟩
theorem dX12_cut_6 : db cX12_cut 6 (.ifCond .lt 10) 10 9 16 := ⟨by decide +kernel, rfl, by decide⟩
theorem dX12_cut_9 : dli cX12_cut 9 1 10 := Or.inl ⟨1, by decide +kernel, rfl, rfl⟩
theorem dX12_cut_10 : dq cX12_cut 10 10000 13 := dq_s (n := 10000) (by decide +kernel) (by decide) rfl
theorem dX12_cut_13 : db cX12_cut 13 (.if_icmp .le 5) 5 16 18 := ⟨by decide +kernel, rfl, by decide⟩
theorem dX12_cut_16 : dq cX12_cut 16 0 17 := dq_i (n := 0) (by decide +kernel) (by decide) rfl
theorem dX12_cut_17 : dk cX12_cut 17 (.ireturn) 1 18 := ⟨by decide +kernel, rfl⟩
theorem dX12_cut_18 : dla cX12_cut 18 0 19 := Or.inl ⟨0, by decide +kernel, rfl, rfl⟩
theorem dX12_cut_19 : dli cX12_cut 19 1 20 := Or.inl ⟨1, by decide +kernel, rfl, rfl⟩
theorem dX12_cut_20 : dk cX12_cut 20 (.putfield 179) 3 23 := ⟨by decide +kernel, rfl⟩
theorem dX12_cut_23 : dq cX12_cut 23 1 24 := dq_i (n := 1) (by decide +kernel) (by decide) rfl
theorem dX12_cut_24 : dk cX12_cut 24 (.ireturn) 1 25 := ⟨by decide +kernel, rfl⟩
theorem dX12_see_0 : dla cX12_see 0 0 1 := Or.inl ⟨0, by decide +kernel, rfl, rfl⟩
theorem dX12_see_1 : dli cX12_see 1 1 2 := Or.inl ⟨1, by decide +kernel, rfl, rfl⟩
theorem dX12_see_2 : dk cX12_see 2 (.invokevirtual 87) 3 5 := ⟨by decide +kernel, rfl⟩
theorem dX12_see_5 : dsi cX12_see 5 2 6 := Or.inl ⟨2, by decide +kernel, rfl, rfl⟩
theorem dX12_see_6 : dli cX12_see 6 2 7 := Or.inl ⟨2, by decide +kernel, rfl, rfl⟩
theorem dX12_see_7 : dq cX12_see 7 (-1) 8 := dq_i (n := (-1)) (by decide +kernel) (by decide) rfl
theorem dX12_see_8 : db cX12_see 8 (.if_icmp .ne 12) 12 11 20 := ⟨by decide +kernel, rfl, by decide⟩
theorem dX12_see_11 : dla cX12_see 11 0 12 := Or.inl ⟨0, by decide +kernel, rfl, rfl⟩
theorem dX12_see_12 : dk cX12_see 12 (.getfield 16) 3 15 := ⟨by decide +kernel, rfl⟩
theorem dX12_see_15 : dli cX12_see 15 1 16 := Or.inl ⟨1, by decide +kernel, rfl, rfl⟩
theorem dX12_see_16 : dk cX12_see 16 (.iaload) 1 17 := ⟨by decide +kernel, rfl⟩
theorem dX12_see_17 : db cX12_see 17 (.goto 9) 9 20 26 := ⟨by decide +kernel, rfl, by decide⟩
theorem dX12_see_20 : dla cX12_see 20 0 21 := Or.inl ⟨0, by decide +kernel, rfl, rfl⟩
theorem dX12_see_21 : dk cX12_see 21 (.getfield 41) 3 24 := ⟨by decide +kernel, rfl⟩
theorem dX12_see_24 : dli cX12_see 24 2 25 := Or.inl ⟨2, by decide +kernel, rfl, rfl⟩
theorem dX12_see_25 : dk cX12_see 25 (.iaload) 1 26 := ⟨by decide +kernel, rfl⟩
theorem dX12_see_26 : dk cX12_see 26 (.ireturn) 1 27 := ⟨by decide +kernel, rfl⟩
theorem dX12_sense_0 : dla cX12_sense 0 0 1 := Or.inl ⟨0, by decide +kernel, rfl, rfl⟩
theorem dX12_sense_1 : dq cX12_sense 1 0 2 := dq_i (n := 0) (by decide +kernel) (by decide) rfl
theorem dX12_sense_2 : dk cX12_sense 2 (.putfield 56) 3 5 := ⟨by decide +kernel, rfl⟩
theorem dX12_sense_5 : dli cX12_sense 5 1 6 := Or.inl ⟨1, by decide +kernel, rfl, rfl⟩
theorem dX12_sense_6 : db cX12_sense 6 (.ifCond .lt 8) 8 9 14 := ⟨by decide +kernel, rfl, by decide⟩
theorem dX12_sense_9 : dli cX12_sense 9 1 10 := Or.inl ⟨1, by decide +kernel, rfl, rfl⟩
theorem dX12_sense_10 : dq cX12_sense 10 3 11 := dq_i (n := 3) (by decide +kernel) (by decide) rfl
theorem dX12_sense_11 : db cX12_sense 11 (.if_icmp .le 5) 5 14 16 := ⟨by decide +kernel, rfl, by decide⟩
theorem dX12_sense_14 : dq cX12_sense 14 0 15 := dq_i (n := 0) (by decide +kernel) (by decide) rfl
theorem dX12_sense_15 : dk cX12_sense 15 (.ireturn) 1 16 := ⟨by decide +kernel, rfl⟩
theorem dX12_sense_16 : dla cX12_sense 16 0 17 := Or.inl ⟨0, by decide +kernel, rfl, rfl⟩
theorem dX12_sense_17 : dk cX12_sense 17 (.getfield 22) 3 20 := ⟨by decide +kernel, rfl⟩
theorem dX12_sense_20 : dli cX12_sense 20 1 21 := Or.inl ⟨1, by decide +kernel, rfl, rfl⟩
theorem dX12_sense_21 : dli cX12_sense 21 2 22 := Or.inl ⟨2, by decide +kernel, rfl, rfl⟩
theorem dX12_sense_22 : dk cX12_sense 22 (.iastore) 1 23 := ⟨by decide +kernel, rfl⟩
theorem dX12_sense_23 : dq cX12_sense 23 1 24 := dq_i (n := 1) (by decide +kernel) (by decide) rfl
theorem dX12_sense_24 : dk cX12_sense 24 (.ireturn) 1 25 := ⟨by decide +kernel, rfl⟩
theorem dX12_place_0 : dq cX12_place 0 0 1 := dq_i (n := 0) (by decide +kernel) (by decide) rfl
theorem dX12_place_1 : dsi cX12_place 1 2 2 := Or.inl ⟨2, by decide +kernel, rfl, rfl⟩
theorem dX12_place_2 : dli cX12_place 2 2 3 := Or.inl ⟨2, by decide +kernel, rfl, rfl⟩
theorem dX12_place_3 : dla cX12_place 3 0 4 := Or.inl ⟨0, by decide +kernel, rfl, rfl⟩
theorem dX12_place_4 : dk cX12_place 4 (.getfield 84) 3 7 := ⟨by decide +kernel, rfl⟩
theorem dX12_place_7 : db cX12_place 7 (.if_icmp .ge 21) 21 10 28 := ⟨by decide +kernel, rfl, by decide⟩
theorem dX12_place_10 : dla cX12_place 10 0 11 := Or.inl ⟨0, by decide +kernel, rfl, rfl⟩
theorem dX12_place_11 : dk cX12_place 11 (.getfield 38) 3 14 := ⟨by decide +kernel, rfl⟩
theorem dX12_place_14 : dli cX12_place 14 2 15 := Or.inl ⟨2, by decide +kernel, rfl, rfl⟩
theorem dX12_place_15 : dk cX12_place 15 (.iaload) 1 16 := ⟨by decide +kernel, rfl⟩
theorem dX12_place_16 : dli cX12_place 16 1 17 := Or.inl ⟨1, by decide +kernel, rfl, rfl⟩
theorem dX12_place_17 : db cX12_place 17 (.if_icmp .ne 5) 5 20 22 := ⟨by decide +kernel, rfl, by decide⟩
theorem dX12_place_20 : dli cX12_place 20 2 21 := Or.inl ⟨2, by decide +kernel, rfl, rfl⟩
theorem dX12_place_21 : dk cX12_place 21 (.ireturn) 1 22 := ⟨by decide +kernel, rfl⟩
theorem dX12_place_22 : dk cX12_place 22 (.iinc 2 1) 3 25 := ⟨by decide +kernel, rfl⟩
theorem dX12_place_25 : db cX12_place 25 (.goto (-23)) (-23) 28 2 := ⟨by decide +kernel, rfl, by decide⟩
theorem dX12_place_28 : dq cX12_place 28 (-1) 29 := dq_i (n := (-1)) (by decide +kernel) (by decide) rfl
theorem dX12_place_29 : dk cX12_place 29 (.ireturn) 1 30 := ⟨by decide +kernel, rfl⟩
theorem dX12_register_0 : dla cX12_register 0 0 1 := Or.inl ⟨0, by decide +kernel, rfl, rfl⟩
theorem dX12_register_1 : dq cX12_register 1 0 2 := dq_i (n := 0) (by decide +kernel) (by decide) rfl
theorem dX12_register_2 : dk cX12_register 2 (.putfield 56) 3 5 := ⟨by decide +kernel, rfl⟩
theorem dX12_register_5 : dla cX12_register 5 0 6 := Or.inl ⟨0, by decide +kernel, rfl, rfl⟩
theorem dX12_register_6 : dk cX12_register 6 (.getfield 93) 3 9 := ⟨by decide +kernel, rfl⟩
theorem dX12_register_9 : dq cX12_register 9 3 10 := dq_i (n := 3) (by decide +kernel) (by decide) rfl
theorem dX12_register_10 : db cX12_register 10 (.if_icmp .eq 11) 11 13 21 := ⟨by decide +kernel, rfl, by decide⟩
theorem dX12_register_13 : dla cX12_register 13 0 14 := Or.inl ⟨0, by decide +kernel, rfl, rfl⟩
theorem dX12_register_14 : dk cX12_register 14 (.getfield 93) 3 17 := ⟨by decide +kernel, rfl⟩
theorem dX12_register_17 : dq cX12_register 17 4 18 := dq_i (n := 4) (by decide +kernel) (by decide) rfl
theorem dX12_register_18 : db cX12_register 18 (.if_icmp .ne 22) 22 21 40 := ⟨by decide +kernel, rfl, by decide⟩
theorem dX12_register_21 : dli cX12_register 21 1 22 := Or.inl ⟨1, by decide +kernel, rfl, rfl⟩
theorem dX12_register_22 : db cX12_register 22 (.ifCond .lt 18) 18 25 40 := ⟨by decide +kernel, rfl, by decide⟩
theorem dX12_register_25 : dli cX12_register 25 1 26 := Or.inl ⟨1, by decide +kernel, rfl, rfl⟩
theorem dX12_register_26 : dq cX12_register 26 8 28 := dq_b (n := 8) (by decide +kernel) (by decide) rfl
theorem dX12_register_28 : db cX12_register 28 (.if_icmp .ge 12) 12 31 40 := ⟨by decide +kernel, rfl, by decide⟩
theorem dX12_register_31 : dla cX12_register 31 0 32 := Or.inl ⟨0, by decide +kernel, rfl, rfl⟩
theorem dX12_register_32 : dk cX12_register 32 (.getfield 35) 3 35 := ⟨by decide +kernel, rfl⟩
theorem dX12_register_35 : dli cX12_register 35 1 36 := Or.inl ⟨1, by decide +kernel, rfl, rfl⟩
theorem dX12_register_36 : dk cX12_register 36 (.iaload) 1 37 := ⟨by decide +kernel, rfl⟩
theorem dX12_register_37 : db cX12_register 37 (.goto 4) 4 40 41 := ⟨by decide +kernel, rfl, by decide⟩
theorem dX12_register_40 : dq cX12_register 40 0 41 := dq_i (n := 0) (by decide +kernel) (by decide) rfl
theorem dX12_register_41 : dk cX12_register 41 (.ireturn) 1 42 := ⟨by decide +kernel, rfl⟩
theorem dX12_kept_0 : dli cX12_kept 0 1 1 := Or.inl ⟨1, by decide +kernel, rfl, rfl⟩
theorem dX12_kept_1 : db cX12_kept 1 (.ifCond .lt 10) 10 4 11 := ⟨by decide +kernel, rfl, by decide⟩
theorem dX12_kept_4 : dli cX12_kept 4 1 5 := Or.inl ⟨1, by decide +kernel, rfl, rfl⟩
theorem dX12_kept_5 : dq cX12_kept 5 164 8 := dq_s (n := 164) (by decide +kernel) (by decide) rfl
theorem dX12_kept_8 : db cX12_kept 8 (.if_icmp .lt 9) 9 11 17 := ⟨by decide +kernel, rfl, by decide⟩
theorem dX12_kept_11 : dla cX12_kept 11 0 12 := Or.inl ⟨0, by decide +kernel, rfl, rfl⟩
theorem dX12_kept_12 : dq cX12_kept 12 1 13 := dq_i (n := 1) (by decide +kernel) (by decide) rfl
theorem dX12_kept_13 : dk cX12_kept 13 (.invokevirtual 186) 3 16 := ⟨by decide +kernel, rfl⟩
theorem dX12_kept_16 : dk cX12_kept 16 (.ireturn) 1 17 := ⟨by decide +kernel, rfl⟩
theorem dX12_kept_17 : dla cX12_kept 17 0 18 := Or.inl ⟨0, by decide +kernel, rfl, rfl⟩
theorem dX12_kept_18 : dq cX12_kept 18 0 19 := dq_i (n := 0) (by decide +kernel) (by decide) rfl
theorem dX12_kept_19 : dk cX12_kept 19 (.putfield 56) 3 22 := ⟨by decide +kernel, rfl⟩
theorem dX12_kept_22 : dli cX12_kept 22 2 23 := Or.inl ⟨2, by decide +kernel, rfl, rfl⟩
theorem dX12_kept_23 : db cX12_kept 23 (.ifCond .eq 12) 12 26 35 := ⟨by decide +kernel, rfl, by decide⟩
theorem dX12_kept_26 : dla cX12_kept 26 0 27 := Or.inl ⟨0, by decide +kernel, rfl, rfl⟩
theorem dX12_kept_27 : dk cX12_kept 27 (.getfield 19) 3 30 := ⟨by decide +kernel, rfl⟩
theorem dX12_kept_30 : dli cX12_kept 30 1 31 := Or.inl ⟨1, by decide +kernel, rfl, rfl⟩
theorem dX12_kept_31 : dk cX12_kept 31 (.iaload) 1 32 := ⟨by decide +kernel, rfl⟩
theorem dX12_kept_32 : db cX12_kept 32 (.goto 9) 9 35 41 := ⟨by decide +kernel, rfl, by decide⟩
theorem dX12_kept_35 : dla cX12_kept 35 0 36 := Or.inl ⟨0, by decide +kernel, rfl, rfl⟩
theorem dX12_kept_36 : dk cX12_kept 36 (.getfield 16) 3 39 := ⟨by decide +kernel, rfl⟩
theorem dX12_kept_39 : dli cX12_kept 39 1 40 := Or.inl ⟨1, by decide +kernel, rfl, rfl⟩
theorem dX12_kept_40 : dk cX12_kept 40 (.iaload) 1 41 := ⟨by decide +kernel, rfl⟩
theorem dX12_kept_41 : dk cX12_kept 41 (.ireturn) 1 42 := ⟨by decide +kernel, rfl⟩
theorem dX12_heard_0 : dli cX12_heard 0 1 1 := Or.inl ⟨1, by decide +kernel, rfl, rfl⟩
theorem dX12_heard_1 : db cX12_heard 1 (.ifCond .lt 16) 16 4 17 := ⟨by decide +kernel, rfl, by decide⟩
theorem dX12_heard_4 : dla cX12_heard 4 0 5 := Or.inl ⟨0, by decide +kernel, rfl, rfl⟩
theorem dX12_heard_5 : dk cX12_heard 5 (.getfield 50) 3 8 := ⟨by decide +kernel, rfl⟩
theorem dX12_heard_8 : dli cX12_heard 8 1 9 := Or.inl ⟨1, by decide +kernel, rfl, rfl⟩
theorem dX12_heard_9 : dq cX12_heard 9 64 11 := dq_b (n := 64) (by decide +kernel) (by decide) rfl
theorem dX12_heard_11 : dk cX12_heard 11 (.irem) 1 12 := ⟨by decide +kernel, rfl⟩
theorem dX12_heard_12 : dk cX12_heard 12 (.iaload) 1 13 := ⟨by decide +kernel, rfl⟩
theorem dX12_heard_13 : dli cX12_heard 13 1 14 := Or.inl ⟨1, by decide +kernel, rfl, rfl⟩
theorem dX12_heard_14 : db cX12_heard 14 (.if_icmp .eq 9) 9 17 23 := ⟨by decide +kernel, rfl, by decide⟩
theorem dX12_heard_17 : dla cX12_heard 17 0 18 := Or.inl ⟨0, by decide +kernel, rfl, rfl⟩
theorem dX12_heard_18 : dq cX12_heard 18 1 19 := dq_i (n := 1) (by decide +kernel) (by decide) rfl
theorem dX12_heard_19 : dk cX12_heard 19 (.invokevirtual 186) 3 22 := ⟨by decide +kernel, rfl⟩
theorem dX12_heard_22 : dk cX12_heard 22 (.ireturn) 1 23 := ⟨by decide +kernel, rfl⟩
theorem dX12_heard_23 : dla cX12_heard 23 0 24 := Or.inl ⟨0, by decide +kernel, rfl, rfl⟩
theorem dX12_heard_24 : dq cX12_heard 24 0 25 := dq_i (n := 0) (by decide +kernel) (by decide) rfl
theorem dX12_heard_25 : dk cX12_heard 25 (.putfield 56) 3 28 := ⟨by decide +kernel, rfl⟩
theorem dX12_heard_28 : dla cX12_heard 28 0 29 := Or.inl ⟨0, by decide +kernel, rfl, rfl⟩
theorem dX12_heard_29 : dk cX12_heard 29 (.getfield 53) 3 32 := ⟨by decide +kernel, rfl⟩
theorem dX12_heard_32 : dli cX12_heard 32 1 33 := Or.inl ⟨1, by decide +kernel, rfl, rfl⟩
theorem dX12_heard_33 : dq cX12_heard 33 64 35 := dq_b (n := 64) (by decide +kernel) (by decide) rfl
theorem dX12_heard_35 : dk cX12_heard 35 (.irem) 1 36 := ⟨by decide +kernel, rfl⟩
theorem dX12_heard_36 : dk cX12_heard 36 (.iaload) 1 37 := ⟨by decide +kernel, rfl⟩
theorem dX12_heard_37 : dk cX12_heard 37 (.ireturn) 1 38 := ⟨by decide +kernel, rfl⟩
theorem dX12_put_0 : dla cX12_put 0 0 1 := Or.inl ⟨0, by decide +kernel, rfl, rfl⟩
theorem dX12_put_1 : dli cX12_put 1 1 2 := Or.inl ⟨1, by decide +kernel, rfl, rfl⟩
theorem dX12_put_2 : dk cX12_put 2 (.invokevirtual 87) 3 5 := ⟨by decide +kernel, rfl⟩
theorem dX12_put_5 : dsi cX12_put 5 3 6 := Or.inl ⟨3, by decide +kernel, rfl, rfl⟩
theorem dX12_put_6 : dli cX12_put 6 3 7 := Or.inl ⟨3, by decide +kernel, rfl, rfl⟩
theorem dX12_put_7 : dq cX12_put 7 (-1) 8 := dq_i (n := (-1)) (by decide +kernel) (by decide) rfl
theorem dX12_put_8 : db cX12_put 8 (.if_icmp .ne 25) 25 11 33 := ⟨by decide +kernel, rfl, by decide⟩
theorem dX12_put_11 : dla cX12_put 11 0 12 := Or.inl ⟨0, by decide +kernel, rfl, rfl⟩
theorem dX12_put_12 : dk cX12_put 12 (.getfield 84) 3 15 := ⟨by decide +kernel, rfl⟩
theorem dX12_put_15 : dsi cX12_put 15 3 16 := Or.inl ⟨3, by decide +kernel, rfl, rfl⟩
theorem dX12_put_16 : dla cX12_put 16 0 17 := Or.inl ⟨0, by decide +kernel, rfl, rfl⟩
theorem dX12_put_17 : dk cX12_put 17 (.dup) 1 18 := ⟨by decide +kernel, rfl⟩
theorem dX12_put_18 : dk cX12_put 18 (.getfield 84) 3 21 := ⟨by decide +kernel, rfl⟩
theorem dX12_put_21 : dq cX12_put 21 1 22 := dq_i (n := 1) (by decide +kernel) (by decide) rfl
theorem dX12_put_22 : dk cX12_put 22 (.iadd) 1 23 := ⟨by decide +kernel, rfl⟩
theorem dX12_put_23 : dk cX12_put 23 (.putfield 84) 3 26 := ⟨by decide +kernel, rfl⟩
theorem dX12_put_26 : dla cX12_put 26 0 27 := Or.inl ⟨0, by decide +kernel, rfl, rfl⟩
theorem dX12_put_27 : dk cX12_put 27 (.getfield 38) 3 30 := ⟨by decide +kernel, rfl⟩
theorem dX12_put_30 : dli cX12_put 30 3 31 := Or.inl ⟨3, by decide +kernel, rfl, rfl⟩
theorem dX12_put_31 : dli cX12_put 31 1 32 := Or.inl ⟨1, by decide +kernel, rfl, rfl⟩
theorem dX12_put_32 : dk cX12_put 32 (.iastore) 1 33 := ⟨by decide +kernel, rfl⟩
theorem dX12_put_33 : dla cX12_put 33 0 34 := Or.inl ⟨0, by decide +kernel, rfl, rfl⟩
theorem dX12_put_34 : dk cX12_put 34 (.getfield 41) 3 37 := ⟨by decide +kernel, rfl⟩
theorem dX12_put_37 : dli cX12_put 37 3 38 := Or.inl ⟨3, by decide +kernel, rfl, rfl⟩
theorem dX12_put_38 : dli cX12_put 38 2 39 := Or.inl ⟨2, by decide +kernel, rfl, rfl⟩
theorem dX12_put_39 : dk cX12_put 39 (.iastore) 1 40 := ⟨by decide +kernel, rfl⟩
theorem dX12_put_40 : dk cX12_put 40 (.return_) 1 41 := ⟨by decide +kernel, rfl⟩
theorem dX12_endAttempt_0 : dq cX12_endAttempt 0 0 1 := dq_i (n := 0) (by decide +kernel) (by decide) rfl
theorem dX12_endAttempt_1 : dsi cX12_endAttempt 1 1 2 := Or.inl ⟨1, by decide +kernel, rfl, rfl⟩
theorem dX12_endAttempt_2 : dli cX12_endAttempt 2 1 3 := Or.inl ⟨1, by decide +kernel, rfl, rfl⟩
theorem dX12_endAttempt_3 : dq cX12_endAttempt 3 8 5 := dq_b (n := 8) (by decide +kernel) (by decide) rfl
theorem dX12_endAttempt_5 : db cX12_endAttempt 5 (.if_icmp .ge 16) 16 8 21 := ⟨by decide +kernel, rfl, by decide⟩
theorem dX12_endAttempt_8 : dla cX12_endAttempt 8 0 9 := Or.inl ⟨0, by decide +kernel, rfl, rfl⟩
theorem dX12_endAttempt_9 : dk cX12_endAttempt 9 (.getfield 35) 3 12 := ⟨by decide +kernel, rfl⟩
theorem dX12_endAttempt_12 : dli cX12_endAttempt 12 1 13 := Or.inl ⟨1, by decide +kernel, rfl, rfl⟩
theorem dX12_endAttempt_13 : dq cX12_endAttempt 13 0 14 := dq_i (n := 0) (by decide +kernel) (by decide) rfl
theorem dX12_endAttempt_14 : dk cX12_endAttempt 14 (.iastore) 1 15 := ⟨by decide +kernel, rfl⟩
theorem dX12_endAttempt_15 : dk cX12_endAttempt 15 (.iinc 1 1) 3 18 := ⟨by decide +kernel, rfl⟩
theorem dX12_endAttempt_18 : db cX12_endAttempt 18 (.goto (-16)) (-16) 21 2 := ⟨by decide +kernel, rfl, by decide⟩
theorem dX12_endAttempt_21 : dla cX12_endAttempt 21 0 22 := Or.inl ⟨0, by decide +kernel, rfl, rfl⟩
theorem dX12_endAttempt_22 : dq cX12_endAttempt 22 0 23 := dq_i (n := 0) (by decide +kernel) (by decide) rfl
theorem dX12_endAttempt_23 : dk cX12_endAttempt 23 (.putfield 102) 3 26 := ⟨by decide +kernel, rfl⟩
theorem dX12_endAttempt_26 : dla cX12_endAttempt 26 0 27 := Or.inl ⟨0, by decide +kernel, rfl, rfl⟩
theorem dX12_endAttempt_27 : dq cX12_endAttempt 27 0 28 := dq_i (n := 0) (by decide +kernel) (by decide) rfl
theorem dX12_endAttempt_28 : dk cX12_endAttempt 28 (.putfield 96) 3 31 := ⟨by decide +kernel, rfl⟩
theorem dX12_endAttempt_31 : dla cX12_endAttempt 31 0 32 := Or.inl ⟨0, by decide +kernel, rfl, rfl⟩
theorem dX12_endAttempt_32 : dq cX12_endAttempt 32 (-1) 33 := dq_i (n := (-1)) (by decide +kernel) (by decide) rfl
theorem dX12_endAttempt_33 : dk cX12_endAttempt 33 (.putfield 105) 3 36 := ⟨by decide +kernel, rfl⟩
theorem dX12_endAttempt_36 : dla cX12_endAttempt 36 0 37 := Or.inl ⟨0, by decide +kernel, rfl, rfl⟩
theorem dX12_endAttempt_37 : dq cX12_endAttempt 37 0 38 := dq_i (n := 0) (by decide +kernel) (by decide) rfl
theorem dX12_endAttempt_38 : dk cX12_endAttempt 38 (.putfield 84) 3 41 := ⟨by decide +kernel, rfl⟩
theorem dX12_endAttempt_41 : dla cX12_endAttempt 41 0 42 := Or.inl ⟨0, by decide +kernel, rfl, rfl⟩
theorem dX12_endAttempt_42 : dq cX12_endAttempt 42 0 43 := dq_i (n := 0) (by decide +kernel) (by decide) rfl
theorem dX12_endAttempt_43 : dk cX12_endAttempt 43 (.putfield 108) 3 46 := ⟨by decide +kernel, rfl⟩
theorem dX12_endAttempt_46 : dk cX12_endAttempt 46 (.return_) 1 47 := ⟨by decide +kernel, rfl⟩
theorem dX12_hasRoom_0 : dla cX12_hasRoom 0 0 1 := Or.inl ⟨0, by decide +kernel, rfl, rfl⟩
theorem dX12_hasRoom_1 : dli cX12_hasRoom 1 1 2 := Or.inl ⟨1, by decide +kernel, rfl, rfl⟩
theorem dX12_hasRoom_2 : dk cX12_hasRoom 2 (.invokevirtual 87) 3 5 := ⟨by decide +kernel, rfl⟩
theorem dX12_hasRoom_5 : dq cX12_hasRoom 5 (-1) 6 := dq_i (n := (-1)) (by decide +kernel) (by decide) rfl
theorem dX12_hasRoom_6 : db cX12_hasRoom 6 (.if_icmp .ne 7) 7 9 13 := ⟨by decide +kernel, rfl, by decide⟩
theorem dX12_hasRoom_9 : dq cX12_hasRoom 9 1 10 := dq_i (n := 1) (by decide +kernel) (by decide) rfl
theorem dX12_hasRoom_10 : db cX12_hasRoom 10 (.goto 4) 4 13 14 := ⟨by decide +kernel, rfl, by decide⟩
theorem dX12_hasRoom_13 : dq cX12_hasRoom 13 0 14 := dq_i (n := 0) (by decide +kernel) (by decide) rfl
theorem dX12_hasRoom_14 : dsi cX12_hasRoom 14 3 15 := Or.inl ⟨3, by decide +kernel, rfl, rfl⟩
theorem dX12_hasRoom_15 : dli cX12_hasRoom 15 2 16 := Or.inl ⟨2, by decide +kernel, rfl, rfl⟩
theorem dX12_hasRoom_16 : dli cX12_hasRoom 16 1 17 := Or.inl ⟨1, by decide +kernel, rfl, rfl⟩
theorem dX12_hasRoom_17 : db cX12_hasRoom 17 (.if_icmp .eq 15) 15 20 32 := ⟨by decide +kernel, rfl, by decide⟩
theorem dX12_hasRoom_20 : dla cX12_hasRoom 20 0 21 := Or.inl ⟨0, by decide +kernel, rfl, rfl⟩
theorem dX12_hasRoom_21 : dli cX12_hasRoom 21 2 22 := Or.inl ⟨2, by decide +kernel, rfl, rfl⟩
theorem dX12_hasRoom_22 : dk cX12_hasRoom 22 (.invokevirtual 87) 3 25 := ⟨by decide +kernel, rfl⟩
theorem dX12_hasRoom_25 : dq cX12_hasRoom 25 (-1) 26 := dq_i (n := (-1)) (by decide +kernel) (by decide) rfl
theorem dX12_hasRoom_26 : db cX12_hasRoom 26 (.if_icmp .ne 6) 6 29 32 := ⟨by decide +kernel, rfl, by decide⟩
theorem dX12_hasRoom_29 : dk cX12_hasRoom 29 (.iinc 3 1) 3 32 := ⟨by decide +kernel, rfl⟩
theorem dX12_hasRoom_32 : dla cX12_hasRoom 32 0 33 := Or.inl ⟨0, by decide +kernel, rfl, rfl⟩
theorem dX12_hasRoom_33 : dk cX12_hasRoom 33 (.getfield 84) 3 36 := ⟨by decide +kernel, rfl⟩
theorem dX12_hasRoom_36 : dli cX12_hasRoom 36 3 37 := Or.inl ⟨3, by decide +kernel, rfl, rfl⟩
theorem dX12_hasRoom_37 : dk cX12_hasRoom 37 (.iadd) 1 38 := ⟨by decide +kernel, rfl⟩
theorem dX12_hasRoom_38 : dq cX12_hasRoom 38 38 40 := dq_b (n := 38) (by decide +kernel) (by decide) rfl
theorem dX12_hasRoom_40 : db cX12_hasRoom 40 (.if_icmp .gt 7) 7 43 47 := ⟨by decide +kernel, rfl, by decide⟩
theorem dX12_hasRoom_43 : dq cX12_hasRoom 43 1 44 := dq_i (n := 1) (by decide +kernel) (by decide) rfl
theorem dX12_hasRoom_44 : db cX12_hasRoom 44 (.goto 4) 4 47 48 := ⟨by decide +kernel, rfl, by decide⟩
theorem dX12_hasRoom_47 : dq cX12_hasRoom 47 0 48 := dq_i (n := 0) (by decide +kernel) (by decide) rfl
theorem dX12_hasRoom_48 : dk cX12_hasRoom 48 (.ireturn) 1 49 := ⟨by decide +kernel, rfl⟩
theorem dX12_pays_0 : dli cX12_pays 0 1 1 := Or.inl ⟨1, by decide +kernel, rfl, rfl⟩
theorem dX12_pays_1 : dla cX12_pays 1 0 2 := Or.inl ⟨0, by decide +kernel, rfl, rfl⟩
theorem dX12_pays_2 : dk cX12_pays 2 (.getfield 111) 3 5 := ⟨by decide +kernel, rfl⟩
theorem dX12_pays_5 : db cX12_pays 5 (.if_icmp .le 9) 9 8 14 := ⟨by decide +kernel, rfl, by decide⟩
theorem dX12_pays_8 : dla cX12_pays 8 0 9 := Or.inl ⟨0, by decide +kernel, rfl, rfl⟩
theorem dX12_pays_9 : dk cX12_pays 9 (.invokevirtual 114) 3 12 := ⟨by decide +kernel, rfl⟩
theorem dX12_pays_12 : dq cX12_pays 12 0 13 := dq_i (n := 0) (by decide +kernel) (by decide) rfl
theorem dX12_pays_13 : dk cX12_pays 13 (.ireturn) 1 14 := ⟨by decide +kernel, rfl⟩
theorem dX12_pays_14 : dla cX12_pays 14 0 15 := Or.inl ⟨0, by decide +kernel, rfl, rfl⟩
theorem dX12_pays_15 : dk cX12_pays 15 (.dup) 1 16 := ⟨by decide +kernel, rfl⟩
theorem dX12_pays_16 : dk cX12_pays 16 (.getfield 111) 3 19 := ⟨by decide +kernel, rfl⟩
theorem dX12_pays_19 : dli cX12_pays 19 1 20 := Or.inl ⟨1, by decide +kernel, rfl, rfl⟩
theorem dX12_pays_20 : dk cX12_pays 20 (.isub) 1 21 := ⟨by decide +kernel, rfl⟩
theorem dX12_pays_21 : dk cX12_pays 21 (.putfield 111) 3 24 := ⟨by decide +kernel, rfl⟩
theorem dX12_pays_24 : dla cX12_pays 24 0 25 := Or.inl ⟨0, by decide +kernel, rfl, rfl⟩
theorem dX12_pays_25 : dk cX12_pays 25 (.getfield 93) 3 28 := ⟨by decide +kernel, rfl⟩
theorem dX12_pays_28 : dq cX12_pays 28 3 29 := dq_i (n := 3) (by decide +kernel) (by decide) rfl
theorem dX12_pays_29 : db cX12_pays 29 (.if_icmp .eq 11) 11 32 40 := ⟨by decide +kernel, rfl, by decide⟩
theorem dX12_pays_32 : dla cX12_pays 32 0 33 := Or.inl ⟨0, by decide +kernel, rfl, rfl⟩
theorem dX12_pays_33 : dk cX12_pays 33 (.getfield 93) 3 36 := ⟨by decide +kernel, rfl⟩
theorem dX12_pays_36 : dq cX12_pays 36 4 37 := dq_i (n := 4) (by decide +kernel) (by decide) rfl
theorem dX12_pays_37 : db cX12_pays 37 (.if_icmp .ne 13) 13 40 50 := ⟨by decide +kernel, rfl, by decide⟩
theorem dX12_pays_40 : dla cX12_pays 40 0 41 := Or.inl ⟨0, by decide +kernel, rfl, rfl⟩
theorem dX12_pays_41 : dk cX12_pays 41 (.dup) 1 42 := ⟨by decide +kernel, rfl⟩
theorem dX12_pays_42 : dk cX12_pays 42 (.getfield 96) 3 45 := ⟨by decide +kernel, rfl⟩
theorem dX12_pays_45 : dli cX12_pays 45 1 46 := Or.inl ⟨1, by decide +kernel, rfl, rfl⟩
theorem dX12_pays_46 : dk cX12_pays 46 (.iadd) 1 47 := ⟨by decide +kernel, rfl⟩
theorem dX12_pays_47 : dk cX12_pays 47 (.putfield 96) 3 50 := ⟨by decide +kernel, rfl⟩
theorem dX12_pays_50 : dq cX12_pays 50 1 51 := dq_i (n := 1) (by decide +kernel) (by decide) rfl
theorem dX12_pays_51 : dk cX12_pays 51 (.ireturn) 1 52 := ⟨by decide +kernel, rfl⟩
theorem dX12_task_0 : dla cX12_task 0 0 1 := Or.inl ⟨0, by decide +kernel, rfl, rfl⟩
theorem dX12_task_1 : dq cX12_task 1 0 2 := dq_i (n := 0) (by decide +kernel) (by decide) rfl
theorem dX12_task_2 : dk cX12_task 2 (.putfield 56) 3 5 := ⟨by decide +kernel, rfl⟩
theorem dX12_task_5 : dli cX12_task 5 1 6 := Or.inl ⟨1, by decide +kernel, rfl, rfl⟩
theorem dX12_task_6 : dk cX12_task 6 (.invokestatic 63) 3 9 := ⟨by decide +kernel, rfl⟩
theorem dX12_task_9 : db cX12_task 9 (.ifCond .eq 12) 12 12 21 := ⟨by decide +kernel, rfl, by decide⟩
theorem dX12_task_12 : dli cX12_task 12 2 13 := Or.inl ⟨2, by decide +kernel, rfl, rfl⟩
theorem dX12_task_13 : db cX12_task 13 (.ifCond .lt 8) 8 16 21 := ⟨by decide +kernel, rfl, by decide⟩
theorem dX12_task_16 : dli cX12_task 16 2 17 := Or.inl ⟨2, by decide +kernel, rfl, rfl⟩
theorem dX12_task_17 : dq cX12_task 17 2 18 := dq_i (n := 2) (by decide +kernel) (by decide) rfl
theorem dX12_task_18 : db cX12_task 18 (.if_icmp .le 5) 5 21 23 := ⟨by decide +kernel, rfl, by decide⟩
theorem dX12_task_21 : dq cX12_task 21 (-1) 22 := dq_i (n := (-1)) (by decide +kernel) (by decide) rfl
theorem dX12_task_22 : dk cX12_task 22 (.ireturn) 1 23 := ⟨by decide +kernel, rfl⟩
theorem dX12_task_23 : dli cX12_task 23 2 24 := Or.inl ⟨2, by decide +kernel, rfl, rfl⟩
theorem dX12_task_24 : db cX12_task 24 (.ifCond .ne 12) 12 27 36 := ⟨by decide +kernel, rfl, by decide⟩
theorem dX12_task_27 : dla cX12_task 27 0 28 := Or.inl ⟨0, by decide +kernel, rfl, rfl⟩
theorem dX12_task_28 : dk cX12_task 28 (.getfield 25) 3 31 := ⟨by decide +kernel, rfl⟩
theorem dX12_task_31 : dli cX12_task 31 1 32 := Or.inl ⟨1, by decide +kernel, rfl, rfl⟩
theorem dX12_task_32 : dk cX12_task 32 (.iaload) 1 33 := ⟨by decide +kernel, rfl⟩
theorem dX12_task_33 : db cX12_task 33 (.goto 23) 23 36 56 := ⟨by decide +kernel, rfl, by decide⟩
theorem dX12_task_36 : dli cX12_task 36 2 37 := Or.inl ⟨2, by decide +kernel, rfl, rfl⟩
theorem dX12_task_37 : dq cX12_task 37 1 38 := dq_i (n := 1) (by decide +kernel) (by decide) rfl
theorem dX12_task_38 : db cX12_task 38 (.if_icmp .ne 12) 12 41 50 := ⟨by decide +kernel, rfl, by decide⟩
theorem dX12_task_41 : dla cX12_task 41 0 42 := Or.inl ⟨0, by decide +kernel, rfl, rfl⟩
theorem dX12_task_42 : dk cX12_task 42 (.getfield 28) 3 45 := ⟨by decide +kernel, rfl⟩
theorem dX12_task_45 : dli cX12_task 45 1 46 := Or.inl ⟨1, by decide +kernel, rfl, rfl⟩
theorem dX12_task_46 : dk cX12_task 46 (.iaload) 1 47 := ⟨by decide +kernel, rfl⟩
theorem dX12_task_47 : db cX12_task 47 (.goto 9) 9 50 56 := ⟨by decide +kernel, rfl, by decide⟩
theorem dX12_task_50 : dla cX12_task 50 0 51 := Or.inl ⟨0, by decide +kernel, rfl, rfl⟩
theorem dX12_task_51 : dk cX12_task 51 (.getfield 13) 3 54 := ⟨by decide +kernel, rfl⟩
theorem dX12_task_54 : dli cX12_task 54 1 55 := Or.inl ⟨1, by decide +kernel, rfl, rfl⟩
theorem dX12_task_55 : dk cX12_task 55 (.iaload) 1 56 := ⟨by decide +kernel, rfl⟩
theorem dX12_task_56 : dk cX12_task 56 (.ireturn) 1 57 := ⟨by decide +kernel, rfl⟩
theorem dX12_aired_0 : dla cX12_aired 0 0 1 := Or.inl ⟨0, by decide +kernel, rfl, rfl⟩
theorem dX12_aired_1 : dq cX12_aired 1 0 2 := dq_i (n := 0) (by decide +kernel) (by decide) rfl
theorem dX12_aired_2 : dk cX12_aired 2 (.putfield 56) 3 5 := ⟨by decide +kernel, rfl⟩
theorem dX12_aired_5 : dli cX12_aired 5 1 6 := Or.inl ⟨1, by decide +kernel, rfl, rfl⟩
theorem dX12_aired_6 : db cX12_aired 6 (.ifCond .lt 26) 26 9 32 := ⟨by decide +kernel, rfl, by decide⟩
theorem dX12_aired_9 : dli cX12_aired 9 1 10 := Or.inl ⟨1, by decide +kernel, rfl, rfl⟩
theorem dX12_aired_10 : dq cX12_aired 10 64 12 := dq_b (n := 64) (by decide +kernel) (by decide) rfl
theorem dX12_aired_12 : db cX12_aired 12 (.if_icmp .ge 20) 20 15 32 := ⟨by decide +kernel, rfl, by decide⟩
theorem dX12_aired_15 : dli cX12_aired 15 1 16 := Or.inl ⟨1, by decide +kernel, rfl, rfl⟩
theorem dX12_aired_16 : dla cX12_aired 16 0 17 := Or.inl ⟨0, by decide +kernel, rfl, rfl⟩
theorem dX12_aired_17 : dk cX12_aired 17 (.getfield 130) 3 20 := ⟨by decide +kernel, rfl⟩
theorem dX12_aired_20 : db cX12_aired 20 (.if_icmp .ge 12) 12 23 32 := ⟨by decide +kernel, rfl, by decide⟩
theorem dX12_aired_23 : dli cX12_aired 23 2 24 := Or.inl ⟨2, by decide +kernel, rfl, rfl⟩
theorem dX12_aired_24 : db cX12_aired 24 (.ifCond .lt 8) 8 27 32 := ⟨by decide +kernel, rfl, by decide⟩
theorem dX12_aired_27 : dli cX12_aired 27 2 28 := Or.inl ⟨2, by decide +kernel, rfl, rfl⟩
theorem dX12_aired_28 : dq cX12_aired 28 1 29 := dq_i (n := 1) (by decide +kernel) (by decide) rfl
theorem dX12_aired_29 : db cX12_aired 29 (.if_icmp .le 5) 5 32 34 := ⟨by decide +kernel, rfl, by decide⟩
theorem dX12_aired_32 : dq cX12_aired 32 (-1) 33 := dq_i (n := (-1)) (by decide +kernel) (by decide) rfl
theorem dX12_aired_33 : dk cX12_aired 33 (.ireturn) 1 34 := ⟨by decide +kernel, rfl⟩
theorem dX12_aired_34 : dla cX12_aired 34 0 35 := Or.inl ⟨0, by decide +kernel, rfl, rfl⟩
theorem dX12_aired_35 : dk cX12_aired 35 (.getfield 130) 3 38 := ⟨by decide +kernel, rfl⟩
theorem dX12_aired_38 : dq cX12_aired 38 1 39 := dq_i (n := 1) (by decide +kernel) (by decide) rfl
theorem dX12_aired_39 : dk cX12_aired 39 (.isub) 1 40 := ⟨by decide +kernel, rfl⟩
theorem dX12_aired_40 : dli cX12_aired 40 1 41 := Or.inl ⟨1, by decide +kernel, rfl, rfl⟩
theorem dX12_aired_41 : dk cX12_aired 41 (.isub) 1 42 := ⟨by decide +kernel, rfl⟩
theorem dX12_aired_42 : dq cX12_aired 42 64 44 := dq_b (n := 64) (by decide +kernel) (by decide) rfl
theorem dX12_aired_44 : dk cX12_aired 44 (.irem) 1 45 := ⟨by decide +kernel, rfl⟩
theorem dX12_aired_45 : dsi cX12_aired 45 3 46 := Or.inl ⟨3, by decide +kernel, rfl, rfl⟩
theorem dX12_aired_46 : dli cX12_aired 46 2 47 := Or.inl ⟨2, by decide +kernel, rfl, rfl⟩
theorem dX12_aired_47 : db cX12_aired 47 (.ifCond .ne 12) 12 50 59 := ⟨by decide +kernel, rfl, by decide⟩
theorem dX12_aired_50 : dla cX12_aired 50 0 51 := Or.inl ⟨0, by decide +kernel, rfl, rfl⟩
theorem dX12_aired_51 : dk cX12_aired 51 (.getfield 44) 3 54 := ⟨by decide +kernel, rfl⟩
theorem dX12_aired_54 : dli cX12_aired 54 3 55 := Or.inl ⟨3, by decide +kernel, rfl, rfl⟩
theorem dX12_aired_55 : dk cX12_aired 55 (.iaload) 1 56 := ⟨by decide +kernel, rfl⟩
theorem dX12_aired_56 : db cX12_aired 56 (.goto 9) 9 59 65 := ⟨by decide +kernel, rfl, by decide⟩
theorem dX12_aired_59 : dla cX12_aired 59 0 60 := Or.inl ⟨0, by decide +kernel, rfl, rfl⟩
theorem dX12_aired_60 : dk cX12_aired 60 (.getfield 47) 3 63 := ⟨by decide +kernel, rfl⟩
theorem dX12_aired_63 : dli cX12_aired 63 3 64 := Or.inl ⟨3, by decide +kernel, rfl, rfl⟩
theorem dX12_aired_64 : dk cX12_aired 64 (.iaload) 1 65 := ⟨by decide +kernel, rfl⟩
theorem dX12_aired_65 : dk cX12_aired 65 (.ireturn) 1 66 := ⟨by decide +kernel, rfl⟩
theorem dX12_program_0 : dla cX12_program 0 0 1 := Or.inl ⟨0, by decide +kernel, rfl, rfl⟩
theorem dX12_program_1 : dq cX12_program 1 0 2 := dq_i (n := 0) (by decide +kernel) (by decide) rfl
theorem dX12_program_2 : dk cX12_program 2 (.putfield 56) 3 5 := ⟨by decide +kernel, rfl⟩
theorem dX12_program_5 : dla cX12_program 5 0 6 := Or.inl ⟨0, by decide +kernel, rfl, rfl⟩
theorem dX12_program_6 : dk cX12_program 6 (.getfield 59) 3 9 := ⟨by decide +kernel, rfl⟩
theorem dX12_program_9 : db cX12_program 9 (.ifCond .ne 30) 30 12 39 := ⟨by decide +kernel, rfl, by decide⟩
theorem dX12_program_12 : dli cX12_program 12 1 13 := Or.inl ⟨1, by decide +kernel, rfl, rfl⟩
theorem dX12_program_13 : dk cX12_program 13 (.invokestatic 63) 3 16 := ⟨by decide +kernel, rfl⟩
theorem dX12_program_16 : db cX12_program 16 (.ifCond .eq 23) 23 19 39 := ⟨by decide +kernel, rfl, by decide⟩
theorem dX12_program_19 : dli cX12_program 19 2 20 := Or.inl ⟨2, by decide +kernel, rfl, rfl⟩
theorem dX12_program_20 : db cX12_program 20 (.ifCond .lt 19) 19 23 39 := ⟨by decide +kernel, rfl, by decide⟩
theorem dX12_program_23 : dli cX12_program 23 2 24 := Or.inl ⟨2, by decide +kernel, rfl, rfl⟩
theorem dX12_program_24 : dla cX12_program 24 0 25 := Or.inl ⟨0, by decide +kernel, rfl, rfl⟩
theorem dX12_program_25 : dk cX12_program 25 (.getfield 13) 3 28 := ⟨by decide +kernel, rfl⟩
theorem dX12_program_28 : dli cX12_program 28 1 29 := Or.inl ⟨1, by decide +kernel, rfl, rfl⟩
theorem dX12_program_29 : dk cX12_program 29 (.iaload) 1 30 := ⟨by decide +kernel, rfl⟩
theorem dX12_program_30 : db cX12_program 30 (.if_icmp .gt 9) 9 33 39 := ⟨by decide +kernel, rfl, by decide⟩
theorem dX12_program_33 : dli cX12_program 33 2 34 := Or.inl ⟨2, by decide +kernel, rfl, rfl⟩
theorem dX12_program_34 : dq cX12_program 34 32 36 := dq_b (n := 32) (by decide +kernel) (by decide) rfl
theorem dX12_program_36 : db cX12_program 36 (.if_icmp .lt 5) 5 39 41 := ⟨by decide +kernel, rfl, by decide⟩
theorem dX12_program_39 : dq cX12_program 39 0 40 := dq_i (n := 0) (by decide +kernel) (by decide) rfl
theorem dX12_program_40 : dk cX12_program 40 (.ireturn) 1 41 := ⟨by decide +kernel, rfl⟩
theorem dX12_program_41 : dla cX12_program 41 0 42 := Or.inl ⟨0, by decide +kernel, rfl, rfl⟩
theorem dX12_program_42 : dk cX12_program 42 (.getfield 7) 3 45 := ⟨by decide +kernel, rfl⟩
theorem dX12_program_45 : dq cX12_program 45 32 47 := dq_b (n := 32) (by decide +kernel) (by decide) rfl
theorem dX12_program_47 : dli cX12_program 47 1 48 := Or.inl ⟨1, by decide +kernel, rfl, rfl⟩
theorem dX12_program_48 : dk cX12_program 48 (.imul) 1 49 := ⟨by decide +kernel, rfl⟩
theorem dX12_program_49 : dli cX12_program 49 2 50 := Or.inl ⟨2, by decide +kernel, rfl, rfl⟩
theorem dX12_program_50 : dk cX12_program 50 (.iadd) 1 51 := ⟨by decide +kernel, rfl⟩
theorem dX12_program_51 : dli cX12_program 51 3 52 := Or.inl ⟨3, by decide +kernel, rfl, rfl⟩
theorem dX12_program_52 : dk cX12_program 52 (.iastore) 1 53 := ⟨by decide +kernel, rfl⟩
theorem dX12_program_53 : dli cX12_program 53 2 54 := Or.inl ⟨2, by decide +kernel, rfl, rfl⟩
theorem dX12_program_54 : dla cX12_program 54 0 55 := Or.inl ⟨0, by decide +kernel, rfl, rfl⟩
theorem dX12_program_55 : dk cX12_program 55 (.getfield 13) 3 58 := ⟨by decide +kernel, rfl⟩
theorem dX12_program_58 : dli cX12_program 58 1 59 := Or.inl ⟨1, by decide +kernel, rfl, rfl⟩
theorem dX12_program_59 : dk cX12_program 59 (.iaload) 1 60 := ⟨by decide +kernel, rfl⟩
theorem dX12_program_60 : db cX12_program 60 (.if_icmp .ne 13) 13 63 73 := ⟨by decide +kernel, rfl, by decide⟩
theorem dX12_program_63 : dla cX12_program 63 0 64 := Or.inl ⟨0, by decide +kernel, rfl, rfl⟩
theorem dX12_program_64 : dk cX12_program 64 (.getfield 13) 3 67 := ⟨by decide +kernel, rfl⟩
theorem dX12_program_67 : dli cX12_program 67 1 68 := Or.inl ⟨1, by decide +kernel, rfl, rfl⟩
theorem dX12_program_68 : dk cX12_program 68 (.dup2) 1 69 := ⟨by decide +kernel, rfl⟩
theorem dX12_program_69 : dk cX12_program 69 (.iaload) 1 70 := ⟨by decide +kernel, rfl⟩
theorem dX12_program_70 : dq cX12_program 70 1 71 := dq_i (n := 1) (by decide +kernel) (by decide) rfl
theorem dX12_program_71 : dk cX12_program 71 (.iadd) 1 72 := ⟨by decide +kernel, rfl⟩
theorem dX12_program_72 : dk cX12_program 72 (.iastore) 1 73 := ⟨by decide +kernel, rfl⟩
theorem dX12_program_73 : dq cX12_program 73 1 74 := dq_i (n := 1) (by decide +kernel) (by decide) rfl
theorem dX12_program_74 : dk cX12_program 74 (.ireturn) 1 75 := ⟨by decide +kernel, rfl⟩
theorem dX12_sendFrame_0 : dla cX12_sendFrame 0 0 1 := Or.inl ⟨0, by decide +kernel, rfl, rfl⟩
theorem dX12_sendFrame_1 : dq cX12_sendFrame 1 3 2 := dq_i (n := 3) (by decide +kernel) (by decide) rfl
theorem dX12_sendFrame_2 : dk cX12_sendFrame 2 (.invokevirtual 133) 3 5 := ⟨by decide +kernel, rfl⟩
theorem dX12_sendFrame_5 : dsi cX12_sendFrame 5 2 6 := Or.inl ⟨2, by decide +kernel, rfl, rfl⟩
theorem dX12_sendFrame_6 : dla cX12_sendFrame 6 0 7 := Or.inl ⟨0, by decide +kernel, rfl, rfl⟩
theorem dX12_sendFrame_7 : dk cX12_sendFrame 7 (.getfield 35) 3 10 := ⟨by decide +kernel, rfl⟩
theorem dX12_sendFrame_10 : dq cX12_sendFrame 10 7 12 := dq_b (n := 7) (by decide +kernel) (by decide) rfl
theorem dX12_sendFrame_12 : dq cX12_sendFrame 12 0 13 := dq_i (n := 0) (by decide +kernel) (by decide) rfl
theorem dX12_sendFrame_13 : dk cX12_sendFrame 13 (.iastore) 1 14 := ⟨by decide +kernel, rfl⟩
theorem dX12_sendFrame_14 : dli cX12_sendFrame 14 2 15 := Or.inl ⟨2, by decide +kernel, rfl, rfl⟩
theorem dX12_sendFrame_15 : dla cX12_sendFrame 15 0 16 := Or.inl ⟨0, by decide +kernel, rfl, rfl⟩
theorem dX12_sendFrame_16 : dk cX12_sendFrame 16 (.getfield 16) 3 19 := ⟨by decide +kernel, rfl⟩
theorem dX12_sendFrame_19 : dq cX12_sendFrame 19 4 20 := dq_i (n := 4) (by decide +kernel) (by decide) rfl
theorem dX12_sendFrame_20 : dk cX12_sendFrame 20 (.iaload) 1 21 := ⟨by decide +kernel, rfl⟩
theorem dX12_sendFrame_21 : dk cX12_sendFrame 21 (.isub) 1 22 := ⟨by decide +kernel, rfl⟩
theorem dX12_sendFrame_22 : dq cX12_sendFrame 22 16 24 := dq_b (n := 16) (by decide +kernel) (by decide) rfl
theorem dX12_sendFrame_24 : db cX12_sendFrame 24 (.if_icmp .eq 18) 18 27 42 := ⟨by decide +kernel, rfl, by decide⟩
theorem dX12_sendFrame_27 : dla cX12_sendFrame 27 0 28 := Or.inl ⟨0, by decide +kernel, rfl, rfl⟩
theorem dX12_sendFrame_28 : dq cX12_sendFrame 28 68 30 := dq_b (n := 68) (by decide +kernel) (by decide) rfl
theorem dX12_sendFrame_30 : dli cX12_sendFrame 30 2 31 := Or.inl ⟨2, by decide +kernel, rfl, rfl⟩
theorem dX12_sendFrame_31 : dq cX12_sendFrame 31 16 33 := dq_b (n := 16) (by decide +kernel) (by decide) rfl
theorem dX12_sendFrame_33 : dk cX12_sendFrame 33 (.irem) 1 34 := ⟨by decide +kernel, rfl⟩
theorem dX12_sendFrame_34 : dk cX12_sendFrame 34 (.iadd) 1 35 := ⟨by decide +kernel, rfl⟩
theorem dX12_sendFrame_35 : dq cX12_sendFrame 35 3 36 := dq_i (n := 3) (by decide +kernel) (by decide) rfl
theorem dX12_sendFrame_36 : dk cX12_sendFrame 36 (.invokevirtual 136) 3 39 := ⟨by decide +kernel, rfl⟩
theorem dX12_sendFrame_39 : db cX12_sendFrame 39 (.ifCond .ne 4) 4 42 43 := ⟨by decide +kernel, rfl, by decide⟩
theorem dX12_sendFrame_42 : dk cX12_sendFrame 42 (.return_) 1 43 := ⟨by decide +kernel, rfl⟩
theorem dX12_sendFrame_43 : dla cX12_sendFrame 43 0 44 := Or.inl ⟨0, by decide +kernel, rfl, rfl⟩
theorem dX12_sendFrame_44 : dq cX12_sendFrame 44 68 46 := dq_b (n := 68) (by decide +kernel) (by decide) rfl
theorem dX12_sendFrame_46 : dli cX12_sendFrame 46 2 47 := Or.inl ⟨2, by decide +kernel, rfl, rfl⟩
theorem dX12_sendFrame_47 : dq cX12_sendFrame 47 16 49 := dq_b (n := 16) (by decide +kernel) (by decide) rfl
theorem dX12_sendFrame_49 : dk cX12_sendFrame 49 (.irem) 1 50 := ⟨by decide +kernel, rfl⟩
theorem dX12_sendFrame_50 : dk cX12_sendFrame 50 (.iadd) 1 51 := ⟨by decide +kernel, rfl⟩
theorem dX12_sendFrame_51 : dli cX12_sendFrame 51 1 52 := Or.inl ⟨1, by decide +kernel, rfl, rfl⟩
theorem dX12_sendFrame_52 : dk cX12_sendFrame 52 (.invokevirtual 139) 3 55 := ⟨by decide +kernel, rfl⟩
theorem dX12_sendFrame_55 : dla cX12_sendFrame 55 0 56 := Or.inl ⟨0, by decide +kernel, rfl, rfl⟩
theorem dX12_sendFrame_56 : dq cX12_sendFrame 56 3 57 := dq_i (n := 3) (by decide +kernel) (by decide) rfl
theorem dX12_sendFrame_57 : dli cX12_sendFrame 57 2 58 := Or.inl ⟨2, by decide +kernel, rfl, rfl⟩
theorem dX12_sendFrame_58 : dq cX12_sendFrame 58 1 59 := dq_i (n := 1) (by decide +kernel) (by decide) rfl
theorem dX12_sendFrame_59 : dk cX12_sendFrame 59 (.iadd) 1 60 := ⟨by decide +kernel, rfl⟩
theorem dX12_sendFrame_60 : dk cX12_sendFrame 60 (.invokevirtual 139) 3 63 := ⟨by decide +kernel, rfl⟩
theorem dX12_sendFrame_63 : dla cX12_sendFrame 63 0 64 := Or.inl ⟨0, by decide +kernel, rfl, rfl⟩
theorem dX12_sendFrame_64 : dk cX12_sendFrame 64 (.getfield 35) 3 67 := ⟨by decide +kernel, rfl⟩
theorem dX12_sendFrame_67 : dq cX12_sendFrame 67 7 69 := dq_b (n := 7) (by decide +kernel) (by decide) rfl
theorem dX12_sendFrame_69 : dq cX12_sendFrame 69 1 70 := dq_i (n := 1) (by decide +kernel) (by decide) rfl
theorem dX12_sendFrame_70 : dk cX12_sendFrame 70 (.iastore) 1 71 := ⟨by decide +kernel, rfl⟩
theorem dX12_sendFrame_71 : dk cX12_sendFrame 71 (.return_) 1 72 := ⟨by decide +kernel, rfl⟩
theorem dX12_seal_0 : dla cX12_seal 0 0 1 := Or.inl ⟨0, by decide +kernel, rfl, rfl⟩
theorem dX12_seal_1 : dq cX12_seal 1 0 2 := dq_i (n := 0) (by decide +kernel) (by decide) rfl
theorem dX12_seal_2 : dk cX12_seal 2 (.putfield 56) 3 5 := ⟨by decide +kernel, rfl⟩
theorem dX12_seal_5 : dla cX12_seal 5 0 6 := Or.inl ⟨0, by decide +kernel, rfl, rfl⟩
theorem dX12_seal_6 : dk cX12_seal 6 (.getfield 59) 3 9 := ⟨by decide +kernel, rfl⟩
theorem dX12_seal_9 : db cX12_seal 9 (.ifCond .eq 5) 5 12 14 := ⟨by decide +kernel, rfl, by decide⟩
theorem dX12_seal_12 : dq cX12_seal 12 0 13 := dq_i (n := 0) (by decide +kernel) (by decide) rfl
theorem dX12_seal_13 : dk cX12_seal 13 (.ireturn) 1 14 := ⟨by decide +kernel, rfl⟩
theorem dX12_seal_14 : dla cX12_seal 14 0 15 := Or.inl ⟨0, by decide +kernel, rfl, rfl⟩
theorem dX12_seal_15 : dk cX12_seal 15 (.getfield 13) 3 18 := ⟨by decide +kernel, rfl⟩
theorem dX12_seal_18 : dq cX12_seal 18 0 19 := dq_i (n := 0) (by decide +kernel) (by decide) rfl
theorem dX12_seal_19 : dk cX12_seal 19 (.iaload) 1 20 := ⟨by decide +kernel, rfl⟩
theorem dX12_seal_20 : db cX12_seal 20 (.ifCond .ne 5) 5 23 25 := ⟨by decide +kernel, rfl, by decide⟩
theorem dX12_seal_23 : dq cX12_seal 23 1 24 := dq_i (n := 1) (by decide +kernel) (by decide) rfl
theorem dX12_seal_24 : dk cX12_seal 24 (.ireturn) 1 25 := ⟨by decide +kernel, rfl⟩
theorem dX12_seal_25 : dq cX12_seal 25 0 26 := dq_i (n := 0) (by decide +kernel) (by decide) rfl
theorem dX12_seal_26 : dsi cX12_seal 26 1 27 := Or.inl ⟨1, by decide +kernel, rfl, rfl⟩
theorem dX12_seal_27 : dli cX12_seal 27 1 28 := Or.inl ⟨1, by decide +kernel, rfl, rfl⟩
theorem dX12_seal_28 : dq cX12_seal 28 16 30 := dq_b (n := 16) (by decide +kernel) (by decide) rfl
theorem dX12_seal_30 : db cX12_seal 30 (.if_icmp .ge 45) 45 33 75 := ⟨by decide +kernel, rfl, by decide⟩
theorem dX12_seal_33 : dq cX12_seal 33 0 34 := dq_i (n := 0) (by decide +kernel) (by decide) rfl
theorem dX12_seal_34 : dsi cX12_seal 34 2 35 := Or.inl ⟨2, by decide +kernel, rfl, rfl⟩
theorem dX12_seal_35 : dli cX12_seal 35 2 36 := Or.inl ⟨2, by decide +kernel, rfl, rfl⟩
theorem dX12_seal_36 : dla cX12_seal 36 0 37 := Or.inl ⟨0, by decide +kernel, rfl, rfl⟩
theorem dX12_seal_37 : dk cX12_seal 37 (.getfield 13) 3 40 := ⟨by decide +kernel, rfl⟩
theorem dX12_seal_40 : dli cX12_seal 40 1 41 := Or.inl ⟨1, by decide +kernel, rfl, rfl⟩
theorem dX12_seal_41 : dk cX12_seal 41 (.iaload) 1 42 := ⟨by decide +kernel, rfl⟩
theorem dX12_seal_42 : db cX12_seal 42 (.if_icmp .ge 27) 27 45 69 := ⟨by decide +kernel, rfl, by decide⟩
theorem dX12_seal_45 : dla cX12_seal 45 0 46 := Or.inl ⟨0, by decide +kernel, rfl, rfl⟩
theorem dX12_seal_46 : dli cX12_seal 46 1 47 := Or.inl ⟨1, by decide +kernel, rfl, rfl⟩
theorem dX12_seal_47 : dli cX12_seal 47 2 48 := Or.inl ⟨2, by decide +kernel, rfl, rfl⟩
theorem dX12_seal_48 : dk cX12_seal 48 (.invokevirtual 80) 3 51 := ⟨by decide +kernel, rfl⟩
theorem dX12_seal_51 : db cX12_seal 51 (.ifCond .ne 12) 12 54 63 := ⟨by decide +kernel, rfl, by decide⟩
theorem dX12_seal_54 : dq cX12_seal 54 1 55 := dq_i (n := 1) (by decide +kernel) (by decide) rfl
theorem dX12_seal_55 : dq cX12_seal 55 32 57 := dq_b (n := 32) (by decide +kernel) (by decide) rfl
theorem dX12_seal_57 : dli cX12_seal 57 1 58 := Or.inl ⟨1, by decide +kernel, rfl, rfl⟩
theorem dX12_seal_58 : dk cX12_seal 58 (.imul) 1 59 := ⟨by decide +kernel, rfl⟩
theorem dX12_seal_59 : dk cX12_seal 59 (.iadd) 1 60 := ⟨by decide +kernel, rfl⟩
theorem dX12_seal_60 : dli cX12_seal 60 2 61 := Or.inl ⟨2, by decide +kernel, rfl, rfl⟩
theorem dX12_seal_61 : dk cX12_seal 61 (.iadd) 1 62 := ⟨by decide +kernel, rfl⟩
theorem dX12_seal_62 : dk cX12_seal 62 (.ireturn) 1 63 := ⟨by decide +kernel, rfl⟩
theorem dX12_seal_63 : dk cX12_seal 63 (.iinc 2 1) 3 66 := ⟨by decide +kernel, rfl⟩
theorem dX12_seal_66 : db cX12_seal 66 (.goto (-31)) (-31) 69 35 := ⟨by decide +kernel, rfl, by decide⟩
theorem dX12_seal_69 : dk cX12_seal 69 (.iinc 1 1) 3 72 := ⟨by decide +kernel, rfl⟩
theorem dX12_seal_72 : db cX12_seal 72 (.goto (-45)) (-45) 75 27 := ⟨by decide +kernel, rfl, by decide⟩
theorem dX12_seal_75 : dla cX12_seal 75 0 76 := Or.inl ⟨0, by decide +kernel, rfl, rfl⟩
theorem dX12_seal_76 : dq cX12_seal 76 1 77 := dq_i (n := 1) (by decide +kernel) (by decide) rfl
theorem dX12_seal_77 : dk cX12_seal 77 (.putfield 59) 3 80 := ⟨by decide +kernel, rfl⟩
theorem dX12_seal_80 : dq cX12_seal 80 0 81 := dq_i (n := 0) (by decide +kernel) (by decide) rfl
theorem dX12_seal_81 : dk cX12_seal 81 (.ireturn) 1 82 := ⟨by decide +kernel, rfl⟩
theorem dX12_replayStep_0 : dla cX12_replayStep 0 0 1 := Or.inl ⟨0, by decide +kernel, rfl, rfl⟩
theorem dX12_replayStep_1 : dq cX12_replayStep 1 4 2 := dq_i (n := 4) (by decide +kernel) (by decide) rfl
theorem dX12_replayStep_2 : dk cX12_replayStep 2 (.invokevirtual 117) 3 5 := ⟨by decide +kernel, rfl⟩
theorem dX12_replayStep_5 : db cX12_replayStep 5 (.ifCond .ne 4) 4 8 9 := ⟨by decide +kernel, rfl, by decide⟩
theorem dX12_replayStep_8 : dk cX12_replayStep 8 (.return_) 1 9 := ⟨by decide +kernel, rfl⟩
theorem dX12_replayStep_9 : dla cX12_replayStep 9 0 10 := Or.inl ⟨0, by decide +kernel, rfl, rfl⟩
theorem dX12_replayStep_10 : dk cX12_replayStep 10 (.getfield 120) 3 13 := ⟨by decide +kernel, rfl⟩
theorem dX12_replayStep_13 : dla cX12_replayStep 13 0 14 := Or.inl ⟨0, by decide +kernel, rfl, rfl⟩
theorem dX12_replayStep_14 : dk cX12_replayStep 14 (.getfield 16) 3 17 := ⟨by decide +kernel, rfl⟩
theorem dX12_replayStep_17 : dq cX12_replayStep 17 2 18 := dq_i (n := 2) (by decide +kernel) (by decide) rfl
theorem dX12_replayStep_18 : dk cX12_replayStep 18 (.iaload) 1 19 := ⟨by decide +kernel, rfl⟩
theorem dX12_replayStep_19 : db cX12_replayStep 19 (.if_icmp .ge 50) 50 22 69 := ⟨by decide +kernel, rfl, by decide⟩
theorem dX12_replayStep_22 : dla cX12_replayStep 22 0 23 := Or.inl ⟨0, by decide +kernel, rfl, rfl⟩
theorem dX12_replayStep_23 : dla cX12_replayStep 23 0 24 := Or.inl ⟨0, by decide +kernel, rfl, rfl⟩
theorem dX12_replayStep_24 : dk cX12_replayStep 24 (.getfield 16) 3 27 := ⟨by decide +kernel, rfl⟩
theorem dX12_replayStep_27 : dq cX12_replayStep 27 84 29 := dq_b (n := 84) (by decide +kernel) (by decide) rfl
theorem dX12_replayStep_29 : dq cX12_replayStep 29 2 30 := dq_i (n := 2) (by decide +kernel) (by decide) rfl
theorem dX12_replayStep_30 : dla cX12_replayStep 30 0 31 := Or.inl ⟨0, by decide +kernel, rfl, rfl⟩
theorem dX12_replayStep_31 : dk cX12_replayStep 31 (.getfield 120) 3 34 := ⟨by decide +kernel, rfl⟩
theorem dX12_replayStep_34 : dk cX12_replayStep 34 (.imul) 1 35 := ⟨by decide +kernel, rfl⟩
theorem dX12_replayStep_35 : dk cX12_replayStep 35 (.iadd) 1 36 := ⟨by decide +kernel, rfl⟩
theorem dX12_replayStep_36 : dk cX12_replayStep 36 (.iaload) 1 37 := ⟨by decide +kernel, rfl⟩
theorem dX12_replayStep_37 : dla cX12_replayStep 37 0 38 := Or.inl ⟨0, by decide +kernel, rfl, rfl⟩
theorem dX12_replayStep_38 : dk cX12_replayStep 38 (.getfield 16) 3 41 := ⟨by decide +kernel, rfl⟩
theorem dX12_replayStep_41 : dq cX12_replayStep 41 84 43 := dq_b (n := 84) (by decide +kernel) (by decide) rfl
theorem dX12_replayStep_43 : dq cX12_replayStep 43 2 44 := dq_i (n := 2) (by decide +kernel) (by decide) rfl
theorem dX12_replayStep_44 : dla cX12_replayStep 44 0 45 := Or.inl ⟨0, by decide +kernel, rfl, rfl⟩
theorem dX12_replayStep_45 : dk cX12_replayStep 45 (.getfield 120) 3 48 := ⟨by decide +kernel, rfl⟩
theorem dX12_replayStep_48 : dk cX12_replayStep 48 (.imul) 1 49 := ⟨by decide +kernel, rfl⟩
theorem dX12_replayStep_49 : dk cX12_replayStep 49 (.iadd) 1 50 := ⟨by decide +kernel, rfl⟩
theorem dX12_replayStep_50 : dq cX12_replayStep 50 1 51 := dq_i (n := 1) (by decide +kernel) (by decide) rfl
theorem dX12_replayStep_51 : dk cX12_replayStep 51 (.iadd) 1 52 := ⟨by decide +kernel, rfl⟩
theorem dX12_replayStep_52 : dk cX12_replayStep 52 (.iaload) 1 53 := ⟨by decide +kernel, rfl⟩
theorem dX12_replayStep_53 : dk cX12_replayStep 53 (.invokevirtual 123) 3 56 := ⟨by decide +kernel, rfl⟩
theorem dX12_replayStep_56 : dla cX12_replayStep 56 0 57 := Or.inl ⟨0, by decide +kernel, rfl, rfl⟩
theorem dX12_replayStep_57 : dk cX12_replayStep 57 (.dup) 1 58 := ⟨by decide +kernel, rfl⟩
theorem dX12_replayStep_58 : dk cX12_replayStep 58 (.getfield 120) 3 61 := ⟨by decide +kernel, rfl⟩
theorem dX12_replayStep_61 : dq cX12_replayStep 61 1 62 := dq_i (n := 1) (by decide +kernel) (by decide) rfl
theorem dX12_replayStep_62 : dk cX12_replayStep 62 (.iadd) 1 63 := ⟨by decide +kernel, rfl⟩
theorem dX12_replayStep_63 : dk cX12_replayStep 63 (.putfield 120) 3 66 := ⟨by decide +kernel, rfl⟩
theorem dX12_replayStep_66 : db cX12_replayStep 66 (.goto 19) 19 69 85 := ⟨by decide +kernel, rfl, by decide⟩
theorem dX12_replayStep_69 : dla cX12_replayStep 69 0 70 := Or.inl ⟨0, by decide +kernel, rfl, rfl⟩
theorem dX12_replayStep_70 : dq cX12_replayStep 70 2 71 := dq_i (n := 2) (by decide +kernel) (by decide) rfl
theorem dX12_replayStep_71 : dq cX12_replayStep 71 0 72 := dq_i (n := 0) (by decide +kernel) (by decide) rfl
theorem dX12_replayStep_72 : dk cX12_replayStep 72 (.invokevirtual 123) 3 75 := ⟨by decide +kernel, rfl⟩
theorem dX12_replayStep_75 : dla cX12_replayStep 75 0 76 := Or.inl ⟨0, by decide +kernel, rfl, rfl⟩
theorem dX12_replayStep_76 : dq cX12_replayStep 76 2 77 := dq_i (n := 2) (by decide +kernel) (by decide) rfl
theorem dX12_replayStep_77 : dk cX12_replayStep 77 (.putfield 93) 3 80 := ⟨by decide +kernel, rfl⟩
theorem dX12_replayStep_80 : dla cX12_replayStep 80 0 81 := Or.inl ⟨0, by decide +kernel, rfl, rfl⟩
theorem dX12_replayStep_81 : dq cX12_replayStep 81 0 82 := dq_i (n := 0) (by decide +kernel) (by decide) rfl
theorem dX12_replayStep_82 : dk cX12_replayStep 82 (.putfield 127) 3 85 := ⟨by decide +kernel, rfl⟩
theorem dX12_replayStep_85 : dk cX12_replayStep 85 (.return_) 1 86 := ⟨by decide +kernel, rfl⟩
theorem dX12_stepOnce_0 : dla cX12_stepOnce 0 0 1 := Or.inl ⟨0, by decide +kernel, rfl, rfl⟩
theorem dX12_stepOnce_1 : dk cX12_stepOnce 1 (.getfield 93) 3 4 := ⟨by decide +kernel, rfl⟩
theorem dX12_stepOnce_4 : dq cX12_stepOnce 4 2 5 := dq_i (n := 2) (by decide +kernel) (by decide) rfl
theorem dX12_stepOnce_5 : db cX12_stepOnce 5 (.if_icmp .ne 29) 29 8 34 := ⟨by decide +kernel, rfl, by decide⟩
theorem dX12_stepOnce_8 : dla cX12_stepOnce 8 0 9 := Or.inl ⟨0, by decide +kernel, rfl, rfl⟩
theorem dX12_stepOnce_9 : dk cX12_stepOnce 9 (.getfield 127) 3 12 := ⟨by decide +kernel, rfl⟩
theorem dX12_stepOnce_12 : db cX12_stepOnce 12 (.ifCond .ne 22) 22 15 34 := ⟨by decide +kernel, rfl, by decide⟩
theorem dX12_stepOnce_15 : dla cX12_stepOnce 15 0 16 := Or.inl ⟨0, by decide +kernel, rfl, rfl⟩
theorem dX12_stepOnce_16 : dk cX12_stepOnce 16 (.getfield 16) 3 19 := ⟨by decide +kernel, rfl⟩
theorem dX12_stepOnce_19 : dq cX12_stepOnce 19 4 20 := dq_i (n := 4) (by decide +kernel) (by decide) rfl
theorem dX12_stepOnce_20 : dk cX12_stepOnce 20 (.iaload) 1 21 := ⟨by decide +kernel, rfl⟩
theorem dX12_stepOnce_21 : dla cX12_stepOnce 21 0 22 := Or.inl ⟨0, by decide +kernel, rfl, rfl⟩
theorem dX12_stepOnce_22 : dk cX12_stepOnce 22 (.getfield 16) 3 25 := ⟨by decide +kernel, rfl⟩
theorem dX12_stepOnce_25 : dq cX12_stepOnce 25 3 26 := dq_i (n := 3) (by decide +kernel) (by decide) rfl
theorem dX12_stepOnce_26 : dk cX12_stepOnce 26 (.iaload) 1 27 := ⟨by decide +kernel, rfl⟩
theorem dX12_stepOnce_27 : db cX12_stepOnce 27 (.if_icmp .ne 7) 7 30 34 := ⟨by decide +kernel, rfl, by decide⟩
theorem dX12_stepOnce_30 : dla cX12_stepOnce 30 0 31 := Or.inl ⟨0, by decide +kernel, rfl, rfl⟩
theorem dX12_stepOnce_31 : dk cX12_stepOnce 31 (.invokevirtual 164) 3 34 := ⟨by decide +kernel, rfl⟩
theorem dX12_stepOnce_34 : dla cX12_stepOnce 34 0 35 := Or.inl ⟨0, by decide +kernel, rfl, rfl⟩
theorem dX12_stepOnce_35 : dk cX12_stepOnce 35 (.getfield 90) 3 38 := ⟨by decide +kernel, rfl⟩
theorem dX12_stepOnce_38 : dsi cX12_stepOnce 38 1 39 := Or.inl ⟨1, by decide +kernel, rfl, rfl⟩
theorem dX12_stepOnce_39 : dla cX12_stepOnce 39 0 40 := Or.inl ⟨0, by decide +kernel, rfl, rfl⟩
theorem dX12_stepOnce_40 : dk cX12_stepOnce 40 (.getfield 93) 3 43 := ⟨by decide +kernel, rfl⟩
theorem dX12_stepOnce_43_0 : decode cX12_stepOnce 43 = .ok (.tableswitch 46 1 3 #[25, 32, 39], 25) := by decide +kernel
theorem dX12_stepOnce_43_c1 : dt cX12_stepOnce 43 1 68 := ⟨_, _, _, _, _, _, dX12_stepOnce_43_0, by decide, by decide, rfl, by decide⟩
theorem dX12_stepOnce_43_c2 : dt cX12_stepOnce 43 2 75 := ⟨_, _, _, _, _, _, dX12_stepOnce_43_0, by decide, by decide, rfl, by decide⟩
theorem dX12_stepOnce_43_c3 : dt cX12_stepOnce 43 3 82 := ⟨_, _, _, _, _, _, dX12_stepOnce_43_0, by decide, by decide, rfl, by decide⟩
theorem dX12_stepOnce_43_d : dtd cX12_stepOnce 43 1 3 89 := ⟨_, _, _, dX12_stepOnce_43_0, by decide⟩
theorem dX12_stepOnce_68 : dla cX12_stepOnce 68 0 69 := Or.inl ⟨0, by decide +kernel, rfl, rfl⟩
theorem dX12_stepOnce_69 : dk cX12_stepOnce 69 (.invokevirtual 167) 3 72 := ⟨by decide +kernel, rfl⟩
theorem dX12_stepOnce_72 : db cX12_stepOnce 72 (.goto 21) 21 75 93 := ⟨by decide +kernel, rfl, by decide⟩
theorem dX12_stepOnce_75 : dla cX12_stepOnce 75 0 76 := Or.inl ⟨0, by decide +kernel, rfl, rfl⟩
theorem dX12_stepOnce_76 : dk cX12_stepOnce 76 (.invokevirtual 170) 3 79 := ⟨by decide +kernel, rfl⟩
theorem dX12_stepOnce_79 : db cX12_stepOnce 79 (.goto 14) 14 82 93 := ⟨by decide +kernel, rfl, by decide⟩
theorem dX12_stepOnce_82 : dla cX12_stepOnce 82 0 83 := Or.inl ⟨0, by decide +kernel, rfl, rfl⟩
theorem dX12_stepOnce_83 : dk cX12_stepOnce 83 (.invokevirtual 173) 3 86 := ⟨by decide +kernel, rfl⟩
theorem dX12_stepOnce_86 : db cX12_stepOnce 86 (.goto 7) 7 89 93 := ⟨by decide +kernel, rfl, by decide⟩
theorem dX12_stepOnce_89 : dla cX12_stepOnce 89 0 90 := Or.inl ⟨0, by decide +kernel, rfl, rfl⟩
theorem dX12_stepOnce_90 : dk cX12_stepOnce 90 (.invokevirtual 176) 3 93 := ⟨by decide +kernel, rfl⟩
theorem dX12_stepOnce_93 : dla cX12_stepOnce 93 0 94 := Or.inl ⟨0, by decide +kernel, rfl, rfl⟩
theorem dX12_stepOnce_94 : dk cX12_stepOnce 94 (.getfield 90) 3 97 := ⟨by decide +kernel, rfl⟩
theorem dX12_stepOnce_97 : dli cX12_stepOnce 97 1 98 := Or.inl ⟨1, by decide +kernel, rfl, rfl⟩
theorem dX12_stepOnce_98 : db cX12_stepOnce 98 (.if_icmp .eq 5) 5 101 103 := ⟨by decide +kernel, rfl, by decide⟩
theorem dX12_stepOnce_101 : dq cX12_stepOnce 101 0 102 := dq_i (n := 0) (by decide +kernel) (by decide) rfl
theorem dX12_stepOnce_102 : dk cX12_stepOnce 102 (.ireturn) 1 103 := ⟨by decide +kernel, rfl⟩
theorem dX12_stepOnce_103 : dla cX12_stepOnce 103 0 104 := Or.inl ⟨0, by decide +kernel, rfl, rfl⟩
theorem dX12_stepOnce_104 : dk cX12_stepOnce 104 (.getfield 179) 3 107 := ⟨by decide +kernel, rfl⟩
theorem dX12_stepOnce_107 : db cX12_stepOnce 107 (.ifCond .le 24) 24 110 131 := ⟨by decide +kernel, rfl, by decide⟩
theorem dX12_stepOnce_110 : dla cX12_stepOnce 110 0 111 := Or.inl ⟨0, by decide +kernel, rfl, rfl⟩
theorem dX12_stepOnce_111 : dk cX12_stepOnce 111 (.dup) 1 112 := ⟨by decide +kernel, rfl⟩
theorem dX12_stepOnce_112 : dk cX12_stepOnce 112 (.getfield 179) 3 115 := ⟨by decide +kernel, rfl⟩
theorem dX12_stepOnce_115 : dq cX12_stepOnce 115 1 116 := dq_i (n := 1) (by decide +kernel) (by decide) rfl
theorem dX12_stepOnce_116 : dk cX12_stepOnce 116 (.isub) 1 117 := ⟨by decide +kernel, rfl⟩
theorem dX12_stepOnce_117 : dk cX12_stepOnce 117 (.putfield 179) 3 120 := ⟨by decide +kernel, rfl⟩
theorem dX12_stepOnce_120 : dla cX12_stepOnce 120 0 121 := Or.inl ⟨0, by decide +kernel, rfl, rfl⟩
theorem dX12_stepOnce_121 : dk cX12_stepOnce 121 (.getfield 179) 3 124 := ⟨by decide +kernel, rfl⟩
theorem dX12_stepOnce_124 : db cX12_stepOnce 124 (.ifCond .ne 7) 7 127 131 := ⟨by decide +kernel, rfl, by decide⟩
theorem dX12_stepOnce_127 : dla cX12_stepOnce 127 0 128 := Or.inl ⟨0, by decide +kernel, rfl, rfl⟩
theorem dX12_stepOnce_128 : dk cX12_stepOnce 128 (.invokevirtual 114) 3 131 := ⟨by decide +kernel, rfl⟩
theorem dX12_stepOnce_131 : dq cX12_stepOnce 131 1 132 := dq_i (n := 1) (by decide +kernel) (by decide) rfl
theorem dX12_stepOnce_132 : dk cX12_stepOnce 132 (.ireturn) 1 133 := ⟨by decide +kernel, rfl⟩
