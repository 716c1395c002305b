/-! decode rows, in this proof's own forms -/
set_option maxRecDepth 100000
theorem dX12_push_0 : dq cX12_push 0 56 2 := dq_b (n := 56) (by decide +kernel) (by decide) rfl
theorem dX12_push_2 : dq cX12_push 2 6 4 := dq_b (n := 6) (by decide +kernel) (by decide) rfl
theorem dX12_push_4 : dli cX12_push 4 1 5 := Or.inl ⟨1, by decide +kernel, rfl, rfl⟩
theorem dX12_push_5 : dk cX12_push 5 (.imul) 1 6 := ⟨by decide +kernel, rfl⟩
theorem dX12_push_6 : dk cX12_push 6 (.iadd) 1 7 := ⟨by decide +kernel, rfl⟩
theorem dX12_push_7 : dsi cX12_push 7 3 8 := Or.inl ⟨3, by decide +kernel, rfl, rfl⟩
theorem dX12_push_8 : dla cX12_push 8 0 9 := Or.inl ⟨0, by decide +kernel, rfl, rfl⟩
theorem dX12_push_9 : dli cX12_push 9 3 10 := Or.inl ⟨3, by decide +kernel, rfl, rfl⟩
theorem dX12_push_10 : dq cX12_push 10 1 11 := dq_i (n := 1) (by decide +kernel) (by decide) rfl
theorem dX12_push_11 : dk cX12_push 11 (.iadd) 1 12 := ⟨by decide +kernel, rfl⟩
theorem dX12_push_12 : dk cX12_push 12 (.invokevirtual 133) 3 15 := ⟨by decide +kernel, rfl⟩
theorem dX12_push_15 : dsi cX12_push 15 4 17 := Or.inr ⟨by decide +kernel, rfl⟩
theorem dX12_push_17 : dli cX12_push 17 3 18 := Or.inl ⟨3, by decide +kernel, rfl, rfl⟩
theorem dX12_push_18 : dq cX12_push 18 2 19 := dq_i (n := 2) (by decide +kernel) (by decide) rfl
theorem dX12_push_19 : dk cX12_push 19 (.iadd) 1 20 := ⟨by decide +kernel, rfl⟩
theorem dX12_push_20 : dla cX12_push 20 0 21 := Or.inl ⟨0, by decide +kernel, rfl, rfl⟩
theorem dX12_push_21 : dli cX12_push 21 3 22 := Or.inl ⟨3, by decide +kernel, rfl, rfl⟩
theorem dX12_push_22 : dk cX12_push 22 (.invokevirtual 133) 3 25 := ⟨by decide +kernel, rfl⟩
theorem dX12_push_25 : dli cX12_push 25 4 27 := Or.inr ⟨by decide +kernel, rfl⟩
theorem dX12_push_27 : dk cX12_push 27 (.iadd) 1 28 := ⟨by decide +kernel, rfl⟩
theorem dX12_push_28 : dq cX12_push 28 4 29 := dq_i (n := 4) (by decide +kernel) (by decide) rfl
theorem dX12_push_29 : dk cX12_push 29 (.irem) 1 30 := ⟨by decide +kernel, rfl⟩
theorem dX12_push_30 : dk cX12_push 30 (.iadd) 1 31 := ⟨by decide +kernel, rfl⟩
theorem dX12_push_31 : dsi cX12_push 31 5 33 := Or.inr ⟨by decide +kernel, rfl⟩
theorem dX12_push_33 : dla cX12_push 33 0 34 := Or.inl ⟨0, by decide +kernel, rfl, rfl⟩
theorem dX12_push_34 : dk cX12_push 34 (.getfield 35) 3 37 := ⟨by decide +kernel, rfl⟩
theorem dX12_push_37 : dq cX12_push 37 7 39 := dq_b (n := 7) (by decide +kernel) (by decide) rfl
theorem dX12_push_39 : dq cX12_push 39 0 40 := dq_i (n := 0) (by decide +kernel) (by decide) rfl
theorem dX12_push_40 : dk cX12_push 40 (.iastore) 1 41 := ⟨by decide +kernel, rfl⟩
theorem dX12_push_41 : dli cX12_push 41 4 43 := Or.inr ⟨by decide +kernel, rfl⟩
theorem dX12_push_43 : dq cX12_push 43 4 44 := dq_i (n := 4) (by decide +kernel) (by decide) rfl
theorem dX12_push_44 : db cX12_push 44 (.if_icmp .eq 15) 15 47 59 := ⟨by decide +kernel, rfl, by decide⟩
theorem dX12_push_47 : dla cX12_push 47 0 48 := Or.inl ⟨0, by decide +kernel, rfl, rfl⟩
theorem dX12_push_48 : dli cX12_push 48 5 50 := Or.inr ⟨by decide +kernel, rfl⟩
theorem dX12_push_50 : dli cX12_push 50 3 51 := Or.inl ⟨3, by decide +kernel, rfl, rfl⟩
theorem dX12_push_51 : dq cX12_push 51 1 52 := dq_i (n := 1) (by decide +kernel) (by decide) rfl
theorem dX12_push_52 : dk cX12_push 52 (.iadd) 1 53 := ⟨by decide +kernel, rfl⟩
theorem dX12_push_53 : dk cX12_push 53 (.invokevirtual 136) 3 56 := ⟨by decide +kernel, rfl⟩
theorem dX12_push_56 : db cX12_push 56 (.ifCond .ne 4) 4 59 60 := ⟨by decide +kernel, rfl, by decide⟩
theorem dX12_push_59 : dk cX12_push 59 (.return_) 1 60 := ⟨by decide +kernel, rfl⟩
theorem dX12_push_60 : dla cX12_push 60 0 61 := Or.inl ⟨0, by decide +kernel, rfl, rfl⟩
theorem dX12_push_61 : dli cX12_push 61 5 63 := Or.inr ⟨by decide +kernel, rfl⟩
theorem dX12_push_63 : dli cX12_push 63 2 64 := Or.inl ⟨2, by decide +kernel, rfl, rfl⟩
theorem dX12_push_64 : dk cX12_push 64 (.invokevirtual 139) 3 67 := ⟨by decide +kernel, rfl⟩
theorem dX12_push_67 : dla cX12_push 67 0 68 := Or.inl ⟨0, by decide +kernel, rfl, rfl⟩
theorem dX12_push_68 : dli cX12_push 68 3 69 := Or.inl ⟨3, by decide +kernel, rfl, rfl⟩
theorem dX12_push_69 : dq cX12_push 69 1 70 := dq_i (n := 1) (by decide +kernel) (by decide) rfl
theorem dX12_push_70 : dk cX12_push 70 (.iadd) 1 71 := ⟨by decide +kernel, rfl⟩
theorem dX12_push_71 : dli cX12_push 71 4 73 := Or.inr ⟨by decide +kernel, rfl⟩
theorem dX12_push_73 : dq cX12_push 73 1 74 := dq_i (n := 1) (by decide +kernel) (by decide) rfl
theorem dX12_push_74 : dk cX12_push 74 (.iadd) 1 75 := ⟨by decide +kernel, rfl⟩
theorem dX12_push_75 : dk cX12_push 75 (.invokevirtual 139) 3 78 := ⟨by decide +kernel, rfl⟩
theorem dX12_push_78 : dla cX12_push 78 0 79 := Or.inl ⟨0, by decide +kernel, rfl, rfl⟩
theorem dX12_push_79 : dk cX12_push 79 (.getfield 35) 3 82 := ⟨by decide +kernel, rfl⟩
theorem dX12_push_82 : dq cX12_push 82 7 84 := dq_b (n := 7) (by decide +kernel) (by decide) rfl
theorem dX12_push_84 : dq cX12_push 84 1 85 := dq_i (n := 1) (by decide +kernel) (by decide) rfl
theorem dX12_push_85 : dk cX12_push 85 (.iastore) 1 86 := ⟨by decide +kernel, rfl⟩
theorem dX12_push_86 : dk cX12_push 86 (.return_) 1 87 := ⟨by decide +kernel, rfl⟩
theorem dX12_state_0 : dla cX12_state 0 0 1 := Or.inl ⟨0, by decide +kernel, rfl, rfl⟩
theorem dX12_state_1 : dq cX12_state 1 0 2 := dq_i (n := 0) (by decide +kernel) (by decide) rfl
theorem dX12_state_2 : dk cX12_state 2 (.putfield 56) 3 5 := ⟨by decide +kernel, rfl⟩
theorem dX12_state_5 : dla cX12_state 5 0 6 := Or.inl ⟨0, by decide +kernel, rfl, rfl⟩
theorem dX12_state_6 : dk cX12_state 6 (.getfield 93) 3 9 := ⟨by decide +kernel, rfl⟩
theorem dX12_state_9 : dq cX12_state 9 3 10 := dq_i (n := 3) (by decide +kernel) (by decide) rfl
theorem dX12_state_10 : db cX12_state 10 (.if_icmp .eq 11) 11 13 21 := ⟨by decide +kernel, rfl, by decide⟩
theorem dX12_state_13 : dla cX12_state 13 0 14 := Or.inl ⟨0, by decide +kernel, rfl, rfl⟩
theorem dX12_state_14 : dk cX12_state 14 (.getfield 93) 3 17 := ⟨by decide +kernel, rfl⟩
theorem dX12_state_17 : dq cX12_state 17 4 18 := dq_i (n := 4) (by decide +kernel) (by decide) rfl
theorem dX12_state_18 : db cX12_state 18 (.if_icmp .ne 7) 7 21 25 := ⟨by decide +kernel, rfl, by decide⟩
theorem dX12_state_21 : dq cX12_state 21 1 22 := dq_i (n := 1) (by decide +kernel) (by decide) rfl
theorem dX12_state_22 : db cX12_state 22 (.goto 4) 4 25 26 := ⟨by decide +kernel, rfl, by decide⟩
theorem dX12_state_25 : dq cX12_state 25 0 26 := dq_i (n := 0) (by decide +kernel) (by decide) rfl
theorem dX12_state_26 : dsi cX12_state 26 2 27 := Or.inl ⟨2, by decide +kernel, rfl, rfl⟩
theorem dX12_state_27 : dli cX12_state 27 1 28 := Or.inl ⟨1, by decide +kernel, rfl, rfl⟩
theorem dX12_state_28_0 : decode cX12_state 28 = .ok (.tableswitch 134 0 9 #[56, 61, 66, 71, 84, 97, 114, 119, 124, 129], 56) := by decide +kernel
theorem dX12_state_28_c0 : dt cX12_state 28 0 84 := ⟨_, _, _, _, _, _, dX12_state_28_0, by decide, by decide, rfl, by decide⟩
theorem dX12_state_28_c1 : dt cX12_state 28 1 89 := ⟨_, _, _, _, _, _, dX12_state_28_0, by decide, by decide, rfl, by decide⟩
theorem dX12_state_28_c2 : dt cX12_state 28 2 94 := ⟨_, _, _, _, _, _, dX12_state_28_0, by decide, by decide, rfl, by decide⟩
theorem dX12_state_28_c3 : dt cX12_state 28 3 99 := ⟨_, _, _, _, _, _, dX12_state_28_0, by decide, by decide, rfl, by decide⟩
theorem dX12_state_28_c4 : dt cX12_state 28 4 112 := ⟨_, _, _, _, _, _, dX12_state_28_0, by decide, by decide, rfl, by decide⟩
theorem dX12_state_28_c5 : dt cX12_state 28 5 125 := ⟨_, _, _, _, _, _, dX12_state_28_0, by decide, by decide, rfl, by decide⟩
theorem dX12_state_28_c6 : dt cX12_state 28 6 142 := ⟨_, _, _, _, _, _, dX12_state_28_0, by decide, by decide, rfl, by decide⟩
theorem dX12_state_28_c7 : dt cX12_state 28 7 147 := ⟨_, _, _, _, _, _, dX12_state_28_0, by decide, by decide, rfl, by decide⟩
theorem dX12_state_28_c8 : dt cX12_state 28 8 152 := ⟨_, _, _, _, _, _, dX12_state_28_0, by decide, by decide, rfl, by decide⟩
theorem dX12_state_28_c9 : dt cX12_state 28 9 157 := ⟨_, _, _, _, _, _, dX12_state_28_0, by decide, by decide, rfl, by decide⟩
theorem dX12_state_28_d : dtd cX12_state 28 0 9 162 := ⟨_, _, _, dX12_state_28_0, by decide⟩
theorem dX12_state_84 : dla cX12_state 84 0 85 := Or.inl ⟨0, by decide +kernel, rfl, rfl⟩
theorem dX12_state_85 : dk cX12_state 85 (.getfield 93) 3 88 := ⟨by decide +kernel, rfl⟩
theorem dX12_state_88 : dk cX12_state 88 (.ireturn) 1 89 := ⟨by decide +kernel, rfl⟩
theorem dX12_state_89 : dla cX12_state 89 0 90 := Or.inl ⟨0, by decide +kernel, rfl, rfl⟩
theorem dX12_state_90 : dk cX12_state 90 (.getfield 111) 3 93 := ⟨by decide +kernel, rfl⟩
theorem dX12_state_93 : dk cX12_state 93 (.ireturn) 1 94 := ⟨by decide +kernel, rfl⟩
theorem dX12_state_94 : dla cX12_state 94 0 95 := Or.inl ⟨0, by decide +kernel, rfl, rfl⟩
theorem dX12_state_95 : dk cX12_state 95 (.getfield 155) 3 98 := ⟨by decide +kernel, rfl⟩
theorem dX12_state_98 : dk cX12_state 98 (.ireturn) 1 99 := ⟨by decide +kernel, rfl⟩
theorem dX12_state_99 : dli cX12_state 99 2 100 := Or.inl ⟨2, by decide +kernel, rfl, rfl⟩
theorem dX12_state_100 : db cX12_state 100 (.ifCond .eq 10) 10 103 110 := ⟨by decide +kernel, rfl, by decide⟩
theorem dX12_state_103 : dla cX12_state 103 0 104 := Or.inl ⟨0, by decide +kernel, rfl, rfl⟩
theorem dX12_state_104 : dk cX12_state 104 (.getfield 96) 3 107 := ⟨by decide +kernel, rfl⟩
theorem dX12_state_107 : db cX12_state 107 (.goto 4) 4 110 111 := ⟨by decide +kernel, rfl, by decide⟩
theorem dX12_state_110 : dq cX12_state 110 0 111 := dq_i (n := 0) (by decide +kernel) (by decide) rfl
theorem dX12_state_111 : dk cX12_state 111 (.ireturn) 1 112 := ⟨by decide +kernel, rfl⟩
theorem dX12_state_112 : dli cX12_state 112 2 113 := Or.inl ⟨2, by decide +kernel, rfl, rfl⟩
theorem dX12_state_113 : db cX12_state 113 (.ifCond .eq 10) 10 116 123 := ⟨by decide +kernel, rfl, by decide⟩
theorem dX12_state_116 : dla cX12_state 116 0 117 := Or.inl ⟨0, by decide +kernel, rfl, rfl⟩
theorem dX12_state_117 : dk cX12_state 117 (.getfield 84) 3 120 := ⟨by decide +kernel, rfl⟩
theorem dX12_state_120 : db cX12_state 120 (.goto 4) 4 123 124 := ⟨by decide +kernel, rfl, by decide⟩
theorem dX12_state_123 : dq cX12_state 123 0 124 := dq_i (n := 0) (by decide +kernel) (by decide) rfl
theorem dX12_state_124 : dk cX12_state 124 (.ireturn) 1 125 := ⟨by decide +kernel, rfl⟩
theorem dX12_state_125 : dla cX12_state 125 0 126 := Or.inl ⟨0, by decide +kernel, rfl, rfl⟩
theorem dX12_state_126 : dk cX12_state 126 (.getfield 93) 3 129 := ⟨by decide +kernel, rfl⟩
theorem dX12_state_129 : dq cX12_state 129 3 130 := dq_i (n := 3) (by decide +kernel) (by decide) rfl
theorem dX12_state_130 : db cX12_state 130 (.if_icmp .ne 10) 10 133 140 := ⟨by decide +kernel, rfl, by decide⟩
theorem dX12_state_133 : dla cX12_state 133 0 134 := Or.inl ⟨0, by decide +kernel, rfl, rfl⟩
theorem dX12_state_134 : dk cX12_state 134 (.getfield 102) 3 137 := ⟨by decide +kernel, rfl⟩
theorem dX12_state_137 : db cX12_state 137 (.goto 4) 4 140 141 := ⟨by decide +kernel, rfl, by decide⟩
theorem dX12_state_140 : dq cX12_state 140 0 141 := dq_i (n := 0) (by decide +kernel) (by decide) rfl
theorem dX12_state_141 : dk cX12_state 141 (.ireturn) 1 142 := ⟨by decide +kernel, rfl⟩
theorem dX12_state_142 : dla cX12_state 142 0 143 := Or.inl ⟨0, by decide +kernel, rfl, rfl⟩
theorem dX12_state_143 : dk cX12_state 143 (.getfield 31) 3 146 := ⟨by decide +kernel, rfl⟩
theorem dX12_state_146 : dk cX12_state 146 (.ireturn) 1 147 := ⟨by decide +kernel, rfl⟩
theorem dX12_state_147 : dla cX12_state 147 0 148 := Or.inl ⟨0, by decide +kernel, rfl, rfl⟩
theorem dX12_state_148 : dk cX12_state 148 (.getfield 90) 3 151 := ⟨by decide +kernel, rfl⟩
theorem dX12_state_151 : dk cX12_state 151 (.ireturn) 1 152 := ⟨by decide +kernel, rfl⟩
theorem dX12_state_152 : dla cX12_state 152 0 153 := Or.inl ⟨0, by decide +kernel, rfl, rfl⟩
theorem dX12_state_153 : dk cX12_state 153 (.getfield 158) 3 156 := ⟨by decide +kernel, rfl⟩
theorem dX12_state_156 : dk cX12_state 156 (.ireturn) 1 157 := ⟨by decide +kernel, rfl⟩
theorem dX12_state_157 : dla cX12_state 157 0 158 := Or.inl ⟨0, by decide +kernel, rfl, rfl⟩
theorem dX12_state_158 : dk cX12_state 158 (.getfield 130) 3 161 := ⟨by decide +kernel, rfl⟩
theorem dX12_state_161 : dk cX12_state 161 (.ireturn) 1 162 := ⟨by decide +kernel, rfl⟩
theorem dX12_state_162 : dq cX12_state 162 (-1) 163 := dq_i (n := (-1)) (by decide +kernel) (by decide) rfl
theorem dX12_state_163 : dk cX12_state 163 (.ireturn) 1 164 := ⟨by decide +kernel, rfl⟩
theorem dX12_init_0 : dla cX12_init 0 0 1 := Or.inl ⟨0, by decide +kernel, rfl, rfl⟩
theorem dX12_init_1 : dk cX12_init 1 (.invokespecial 1) 3 4 := ⟨by decide +kernel, rfl⟩
theorem dX12_init_4 : dla cX12_init 4 0 5 := Or.inl ⟨0, by decide +kernel, rfl, rfl⟩
theorem dX12_init_5 : dq cX12_init 5 512 8 := dq_s (n := 512) (by decide +kernel) (by decide) rfl
theorem dX12_init_8 : dk cX12_init 8 (.newarray .int) 2 10 := ⟨by decide +kernel, rfl⟩
theorem dX12_init_10 : dk cX12_init 10 (.putfield 7) 3 13 := ⟨by decide +kernel, rfl⟩
theorem dX12_init_13 : dla cX12_init 13 0 14 := Or.inl ⟨0, by decide +kernel, rfl, rfl⟩
theorem dX12_init_14 : dq cX12_init 14 16 16 := dq_b (n := 16) (by decide +kernel) (by decide) rfl
theorem dX12_init_16 : dk cX12_init 16 (.newarray .int) 2 18 := ⟨by decide +kernel, rfl⟩
theorem dX12_init_18 : dk cX12_init 18 (.putfield 13) 3 21 := ⟨by decide +kernel, rfl⟩
theorem dX12_init_21 : dla cX12_init 21 0 22 := Or.inl ⟨0, by decide +kernel, rfl, rfl⟩
theorem dX12_init_22 : dq cX12_init 22 164 25 := dq_s (n := 164) (by decide +kernel) (by decide) rfl
theorem dX12_init_25 : dk cX12_init 25 (.newarray .int) 2 27 := ⟨by decide +kernel, rfl⟩
theorem dX12_init_27 : dk cX12_init 27 (.putfield 16) 3 30 := ⟨by decide +kernel, rfl⟩
theorem dX12_init_30 : dla cX12_init 30 0 31 := Or.inl ⟨0, by decide +kernel, rfl, rfl⟩
theorem dX12_init_31 : dq cX12_init 31 164 34 := dq_s (n := 164) (by decide +kernel) (by decide) rfl
theorem dX12_init_34 : dk cX12_init 34 (.newarray .int) 2 36 := ⟨by decide +kernel, rfl⟩
theorem dX12_init_36 : dk cX12_init 36 (.putfield 19) 3 39 := ⟨by decide +kernel, rfl⟩
theorem dX12_init_39 : dla cX12_init 39 0 40 := Or.inl ⟨0, by decide +kernel, rfl, rfl⟩
theorem dX12_init_40 : dq cX12_init 40 4 41 := dq_i (n := 4) (by decide +kernel) (by decide) rfl
theorem dX12_init_41 : dk cX12_init 41 (.newarray .int) 2 43 := ⟨by decide +kernel, rfl⟩
theorem dX12_init_43 : dk cX12_init 43 (.putfield 22) 3 46 := ⟨by decide +kernel, rfl⟩
theorem dX12_init_46 : dla cX12_init 46 0 47 := Or.inl ⟨0, by decide +kernel, rfl, rfl⟩
theorem dX12_init_47 : dq cX12_init 47 16 49 := dq_b (n := 16) (by decide +kernel) (by decide) rfl
theorem dX12_init_49 : dk cX12_init 49 (.newarray .int) 2 51 := ⟨by decide +kernel, rfl⟩
theorem dX12_init_51 : dk cX12_init 51 (.putfield 25) 3 54 := ⟨by decide +kernel, rfl⟩
theorem dX12_init_54 : dla cX12_init 54 0 55 := Or.inl ⟨0, by decide +kernel, rfl, rfl⟩
theorem dX12_init_55 : dq cX12_init 55 16 57 := dq_b (n := 16) (by decide +kernel) (by decide) rfl
theorem dX12_init_57 : dk cX12_init 57 (.newarray .int) 2 59 := ⟨by decide +kernel, rfl⟩
theorem dX12_init_59 : dk cX12_init 59 (.putfield 28) 3 62 := ⟨by decide +kernel, rfl⟩
theorem dX12_init_62 : dla cX12_init 62 0 63 := Or.inl ⟨0, by decide +kernel, rfl, rfl⟩
theorem dX12_init_63 : dq cX12_init 63 (-1) 64 := dq_i (n := (-1)) (by decide +kernel) (by decide) rfl
theorem dX12_init_64 : dk cX12_init 64 (.putfield 31) 3 67 := ⟨by decide +kernel, rfl⟩
theorem dX12_init_67 : dla cX12_init 67 0 68 := Or.inl ⟨0, by decide +kernel, rfl, rfl⟩
theorem dX12_init_68 : dq cX12_init 68 8 70 := dq_b (n := 8) (by decide +kernel) (by decide) rfl
theorem dX12_init_70 : dk cX12_init 70 (.newarray .int) 2 72 := ⟨by decide +kernel, rfl⟩
theorem dX12_init_72 : dk cX12_init 72 (.putfield 35) 3 75 := ⟨by decide +kernel, rfl⟩
theorem dX12_init_75 : dla cX12_init 75 0 76 := Or.inl ⟨0, by decide +kernel, rfl, rfl⟩
theorem dX12_init_76 : dq cX12_init 76 40 78 := dq_b (n := 40) (by decide +kernel) (by decide) rfl
theorem dX12_init_78 : dk cX12_init 78 (.newarray .int) 2 80 := ⟨by decide +kernel, rfl⟩
theorem dX12_init_80 : dk cX12_init 80 (.putfield 38) 3 83 := ⟨by decide +kernel, rfl⟩
theorem dX12_init_83 : dla cX12_init 83 0 84 := Or.inl ⟨0, by decide +kernel, rfl, rfl⟩
theorem dX12_init_84 : dq cX12_init 84 40 86 := dq_b (n := 40) (by decide +kernel) (by decide) rfl
theorem dX12_init_86 : dk cX12_init 86 (.newarray .int) 2 88 := ⟨by decide +kernel, rfl⟩
theorem dX12_init_88 : dk cX12_init 88 (.putfield 41) 3 91 := ⟨by decide +kernel, rfl⟩
theorem dX12_init_91 : dla cX12_init 91 0 92 := Or.inl ⟨0, by decide +kernel, rfl, rfl⟩
theorem dX12_init_92 : dq cX12_init 92 64 94 := dq_b (n := 64) (by decide +kernel) (by decide) rfl
theorem dX12_init_94 : dk cX12_init 94 (.newarray .int) 2 96 := ⟨by decide +kernel, rfl⟩
theorem dX12_init_96 : dk cX12_init 96 (.putfield 44) 3 99 := ⟨by decide +kernel, rfl⟩
theorem dX12_init_99 : dla cX12_init 99 0 100 := Or.inl ⟨0, by decide +kernel, rfl, rfl⟩
theorem dX12_init_100 : dq cX12_init 100 64 102 := dq_b (n := 64) (by decide +kernel) (by decide) rfl
theorem dX12_init_102 : dk cX12_init 102 (.newarray .int) 2 104 := ⟨by decide +kernel, rfl⟩
theorem dX12_init_104 : dk cX12_init 104 (.putfield 47) 3 107 := ⟨by decide +kernel, rfl⟩
theorem dX12_init_107 : dla cX12_init 107 0 108 := Or.inl ⟨0, by decide +kernel, rfl, rfl⟩
theorem dX12_init_108 : dq cX12_init 108 64 110 := dq_b (n := 64) (by decide +kernel) (by decide) rfl
theorem dX12_init_110 : dk cX12_init 110 (.newarray .int) 2 112 := ⟨by decide +kernel, rfl⟩
theorem dX12_init_112 : dk cX12_init 112 (.putfield 50) 3 115 := ⟨by decide +kernel, rfl⟩
theorem dX12_init_115 : dla cX12_init 115 0 116 := Or.inl ⟨0, by decide +kernel, rfl, rfl⟩
theorem dX12_init_116 : dq cX12_init 116 64 118 := dq_b (n := 64) (by decide +kernel) (by decide) rfl
theorem dX12_init_118 : dk cX12_init 118 (.newarray .int) 2 120 := ⟨by decide +kernel, rfl⟩
theorem dX12_init_120 : dk cX12_init 120 (.putfield 53) 3 123 := ⟨by decide +kernel, rfl⟩
theorem dX12_init_123 : dq cX12_init 123 0 124 := dq_i (n := 0) (by decide +kernel) (by decide) rfl
theorem dX12_init_124 : dsi cX12_init 124 1 125 := Or.inl ⟨1, by decide +kernel, rfl, rfl⟩
theorem dX12_init_125 : dli cX12_init 125 1 126 := Or.inl ⟨1, by decide +kernel, rfl, rfl⟩
theorem dX12_init_126 : dq cX12_init 126 64 128 := dq_b (n := 64) (by decide +kernel) (by decide) rfl
theorem dX12_init_128 : db cX12_init 128 (.if_icmp .ge 16) 16 131 144 := ⟨by decide +kernel, rfl, by decide⟩
theorem dX12_init_131 : dla cX12_init 131 0 132 := Or.inl ⟨0, by decide +kernel, rfl, rfl⟩
theorem dX12_init_132 : dk cX12_init 132 (.getfield 50) 3 135 := ⟨by decide +kernel, rfl⟩
theorem dX12_init_135 : dli cX12_init 135 1 136 := Or.inl ⟨1, by decide +kernel, rfl, rfl⟩
theorem dX12_init_136 : dq cX12_init 136 (-1) 137 := dq_i (n := (-1)) (by decide +kernel) (by decide) rfl
theorem dX12_init_137 : dk cX12_init 137 (.iastore) 1 138 := ⟨by decide +kernel, rfl⟩
theorem dX12_init_138 : dk cX12_init 138 (.iinc 1 1) 3 141 := ⟨by decide +kernel, rfl⟩
theorem dX12_init_141 : db cX12_init 141 (.goto (-16)) (-16) 144 125 := ⟨by decide +kernel, rfl, by decide⟩
theorem dX12_init_144 : dk cX12_init 144 (.return_) 1 145 := ⟨by decide +kernel, rfl⟩
theorem dX12_pop_0 : dq cX12_pop 0 56 2 := dq_b (n := 56) (by decide +kernel) (by decide) rfl
theorem dX12_pop_2 : dq cX12_pop 2 6 4 := dq_b (n := 6) (by decide +kernel) (by decide) rfl
theorem dX12_pop_4 : dli cX12_pop 4 1 5 := Or.inl ⟨1, by decide +kernel, rfl, rfl⟩
theorem dX12_pop_5 : dk cX12_pop 5 (.imul) 1 6 := ⟨by decide +kernel, rfl⟩
theorem dX12_pop_6 : dk cX12_pop 6 (.iadd) 1 7 := ⟨by decide +kernel, rfl⟩
theorem dX12_pop_7 : dsi cX12_pop 7 3 8 := Or.inl ⟨3, by decide +kernel, rfl, rfl⟩
theorem dX12_pop_8 : dla cX12_pop 8 0 9 := Or.inl ⟨0, by decide +kernel, rfl, rfl⟩
theorem dX12_pop_9 : dli cX12_pop 9 3 10 := Or.inl ⟨3, by decide +kernel, rfl, rfl⟩
theorem dX12_pop_10 : dk cX12_pop 10 (.invokevirtual 133) 3 13 := ⟨by decide +kernel, rfl⟩
theorem dX12_pop_13 : dsi cX12_pop 13 4 15 := Or.inr ⟨by decide +kernel, rfl⟩
theorem dX12_pop_15 : dla cX12_pop 15 0 16 := Or.inl ⟨0, by decide +kernel, rfl, rfl⟩
theorem dX12_pop_16 : dli cX12_pop 16 3 17 := Or.inl ⟨3, by decide +kernel, rfl, rfl⟩
theorem dX12_pop_17 : dq cX12_pop 17 1 18 := dq_i (n := 1) (by decide +kernel) (by decide) rfl
theorem dX12_pop_18 : dk cX12_pop 18 (.iadd) 1 19 := ⟨by decide +kernel, rfl⟩
theorem dX12_pop_19 : dk cX12_pop 19 (.invokevirtual 133) 3 22 := ⟨by decide +kernel, rfl⟩
theorem dX12_pop_22 : dsi cX12_pop 22 5 24 := Or.inr ⟨by decide +kernel, rfl⟩
theorem dX12_pop_24 : dli cX12_pop 24 5 26 := Or.inr ⟨by decide +kernel, rfl⟩
theorem dX12_pop_26 : db cX12_pop 26 (.ifCond .ne 19) 19 29 45 := ⟨by decide +kernel, rfl, by decide⟩
theorem dX12_pop_29 : dla cX12_pop 29 0 30 := Or.inl ⟨0, by decide +kernel, rfl, rfl⟩
theorem dX12_pop_30 : dk cX12_pop 30 (.getfield 35) 3 33 := ⟨by decide +kernel, rfl⟩
theorem dX12_pop_33 : dli cX12_pop 33 2 34 := Or.inl ⟨2, by decide +kernel, rfl, rfl⟩
theorem dX12_pop_34 : dq cX12_pop 34 0 35 := dq_i (n := 0) (by decide +kernel) (by decide) rfl
theorem dX12_pop_35 : dk cX12_pop 35 (.iastore) 1 36 := ⟨by decide +kernel, rfl⟩
theorem dX12_pop_36 : dla cX12_pop 36 0 37 := Or.inl ⟨0, by decide +kernel, rfl, rfl⟩
theorem dX12_pop_37 : dk cX12_pop 37 (.getfield 35) 3 40 := ⟨by decide +kernel, rfl⟩
theorem dX12_pop_40 : dq cX12_pop 40 7 42 := dq_b (n := 7) (by decide +kernel) (by decide) rfl
theorem dX12_pop_42 : dq cX12_pop 42 0 43 := dq_i (n := 0) (by decide +kernel) (by decide) rfl
theorem dX12_pop_43 : dk cX12_pop 43 (.iastore) 1 44 := ⟨by decide +kernel, rfl⟩
theorem dX12_pop_44 : dk cX12_pop 44 (.return_) 1 45 := ⟨by decide +kernel, rfl⟩
theorem dX12_pop_45 : dla cX12_pop 45 0 46 := Or.inl ⟨0, by decide +kernel, rfl, rfl⟩
theorem dX12_pop_46 : dli cX12_pop 46 3 47 := Or.inl ⟨3, by decide +kernel, rfl, rfl⟩
theorem dX12_pop_47 : dli cX12_pop 47 3 48 := Or.inl ⟨3, by decide +kernel, rfl, rfl⟩
theorem dX12_pop_48 : dq cX12_pop 48 1 49 := dq_i (n := 1) (by decide +kernel) (by decide) rfl
theorem dX12_pop_49 : dk cX12_pop 49 (.iadd) 1 50 := ⟨by decide +kernel, rfl⟩
theorem dX12_pop_50 : dk cX12_pop 50 (.invokevirtual 136) 3 53 := ⟨by decide +kernel, rfl⟩
theorem dX12_pop_53 : db cX12_pop 53 (.ifCond .ne 12) 12 56 65 := ⟨by decide +kernel, rfl, by decide⟩
theorem dX12_pop_56 : dla cX12_pop 56 0 57 := Or.inl ⟨0, by decide +kernel, rfl, rfl⟩
theorem dX12_pop_57 : dk cX12_pop 57 (.getfield 35) 3 60 := ⟨by decide +kernel, rfl⟩
theorem dX12_pop_60 : dq cX12_pop 60 7 62 := dq_b (n := 7) (by decide +kernel) (by decide) rfl
theorem dX12_pop_62 : dq cX12_pop 62 0 63 := dq_i (n := 0) (by decide +kernel) (by decide) rfl
theorem dX12_pop_63 : dk cX12_pop 63 (.iastore) 1 64 := ⟨by decide +kernel, rfl⟩
theorem dX12_pop_64 : dk cX12_pop 64 (.return_) 1 65 := ⟨by decide +kernel, rfl⟩
theorem dX12_pop_65 : dla cX12_pop 65 0 66 := Or.inl ⟨0, by decide +kernel, rfl, rfl⟩
theorem dX12_pop_66 : dk cX12_pop 66 (.getfield 35) 3 69 := ⟨by decide +kernel, rfl⟩
theorem dX12_pop_69 : dli cX12_pop 69 2 70 := Or.inl ⟨2, by decide +kernel, rfl, rfl⟩
theorem dX12_pop_70 : dla cX12_pop 70 0 71 := Or.inl ⟨0, by decide +kernel, rfl, rfl⟩
theorem dX12_pop_71 : dli cX12_pop 71 3 72 := Or.inl ⟨3, by decide +kernel, rfl, rfl⟩
theorem dX12_pop_72 : dq cX12_pop 72 2 73 := dq_i (n := 2) (by decide +kernel) (by decide) rfl
theorem dX12_pop_73 : dk cX12_pop 73 (.iadd) 1 74 := ⟨by decide +kernel, rfl⟩
theorem dX12_pop_74 : dli cX12_pop 74 4 76 := Or.inr ⟨by decide +kernel, rfl⟩
theorem dX12_pop_76 : dk cX12_pop 76 (.iadd) 1 77 := ⟨by decide +kernel, rfl⟩
theorem dX12_pop_77 : dk cX12_pop 77 (.invokevirtual 133) 3 80 := ⟨by decide +kernel, rfl⟩
theorem dX12_pop_80 : dk cX12_pop 80 (.iastore) 1 81 := ⟨by decide +kernel, rfl⟩
theorem dX12_pop_81 : dla cX12_pop 81 0 82 := Or.inl ⟨0, by decide +kernel, rfl, rfl⟩
theorem dX12_pop_82 : dli cX12_pop 82 3 83 := Or.inl ⟨3, by decide +kernel, rfl, rfl⟩
theorem dX12_pop_83 : dli cX12_pop 83 4 85 := Or.inr ⟨by decide +kernel, rfl⟩
theorem dX12_pop_85 : dq cX12_pop 85 1 86 := dq_i (n := 1) (by decide +kernel) (by decide) rfl
theorem dX12_pop_86 : dk cX12_pop 86 (.iadd) 1 87 := ⟨by decide +kernel, rfl⟩
theorem dX12_pop_87 : dq cX12_pop 87 4 88 := dq_i (n := 4) (by decide +kernel) (by decide) rfl
theorem dX12_pop_88 : dk cX12_pop 88 (.irem) 1 89 := ⟨by decide +kernel, rfl⟩
theorem dX12_pop_89 : dk cX12_pop 89 (.invokevirtual 139) 3 92 := ⟨by decide +kernel, rfl⟩
theorem dX12_pop_92 : dla cX12_pop 92 0 93 := Or.inl ⟨0, by decide +kernel, rfl, rfl⟩
theorem dX12_pop_93 : dli cX12_pop 93 3 94 := Or.inl ⟨3, by decide +kernel, rfl, rfl⟩
theorem dX12_pop_94 : dq cX12_pop 94 1 95 := dq_i (n := 1) (by decide +kernel) (by decide) rfl
theorem dX12_pop_95 : dk cX12_pop 95 (.iadd) 1 96 := ⟨by decide +kernel, rfl⟩
theorem dX12_pop_96 : dli cX12_pop 96 5 98 := Or.inr ⟨by decide +kernel, rfl⟩
theorem dX12_pop_98 : dq cX12_pop 98 1 99 := dq_i (n := 1) (by decide +kernel) (by decide) rfl
theorem dX12_pop_99 : dk cX12_pop 99 (.isub) 1 100 := ⟨by decide +kernel, rfl⟩
theorem dX12_pop_100 : dk cX12_pop 100 (.invokevirtual 139) 3 103 := ⟨by decide +kernel, rfl⟩
theorem dX12_pop_103 : dla cX12_pop 103 0 104 := Or.inl ⟨0, by decide +kernel, rfl, rfl⟩
theorem dX12_pop_104 : dk cX12_pop 104 (.getfield 35) 3 107 := ⟨by decide +kernel, rfl⟩
theorem dX12_pop_107 : dq cX12_pop 107 7 109 := dq_b (n := 7) (by decide +kernel) (by decide) rfl
theorem dX12_pop_109 : dq cX12_pop 109 1 110 := dq_i (n := 1) (by decide +kernel) (by decide) rfl
theorem dX12_pop_110 : dk cX12_pop 110 (.iastore) 1 111 := ⟨by decide +kernel, rfl⟩
theorem dX12_pop_111 : dk cX12_pop 111 (.return_) 1 112 := ⟨by decide +kernel, rfl⟩
theorem dX12_fail_0 : dla cX12_fail 0 0 1 := Or.inl ⟨0, by decide +kernel, rfl, rfl⟩
theorem dX12_fail_1 : dk cX12_fail 1 (.dup) 1 2 := ⟨by decide +kernel, rfl⟩
theorem dX12_fail_2 : dk cX12_fail 2 (.getfield 90) 3 5 := ⟨by decide +kernel, rfl⟩
theorem dX12_fail_5 : dq cX12_fail 5 1 6 := dq_i (n := 1) (by decide +kernel) (by decide) rfl
theorem dX12_fail_6 : dk cX12_fail 6 (.iadd) 1 7 := ⟨by decide +kernel, rfl⟩
theorem dX12_fail_7 : dk cX12_fail 7 (.putfield 90) 3 10 := ⟨by decide +kernel, rfl⟩
theorem dX12_fail_10 : dla cX12_fail 10 0 11 := Or.inl ⟨0, by decide +kernel, rfl, rfl⟩
theorem dX12_fail_11 : dk cX12_fail 11 (.getfield 93) 3 14 := ⟨by decide +kernel, rfl⟩
theorem dX12_fail_14 : dq cX12_fail 14 3 15 := dq_i (n := 3) (by decide +kernel) (by decide) rfl
theorem dX12_fail_15 : db cX12_fail 15 (.if_icmp .eq 20) 20 18 35 := ⟨by decide +kernel, rfl, by decide⟩
theorem dX12_fail_18 : dla cX12_fail 18 0 19 := Or.inl ⟨0, by decide +kernel, rfl, rfl⟩
theorem dX12_fail_19 : dk cX12_fail 19 (.getfield 93) 3 22 := ⟨by decide +kernel, rfl⟩
theorem dX12_fail_22 : dq cX12_fail 22 4 23 := dq_i (n := 4) (by decide +kernel) (by decide) rfl
theorem dX12_fail_23 : db cX12_fail 23 (.if_icmp .ne 96) 96 26 119 := ⟨by decide +kernel, rfl, by decide⟩
theorem dX12_fail_26 : dla cX12_fail 26 0 27 := Or.inl ⟨0, by decide +kernel, rfl, rfl⟩
theorem dX12_fail_27 : dk cX12_fail 27 (.getfield 16) 3 30 := ⟨by decide +kernel, rfl⟩
theorem dX12_fail_30 : dq cX12_fail 30 2 31 := dq_i (n := 2) (by decide +kernel) (by decide) rfl
theorem dX12_fail_31 : dk cX12_fail 31 (.iaload) 1 32 := ⟨by decide +kernel, rfl⟩
theorem dX12_fail_32 : db cX12_fail 32 (.ifCond .ne 87) 87 35 119 := ⟨by decide +kernel, rfl, by decide⟩
theorem dX12_fail_35 : dla cX12_fail 35 0 36 := Or.inl ⟨0, by decide +kernel, rfl, rfl⟩
theorem dX12_fail_36 : dk cX12_fail 36 (.getfield 16) 3 39 := ⟨by decide +kernel, rfl⟩
theorem dX12_fail_39 : dq cX12_fail 39 0 40 := dq_i (n := 0) (by decide +kernel) (by decide) rfl
theorem dX12_fail_40 : dk cX12_fail 40 (.iaload) 1 41 := ⟨by decide +kernel, rfl⟩
theorem dX12_fail_41 : dsi cX12_fail 41 1 42 := Or.inl ⟨1, by decide +kernel, rfl, rfl⟩
theorem dX12_fail_42 : dla cX12_fail 42 0 43 := Or.inl ⟨0, by decide +kernel, rfl, rfl⟩
theorem dX12_fail_43 : dk cX12_fail 43 (.getfield 28) 3 46 := ⟨by decide +kernel, rfl⟩
theorem dX12_fail_46 : dli cX12_fail 46 1 47 := Or.inl ⟨1, by decide +kernel, rfl, rfl⟩
theorem dX12_fail_47 : dk cX12_fail 47 (.dup2) 1 48 := ⟨by decide +kernel, rfl⟩
theorem dX12_fail_48 : dk cX12_fail 48 (.iaload) 1 49 := ⟨by decide +kernel, rfl⟩
theorem dX12_fail_49 : dq cX12_fail 49 1 50 := dq_i (n := 1) (by decide +kernel) (by decide) rfl
theorem dX12_fail_50 : dk cX12_fail 50 (.iadd) 1 51 := ⟨by decide +kernel, rfl⟩
theorem dX12_fail_51 : dk cX12_fail 51 (.iastore) 1 52 := ⟨by decide +kernel, rfl⟩
theorem dX12_fail_52 : dla cX12_fail 52 0 53 := Or.inl ⟨0, by decide +kernel, rfl, rfl⟩
theorem dX12_fail_53 : dk cX12_fail 53 (.getfield 25) 3 56 := ⟨by decide +kernel, rfl⟩
theorem dX12_fail_56 : dli cX12_fail 56 1 57 := Or.inl ⟨1, by decide +kernel, rfl, rfl⟩
theorem dX12_fail_57 : dk cX12_fail 57 (.iaload) 1 58 := ⟨by decide +kernel, rfl⟩
theorem dX12_fail_58 : dla cX12_fail 58 0 59 := Or.inl ⟨0, by decide +kernel, rfl, rfl⟩
theorem dX12_fail_59 : dk cX12_fail 59 (.getfield 96) 3 62 := ⟨by decide +kernel, rfl⟩
theorem dX12_fail_62 : db cX12_fail 62 (.if_icmp .le 12) 12 65 74 := ⟨by decide +kernel, rfl, by decide⟩
theorem dX12_fail_65 : dla cX12_fail 65 0 66 := Or.inl ⟨0, by decide +kernel, rfl, rfl⟩
theorem dX12_fail_66 : dk cX12_fail 66 (.getfield 25) 3 69 := ⟨by decide +kernel, rfl⟩
theorem dX12_fail_69 : dli cX12_fail 69 1 70 := Or.inl ⟨1, by decide +kernel, rfl, rfl⟩
theorem dX12_fail_70 : dk cX12_fail 70 (.iaload) 1 71 := ⟨by decide +kernel, rfl⟩
theorem dX12_fail_71 : db cX12_fail 71 (.goto 7) 7 74 78 := ⟨by decide +kernel, rfl, by decide⟩
theorem dX12_fail_74 : dla cX12_fail 74 0 75 := Or.inl ⟨0, by decide +kernel, rfl, rfl⟩
theorem dX12_fail_75 : dk cX12_fail 75 (.getfield 96) 3 78 := ⟨by decide +kernel, rfl⟩
theorem dX12_fail_78 : dsi cX12_fail 78 2 79 := Or.inl ⟨2, by decide +kernel, rfl, rfl⟩
theorem dX12_fail_79 : dla cX12_fail 79 0 80 := Or.inl ⟨0, by decide +kernel, rfl, rfl⟩
theorem dX12_fail_80 : dk cX12_fail 80 (.getfield 25) 3 83 := ⟨by decide +kernel, rfl⟩
theorem dX12_fail_83 : dli cX12_fail 83 1 84 := Or.inl ⟨1, by decide +kernel, rfl, rfl⟩
theorem dX12_fail_84 : dq cX12_fail 84 2 85 := dq_i (n := 2) (by decide +kernel) (by decide) rfl
theorem dX12_fail_85 : dli cX12_fail 85 2 86 := Or.inl ⟨2, by decide +kernel, rfl, rfl⟩
theorem dX12_fail_86 : dk cX12_fail 86 (.imul) 1 87 := ⟨by decide +kernel, rfl⟩
theorem dX12_fail_87 : dq cX12_fail 87 1940 90 := dq_s (n := 1940) (by decide +kernel) (by decide) rfl
theorem dX12_fail_90 : db cX12_fail 90 (.if_icmp .le 9) 9 93 99 := ⟨by decide +kernel, rfl, by decide⟩
theorem dX12_fail_93 : dq cX12_fail 93 1940 96 := dq_s (n := 1940) (by decide +kernel) (by decide) rfl
theorem dX12_fail_96 : db cX12_fail 96 (.goto 6) 6 99 102 := ⟨by decide +kernel, rfl, by decide⟩
theorem dX12_fail_99 : dq cX12_fail 99 2 100 := dq_i (n := 2) (by decide +kernel) (by decide) rfl
theorem dX12_fail_100 : dli cX12_fail 100 2 101 := Or.inl ⟨2, by decide +kernel, rfl, rfl⟩
theorem dX12_fail_101 : dk cX12_fail 101 (.imul) 1 102 := ⟨by decide +kernel, rfl⟩
theorem dX12_fail_102 : dk cX12_fail 102 (.iastore) 1 103 := ⟨by decide +kernel, rfl⟩
theorem dX12_fail_103 : dla cX12_fail 103 0 104 := Or.inl ⟨0, by decide +kernel, rfl, rfl⟩
theorem dX12_fail_104 : dk cX12_fail 104 (.getfield 28) 3 107 := ⟨by decide +kernel, rfl⟩
theorem dX12_fail_107 : dli cX12_fail 107 1 108 := Or.inl ⟨1, by decide +kernel, rfl, rfl⟩
theorem dX12_fail_108 : dk cX12_fail 108 (.iaload) 1 109 := ⟨by decide +kernel, rfl⟩
theorem dX12_fail_109 : dq cX12_fail 109 12 111 := dq_b (n := 12) (by decide +kernel) (by decide) rfl
theorem dX12_fail_111 : db cX12_fail 111 (.if_icmp .ne 8) 8 114 119 := ⟨by decide +kernel, rfl, by decide⟩
theorem dX12_fail_114 : dla cX12_fail 114 0 115 := Or.inl ⟨0, by decide +kernel, rfl, rfl⟩
theorem dX12_fail_115 : dli cX12_fail 115 1 116 := Or.inl ⟨1, by decide +kernel, rfl, rfl⟩
theorem dX12_fail_116 : dk cX12_fail 116 (.putfield 31) 3 119 := ⟨by decide +kernel, rfl⟩
theorem dX12_fail_119 : dla cX12_fail 119 0 120 := Or.inl ⟨0, by decide +kernel, rfl, rfl⟩
theorem dX12_fail_120 : dq cX12_fail 120 0 121 := dq_i (n := 0) (by decide +kernel) (by decide) rfl
theorem dX12_fail_121 : dk cX12_fail 121 (.putfield 93) 3 124 := ⟨by decide +kernel, rfl⟩
theorem dX12_fail_124 : dla cX12_fail 124 0 125 := Or.inl ⟨0, by decide +kernel, rfl, rfl⟩
theorem dX12_fail_125 : dk cX12_fail 125 (.invokevirtual 99) 3 128 := ⟨by decide +kernel, rfl⟩
theorem dX12_fail_128 : dk cX12_fail 128 (.return_) 1 129 := ⟨by decide +kernel, rfl⟩
theorem dX12_airStep_0 : dla cX12_airStep 0 0 1 := Or.inl ⟨0, by decide +kernel, rfl, rfl⟩
theorem dX12_airStep_1 : dla cX12_airStep 1 0 2 := Or.inl ⟨0, by decide +kernel, rfl, rfl⟩
theorem dX12_airStep_2 : dk cX12_airStep 2 (.getfield 127) 3 5 := ⟨by decide +kernel, rfl⟩
theorem dX12_airStep_5 : db cX12_airStep 5 (.ifCond .eq 7) 7 8 12 := ⟨by decide +kernel, rfl, by decide⟩
theorem dX12_airStep_8 : dq cX12_airStep 8 4 9 := dq_i (n := 4) (by decide +kernel) (by decide) rfl
theorem dX12_airStep_9 : db cX12_airStep 9 (.goto 5) 5 12 14 := ⟨by decide +kernel, rfl, by decide⟩
theorem dX12_airStep_12 : dq cX12_airStep 12 20 14 := dq_b (n := 20) (by decide +kernel) (by decide) rfl
theorem dX12_airStep_14 : dk cX12_airStep 14 (.invokevirtual 117) 3 17 := ⟨by decide +kernel, rfl⟩
theorem dX12_airStep_17 : db cX12_airStep 17 (.ifCond .ne 4) 4 20 21 := ⟨by decide +kernel, rfl, by decide⟩
theorem dX12_airStep_20 : dk cX12_airStep 20 (.return_) 1 21 := ⟨by decide +kernel, rfl⟩
theorem dX12_airStep_21 : dla cX12_airStep 21 0 22 := Or.inl ⟨0, by decide +kernel, rfl, rfl⟩
theorem dX12_airStep_22 : dk cX12_airStep 22 (.getfield 127) 3 25 := ⟨by decide +kernel, rfl⟩
theorem dX12_airStep_25 : db cX12_airStep 25 (.ifCond .eq 22) 22 28 47 := ⟨by decide +kernel, rfl, by decide⟩
theorem dX12_airStep_28 : dla cX12_airStep 28 0 29 := Or.inl ⟨0, by decide +kernel, rfl, rfl⟩
theorem dX12_airStep_29 : dq cX12_airStep 29 0 30 := dq_i (n := 0) (by decide +kernel) (by decide) rfl
theorem dX12_airStep_30 : dk cX12_airStep 30 (.putfield 127) 3 33 := ⟨by decide +kernel, rfl⟩
theorem dX12_airStep_33 : dla cX12_airStep 33 0 34 := Or.inl ⟨0, by decide +kernel, rfl, rfl⟩
theorem dX12_airStep_34 : dq cX12_airStep 34 4 35 := dq_i (n := 4) (by decide +kernel) (by decide) rfl
theorem dX12_airStep_35 : dla cX12_airStep 35 0 36 := Or.inl ⟨0, by decide +kernel, rfl, rfl⟩
theorem dX12_airStep_36 : dk cX12_airStep 36 (.getfield 16) 3 39 := ⟨by decide +kernel, rfl⟩
theorem dX12_airStep_39 : dq cX12_airStep 39 4 40 := dq_i (n := 4) (by decide +kernel) (by decide) rfl
theorem dX12_airStep_40 : dk cX12_airStep 40 (.iaload) 1 41 := ⟨by decide +kernel, rfl⟩
theorem dX12_airStep_41 : dq cX12_airStep 41 1 42 := dq_i (n := 1) (by decide +kernel) (by decide) rfl
theorem dX12_airStep_42 : dk cX12_airStep 42 (.iadd) 1 43 := ⟨by decide +kernel, rfl⟩
theorem dX12_airStep_43 : dk cX12_airStep 43 (.invokevirtual 123) 3 46 := ⟨by decide +kernel, rfl⟩
theorem dX12_airStep_46 : dk cX12_airStep 46 (.return_) 1 47 := ⟨by decide +kernel, rfl⟩
theorem dX12_airStep_47 : dla cX12_airStep 47 0 48 := Or.inl ⟨0, by decide +kernel, rfl, rfl⟩
theorem dX12_airStep_48 : dq cX12_airStep 48 1 49 := dq_i (n := 1) (by decide +kernel) (by decide) rfl
theorem dX12_airStep_49 : dk cX12_airStep 49 (.putfield 127) 3 52 := ⟨by decide +kernel, rfl⟩
theorem dX12_airStep_52 : dla cX12_airStep 52 0 53 := Or.inl ⟨0, by decide +kernel, rfl, rfl⟩
theorem dX12_airStep_53 : dk cX12_airStep 53 (.getfield 16) 3 56 := ⟨by decide +kernel, rfl⟩
theorem dX12_airStep_56 : dq cX12_airStep 56 4 57 := dq_i (n := 4) (by decide +kernel) (by decide) rfl
theorem dX12_airStep_57 : dk cX12_airStep 57 (.iaload) 1 58 := ⟨by decide +kernel, rfl⟩
theorem dX12_airStep_58 : dsi cX12_airStep 58 1 59 := Or.inl ⟨1, by decide +kernel, rfl, rfl⟩
theorem dX12_airStep_59 : dla cX12_airStep 59 0 60 := Or.inl ⟨0, by decide +kernel, rfl, rfl⟩
theorem dX12_airStep_60 : dk cX12_airStep 60 (.getfield 16) 3 63 := ⟨by decide +kernel, rfl⟩
theorem dX12_airStep_63 : dq cX12_airStep 63 68 65 := dq_b (n := 68) (by decide +kernel) (by decide) rfl
theorem dX12_airStep_65 : dli cX12_airStep 65 1 66 := Or.inl ⟨1, by decide +kernel, rfl, rfl⟩
theorem dX12_airStep_66 : dq cX12_airStep 66 16 68 := dq_b (n := 16) (by decide +kernel) (by decide) rfl
theorem dX12_airStep_68 : dk cX12_airStep 68 (.irem) 1 69 := ⟨by decide +kernel, rfl⟩
theorem dX12_airStep_69 : dk cX12_airStep 69 (.iadd) 1 70 := ⟨by decide +kernel, rfl⟩
theorem dX12_airStep_70 : dk cX12_airStep 70 (.iaload) 1 71 := ⟨by decide +kernel, rfl⟩
theorem dX12_airStep_71 : dsi cX12_airStep 71 2 72 := Or.inl ⟨2, by decide +kernel, rfl, rfl⟩
theorem dX12_airStep_72 : dla cX12_airStep 72 0 73 := Or.inl ⟨0, by decide +kernel, rfl, rfl⟩
theorem dX12_airStep_73 : dk cX12_airStep 73 (.getfield 44) 3 76 := ⟨by decide +kernel, rfl⟩
theorem dX12_airStep_76 : dla cX12_airStep 76 0 77 := Or.inl ⟨0, by decide +kernel, rfl, rfl⟩
theorem dX12_airStep_77 : dk cX12_airStep 77 (.getfield 130) 3 80 := ⟨by decide +kernel, rfl⟩
theorem dX12_airStep_80 : dq cX12_airStep 80 64 82 := dq_b (n := 64) (by decide +kernel) (by decide) rfl
theorem dX12_airStep_82 : dk cX12_airStep 82 (.irem) 1 83 := ⟨by decide +kernel, rfl⟩
theorem dX12_airStep_83 : dli cX12_airStep 83 1 84 := Or.inl ⟨1, by decide +kernel, rfl, rfl⟩
theorem dX12_airStep_84 : dk cX12_airStep 84 (.iastore) 1 85 := ⟨by decide +kernel, rfl⟩
theorem dX12_airStep_85 : dla cX12_airStep 85 0 86 := Or.inl ⟨0, by decide +kernel, rfl, rfl⟩
theorem dX12_airStep_86 : dk cX12_airStep 86 (.getfield 47) 3 89 := ⟨by decide +kernel, rfl⟩
theorem dX12_airStep_89 : dla cX12_airStep 89 0 90 := Or.inl ⟨0, by decide +kernel, rfl, rfl⟩
theorem dX12_airStep_90 : dk cX12_airStep 90 (.getfield 130) 3 93 := ⟨by decide +kernel, rfl⟩
theorem dX12_airStep_93 : dq cX12_airStep 93 64 95 := dq_b (n := 64) (by decide +kernel) (by decide) rfl
theorem dX12_airStep_95 : dk cX12_airStep 95 (.irem) 1 96 := ⟨by decide +kernel, rfl⟩
theorem dX12_airStep_96 : dli cX12_airStep 96 2 97 := Or.inl ⟨2, by decide +kernel, rfl, rfl⟩
theorem dX12_airStep_97 : dk cX12_airStep 97 (.iastore) 1 98 := ⟨by decide +kernel, rfl⟩
theorem dX12_airStep_98 : dla cX12_airStep 98 0 99 := Or.inl ⟨0, by decide +kernel, rfl, rfl⟩
theorem dX12_airStep_99 : dk cX12_airStep 99 (.dup) 1 100 := ⟨by decide +kernel, rfl⟩
theorem dX12_airStep_100 : dk cX12_airStep 100 (.getfield 130) 3 103 := ⟨by decide +kernel, rfl⟩
theorem dX12_airStep_103 : dq cX12_airStep 103 1 104 := dq_i (n := 1) (by decide +kernel) (by decide) rfl
theorem dX12_airStep_104 : dk cX12_airStep 104 (.iadd) 1 105 := ⟨by decide +kernel, rfl⟩
theorem dX12_airStep_105 : dk cX12_airStep 105 (.putfield 130) 3 108 := ⟨by decide +kernel, rfl⟩
theorem dX12_airStep_108 : dla cX12_airStep 108 0 109 := Or.inl ⟨0, by decide +kernel, rfl, rfl⟩
theorem dX12_airStep_109 : dk cX12_airStep 109 (.getfield 50) 3 112 := ⟨by decide +kernel, rfl⟩
theorem dX12_airStep_112 : dli cX12_airStep 112 1 113 := Or.inl ⟨1, by decide +kernel, rfl, rfl⟩
theorem dX12_airStep_113 : dq cX12_airStep 113 64 115 := dq_b (n := 64) (by decide +kernel) (by decide) rfl
theorem dX12_airStep_115 : dk cX12_airStep 115 (.irem) 1 116 := ⟨by decide +kernel, rfl⟩
theorem dX12_airStep_116 : dk cX12_airStep 116 (.iaload) 1 117 := ⟨by decide +kernel, rfl⟩
theorem dX12_airStep_117 : dli cX12_airStep 117 1 118 := Or.inl ⟨1, by decide +kernel, rfl, rfl⟩
theorem dX12_airStep_118 : db cX12_airStep 118 (.if_icmp .eq 23) 23 121 141 := ⟨by decide +kernel, rfl, by decide⟩
theorem dX12_airStep_121 : dla cX12_airStep 121 0 122 := Or.inl ⟨0, by decide +kernel, rfl, rfl⟩
theorem dX12_airStep_122 : dk cX12_airStep 122 (.getfield 50) 3 125 := ⟨by decide +kernel, rfl⟩
theorem dX12_airStep_125 : dli cX12_airStep 125 1 126 := Or.inl ⟨1, by decide +kernel, rfl, rfl⟩
theorem dX12_airStep_126 : dq cX12_airStep 126 64 128 := dq_b (n := 64) (by decide +kernel) (by decide) rfl
theorem dX12_airStep_128 : dk cX12_airStep 128 (.irem) 1 129 := ⟨by decide +kernel, rfl⟩
theorem dX12_airStep_129 : dli cX12_airStep 129 1 130 := Or.inl ⟨1, by decide +kernel, rfl, rfl⟩
theorem dX12_airStep_130 : dk cX12_airStep 130 (.iastore) 1 131 := ⟨by decide +kernel, rfl⟩
theorem dX12_airStep_131 : dla cX12_airStep 131 0 132 := Or.inl ⟨0, by decide +kernel, rfl, rfl⟩
theorem dX12_airStep_132 : dk cX12_airStep 132 (.getfield 53) 3 135 := ⟨by decide +kernel, rfl⟩
theorem dX12_airStep_135 : dli cX12_airStep 135 1 136 := Or.inl ⟨1, by decide +kernel, rfl, rfl⟩
theorem dX12_airStep_136 : dq cX12_airStep 136 64 138 := dq_b (n := 64) (by decide +kernel) (by decide) rfl
theorem dX12_airStep_138 : dk cX12_airStep 138 (.irem) 1 139 := ⟨by decide +kernel, rfl⟩
theorem dX12_airStep_139 : dli cX12_airStep 139 2 140 := Or.inl ⟨2, by decide +kernel, rfl, rfl⟩
theorem dX12_airStep_140 : dk cX12_airStep 140 (.iastore) 1 141 := ⟨by decide +kernel, rfl⟩
theorem dX12_airStep_141 : dk cX12_airStep 141 (.return_) 1 142 := ⟨by decide +kernel, rfl⟩
theorem dX12_slot_0 : dla cX12_slot 0 0 1 := Or.inl ⟨0, by decide +kernel, rfl, rfl⟩
theorem dX12_slot_1 : dla cX12_slot 1 0 2 := Or.inl ⟨0, by decide +kernel, rfl, rfl⟩
theorem dX12_slot_2 : dk cX12_slot 2 (.getfield 59) 3 5 := ⟨by decide +kernel, rfl⟩
theorem dX12_slot_5 : db cX12_slot 5 (.ifCond .ne 7) 7 8 12 := ⟨by decide +kernel, rfl, by decide⟩
theorem dX12_slot_8 : dq cX12_slot 8 1 9 := dq_i (n := 1) (by decide +kernel) (by decide) rfl
theorem dX12_slot_9 : db cX12_slot 9 (.goto 19) 19 12 28 := ⟨by decide +kernel, rfl, by decide⟩
theorem dX12_slot_12 : dli cX12_slot 12 1 13 := Or.inl ⟨1, by decide +kernel, rfl, rfl⟩
theorem dX12_slot_13 : db cX12_slot 13 (.ifCond .lt 10) 10 16 23 := ⟨by decide +kernel, rfl, by decide⟩
theorem dX12_slot_16 : dli cX12_slot 16 1 17 := Or.inl ⟨1, by decide +kernel, rfl, rfl⟩
theorem dX12_slot_17 : dq cX12_slot 17 500 20 := dq_s (n := 500) (by decide +kernel) (by decide) rfl
theorem dX12_slot_20 : db cX12_slot 20 (.if_icmp .le 7) 7 23 27 := ⟨by decide +kernel, rfl, by decide⟩
theorem dX12_slot_23 : dq cX12_slot 23 2 24 := dq_i (n := 2) (by decide +kernel) (by decide) rfl
theorem dX12_slot_24 : db cX12_slot 24 (.goto 4) 4 27 28 := ⟨by decide +kernel, rfl, by decide⟩
theorem dX12_slot_27 : dq cX12_slot 27 0 28 := dq_i (n := 0) (by decide +kernel) (by decide) rfl
theorem dX12_slot_28 : dk cX12_slot 28 (.putfield 56) 3 31 := ⟨by decide +kernel, rfl⟩
theorem dX12_slot_31 : dla cX12_slot 31 0 32 := Or.inl ⟨0, by decide +kernel, rfl, rfl⟩
theorem dX12_slot_32 : dk cX12_slot 32 (.getfield 56) 3 35 := ⟨by decide +kernel, rfl⟩
theorem dX12_slot_35 : db cX12_slot 35 (.ifCond .eq 5) 5 38 40 := ⟨by decide +kernel, rfl, by decide⟩
theorem dX12_slot_38 : dq cX12_slot 38 0 39 := dq_i (n := 0) (by decide +kernel) (by decide) rfl
theorem dX12_slot_39 : dk cX12_slot 39 (.ireturn) 1 40 := ⟨by decide +kernel, rfl⟩
theorem dX12_slot_40 : dla cX12_slot 40 0 41 := Or.inl ⟨0, by decide +kernel, rfl, rfl⟩
theorem dX12_slot_41 : dla cX12_slot 41 0 42 := Or.inl ⟨0, by decide +kernel, rfl, rfl⟩
theorem dX12_slot_42 : dk cX12_slot 42 (.getfield 111) 3 45 := ⟨by decide +kernel, rfl⟩
theorem dX12_slot_45 : dli cX12_slot 45 1 46 := Or.inl ⟨1, by decide +kernel, rfl, rfl⟩
theorem dX12_slot_46 : dk cX12_slot 46 (.iadd) 1 47 := ⟨by decide +kernel, rfl⟩
theorem dX12_slot_47 : dq cX12_slot 47 2000 50 := dq_s (n := 2000) (by decide +kernel) (by decide) rfl
theorem dX12_slot_50 : db cX12_slot 50 (.if_icmp .le 9) 9 53 59 := ⟨by decide +kernel, rfl, by decide⟩
theorem dX12_slot_53 : dq cX12_slot 53 2000 56 := dq_s (n := 2000) (by decide +kernel) (by decide) rfl
theorem dX12_slot_56 : db cX12_slot 56 (.goto 9) 9 59 65 := ⟨by decide +kernel, rfl, by decide⟩
theorem dX12_slot_59 : dla cX12_slot 59 0 60 := Or.inl ⟨0, by decide +kernel, rfl, rfl⟩
theorem dX12_slot_60 : dk cX12_slot 60 (.getfield 111) 3 63 := ⟨by decide +kernel, rfl⟩
theorem dX12_slot_63 : dli cX12_slot 63 1 64 := Or.inl ⟨1, by decide +kernel, rfl, rfl⟩
theorem dX12_slot_64 : dk cX12_slot 64 (.iadd) 1 65 := ⟨by decide +kernel, rfl⟩
theorem dX12_slot_65 : dk cX12_slot 65 (.putfield 111) 3 68 := ⟨by decide +kernel, rfl⟩
theorem dX12_slot_68 : dla cX12_slot 68 0 69 := Or.inl ⟨0, by decide +kernel, rfl, rfl⟩
theorem dX12_slot_69 : dk cX12_slot 69 (.dup) 1 70 := ⟨by decide +kernel, rfl⟩
theorem dX12_slot_70 : dk cX12_slot 70 (.getfield 155) 3 73 := ⟨by decide +kernel, rfl⟩
theorem dX12_slot_73 : dq cX12_slot 73 1 74 := dq_i (n := 1) (by decide +kernel) (by decide) rfl
theorem dX12_slot_74 : dk cX12_slot 74 (.iadd) 1 75 := ⟨by decide +kernel, rfl⟩
theorem dX12_slot_75 : dk cX12_slot 75 (.putfield 155) 3 78 := ⟨by decide +kernel, rfl⟩
theorem dX12_slot_78 : dla cX12_slot 78 0 79 := Or.inl ⟨0, by decide +kernel, rfl, rfl⟩
theorem dX12_slot_79 : dk cX12_slot 79 (.getfield 93) 3 82 := ⟨by decide +kernel, rfl⟩
theorem dX12_slot_82 : db cX12_slot 82 (.ifCond .ne 88) 88 85 170 := ⟨by decide +kernel, rfl, by decide⟩
theorem dX12_slot_85 : dq cX12_slot 85 60 87 := dq_b (n := 60) (by decide +kernel) (by decide) rfl
theorem dX12_slot_87 : dla cX12_slot 87 0 88 := Or.inl ⟨0, by decide +kernel, rfl, rfl⟩
theorem dX12_slot_88 : dk cX12_slot 88 (.getfield 25) 3 91 := ⟨by decide +kernel, rfl⟩
theorem dX12_slot_91 : dla cX12_slot 91 0 92 := Or.inl ⟨0, by decide +kernel, rfl, rfl⟩
theorem dX12_slot_92 : dk cX12_slot 92 (.getfield 16) 3 95 := ⟨by decide +kernel, rfl⟩
theorem dX12_slot_95 : dq cX12_slot 95 0 96 := dq_i (n := 0) (by decide +kernel) (by decide) rfl
theorem dX12_slot_96 : dk cX12_slot 96 (.iaload) 1 97 := ⟨by decide +kernel, rfl⟩
theorem dX12_slot_97 : dk cX12_slot 97 (.iaload) 1 98 := ⟨by decide +kernel, rfl⟩
theorem dX12_slot_98 : dk cX12_slot 98 (.iadd) 1 99 := ⟨by decide +kernel, rfl⟩
theorem dX12_slot_99 : dsi cX12_slot 99 2 100 := Or.inl ⟨2, by decide +kernel, rfl, rfl⟩
theorem dX12_slot_100 : dla cX12_slot 100 0 101 := Or.inl ⟨0, by decide +kernel, rfl, rfl⟩
theorem dX12_slot_101 : dk cX12_slot 101 (.getfield 31) 3 104 := ⟨by decide +kernel, rfl⟩
theorem dX12_slot_104 : dq cX12_slot 104 (-1) 105 := dq_i (n := (-1)) (by decide +kernel) (by decide) rfl
theorem dX12_slot_105 : db cX12_slot 105 (.if_icmp .ne 24) 24 108 129 := ⟨by decide +kernel, rfl, by decide⟩
theorem dX12_slot_108 : dla cX12_slot 108 0 109 := Or.inl ⟨0, by decide +kernel, rfl, rfl⟩
theorem dX12_slot_109 : dk cX12_slot 109 (.getfield 111) 3 112 := ⟨by decide +kernel, rfl⟩
theorem dX12_slot_112 : dli cX12_slot 112 2 113 := Or.inl ⟨2, by decide +kernel, rfl, rfl⟩
theorem dX12_slot_113 : dq cX12_slot 113 2000 116 := dq_s (n := 2000) (by decide +kernel) (by decide) rfl
theorem dX12_slot_116 : db cX12_slot 116 (.if_icmp .le 9) 9 119 125 := ⟨by decide +kernel, rfl, by decide⟩
theorem dX12_slot_119 : dq cX12_slot 119 2000 122 := dq_s (n := 2000) (by decide +kernel) (by decide) rfl
theorem dX12_slot_122 : db cX12_slot 122 (.goto 4) 4 125 126 := ⟨by decide +kernel, rfl, by decide⟩
theorem dX12_slot_125 : dli cX12_slot 125 2 126 := Or.inl ⟨2, by decide +kernel, rfl, rfl⟩
theorem dX12_slot_126 : db cX12_slot 126 (.if_icmp .ge 5) 5 129 131 := ⟨by decide +kernel, rfl, by decide⟩
theorem dX12_slot_129 : dq cX12_slot 129 (-1) 130 := dq_i (n := (-1)) (by decide +kernel) (by decide) rfl
theorem dX12_slot_130 : dk cX12_slot 130 (.ireturn) 1 131 := ⟨by decide +kernel, rfl⟩
theorem dX12_slot_131 : dla cX12_slot 131 0 132 := Or.inl ⟨0, by decide +kernel, rfl, rfl⟩
theorem dX12_slot_132 : dk cX12_slot 132 (.dup) 1 133 := ⟨by decide +kernel, rfl⟩
theorem dX12_slot_133 : dk cX12_slot 133 (.getfield 111) 3 136 := ⟨by decide +kernel, rfl⟩
theorem dX12_slot_136 : dq cX12_slot 136 60 138 := dq_b (n := 60) (by decide +kernel) (by decide) rfl
theorem dX12_slot_138 : dk cX12_slot 138 (.isub) 1 139 := ⟨by decide +kernel, rfl⟩
theorem dX12_slot_139 : dk cX12_slot 139 (.putfield 111) 3 142 := ⟨by decide +kernel, rfl⟩
theorem dX12_slot_142 : dla cX12_slot 142 0 143 := Or.inl ⟨0, by decide +kernel, rfl, rfl⟩
theorem dX12_slot_143 : dq cX12_slot 143 0 144 := dq_i (n := 0) (by decide +kernel) (by decide) rfl
theorem dX12_slot_144 : dk cX12_slot 144 (.putfield 120) 3 147 := ⟨by decide +kernel, rfl⟩
theorem dX12_slot_147 : dla cX12_slot 147 0 148 := Or.inl ⟨0, by decide +kernel, rfl, rfl⟩
theorem dX12_slot_148 : dq cX12_slot 148 0 149 := dq_i (n := 0) (by decide +kernel) (by decide) rfl
theorem dX12_slot_149 : dk cX12_slot 149 (.putfield 127) 3 152 := ⟨by decide +kernel, rfl⟩
theorem dX12_slot_152 : dla cX12_slot 152 0 153 := Or.inl ⟨0, by decide +kernel, rfl, rfl⟩
theorem dX12_slot_153 : dla cX12_slot 153 0 154 := Or.inl ⟨0, by decide +kernel, rfl, rfl⟩
theorem dX12_slot_154 : dk cX12_slot 154 (.getfield 16) 3 157 := ⟨by decide +kernel, rfl⟩
theorem dX12_slot_157 : dq cX12_slot 157 2 158 := dq_i (n := 2) (by decide +kernel) (by decide) rfl
theorem dX12_slot_158 : dk cX12_slot 158 (.iaload) 1 159 := ⟨by decide +kernel, rfl⟩
theorem dX12_slot_159 : db cX12_slot 159 (.ifCond .eq 7) 7 162 166 := ⟨by decide +kernel, rfl, by decide⟩
theorem dX12_slot_162 : dq cX12_slot 162 1 163 := dq_i (n := 1) (by decide +kernel) (by decide) rfl
theorem dX12_slot_163 : db cX12_slot 163 (.goto 4) 4 166 167 := ⟨by decide +kernel, rfl, by decide⟩
theorem dX12_slot_166 : dq cX12_slot 166 2 167 := dq_i (n := 2) (by decide +kernel) (by decide) rfl
theorem dX12_slot_167 : dk cX12_slot 167 (.putfield 93) 3 170 := ⟨by decide +kernel, rfl⟩
theorem dX12_slot_170 : dq cX12_slot 170 0 171 := dq_i (n := 0) (by decide +kernel) (by decide) rfl
theorem dX12_slot_171 : dsi cX12_slot 171 2 172 := Or.inl ⟨2, by decide +kernel, rfl, rfl⟩
theorem dX12_slot_172 : dq cX12_slot 172 0 173 := dq_i (n := 0) (by decide +kernel) (by decide) rfl
theorem dX12_slot_173 : dsi cX12_slot 173 3 174 := Or.inl ⟨3, by decide +kernel, rfl, rfl⟩
theorem dX12_slot_174 : dli cX12_slot 174 3 175 := Or.inl ⟨3, by decide +kernel, rfl, rfl⟩
theorem dX12_slot_175 : dq cX12_slot 175 16 177 := dq_b (n := 16) (by decide +kernel) (by decide) rfl
theorem dX12_slot_177 : db cX12_slot 177 (.if_icmp .ge 26) 26 180 203 := ⟨by decide +kernel, rfl, by decide⟩
theorem dX12_slot_180 : dla cX12_slot 180 0 181 := Or.inl ⟨0, by decide +kernel, rfl, rfl⟩
theorem dX12_slot_181 : dk cX12_slot 181 (.getfield 93) 3 184 := ⟨by decide +kernel, rfl⟩
theorem dX12_slot_184 : db cX12_slot 184 (.ifCond .eq 19) 19 187 203 := ⟨by decide +kernel, rfl, by decide⟩
theorem dX12_slot_187 : dla cX12_slot 187 0 188 := Or.inl ⟨0, by decide +kernel, rfl, rfl⟩
theorem dX12_slot_188 : dk cX12_slot 188 (.invokevirtual 182) 3 191 := ⟨by decide +kernel, rfl⟩
theorem dX12_slot_191 : db cX12_slot 191 (.ifCond .eq 6) 6 194 197 := ⟨by decide +kernel, rfl, by decide⟩
theorem dX12_slot_194 : dk cX12_slot 194 (.iinc 2 1) 3 197 := ⟨by decide +kernel, rfl⟩
theorem dX12_slot_197 : dk cX12_slot 197 (.iinc 3 1) 3 200 := ⟨by decide +kernel, rfl⟩
theorem dX12_slot_200 : db cX12_slot 200 (.goto (-26)) (-26) 203 174 := ⟨by decide +kernel, rfl, by decide⟩
theorem dX12_slot_203 : dli cX12_slot 203 2 204 := Or.inl ⟨2, by decide +kernel, rfl, rfl⟩
theorem dX12_slot_204 : dk cX12_slot 204 (.ireturn) 1 205 := ⟨by decide +kernel, rfl⟩
