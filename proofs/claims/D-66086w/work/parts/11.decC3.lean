/-! decode rows, in this proof's own forms -/
set_option maxRecDepth 100000
theorem dX2_init_0 : dla cX2_init 0 0 1 := Or.inl ⟨0, by decide +kernel, rfl, rfl⟩
theorem dX2_init_1 : dk cX2_init 1 (.invokespecial 3) 3 4 := ⟨by decide +kernel, rfl⟩
theorem dX2_init_4 : dla cX2_init 4 0 5 := Or.inl ⟨0, by decide +kernel, rfl, rfl⟩
theorem dX2_init_5 : dk cX2_init 5 (.new 9) 3 8 := ⟨by decide +kernel, rfl⟩
theorem dX2_init_8 : dk cX2_init 8 (.dup) 1 9 := ⟨by decide +kernel, rfl⟩
theorem dX2_init_9 : dk cX2_init 9 (.invokespecial 11) 3 12 := ⟨by decide +kernel, rfl⟩
theorem dX2_init_12 : dk cX2_init 12 (.putfield 12) 3 15 := ⟨by decide +kernel, rfl⟩
theorem dX2_init_15 : dla cX2_init 15 0 16 := Or.inl ⟨0, by decide +kernel, rfl, rfl⟩
theorem dX2_init_16 : dk cX2_init 16 (.new 18) 3 19 := ⟨by decide +kernel, rfl⟩
theorem dX2_init_19 : dk cX2_init 19 (.dup) 1 20 := ⟨by decide +kernel, rfl⟩
theorem dX2_init_20 : dla cX2_init 20 0 21 := Or.inl ⟨0, by decide +kernel, rfl, rfl⟩
theorem dX2_init_21 : dk cX2_init 21 (.getfield 12) 3 24 := ⟨by decide +kernel, rfl⟩
theorem dX2_init_24 : dk cX2_init 24 (.invokespecial 20) 3 27 := ⟨by decide +kernel, rfl⟩
theorem dX2_init_27 : dk cX2_init 27 (.putfield 23) 3 30 := ⟨by decide +kernel, rfl⟩
theorem dX2_init_30 : dla cX2_init 30 0 31 := Or.inl ⟨0, by decide +kernel, rfl, rfl⟩
theorem dX2_init_31 : dk cX2_init 31 (.new 27) 3 34 := ⟨by decide +kernel, rfl⟩
theorem dX2_init_34 : dk cX2_init 34 (.dup) 1 35 := ⟨by decide +kernel, rfl⟩
theorem dX2_init_35 : dk cX2_init 35 (.invokespecial 29) 3 38 := ⟨by decide +kernel, rfl⟩
theorem dX2_init_38 : dk cX2_init 38 (.putfield 30) 3 41 := ⟨by decide +kernel, rfl⟩
theorem dX2_init_41 : dla cX2_init 41 0 42 := Or.inl ⟨0, by decide +kernel, rfl, rfl⟩
theorem dX2_init_42 : dk cX2_init 42 (.new 34) 3 45 := ⟨by decide +kernel, rfl⟩
theorem dX2_init_45 : dk cX2_init 45 (.dup) 1 46 := ⟨by decide +kernel, rfl⟩
theorem dX2_init_46 : dk cX2_init 46 (.invokespecial 36) 3 49 := ⟨by decide +kernel, rfl⟩
theorem dX2_init_49 : dk cX2_init 49 (.putfield 37) 3 52 := ⟨by decide +kernel, rfl⟩
theorem dX2_init_52 : dla cX2_init 52 0 53 := Or.inl ⟨0, by decide +kernel, rfl, rfl⟩
theorem dX2_init_53 : dq cX2_init 53 8 55 := dq_b (n := 8) (by decide +kernel) (by decide) rfl
theorem dX2_init_55 : dk cX2_init 55 (.newarray .int) 2 57 := ⟨by decide +kernel, rfl⟩
theorem dX2_init_57 : dk cX2_init 57 (.putfield 41) 3 60 := ⟨by decide +kernel, rfl⟩
theorem dX2_init_60 : dla cX2_init 60 0 61 := Or.inl ⟨0, by decide +kernel, rfl, rfl⟩
theorem dX2_init_61 : dq cX2_init 61 4 62 := dq_i (n := 4) (by decide +kernel) (by decide) rfl
theorem dX2_init_62 : dk cX2_init 62 (.newarray .int) 2 64 := ⟨by decide +kernel, rfl⟩
theorem dX2_init_64 : dk cX2_init 64 (.putfield 45) 3 67 := ⟨by decide +kernel, rfl⟩
theorem dX2_init_67 : dla cX2_init 67 0 68 := Or.inl ⟨0, by decide +kernel, rfl, rfl⟩
theorem dX2_init_68 : dq cX2_init 68 16 70 := dq_b (n := 16) (by decide +kernel) (by decide) rfl
theorem dX2_init_70 : dk cX2_init 70 (.newarray .int) 2 72 := ⟨by decide +kernel, rfl⟩
theorem dX2_init_72 : dk cX2_init 72 (.putfield 48) 3 75 := ⟨by decide +kernel, rfl⟩
theorem dX2_init_75 : dla cX2_init 75 0 76 := Or.inl ⟨0, by decide +kernel, rfl, rfl⟩
theorem dX2_init_76 : dq cX2_init 76 16 78 := dq_b (n := 16) (by decide +kernel) (by decide) rfl
theorem dX2_init_78 : dk cX2_init 78 (.newarray .int) 2 80 := ⟨by decide +kernel, rfl⟩
theorem dX2_init_80 : dk cX2_init 80 (.putfield 51) 3 83 := ⟨by decide +kernel, rfl⟩
theorem dX2_init_83 : dla cX2_init 83 0 84 := Or.inl ⟨0, by decide +kernel, rfl, rfl⟩
theorem dX2_init_84 : dk cX2_init 84 (.new 54) 3 87 := ⟨by decide +kernel, rfl⟩
theorem dX2_init_87 : dk cX2_init 87 (.dup) 1 88 := ⟨by decide +kernel, rfl⟩
theorem dX2_init_88 : dla cX2_init 88 0 89 := Or.inl ⟨0, by decide +kernel, rfl, rfl⟩
theorem dX2_init_89 : dk cX2_init 89 (.invokespecial 56) 3 92 := ⟨by decide +kernel, rfl⟩
theorem dX2_init_92 : dk cX2_init 92 (.putfield 59) 3 95 := ⟨by decide +kernel, rfl⟩
theorem dX2_init_95 : dla cX2_init 95 0 96 := Or.inl ⟨0, by decide +kernel, rfl, rfl⟩
theorem dX2_init_96 : dk cX2_init 96 (.new 63) 3 99 := ⟨by decide +kernel, rfl⟩
theorem dX2_init_99 : dk cX2_init 99 (.dup) 1 100 := ⟨by decide +kernel, rfl⟩
theorem dX2_init_100 : dla cX2_init 100 0 101 := Or.inl ⟨0, by decide +kernel, rfl, rfl⟩
theorem dX2_init_101 : dk cX2_init 101 (.invokespecial 65) 3 104 := ⟨by decide +kernel, rfl⟩
theorem dX2_init_104 : dk cX2_init 104 (.putfield 66) 3 107 := ⟨by decide +kernel, rfl⟩
theorem dX2_init_107 : dla cX2_init 107 0 108 := Or.inl ⟨0, by decide +kernel, rfl, rfl⟩
theorem dX2_init_108 : dk cX2_init 108 (.new 70) 3 111 := ⟨by decide +kernel, rfl⟩
theorem dX2_init_111 : dk cX2_init 111 (.dup) 1 112 := ⟨by decide +kernel, rfl⟩
theorem dX2_init_112 : dla cX2_init 112 0 113 := Or.inl ⟨0, by decide +kernel, rfl, rfl⟩
theorem dX2_init_113 : dk cX2_init 113 (.invokespecial 72) 3 116 := ⟨by decide +kernel, rfl⟩
theorem dX2_init_116 : dk cX2_init 116 (.putfield 73) 3 119 := ⟨by decide +kernel, rfl⟩
theorem dX2_init_119 : dla cX2_init 119 0 120 := Or.inl ⟨0, by decide +kernel, rfl, rfl⟩
theorem dX2_init_120 : dk cX2_init 120 (.new 77) 3 123 := ⟨by decide +kernel, rfl⟩
theorem dX2_init_123 : dk cX2_init 123 (.dup) 1 124 := ⟨by decide +kernel, rfl⟩
theorem dX2_init_124 : dla cX2_init 124 0 125 := Or.inl ⟨0, by decide +kernel, rfl, rfl⟩
theorem dX2_init_125 : dk cX2_init 125 (.invokespecial 79) 3 128 := ⟨by decide +kernel, rfl⟩
theorem dX2_init_128 : dk cX2_init 128 (.putfield 80) 3 131 := ⟨by decide +kernel, rfl⟩
theorem dX2_init_131 : dla cX2_init 131 0 132 := Or.inl ⟨0, by decide +kernel, rfl, rfl⟩
theorem dX2_init_132 : dq cX2_init 132 (-1) 133 := dq_i (n := (-1)) (by decide +kernel) (by decide) rfl
theorem dX2_init_133 : dk cX2_init 133 (.putfield 84) 3 136 := ⟨by decide +kernel, rfl⟩
theorem dX2_init_136 : dk cX2_init 136 (.return_) 1 137 := ⟨by decide +kernel, rfl⟩
theorem dX10_pop_0 : dla cX10_pop 0 0 1 := Or.inl ⟨0, by decide +kernel, rfl, rfl⟩
theorem dX10_pop_1 : dk cX10_pop 1 (.getfield 18) 3 4 := ⟨by decide +kernel, rfl⟩
theorem dX10_pop_4 : dk cX10_pop 4 (.getfield 79) 3 7 := ⟨by decide +kernel, rfl⟩
theorem dX10_pop_7 : dsa cX10_pop 7 3 8 := Or.inl ⟨3, by decide +kernel, rfl, rfl⟩
theorem dX10_pop_8 : dla cX10_pop 8 3 9 := Or.inl ⟨3, by decide +kernel, rfl, rfl⟩
theorem dX10_pop_9 : dli cX10_pop 9 1 10 := Or.inl ⟨1, by decide +kernel, rfl, rfl⟩
theorem dX10_pop_10 : dq cX10_pop 10 1 11 := dq_i (n := 1) (by decide +kernel) (by decide) rfl
theorem dX10_pop_11 : dk cX10_pop 11 (.iadd) 1 12 := ⟨by decide +kernel, rfl⟩
theorem dX10_pop_12 : dk cX10_pop 12 (.invokevirtual 83) 3 15 := ⟨by decide +kernel, rfl⟩
theorem dX10_pop_15 : dsi cX10_pop 15 4 17 := Or.inr ⟨by decide +kernel, rfl⟩
theorem dX10_pop_17 : dla cX10_pop 17 3 18 := Or.inl ⟨3, by decide +kernel, rfl, rfl⟩
theorem dX10_pop_18 : dli cX10_pop 18 1 19 := Or.inl ⟨1, by decide +kernel, rfl, rfl⟩
theorem dX10_pop_19 : dk cX10_pop 19 (.invokevirtual 83) 3 22 := ⟨by decide +kernel, rfl⟩
theorem dX10_pop_22 : dsi cX10_pop 22 5 24 := Or.inr ⟨by decide +kernel, rfl⟩
theorem dX10_pop_24 : dli cX10_pop 24 4 26 := Or.inr ⟨by decide +kernel, rfl⟩
theorem dX10_pop_26 : db cX10_pop 26 (.ifCond .le 18) 18 29 44 := ⟨by decide +kernel, rfl, by decide⟩
theorem dX10_pop_29 : dla cX10_pop 29 3 30 := Or.inl ⟨3, by decide +kernel, rfl, rfl⟩
theorem dX10_pop_30 : dli cX10_pop 30 1 31 := Or.inl ⟨1, by decide +kernel, rfl, rfl⟩
theorem dX10_pop_31 : dli cX10_pop 31 1 32 := Or.inl ⟨1, by decide +kernel, rfl, rfl⟩
theorem dX10_pop_32 : dq cX10_pop 32 1 33 := dq_i (n := 1) (by decide +kernel) (by decide) rfl
theorem dX10_pop_33 : dk cX10_pop 33 (.iadd) 1 34 := ⟨by decide +kernel, rfl⟩
theorem dX10_pop_34 : dk cX10_pop 34 (.invokevirtual 112) 3 37 := ⟨by decide +kernel, rfl⟩
theorem dX10_pop_37 : db cX10_pop 37 (.ifCond .eq 7) 7 40 44 := ⟨by decide +kernel, rfl, by decide⟩
theorem dX10_pop_40 : dq cX10_pop 40 1 41 := dq_i (n := 1) (by decide +kernel) (by decide) rfl
theorem dX10_pop_41 : db cX10_pop 41 (.goto 4) 4 44 45 := ⟨by decide +kernel, rfl, by decide⟩
theorem dX10_pop_44 : dq cX10_pop 44 0 45 := dq_i (n := 0) (by decide +kernel) (by decide) rfl
theorem dX10_pop_45 : dsi cX10_pop 45 6 47 := Or.inr ⟨by decide +kernel, rfl⟩
theorem dX10_pop_47 : dli cX10_pop 47 6 49 := Or.inr ⟨by decide +kernel, rfl⟩
theorem dX10_pop_49 : db cX10_pop 49 (.ifCond .ne 8) 8 52 57 := ⟨by decide +kernel, rfl, by decide⟩
theorem dX10_pop_52 : dli cX10_pop 52 4 54 := Or.inr ⟨by decide +kernel, rfl⟩
theorem dX10_pop_54 : db cX10_pop 54 (.ifCond .ne 31) 31 57 85 := ⟨by decide +kernel, rfl, by decide⟩
theorem dX10_pop_57 : dla cX10_pop 57 0 58 := Or.inl ⟨0, by decide +kernel, rfl, rfl⟩
theorem dX10_pop_58 : dk cX10_pop 58 (.getfield 18) 3 61 := ⟨by decide +kernel, rfl⟩
theorem dX10_pop_61 : dk cX10_pop 61 (.getfield 54) 3 64 := ⟨by decide +kernel, rfl⟩
theorem dX10_pop_64 : dli cX10_pop 64 2 65 := Or.inl ⟨2, by decide +kernel, rfl, rfl⟩
theorem dX10_pop_65 : dli cX10_pop 65 6 67 := Or.inr ⟨by decide +kernel, rfl⟩
theorem dX10_pop_67 : db cX10_pop 67 (.ifCond .eq 16) 16 70 83 := ⟨by decide +kernel, rfl, by decide⟩
theorem dX10_pop_70 : dla cX10_pop 70 3 71 := Or.inl ⟨3, by decide +kernel, rfl, rfl⟩
theorem dX10_pop_71 : dli cX10_pop 71 1 72 := Or.inl ⟨1, by decide +kernel, rfl, rfl⟩
theorem dX10_pop_72 : dq cX10_pop 72 2 73 := dq_i (n := 2) (by decide +kernel) (by decide) rfl
theorem dX10_pop_73 : dk cX10_pop 73 (.iadd) 1 74 := ⟨by decide +kernel, rfl⟩
theorem dX10_pop_74 : dli cX10_pop 74 5 76 := Or.inr ⟨by decide +kernel, rfl⟩
theorem dX10_pop_76 : dk cX10_pop 76 (.iadd) 1 77 := ⟨by decide +kernel, rfl⟩
theorem dX10_pop_77 : dk cX10_pop 77 (.invokevirtual 83) 3 80 := ⟨by decide +kernel, rfl⟩
theorem dX10_pop_80 : db cX10_pop 80 (.goto 4) 4 83 84 := ⟨by decide +kernel, rfl, by decide⟩
theorem dX10_pop_83 : dq cX10_pop 83 0 84 := dq_i (n := 0) (by decide +kernel) (by decide) rfl
theorem dX10_pop_84 : dk cX10_pop 84 (.iastore) 1 85 := ⟨by decide +kernel, rfl⟩
theorem dX10_pop_85 : dli cX10_pop 85 6 87 := Or.inr ⟨by decide +kernel, rfl⟩
theorem dX10_pop_87 : db cX10_pop 87 (.ifCond .eq 25) 25 90 112 := ⟨by decide +kernel, rfl, by decide⟩
theorem dX10_pop_90 : dla cX10_pop 90 3 91 := Or.inl ⟨3, by decide +kernel, rfl, rfl⟩
theorem dX10_pop_91 : dli cX10_pop 91 1 92 := Or.inl ⟨1, by decide +kernel, rfl, rfl⟩
theorem dX10_pop_92 : dli cX10_pop 92 5 94 := Or.inr ⟨by decide +kernel, rfl⟩
theorem dX10_pop_94 : dq cX10_pop 94 1 95 := dq_i (n := 1) (by decide +kernel) (by decide) rfl
theorem dX10_pop_95 : dk cX10_pop 95 (.iadd) 1 96 := ⟨by decide +kernel, rfl⟩
theorem dX10_pop_96 : dq cX10_pop 96 4 97 := dq_i (n := 4) (by decide +kernel) (by decide) rfl
theorem dX10_pop_97 : dk cX10_pop 97 (.irem) 1 98 := ⟨by decide +kernel, rfl⟩
theorem dX10_pop_98 : dk cX10_pop 98 (.invokevirtual 116) 3 101 := ⟨by decide +kernel, rfl⟩
theorem dX10_pop_101 : dla cX10_pop 101 3 102 := Or.inl ⟨3, by decide +kernel, rfl, rfl⟩
theorem dX10_pop_102 : dli cX10_pop 102 1 103 := Or.inl ⟨1, by decide +kernel, rfl, rfl⟩
theorem dX10_pop_103 : dq cX10_pop 103 1 104 := dq_i (n := 1) (by decide +kernel) (by decide) rfl
theorem dX10_pop_104 : dk cX10_pop 104 (.iadd) 1 105 := ⟨by decide +kernel, rfl⟩
theorem dX10_pop_105 : dli cX10_pop 105 4 107 := Or.inr ⟨by decide +kernel, rfl⟩
theorem dX10_pop_107 : dq cX10_pop 107 1 108 := dq_i (n := 1) (by decide +kernel) (by decide) rfl
theorem dX10_pop_108 : dk cX10_pop 108 (.isub) 1 109 := ⟨by decide +kernel, rfl⟩
theorem dX10_pop_109 : dk cX10_pop 109 (.invokevirtual 116) 3 112 := ⟨by decide +kernel, rfl⟩
theorem dX10_pop_112 : dla cX10_pop 112 0 113 := Or.inl ⟨0, by decide +kernel, rfl, rfl⟩
theorem dX10_pop_113 : dk cX10_pop 113 (.getfield 18) 3 116 := ⟨by decide +kernel, rfl⟩
theorem dX10_pop_116 : dk cX10_pop 116 (.getfield 54) 3 119 := ⟨by decide +kernel, rfl⟩
theorem dX10_pop_119 : dq cX10_pop 119 7 121 := dq_b (n := 7) (by decide +kernel) (by decide) rfl
theorem dX10_pop_121 : dli cX10_pop 121 6 123 := Or.inr ⟨by decide +kernel, rfl⟩
theorem dX10_pop_123 : db cX10_pop 123 (.ifCond .eq 7) 7 126 130 := ⟨by decide +kernel, rfl, by decide⟩
theorem dX10_pop_126 : dq cX10_pop 126 1 127 := dq_i (n := 1) (by decide +kernel) (by decide) rfl
theorem dX10_pop_127 : db cX10_pop 127 (.goto 4) 4 130 131 := ⟨by decide +kernel, rfl, by decide⟩
theorem dX10_pop_130 : dq cX10_pop 130 0 131 := dq_i (n := 0) (by decide +kernel) (by decide) rfl
theorem dX10_pop_131 : dk cX10_pop 131 (.iastore) 1 132 := ⟨by decide +kernel, rfl⟩
theorem dX10_pop_132 : dk cX10_pop 132 (.return_) 1 133 := ⟨by decide +kernel, rfl⟩
theorem dX1_state_0 : dli cX1_state 0 1 1 := Or.inl ⟨1, by decide +kernel, rfl, rfl⟩
theorem dX1_state_1_0 : decode cX1_state 1 = .ok (.tableswitch 218 0 9 #[55, 63, 71, 79, 87, 151, 183, 191, 199, 207], 55) := by decide +kernel
theorem dX1_state_1_c0 : dt cX1_state 1 0 56 := ⟨_, _, _, _, _, _, dX1_state_1_0, by decide, by decide, rfl, by decide⟩
theorem dX1_state_1_c1 : dt cX1_state 1 1 64 := ⟨_, _, _, _, _, _, dX1_state_1_0, by decide, by decide, rfl, by decide⟩
theorem dX1_state_1_c2 : dt cX1_state 1 2 72 := ⟨_, _, _, _, _, _, dX1_state_1_0, by decide, by decide, rfl, by decide⟩
theorem dX1_state_1_c3 : dt cX1_state 1 3 80 := ⟨_, _, _, _, _, _, dX1_state_1_0, by decide, by decide, rfl, by decide⟩
theorem dX1_state_1_c4 : dt cX1_state 1 4 88 := ⟨_, _, _, _, _, _, dX1_state_1_0, by decide, by decide, rfl, by decide⟩
theorem dX1_state_1_c5 : dt cX1_state 1 5 152 := ⟨_, _, _, _, _, _, dX1_state_1_0, by decide, by decide, rfl, by decide⟩
theorem dX1_state_1_c6 : dt cX1_state 1 6 184 := ⟨_, _, _, _, _, _, dX1_state_1_0, by decide, by decide, rfl, by decide⟩
theorem dX1_state_1_c7 : dt cX1_state 1 7 192 := ⟨_, _, _, _, _, _, dX1_state_1_0, by decide, by decide, rfl, by decide⟩
theorem dX1_state_1_c8 : dt cX1_state 1 8 200 := ⟨_, _, _, _, _, _, dX1_state_1_0, by decide, by decide, rfl, by decide⟩
theorem dX1_state_1_c9 : dt cX1_state 1 9 208 := ⟨_, _, _, _, _, _, dX1_state_1_0, by decide, by decide, rfl, by decide⟩
theorem dX1_state_1_d : dtd cX1_state 1 0 9 219 := ⟨_, _, _, dX1_state_1_0, by decide⟩
theorem dX1_state_56 : dla cX1_state 56 0 57 := Or.inl ⟨0, by decide +kernel, rfl, rfl⟩
theorem dX1_state_57 : dk cX1_state 57 (.getfield 10) 3 60 := ⟨by decide +kernel, rfl⟩
theorem dX1_state_60 : dk cX1_state 60 (.invokevirtual 114) 3 63 := ⟨by decide +kernel, rfl⟩
theorem dX1_state_63 : dk cX1_state 63 (.ireturn) 1 64 := ⟨by decide +kernel, rfl⟩
theorem dX1_state_64 : dla cX1_state 64 0 65 := Or.inl ⟨0, by decide +kernel, rfl, rfl⟩
theorem dX1_state_65 : dk cX1_state 65 (.getfield 10) 3 68 := ⟨by decide +kernel, rfl⟩
theorem dX1_state_68 : dk cX1_state 68 (.getfield 117) 3 71 := ⟨by decide +kernel, rfl⟩
theorem dX1_state_71 : dk cX1_state 71 (.ireturn) 1 72 := ⟨by decide +kernel, rfl⟩
theorem dX1_state_72 : dla cX1_state 72 0 73 := Or.inl ⟨0, by decide +kernel, rfl, rfl⟩
theorem dX1_state_73 : dk cX1_state 73 (.getfield 10) 3 76 := ⟨by decide +kernel, rfl⟩
theorem dX1_state_76 : dk cX1_state 76 (.getfield 120) 3 79 := ⟨by decide +kernel, rfl⟩
theorem dX1_state_79 : dk cX1_state 79 (.ireturn) 1 80 := ⟨by decide +kernel, rfl⟩
theorem dX1_state_80 : dla cX1_state 80 0 81 := Or.inl ⟨0, by decide +kernel, rfl, rfl⟩
theorem dX1_state_81 : dk cX1_state 81 (.getfield 10) 3 84 := ⟨by decide +kernel, rfl⟩
theorem dX1_state_84 : dk cX1_state 84 (.getfield 122) 3 87 := ⟨by decide +kernel, rfl⟩
theorem dX1_state_87 : dk cX1_state 87 (.ireturn) 1 88 := ⟨by decide +kernel, rfl⟩
theorem dX1_state_88 : dla cX1_state 88 0 89 := Or.inl ⟨0, by decide +kernel, rfl, rfl⟩
theorem dX1_state_89 : dk cX1_state 89 (.getfield 10) 3 92 := ⟨by decide +kernel, rfl⟩
theorem dX1_state_92 : dk cX1_state 92 (.getfield 125) 3 95 := ⟨by decide +kernel, rfl⟩
theorem dX1_state_95 : dla cX1_state 95 0 96 := Or.inl ⟨0, by decide +kernel, rfl, rfl⟩
theorem dX1_state_96 : dk cX1_state 96 (.getfield 10) 3 99 := ⟨by decide +kernel, rfl⟩
theorem dX1_state_99 : dk cX1_state 99 (.getfield 129) 3 102 := ⟨by decide +kernel, rfl⟩
theorem dX1_state_102 : db cX1_state 102 (.if_acmp .ne 16) 16 105 118 := ⟨by decide +kernel, rfl, by decide⟩
theorem dX1_state_105 : dla cX1_state 105 0 106 := Or.inl ⟨0, by decide +kernel, rfl, rfl⟩
theorem dX1_state_106 : dk cX1_state 106 (.getfield 10) 3 109 := ⟨by decide +kernel, rfl⟩
theorem dX1_state_109 : dk cX1_state 109 (.getfield 133) 3 112 := ⟨by decide +kernel, rfl⟩
theorem dX1_state_112 : dk cX1_state 112 (.getfield 137) 3 115 := ⟨by decide +kernel, rfl⟩
theorem dX1_state_115 : db cX1_state 115 (.goto 36) 36 118 151 := ⟨by decide +kernel, rfl, by decide⟩
theorem dX1_state_118 : dla cX1_state 118 0 119 := Or.inl ⟨0, by decide +kernel, rfl, rfl⟩
theorem dX1_state_119 : dk cX1_state 119 (.getfield 10) 3 122 := ⟨by decide +kernel, rfl⟩
theorem dX1_state_122 : dk cX1_state 122 (.getfield 125) 3 125 := ⟨by decide +kernel, rfl⟩
theorem dX1_state_125 : dla cX1_state 125 0 126 := Or.inl ⟨0, by decide +kernel, rfl, rfl⟩
theorem dX1_state_126 : dk cX1_state 126 (.getfield 10) 3 129 := ⟨by decide +kernel, rfl⟩
theorem dX1_state_129 : dk cX1_state 129 (.getfield 140) 3 132 := ⟨by decide +kernel, rfl⟩
theorem dX1_state_132 : db cX1_state 132 (.if_acmp .ne 18) 18 135 150 := ⟨by decide +kernel, rfl, by decide⟩
theorem dX1_state_135 : dla cX1_state 135 0 136 := Or.inl ⟨0, by decide +kernel, rfl, rfl⟩
theorem dX1_state_136 : dk cX1_state 136 (.getfield 10) 3 139 := ⟨by decide +kernel, rfl⟩
theorem dX1_state_139 : dk cX1_state 139 (.getfield 133) 3 142 := ⟨by decide +kernel, rfl⟩
theorem dX1_state_142 : dk cX1_state 142 (.getfield 137) 3 145 := ⟨by decide +kernel, rfl⟩
theorem dX1_state_145 : dq cX1_state 145 2 146 := dq_i (n := 2) (by decide +kernel) (by decide) rfl
theorem dX1_state_146 : dk cX1_state 146 (.isub) 1 147 := ⟨by decide +kernel, rfl⟩
theorem dX1_state_147 : db cX1_state 147 (.goto 4) 4 150 151 := ⟨by decide +kernel, rfl, by decide⟩
theorem dX1_state_150 : dq cX1_state 150 0 151 := dq_i (n := 0) (by decide +kernel) (by decide) rfl
theorem dX1_state_151 : dk cX1_state 151 (.ireturn) 1 152 := ⟨by decide +kernel, rfl⟩
theorem dX1_state_152 : dla cX1_state 152 0 153 := Or.inl ⟨0, by decide +kernel, rfl, rfl⟩
theorem dX1_state_153 : dk cX1_state 153 (.getfield 10) 3 156 := ⟨by decide +kernel, rfl⟩
theorem dX1_state_156 : dk cX1_state 156 (.getfield 125) 3 159 := ⟨by decide +kernel, rfl⟩
theorem dX1_state_159 : dla cX1_state 159 0 160 := Or.inl ⟨0, by decide +kernel, rfl, rfl⟩
theorem dX1_state_160 : dk cX1_state 160 (.getfield 10) 3 163 := ⟨by decide +kernel, rfl⟩
theorem dX1_state_163 : dk cX1_state 163 (.getfield 129) 3 166 := ⟨by decide +kernel, rfl⟩
theorem dX1_state_166 : db cX1_state 166 (.if_acmp .ne 16) 16 169 182 := ⟨by decide +kernel, rfl, by decide⟩
theorem dX1_state_169 : dla cX1_state 169 0 170 := Or.inl ⟨0, by decide +kernel, rfl, rfl⟩
theorem dX1_state_170 : dk cX1_state 170 (.getfield 10) 3 173 := ⟨by decide +kernel, rfl⟩
theorem dX1_state_173 : dk cX1_state 173 (.getfield 129) 3 176 := ⟨by decide +kernel, rfl⟩
theorem dX1_state_176 : dk cX1_state 176 (.getfield 144) 3 179 := ⟨by decide +kernel, rfl⟩
theorem dX1_state_179 : db cX1_state 179 (.goto 4) 4 182 183 := ⟨by decide +kernel, rfl, by decide⟩
theorem dX1_state_182 : dq cX1_state 182 0 183 := dq_i (n := 0) (by decide +kernel) (by decide) rfl
theorem dX1_state_183 : dk cX1_state 183 (.ireturn) 1 184 := ⟨by decide +kernel, rfl⟩
theorem dX1_state_184 : dla cX1_state 184 0 185 := Or.inl ⟨0, by decide +kernel, rfl, rfl⟩
theorem dX1_state_185 : dk cX1_state 185 (.getfield 10) 3 188 := ⟨by decide +kernel, rfl⟩
theorem dX1_state_188 : dk cX1_state 188 (.getfield 149) 3 191 := ⟨by decide +kernel, rfl⟩
theorem dX1_state_191 : dk cX1_state 191 (.ireturn) 1 192 := ⟨by decide +kernel, rfl⟩
theorem dX1_state_192 : dla cX1_state 192 0 193 := Or.inl ⟨0, by decide +kernel, rfl, rfl⟩
theorem dX1_state_193 : dk cX1_state 193 (.getfield 10) 3 196 := ⟨by decide +kernel, rfl⟩
theorem dX1_state_196 : dk cX1_state 196 (.getfield 152) 3 199 := ⟨by decide +kernel, rfl⟩
theorem dX1_state_199 : dk cX1_state 199 (.ireturn) 1 200 := ⟨by decide +kernel, rfl⟩
theorem dX1_state_200 : dla cX1_state 200 0 201 := Or.inl ⟨0, by decide +kernel, rfl, rfl⟩
theorem dX1_state_201 : dk cX1_state 201 (.getfield 10) 3 204 := ⟨by decide +kernel, rfl⟩
theorem dX1_state_204 : dk cX1_state 204 (.getfield 155) 3 207 := ⟨by decide +kernel, rfl⟩
theorem dX1_state_207 : dk cX1_state 207 (.ireturn) 1 208 := ⟨by decide +kernel, rfl⟩
theorem dX1_state_208 : dla cX1_state 208 0 209 := Or.inl ⟨0, by decide +kernel, rfl, rfl⟩
theorem dX1_state_209 : dk cX1_state 209 (.getfield 10) 3 212 := ⟨by decide +kernel, rfl⟩
theorem dX1_state_212 : dk cX1_state 212 (.getfield 94) 3 215 := ⟨by decide +kernel, rfl⟩
theorem dX1_state_215 : dk cX1_state 215 (.getfield 100) 3 218 := ⟨by decide +kernel, rfl⟩
theorem dX1_state_218 : dk cX1_state 218 (.ireturn) 1 219 := ⟨by decide +kernel, rfl⟩
theorem dX1_state_219 : dq cX1_state 219 (-1) 220 := dq_i (n := (-1)) (by decide +kernel) (by decide) rfl
theorem dX1_state_220 : dk cX1_state 220 (.ireturn) 1 221 := ⟨by decide +kernel, rfl⟩
theorem dX11_act_0 : dla cX11_act 0 0 1 := Or.inl ⟨0, by decide +kernel, rfl, rfl⟩
theorem dX11_act_1 : dk cX11_act 1 (.getfield 9) 3 4 := ⟨by decide +kernel, rfl⟩
theorem dX11_act_4 : dk cX11_act 4 (.getfield 15) 3 7 := ⟨by decide +kernel, rfl⟩
theorem dX11_act_7 : dsa cX11_act 7 1 8 := Or.inl ⟨1, by decide +kernel, rfl, rfl⟩
theorem dX11_act_8 : dla cX11_act 8 1 9 := Or.inl ⟨1, by decide +kernel, rfl, rfl⟩
theorem dX11_act_9 : dk cX11_act 9 (.getfield 45) 3 12 := ⟨by decide +kernel, rfl⟩
theorem dX11_act_12 : dsi cX11_act 12 2 13 := Or.inl ⟨2, by decide +kernel, rfl, rfl⟩
theorem dX11_act_13 : dla cX11_act 13 0 14 := Or.inl ⟨0, by decide +kernel, rfl, rfl⟩
theorem dX11_act_14 : dk cX11_act 14 (.getfield 37) 3 17 := ⟨by decide +kernel, rfl⟩
theorem dX11_act_17 : dq cX11_act 17 2 18 := dq_i (n := 2) (by decide +kernel) (by decide) rfl
theorem dX11_act_18 : dli cX11_act 18 2 19 := Or.inl ⟨2, by decide +kernel, rfl, rfl⟩
theorem dX11_act_19 : dk cX11_act 19 (.imul) 1 20 := ⟨by decide +kernel, rfl⟩
theorem dX11_act_20 : db cX11_act 20 (.if_icmp .ge 57) 57 23 77 := ⟨by decide +kernel, rfl, by decide⟩
theorem dX11_act_23 : dla cX11_act 23 0 24 := Or.inl ⟨0, by decide +kernel, rfl, rfl⟩
theorem dX11_act_24 : dk cX11_act 24 (.getfield 9) 3 27 := ⟨by decide +kernel, rfl⟩
theorem dX11_act_27 : dk cX11_act 27 (.getfield 29) 3 30 := ⟨by decide +kernel, rfl⟩
theorem dX11_act_30 : dq cX11_act 30 84 32 := dq_b (n := 84) (by decide +kernel) (by decide) rfl
theorem dX11_act_32 : dla cX11_act 32 0 33 := Or.inl ⟨0, by decide +kernel, rfl, rfl⟩
theorem dX11_act_33 : dk cX11_act 33 (.getfield 37) 3 36 := ⟨by decide +kernel, rfl⟩
theorem dX11_act_36 : dk cX11_act 36 (.iadd) 1 37 := ⟨by decide +kernel, rfl⟩
theorem dX11_act_37 : dla cX11_act 37 0 38 := Or.inl ⟨0, by decide +kernel, rfl, rfl⟩
theorem dX11_act_38 : dk cX11_act 38 (.getfield 37) 3 41 := ⟨by decide +kernel, rfl⟩
theorem dX11_act_41 : dq cX11_act 41 2 42 := dq_i (n := 2) (by decide +kernel) (by decide) rfl
theorem dX11_act_42 : dk cX11_act 42 (.irem) 1 43 := ⟨by decide +kernel, rfl⟩
theorem dX11_act_43 : db cX11_act 43 (.ifCond .ne 17) 17 46 60 := ⟨by decide +kernel, rfl, by decide⟩
theorem dX11_act_46 : dla cX11_act 46 1 47 := Or.inl ⟨1, by decide +kernel, rfl, rfl⟩
theorem dX11_act_47 : dk cX11_act 47 (.getfield 48) 3 50 := ⟨by decide +kernel, rfl⟩
theorem dX11_act_50 : dla cX11_act 50 0 51 := Or.inl ⟨0, by decide +kernel, rfl, rfl⟩
theorem dX11_act_51 : dk cX11_act 51 (.getfield 37) 3 54 := ⟨by decide +kernel, rfl⟩
theorem dX11_act_54 : dq cX11_act 54 2 55 := dq_i (n := 2) (by decide +kernel) (by decide) rfl
theorem dX11_act_55 : dk cX11_act 55 (.idiv) 1 56 := ⟨by decide +kernel, rfl⟩
theorem dX11_act_56 : dk cX11_act 56 (.iaload) 1 57 := ⟨by decide +kernel, rfl⟩
theorem dX11_act_57 : db cX11_act 57 (.goto 14) 14 60 71 := ⟨by decide +kernel, rfl, by decide⟩
theorem dX11_act_60 : dla cX11_act 60 1 61 := Or.inl ⟨1, by decide +kernel, rfl, rfl⟩
theorem dX11_act_61 : dk cX11_act 61 (.getfield 51) 3 64 := ⟨by decide +kernel, rfl⟩
theorem dX11_act_64 : dla cX11_act 64 0 65 := Or.inl ⟨0, by decide +kernel, rfl, rfl⟩
theorem dX11_act_65 : dk cX11_act 65 (.getfield 37) 3 68 := ⟨by decide +kernel, rfl⟩
theorem dX11_act_68 : dq cX11_act 68 2 69 := dq_i (n := 2) (by decide +kernel) (by decide) rfl
theorem dX11_act_69 : dk cX11_act 69 (.idiv) 1 70 := ⟨by decide +kernel, rfl⟩
theorem dX11_act_70 : dk cX11_act 70 (.iaload) 1 71 := ⟨by decide +kernel, rfl⟩
theorem dX11_act_71 : dk cX11_act 71 (.invokevirtual 54) 3 74 := ⟨by decide +kernel, rfl⟩
theorem dX11_act_74 : db cX11_act 74 (.goto 85) 85 77 159 := ⟨by decide +kernel, rfl, by decide⟩
theorem dX11_act_77 : dla cX11_act 77 0 78 := Or.inl ⟨0, by decide +kernel, rfl, rfl⟩
theorem dX11_act_78 : dk cX11_act 78 (.getfield 37) 3 81 := ⟨by decide +kernel, rfl⟩
theorem dX11_act_81 : dq cX11_act 81 2 82 := dq_i (n := 2) (by decide +kernel) (by decide) rfl
theorem dX11_act_82 : dli cX11_act 82 2 83 := Or.inl ⟨2, by decide +kernel, rfl, rfl⟩
theorem dX11_act_83 : dk cX11_act 83 (.imul) 1 84 := ⟨by decide +kernel, rfl⟩
theorem dX11_act_84 : db cX11_act 84 (.if_icmp .ne 18) 18 87 102 := ⟨by decide +kernel, rfl, by decide⟩
theorem dX11_act_87 : dla cX11_act 87 0 88 := Or.inl ⟨0, by decide +kernel, rfl, rfl⟩
theorem dX11_act_88 : dk cX11_act 88 (.getfield 9) 3 91 := ⟨by decide +kernel, rfl⟩
theorem dX11_act_91 : dk cX11_act 91 (.getfield 29) 3 94 := ⟨by decide +kernel, rfl⟩
theorem dX11_act_94 : dq cX11_act 94 2 95 := dq_i (n := 2) (by decide +kernel) (by decide) rfl
theorem dX11_act_95 : dli cX11_act 95 2 96 := Or.inl ⟨2, by decide +kernel, rfl, rfl⟩
theorem dX11_act_96 : dk cX11_act 96 (.invokevirtual 54) 3 99 := ⟨by decide +kernel, rfl⟩
theorem dX11_act_99 : db cX11_act 99 (.goto 60) 60 102 159 := ⟨by decide +kernel, rfl, by decide⟩
theorem dX11_act_102 : dla cX11_act 102 0 103 := Or.inl ⟨0, by decide +kernel, rfl, rfl⟩
theorem dX11_act_103 : dk cX11_act 103 (.getfield 37) 3 106 := ⟨by decide +kernel, rfl⟩
theorem dX11_act_106 : dq cX11_act 106 3 107 := dq_i (n := 3) (by decide +kernel) (by decide) rfl
theorem dX11_act_107 : dli cX11_act 107 2 108 := Or.inl ⟨2, by decide +kernel, rfl, rfl⟩
theorem dX11_act_108 : dk cX11_act 108 (.imul) 1 109 := ⟨by decide +kernel, rfl⟩
theorem dX11_act_109 : db cX11_act 109 (.if_icmp .gt 46) 46 112 155 := ⟨by decide +kernel, rfl, by decide⟩
theorem dX11_act_112 : dla cX11_act 112 0 113 := Or.inl ⟨0, by decide +kernel, rfl, rfl⟩
theorem dX11_act_113 : dk cX11_act 113 (.getfield 9) 3 116 := ⟨by decide +kernel, rfl⟩
theorem dX11_act_116 : dk cX11_act 116 (.getfield 29) 3 119 := ⟨by decide +kernel, rfl⟩
theorem dX11_act_119 : dla cX11_act 119 1 120 := Or.inl ⟨1, by decide +kernel, rfl, rfl⟩
theorem dX11_act_120 : dk cX11_act 120 (.getfield 48) 3 123 := ⟨by decide +kernel, rfl⟩
theorem dX11_act_123 : dla cX11_act 123 0 124 := Or.inl ⟨0, by decide +kernel, rfl, rfl⟩
theorem dX11_act_124 : dk cX11_act 124 (.getfield 37) 3 127 := ⟨by decide +kernel, rfl⟩
theorem dX11_act_127 : dq cX11_act 127 2 128 := dq_i (n := 2) (by decide +kernel) (by decide) rfl
theorem dX11_act_128 : dli cX11_act 128 2 129 := Or.inl ⟨2, by decide +kernel, rfl, rfl⟩
theorem dX11_act_129 : dk cX11_act 129 (.imul) 1 130 := ⟨by decide +kernel, rfl⟩
theorem dX11_act_130 : dk cX11_act 130 (.isub) 1 131 := ⟨by decide +kernel, rfl⟩
theorem dX11_act_131 : dq cX11_act 131 1 132 := dq_i (n := 1) (by decide +kernel) (by decide) rfl
theorem dX11_act_132 : dk cX11_act 132 (.isub) 1 133 := ⟨by decide +kernel, rfl⟩
theorem dX11_act_133 : dk cX11_act 133 (.iaload) 1 134 := ⟨by decide +kernel, rfl⟩
theorem dX11_act_134 : dla cX11_act 134 1 135 := Or.inl ⟨1, by decide +kernel, rfl, rfl⟩
theorem dX11_act_135 : dk cX11_act 135 (.getfield 51) 3 138 := ⟨by decide +kernel, rfl⟩
theorem dX11_act_138 : dla cX11_act 138 0 139 := Or.inl ⟨0, by decide +kernel, rfl, rfl⟩
theorem dX11_act_139 : dk cX11_act 139 (.getfield 37) 3 142 := ⟨by decide +kernel, rfl⟩
theorem dX11_act_142 : dq cX11_act 142 2 143 := dq_i (n := 2) (by decide +kernel) (by decide) rfl
theorem dX11_act_143 : dli cX11_act 143 2 144 := Or.inl ⟨2, by decide +kernel, rfl, rfl⟩
theorem dX11_act_144 : dk cX11_act 144 (.imul) 1 145 := ⟨by decide +kernel, rfl⟩
theorem dX11_act_145 : dk cX11_act 145 (.isub) 1 146 := ⟨by decide +kernel, rfl⟩
theorem dX11_act_146 : dq cX11_act 146 1 147 := dq_i (n := 1) (by decide +kernel) (by decide) rfl
theorem dX11_act_147 : dk cX11_act 147 (.isub) 1 148 := ⟨by decide +kernel, rfl⟩
theorem dX11_act_148 : dk cX11_act 148 (.iaload) 1 149 := ⟨by decide +kernel, rfl⟩
theorem dX11_act_149 : dk cX11_act 149 (.invokevirtual 54) 3 152 := ⟨by decide +kernel, rfl⟩
theorem dX11_act_152 : db cX11_act 152 (.goto 7) 7 155 159 := ⟨by decide +kernel, rfl, by decide⟩
theorem dX11_act_155 : dla cX11_act 155 0 156 := Or.inl ⟨0, by decide +kernel, rfl, rfl⟩
theorem dX11_act_156 : dk cX11_act 156 (.invokevirtual 55) 3 159 := ⟨by decide +kernel, rfl⟩
theorem dX11_act_159 : dla cX11_act 159 0 160 := Or.inl ⟨0, by decide +kernel, rfl, rfl⟩
theorem dX11_act_160 : dk cX11_act 160 (.dup) 1 161 := ⟨by decide +kernel, rfl⟩
theorem dX11_act_161 : dk cX11_act 161 (.getfield 37) 3 164 := ⟨by decide +kernel, rfl⟩
theorem dX11_act_164 : dq cX11_act 164 1 165 := dq_i (n := 1) (by decide +kernel) (by decide) rfl
theorem dX11_act_165 : dk cX11_act 165 (.iadd) 1 166 := ⟨by decide +kernel, rfl⟩
theorem dX11_act_166 : dk cX11_act 166 (.putfield 37) 3 169 := ⟨by decide +kernel, rfl⟩
theorem dX11_act_169 : dk cX11_act 169 (.return_) 1 170 := ⟨by decide +kernel, rfl⟩
theorem dX5_isGood_0 : dla cX5_isGood 0 0 1 := Or.inl ⟨0, by decide +kernel, rfl, rfl⟩
theorem dX5_isGood_1 : dli cX5_isGood 1 1 2 := Or.inl ⟨1, by decide +kernel, rfl, rfl⟩
theorem dX5_isGood_2 : dli cX5_isGood 2 2 3 := Or.inl ⟨2, by decide +kernel, rfl, rfl⟩
theorem dX5_isGood_3 : dk cX5_isGood 3 (.invokevirtual 34) 3 6 := ⟨by decide +kernel, rfl⟩
theorem dX5_isGood_6 : dsa cX5_isGood 6 3 7 := Or.inl ⟨3, by decide +kernel, rfl, rfl⟩
theorem dX5_isGood_7 : dli cX5_isGood 7 2 8 := Or.inl ⟨2, by decide +kernel, rfl, rfl⟩
theorem dX5_isGood_8 : dla cX5_isGood 8 0 9 := Or.inl ⟨0, by decide +kernel, rfl, rfl⟩
theorem dX5_isGood_9 : dli cX5_isGood 9 1 10 := Or.inl ⟨1, by decide +kernel, rfl, rfl⟩
theorem dX5_isGood_10 : dk cX5_isGood 10 (.invokevirtual 38) 3 13 := ⟨by decide +kernel, rfl⟩
theorem dX5_isGood_13 : dq cX5_isGood 13 1 14 := dq_i (n := 1) (by decide +kernel) (by decide) rfl
theorem dX5_isGood_14 : dk cX5_isGood 14 (.isub) 1 15 := ⟨by decide +kernel, rfl⟩
theorem dX5_isGood_15 : db cX5_isGood 15 (.if_icmp .ne 7) 7 18 22 := ⟨by decide +kernel, rfl, by decide⟩
theorem dX5_isGood_18 : dq cX5_isGood 18 1 19 := dq_i (n := 1) (by decide +kernel) (by decide) rfl
theorem dX5_isGood_19 : db cX5_isGood 19 (.goto 4) 4 22 23 := ⟨by decide +kernel, rfl, by decide⟩
theorem dX5_isGood_22 : dq cX5_isGood 22 0 23 := dq_i (n := 0) (by decide +kernel) (by decide) rfl
theorem dX5_isGood_23 : dsi cX5_isGood 23 4 25 := Or.inr ⟨by decide +kernel, rfl⟩
theorem dX5_isGood_25 : dla cX5_isGood 25 3 26 := Or.inl ⟨3, by decide +kernel, rfl, rfl⟩
theorem dX5_isGood_26 : dk cX5_isGood 26 (.getfield 41) 3 29 := ⟨by decide +kernel, rfl⟩
theorem dX5_isGood_29_0 : decode cX5_isGood 29 = .ok (.tableswitch 364 0 17 #[87, 131, 152, 152, 152, 152, 193, 113, 226, 226, 256, 256, 295, 295, 324, 131, 353, 353], 87) := by decide +kernel
theorem dX5_isGood_29_c0 : dt cX5_isGood 29 0 116 := ⟨_, _, _, _, _, _, dX5_isGood_29_0, by decide, by decide, rfl, by decide⟩
theorem dX5_isGood_29_c1 : dt cX5_isGood 29 1 160 := ⟨_, _, _, _, _, _, dX5_isGood_29_0, by decide, by decide, rfl, by decide⟩
theorem dX5_isGood_29_c2 : dt cX5_isGood 29 2 181 := ⟨_, _, _, _, _, _, dX5_isGood_29_0, by decide, by decide, rfl, by decide⟩
theorem dX5_isGood_29_c3 : dt cX5_isGood 29 3 181 := ⟨_, _, _, _, _, _, dX5_isGood_29_0, by decide, by decide, rfl, by decide⟩
theorem dX5_isGood_29_c4 : dt cX5_isGood 29 4 181 := ⟨_, _, _, _, _, _, dX5_isGood_29_0, by decide, by decide, rfl, by decide⟩
theorem dX5_isGood_29_c5 : dt cX5_isGood 29 5 181 := ⟨_, _, _, _, _, _, dX5_isGood_29_0, by decide, by decide, rfl, by decide⟩
theorem dX5_isGood_29_c6 : dt cX5_isGood 29 6 222 := ⟨_, _, _, _, _, _, dX5_isGood_29_0, by decide, by decide, rfl, by decide⟩
theorem dX5_isGood_29_c7 : dt cX5_isGood 29 7 142 := ⟨_, _, _, _, _, _, dX5_isGood_29_0, by decide, by decide, rfl, by decide⟩
theorem dX5_isGood_29_c8 : dt cX5_isGood 29 8 255 := ⟨_, _, _, _, _, _, dX5_isGood_29_0, by decide, by decide, rfl, by decide⟩
theorem dX5_isGood_29_c9 : dt cX5_isGood 29 9 255 := ⟨_, _, _, _, _, _, dX5_isGood_29_0, by decide, by decide, rfl, by decide⟩
theorem dX5_isGood_29_c10 : dt cX5_isGood 29 10 285 := ⟨_, _, _, _, _, _, dX5_isGood_29_0, by decide, by decide, rfl, by decide⟩
theorem dX5_isGood_29_c11 : dt cX5_isGood 29 11 285 := ⟨_, _, _, _, _, _, dX5_isGood_29_0, by decide, by decide, rfl, by decide⟩
theorem dX5_isGood_29_c12 : dt cX5_isGood 29 12 324 := ⟨_, _, _, _, _, _, dX5_isGood_29_0, by decide, by decide, rfl, by decide⟩
theorem dX5_isGood_29_c13 : dt cX5_isGood 29 13 324 := ⟨_, _, _, _, _, _, dX5_isGood_29_0, by decide, by decide, rfl, by decide⟩
theorem dX5_isGood_29_c14 : dt cX5_isGood 29 14 353 := ⟨_, _, _, _, _, _, dX5_isGood_29_0, by decide, by decide, rfl, by decide⟩
theorem dX5_isGood_29_c15 : dt cX5_isGood 29 15 160 := ⟨_, _, _, _, _, _, dX5_isGood_29_0, by decide, by decide, rfl, by decide⟩
theorem dX5_isGood_29_c16 : dt cX5_isGood 29 16 382 := ⟨_, _, _, _, _, _, dX5_isGood_29_0, by decide, by decide, rfl, by decide⟩
theorem dX5_isGood_29_c17 : dt cX5_isGood 29 17 382 := ⟨_, _, _, _, _, _, dX5_isGood_29_0, by decide, by decide, rfl, by decide⟩
theorem dX5_isGood_29_d : dtd cX5_isGood 29 0 17 393 := ⟨_, _, _, dX5_isGood_29_0, by decide⟩
theorem dX5_isGood_116 : dla cX5_isGood 116 3 117 := Or.inl ⟨3, by decide +kernel, rfl, rfl⟩
theorem dX5_isGood_117 : dk cX5_isGood 117 (.getfield 45) 3 120 := ⟨by decide +kernel, rfl⟩
theorem dX5_isGood_120 : dq cX5_isGood 120 16 122 := dq_b (n := 16) (by decide +kernel) (by decide) rfl
theorem dX5_isGood_122 : db cX5_isGood 122 (.if_icmp .ge 18) 18 125 140 := ⟨by decide +kernel, rfl, by decide⟩
theorem dX5_isGood_125 : dla cX5_isGood 125 0 126 := Or.inl ⟨0, by decide +kernel, rfl, rfl⟩
theorem dX5_isGood_126 : dla cX5_isGood 126 3 127 := Or.inl ⟨3, by decide +kernel, rfl, rfl⟩
theorem dX5_isGood_127 : dk cX5_isGood 127 (.getfield 45) 3 130 := ⟨by decide +kernel, rfl⟩
theorem dX5_isGood_130 : dk cX5_isGood 130 (.invokevirtual 38) 3 133 := ⟨by decide +kernel, rfl⟩
theorem dX5_isGood_133 : db cX5_isGood 133 (.ifCond .le 7) 7 136 140 := ⟨by decide +kernel, rfl, by decide⟩
theorem dX5_isGood_136 : dq cX5_isGood 136 1 137 := dq_i (n := 1) (by decide +kernel) (by decide) rfl
theorem dX5_isGood_137 : db cX5_isGood 137 (.goto 4) 4 140 141 := ⟨by decide +kernel, rfl, by decide⟩
theorem dX5_isGood_140 : dq cX5_isGood 140 0 141 := dq_i (n := 0) (by decide +kernel) (by decide) rfl
theorem dX5_isGood_141 : dk cX5_isGood 141 (.ireturn) 1 142 := ⟨by decide +kernel, rfl⟩
theorem dX5_isGood_142 : dla cX5_isGood 142 3 143 := Or.inl ⟨3, by decide +kernel, rfl, rfl⟩
theorem dX5_isGood_143 : dk cX5_isGood 143 (.getfield 48) 3 146 := ⟨by decide +kernel, rfl⟩
theorem dX5_isGood_146 : dla cX5_isGood 146 0 147 := Or.inl ⟨0, by decide +kernel, rfl, rfl⟩
theorem dX5_isGood_147 : dli cX5_isGood 147 1 148 := Or.inl ⟨1, by decide +kernel, rfl, rfl⟩
theorem dX5_isGood_148 : dk cX5_isGood 148 (.invokevirtual 38) 3 151 := ⟨by decide +kernel, rfl⟩
theorem dX5_isGood_151 : db cX5_isGood 151 (.if_icmp .ge 7) 7 154 158 := ⟨by decide +kernel, rfl, by decide⟩
theorem dX5_isGood_154 : dq cX5_isGood 154 1 155 := dq_i (n := 1) (by decide +kernel) (by decide) rfl
theorem dX5_isGood_155 : db cX5_isGood 155 (.goto 4) 4 158 159 := ⟨by decide +kernel, rfl, by decide⟩
theorem dX5_isGood_158 : dq cX5_isGood 158 0 159 := dq_i (n := 0) (by decide +kernel) (by decide) rfl
theorem dX5_isGood_159 : dk cX5_isGood 159 (.ireturn) 1 160 := ⟨by decide +kernel, rfl⟩
theorem dX5_isGood_160 : dli cX5_isGood 160 4 162 := Or.inr ⟨by decide +kernel, rfl⟩
theorem dX5_isGood_162 : db cX5_isGood 162 (.ifCond .ne 17) 17 165 179 := ⟨by decide +kernel, rfl, by decide⟩
theorem dX5_isGood_165 : dla cX5_isGood 165 3 166 := Or.inl ⟨3, by decide +kernel, rfl, rfl⟩
theorem dX5_isGood_166 : dk cX5_isGood 166 (.getfield 45) 3 169 := ⟨by decide +kernel, rfl⟩
theorem dX5_isGood_169 : dk cX5_isGood 169 (.invokestatic 51) 3 172 := ⟨by decide +kernel, rfl⟩
theorem dX5_isGood_172 : db cX5_isGood 172 (.ifCond .eq 7) 7 175 179 := ⟨by decide +kernel, rfl, by decide⟩
theorem dX5_isGood_175 : dq cX5_isGood 175 1 176 := dq_i (n := 1) (by decide +kernel) (by decide) rfl
theorem dX5_isGood_176 : db cX5_isGood 176 (.goto 4) 4 179 180 := ⟨by decide +kernel, rfl, by decide⟩
theorem dX5_isGood_179 : dq cX5_isGood 179 0 180 := dq_i (n := 0) (by decide +kernel) (by decide) rfl
theorem dX5_isGood_180 : dk cX5_isGood 180 (.ireturn) 1 181 := ⟨by decide +kernel, rfl⟩
theorem dX5_isGood_181 : dli cX5_isGood 181 4 183 := Or.inr ⟨by decide +kernel, rfl⟩
theorem dX5_isGood_183 : db cX5_isGood 183 (.ifCond .ne 37) 37 186 220 := ⟨by decide +kernel, rfl, by decide⟩
theorem dX5_isGood_186 : dla cX5_isGood 186 3 187 := Or.inl ⟨3, by decide +kernel, rfl, rfl⟩
theorem dX5_isGood_187 : dk cX5_isGood 187 (.getfield 45) 3 190 := ⟨by decide +kernel, rfl⟩
theorem dX5_isGood_190 : dk cX5_isGood 190 (.invokestatic 51) 3 193 := ⟨by decide +kernel, rfl⟩
theorem dX5_isGood_193 : db cX5_isGood 193 (.ifCond .eq 27) 27 196 220 := ⟨by decide +kernel, rfl, by decide⟩
theorem dX5_isGood_196 : dla cX5_isGood 196 3 197 := Or.inl ⟨3, by decide +kernel, rfl, rfl⟩
theorem dX5_isGood_197 : dk cX5_isGood 197 (.getfield 48) 3 200 := ⟨by decide +kernel, rfl⟩
theorem dX5_isGood_200 : dk cX5_isGood 200 (.invokestatic 51) 3 203 := ⟨by decide +kernel, rfl⟩
theorem dX5_isGood_203 : db cX5_isGood 203 (.ifCond .eq 17) 17 206 220 := ⟨by decide +kernel, rfl, by decide⟩
theorem dX5_isGood_206 : dla cX5_isGood 206 3 207 := Or.inl ⟨3, by decide +kernel, rfl, rfl⟩
theorem dX5_isGood_207 : dk cX5_isGood 207 (.getfield 55) 3 210 := ⟨by decide +kernel, rfl⟩
theorem dX5_isGood_210 : dk cX5_isGood 210 (.invokestatic 51) 3 213 := ⟨by decide +kernel, rfl⟩
theorem dX5_isGood_213 : db cX5_isGood 213 (.ifCond .eq 7) 7 216 220 := ⟨by decide +kernel, rfl, by decide⟩
theorem dX5_isGood_216 : dq cX5_isGood 216 1 217 := dq_i (n := 1) (by decide +kernel) (by decide) rfl
theorem dX5_isGood_217 : db cX5_isGood 217 (.goto 4) 4 220 221 := ⟨by decide +kernel, rfl, by decide⟩
theorem dX5_isGood_220 : dq cX5_isGood 220 0 221 := dq_i (n := 0) (by decide +kernel) (by decide) rfl
theorem dX5_isGood_221 : dk cX5_isGood 221 (.ireturn) 1 222 := ⟨by decide +kernel, rfl⟩
theorem dX5_isGood_222 : dli cX5_isGood 222 4 224 := Or.inr ⟨by decide +kernel, rfl⟩
theorem dX5_isGood_224 : db cX5_isGood 224 (.ifCond .ne 29) 29 227 253 := ⟨by decide +kernel, rfl, by decide⟩
theorem dX5_isGood_227 : dla cX5_isGood 227 3 228 := Or.inl ⟨3, by decide +kernel, rfl, rfl⟩
theorem dX5_isGood_228 : dk cX5_isGood 228 (.getfield 45) 3 231 := ⟨by decide +kernel, rfl⟩
theorem dX5_isGood_231 : dk cX5_isGood 231 (.invokestatic 51) 3 234 := ⟨by decide +kernel, rfl⟩
theorem dX5_isGood_234 : db cX5_isGood 234 (.ifCond .eq 19) 19 237 253 := ⟨by decide +kernel, rfl, by decide⟩
theorem dX5_isGood_237 : dla cX5_isGood 237 3 238 := Or.inl ⟨3, by decide +kernel, rfl, rfl⟩
theorem dX5_isGood_238 : dk cX5_isGood 238 (.getfield 48) 3 241 := ⟨by decide +kernel, rfl⟩
theorem dX5_isGood_241 : dla cX5_isGood 241 0 242 := Or.inl ⟨0, by decide +kernel, rfl, rfl⟩
theorem dX5_isGood_242 : dli cX5_isGood 242 1 243 := Or.inl ⟨1, by decide +kernel, rfl, rfl⟩
theorem dX5_isGood_243 : dk cX5_isGood 243 (.invokevirtual 38) 3 246 := ⟨by decide +kernel, rfl⟩
theorem dX5_isGood_246 : db cX5_isGood 246 (.if_icmp .ge 7) 7 249 253 := ⟨by decide +kernel, rfl, by decide⟩
theorem dX5_isGood_249 : dq cX5_isGood 249 1 250 := dq_i (n := 1) (by decide +kernel) (by decide) rfl
theorem dX5_isGood_250 : db cX5_isGood 250 (.goto 4) 4 253 254 := ⟨by decide +kernel, rfl, by decide⟩
theorem dX5_isGood_253 : dq cX5_isGood 253 0 254 := dq_i (n := 0) (by decide +kernel) (by decide) rfl
theorem dX5_isGood_254 : dk cX5_isGood 254 (.ireturn) 1 255 := ⟨by decide +kernel, rfl⟩
theorem dX5_isGood_255 : dli cX5_isGood 255 4 257 := Or.inr ⟨by decide +kernel, rfl⟩
theorem dX5_isGood_257 : db cX5_isGood 257 (.ifCond .ne 26) 26 260 283 := ⟨by decide +kernel, rfl, by decide⟩
theorem dX5_isGood_260 : dla cX5_isGood 260 3 261 := Or.inl ⟨3, by decide +kernel, rfl, rfl⟩
theorem dX5_isGood_261 : dk cX5_isGood 261 (.getfield 45) 3 264 := ⟨by decide +kernel, rfl⟩
theorem dX5_isGood_264 : dk cX5_isGood 264 (.invokestatic 51) 3 267 := ⟨by decide +kernel, rfl⟩
theorem dX5_isGood_267 : db cX5_isGood 267 (.ifCond .eq 16) 16 270 283 := ⟨by decide +kernel, rfl, by decide⟩
theorem dX5_isGood_270 : dla cX5_isGood 270 3 271 := Or.inl ⟨3, by decide +kernel, rfl, rfl⟩
theorem dX5_isGood_271 : dk cX5_isGood 271 (.getfield 48) 3 274 := ⟨by decide +kernel, rfl⟩
theorem dX5_isGood_274 : dq cX5_isGood 274 16 276 := dq_b (n := 16) (by decide +kernel) (by decide) rfl
theorem dX5_isGood_276 : db cX5_isGood 276 (.if_icmp .ge 7) 7 279 283 := ⟨by decide +kernel, rfl, by decide⟩
theorem dX5_isGood_279 : dq cX5_isGood 279 1 280 := dq_i (n := 1) (by decide +kernel) (by decide) rfl
theorem dX5_isGood_280 : db cX5_isGood 280 (.goto 4) 4 283 284 := ⟨by decide +kernel, rfl, by decide⟩
theorem dX5_isGood_283 : dq cX5_isGood 283 0 284 := dq_i (n := 0) (by decide +kernel) (by decide) rfl
theorem dX5_isGood_284 : dk cX5_isGood 284 (.ireturn) 1 285 := ⟨by decide +kernel, rfl⟩
theorem dX5_isGood_285 : dli cX5_isGood 285 4 287 := Or.inr ⟨by decide +kernel, rfl⟩
theorem dX5_isGood_287 : db cX5_isGood 287 (.ifCond .ne 35) 35 290 322 := ⟨by decide +kernel, rfl, by decide⟩
theorem dX5_isGood_290 : dla cX5_isGood 290 3 291 := Or.inl ⟨3, by decide +kernel, rfl, rfl⟩
theorem dX5_isGood_291 : dk cX5_isGood 291 (.getfield 45) 3 294 := ⟨by decide +kernel, rfl⟩
theorem dX5_isGood_294 : dk cX5_isGood 294 (.invokestatic 51) 3 297 := ⟨by decide +kernel, rfl⟩
theorem dX5_isGood_297 : db cX5_isGood 297 (.ifCond .eq 25) 25 300 322 := ⟨by decide +kernel, rfl, by decide⟩
theorem dX5_isGood_300 : dla cX5_isGood 300 3 301 := Or.inl ⟨3, by decide +kernel, rfl, rfl⟩
theorem dX5_isGood_301 : dk cX5_isGood 301 (.getfield 55) 3 304 := ⟨by decide +kernel, rfl⟩
theorem dX5_isGood_304 : dk cX5_isGood 304 (.invokestatic 51) 3 307 := ⟨by decide +kernel, rfl⟩
theorem dX5_isGood_307 : db cX5_isGood 307 (.ifCond .eq 15) 15 310 322 := ⟨by decide +kernel, rfl, by decide⟩
theorem dX5_isGood_310 : dla cX5_isGood 310 3 311 := Or.inl ⟨3, by decide +kernel, rfl, rfl⟩
theorem dX5_isGood_311 : dk cX5_isGood 311 (.getfield 48) 3 314 := ⟨by decide +kernel, rfl⟩
theorem dX5_isGood_314 : dq cX5_isGood 314 4 315 := dq_i (n := 4) (by decide +kernel) (by decide) rfl
theorem dX5_isGood_315 : db cX5_isGood 315 (.if_icmp .ge 7) 7 318 322 := ⟨by decide +kernel, rfl, by decide⟩
theorem dX5_isGood_318 : dq cX5_isGood 318 1 319 := dq_i (n := 1) (by decide +kernel) (by decide) rfl
theorem dX5_isGood_319 : db cX5_isGood 319 (.goto 4) 4 322 323 := ⟨by decide +kernel, rfl, by decide⟩
theorem dX5_isGood_322 : dq cX5_isGood 322 0 323 := dq_i (n := 0) (by decide +kernel) (by decide) rfl
theorem dX5_isGood_323 : dk cX5_isGood 323 (.ireturn) 1 324 := ⟨by decide +kernel, rfl⟩
theorem dX5_isGood_324 : dli cX5_isGood 324 4 326 := Or.inr ⟨by decide +kernel, rfl⟩
theorem dX5_isGood_326 : db cX5_isGood 326 (.ifCond .ne 25) 25 329 351 := ⟨by decide +kernel, rfl, by decide⟩
theorem dX5_isGood_329 : dla cX5_isGood 329 3 330 := Or.inl ⟨3, by decide +kernel, rfl, rfl⟩
theorem dX5_isGood_330 : dk cX5_isGood 330 (.getfield 45) 3 333 := ⟨by decide +kernel, rfl⟩
theorem dX5_isGood_333 : dk cX5_isGood 333 (.invokestatic 51) 3 336 := ⟨by decide +kernel, rfl⟩
theorem dX5_isGood_336 : db cX5_isGood 336 (.ifCond .eq 15) 15 339 351 := ⟨by decide +kernel, rfl, by decide⟩
theorem dX5_isGood_339 : dla cX5_isGood 339 3 340 := Or.inl ⟨3, by decide +kernel, rfl, rfl⟩
theorem dX5_isGood_340 : dk cX5_isGood 340 (.getfield 48) 3 343 := ⟨by decide +kernel, rfl⟩
theorem dX5_isGood_343 : dq cX5_isGood 343 2 344 := dq_i (n := 2) (by decide +kernel) (by decide) rfl
theorem dX5_isGood_344 : db cX5_isGood 344 (.if_icmp .ge 7) 7 347 351 := ⟨by decide +kernel, rfl, by decide⟩
theorem dX5_isGood_347 : dq cX5_isGood 347 1 348 := dq_i (n := 1) (by decide +kernel) (by decide) rfl
theorem dX5_isGood_348 : db cX5_isGood 348 (.goto 4) 4 351 352 := ⟨by decide +kernel, rfl, by decide⟩
theorem dX5_isGood_351 : dq cX5_isGood 351 0 352 := dq_i (n := 0) (by decide +kernel) (by decide) rfl
theorem dX5_isGood_352 : dk cX5_isGood 352 (.ireturn) 1 353 := ⟨by decide +kernel, rfl⟩
theorem dX5_isGood_353 : dli cX5_isGood 353 4 355 := Or.inr ⟨by decide +kernel, rfl⟩
theorem dX5_isGood_355 : db cX5_isGood 355 (.ifCond .ne 25) 25 358 380 := ⟨by decide +kernel, rfl, by decide⟩
theorem dX5_isGood_358 : dla cX5_isGood 358 3 359 := Or.inl ⟨3, by decide +kernel, rfl, rfl⟩
theorem dX5_isGood_359 : dk cX5_isGood 359 (.getfield 45) 3 362 := ⟨by decide +kernel, rfl⟩
theorem dX5_isGood_362 : dk cX5_isGood 362 (.invokestatic 51) 3 365 := ⟨by decide +kernel, rfl⟩
theorem dX5_isGood_365 : db cX5_isGood 365 (.ifCond .eq 15) 15 368 380 := ⟨by decide +kernel, rfl, by decide⟩
theorem dX5_isGood_368 : dla cX5_isGood 368 3 369 := Or.inl ⟨3, by decide +kernel, rfl, rfl⟩
theorem dX5_isGood_369 : dk cX5_isGood 369 (.getfield 48) 3 372 := ⟨by decide +kernel, rfl⟩
theorem dX5_isGood_372 : dq cX5_isGood 372 4 373 := dq_i (n := 4) (by decide +kernel) (by decide) rfl
theorem dX5_isGood_373 : db cX5_isGood 373 (.if_icmp .ge 7) 7 376 380 := ⟨by decide +kernel, rfl, by decide⟩
theorem dX5_isGood_376 : dq cX5_isGood 376 1 377 := dq_i (n := 1) (by decide +kernel) (by decide) rfl
theorem dX5_isGood_377 : db cX5_isGood 377 (.goto 4) 4 380 381 := ⟨by decide +kernel, rfl, by decide⟩
theorem dX5_isGood_380 : dq cX5_isGood 380 0 381 := dq_i (n := 0) (by decide +kernel) (by decide) rfl
theorem dX5_isGood_381 : dk cX5_isGood 381 (.ireturn) 1 382 := ⟨by decide +kernel, rfl⟩
theorem dX5_isGood_382 : dli cX5_isGood 382 4 384 := Or.inr ⟨by decide +kernel, rfl⟩
theorem dX5_isGood_384 : db cX5_isGood 384 (.ifCond .ne 7) 7 387 391 := ⟨by decide +kernel, rfl, by decide⟩
theorem dX5_isGood_387 : dq cX5_isGood 387 1 388 := dq_i (n := 1) (by decide +kernel) (by decide) rfl
theorem dX5_isGood_388 : db cX5_isGood 388 (.goto 4) 4 391 392 := ⟨by decide +kernel, rfl, by decide⟩
theorem dX5_isGood_391 : dq cX5_isGood 391 0 392 := dq_i (n := 0) (by decide +kernel) (by decide) rfl
theorem dX5_isGood_392 : dk cX5_isGood 392 (.ireturn) 1 393 := ⟨by decide +kernel, rfl⟩
theorem dX5_isGood_393 : dq cX5_isGood 393 0 394 := dq_i (n := 0) (by decide +kernel) (by decide) rfl
theorem dX5_isGood_394 : dk cX5_isGood 394 (.ireturn) 1 395 := ⟨by decide +kernel, rfl⟩
