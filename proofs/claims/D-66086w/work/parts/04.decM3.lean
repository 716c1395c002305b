/-! decode rows, in this proof's own forms -/
set_option maxRecDepth 100000
theorem dX12_commitOne_0 : dla cX12_commitOne 0 0 1 := Or.inl ⟨0, by decide +kernel, rfl, rfl⟩
theorem dX12_commitOne_1 : dq cX12_commitOne 1 4 2 := dq_i (n := 4) (by decide +kernel) (by decide) rfl
theorem dX12_commitOne_2 : dk cX12_commitOne 2 (.invokevirtual 117) 3 5 := ⟨by decide +kernel, rfl⟩
theorem dX12_commitOne_5 : db cX12_commitOne 5 (.ifCond .ne 4) 4 8 9 := ⟨by decide +kernel, rfl, by decide⟩
theorem dX12_commitOne_8 : dk cX12_commitOne 8 (.return_) 1 9 := ⟨by decide +kernel, rfl⟩
theorem dX12_commitOne_9 : dla cX12_commitOne 9 0 10 := Or.inl ⟨0, by decide +kernel, rfl, rfl⟩
theorem dX12_commitOne_10 : dk cX12_commitOne 10 (.getfield 84) 3 13 := ⟨by decide +kernel, rfl⟩
theorem dX12_commitOne_13 : dq cX12_commitOne 13 2 14 := dq_i (n := 2) (by decide +kernel) (by decide) rfl
theorem dX12_commitOne_14 : dk cX12_commitOne 14 (.iadd) 1 15 := ⟨by decide +kernel, rfl⟩
theorem dX12_commitOne_15 : dsi cX12_commitOne 15 1 16 := Or.inl ⟨1, by decide +kernel, rfl, rfl⟩
theorem dX12_commitOne_16 : dla cX12_commitOne 16 0 17 := Or.inl ⟨0, by decide +kernel, rfl, rfl⟩
theorem dX12_commitOne_17 : dk cX12_commitOne 17 (.getfield 108) 3 20 := ⟨by decide +kernel, rfl⟩
theorem dX12_commitOne_20 : dsi cX12_commitOne 20 2 21 := Or.inl ⟨2, by decide +kernel, rfl, rfl⟩
theorem dX12_commitOne_21 : dla cX12_commitOne 21 0 22 := Or.inl ⟨0, by decide +kernel, rfl, rfl⟩
theorem dX12_commitOne_22 : dk cX12_commitOne 22 (.dup) 1 23 := ⟨by decide +kernel, rfl⟩
theorem dX12_commitOne_23 : dk cX12_commitOne 23 (.getfield 108) 3 26 := ⟨by decide +kernel, rfl⟩
theorem dX12_commitOne_26 : dq cX12_commitOne 26 1 27 := dq_i (n := 1) (by decide +kernel) (by decide) rfl
theorem dX12_commitOne_27 : dk cX12_commitOne 27 (.iadd) 1 28 := ⟨by decide +kernel, rfl⟩
theorem dX12_commitOne_28 : dk cX12_commitOne 28 (.putfield 108) 3 31 := ⟨by decide +kernel, rfl⟩
theorem dX12_commitOne_31 : dli cX12_commitOne 31 2 32 := Or.inl ⟨2, by decide +kernel, rfl, rfl⟩
theorem dX12_commitOne_32 : dq cX12_commitOne 32 2 33 := dq_i (n := 2) (by decide +kernel) (by decide) rfl
theorem dX12_commitOne_33 : dli cX12_commitOne 33 1 34 := Or.inl ⟨1, by decide +kernel, rfl, rfl⟩
theorem dX12_commitOne_34 : dk cX12_commitOne 34 (.imul) 1 35 := ⟨by decide +kernel, rfl⟩
theorem dX12_commitOne_35 : db cX12_commitOne 35 (.if_icmp .ge 39) 39 38 74 := ⟨by decide +kernel, rfl, by decide⟩
theorem dX12_commitOne_38 : dla cX12_commitOne 38 0 39 := Or.inl ⟨0, by decide +kernel, rfl, rfl⟩
theorem dX12_commitOne_39 : dq cX12_commitOne 39 84 41 := dq_b (n := 84) (by decide +kernel) (by decide) rfl
theorem dX12_commitOne_41 : dli cX12_commitOne 41 2 42 := Or.inl ⟨2, by decide +kernel, rfl, rfl⟩
theorem dX12_commitOne_42 : dk cX12_commitOne 42 (.iadd) 1 43 := ⟨by decide +kernel, rfl⟩
theorem dX12_commitOne_43 : dli cX12_commitOne 43 2 44 := Or.inl ⟨2, by decide +kernel, rfl, rfl⟩
theorem dX12_commitOne_44 : dq cX12_commitOne 44 2 45 := dq_i (n := 2) (by decide +kernel) (by decide) rfl
theorem dX12_commitOne_45 : dk cX12_commitOne 45 (.irem) 1 46 := ⟨by decide +kernel, rfl⟩
theorem dX12_commitOne_46 : db cX12_commitOne 46 (.ifCond .ne 14) 14 49 60 := ⟨by decide +kernel, rfl, by decide⟩
theorem dX12_commitOne_49 : dla cX12_commitOne 49 0 50 := Or.inl ⟨0, by decide +kernel, rfl, rfl⟩
theorem dX12_commitOne_50 : dk cX12_commitOne 50 (.getfield 38) 3 53 := ⟨by decide +kernel, rfl⟩
theorem dX12_commitOne_53 : dli cX12_commitOne 53 2 54 := Or.inl ⟨2, by decide +kernel, rfl, rfl⟩
theorem dX12_commitOne_54 : dq cX12_commitOne 54 2 55 := dq_i (n := 2) (by decide +kernel) (by decide) rfl
theorem dX12_commitOne_55 : dk cX12_commitOne 55 (.idiv) 1 56 := ⟨by decide +kernel, rfl⟩
theorem dX12_commitOne_56 : dk cX12_commitOne 56 (.iaload) 1 57 := ⟨by decide +kernel, rfl⟩
theorem dX12_commitOne_57 : db cX12_commitOne 57 (.goto 11) 11 60 68 := ⟨by decide +kernel, rfl, by decide⟩
theorem dX12_commitOne_60 : dla cX12_commitOne 60 0 61 := Or.inl ⟨0, by decide +kernel, rfl, rfl⟩
theorem dX12_commitOne_61 : dk cX12_commitOne 61 (.getfield 41) 3 64 := ⟨by decide +kernel, rfl⟩
theorem dX12_commitOne_64 : dli cX12_commitOne 64 2 65 := Or.inl ⟨2, by decide +kernel, rfl, rfl⟩
theorem dX12_commitOne_65 : dq cX12_commitOne 65 2 66 := dq_i (n := 2) (by decide +kernel) (by decide) rfl
theorem dX12_commitOne_66 : dk cX12_commitOne 66 (.idiv) 1 67 := ⟨by decide +kernel, rfl⟩
theorem dX12_commitOne_67 : dk cX12_commitOne 67 (.iaload) 1 68 := ⟨by decide +kernel, rfl⟩
theorem dX12_commitOne_68 : dk cX12_commitOne 68 (.invokevirtual 123) 3 71 := ⟨by decide +kernel, rfl⟩
theorem dX12_commitOne_71 : db cX12_commitOne 71 (.goto 133) 133 74 204 := ⟨by decide +kernel, rfl, by decide⟩
theorem dX12_commitOne_74 : dli cX12_commitOne 74 2 75 := Or.inl ⟨2, by decide +kernel, rfl, rfl⟩
theorem dX12_commitOne_75 : dq cX12_commitOne 75 2 76 := dq_i (n := 2) (by decide +kernel) (by decide) rfl
theorem dX12_commitOne_76 : dli cX12_commitOne 76 1 77 := Or.inl ⟨1, by decide +kernel, rfl, rfl⟩
theorem dX12_commitOne_77 : dk cX12_commitOne 77 (.imul) 1 78 := ⟨by decide +kernel, rfl⟩
theorem dX12_commitOne_78 : db cX12_commitOne 78 (.if_icmp .ne 12) 12 81 90 := ⟨by decide +kernel, rfl, by decide⟩
theorem dX12_commitOne_81 : dla cX12_commitOne 81 0 82 := Or.inl ⟨0, by decide +kernel, rfl, rfl⟩
theorem dX12_commitOne_82 : dq cX12_commitOne 82 2 83 := dq_i (n := 2) (by decide +kernel) (by decide) rfl
theorem dX12_commitOne_83 : dli cX12_commitOne 83 1 84 := Or.inl ⟨1, by decide +kernel, rfl, rfl⟩
theorem dX12_commitOne_84 : dk cX12_commitOne 84 (.invokevirtual 123) 3 87 := ⟨by decide +kernel, rfl⟩
theorem dX12_commitOne_87 : db cX12_commitOne 87 (.goto 117) 117 90 204 := ⟨by decide +kernel, rfl, by decide⟩
theorem dX12_commitOne_90 : dli cX12_commitOne 90 2 91 := Or.inl ⟨2, by decide +kernel, rfl, rfl⟩
theorem dX12_commitOne_91 : dq cX12_commitOne 91 3 92 := dq_i (n := 3) (by decide +kernel) (by decide) rfl
theorem dX12_commitOne_92 : dli cX12_commitOne 92 1 93 := Or.inl ⟨1, by decide +kernel, rfl, rfl⟩
theorem dX12_commitOne_93 : dk cX12_commitOne 93 (.imul) 1 94 := ⟨by decide +kernel, rfl⟩
theorem dX12_commitOne_94 : db cX12_commitOne 94 (.if_icmp .gt 51) 51 97 145 := ⟨by decide +kernel, rfl, by decide⟩
theorem dX12_commitOne_97 : dli cX12_commitOne 97 2 98 := Or.inl ⟨2, by decide +kernel, rfl, rfl⟩
theorem dX12_commitOne_98 : dq cX12_commitOne 98 2 99 := dq_i (n := 2) (by decide +kernel) (by decide) rfl
theorem dX12_commitOne_99 : dli cX12_commitOne 99 1 100 := Or.inl ⟨1, by decide +kernel, rfl, rfl⟩
theorem dX12_commitOne_100 : dk cX12_commitOne 100 (.imul) 1 101 := ⟨by decide +kernel, rfl⟩
theorem dX12_commitOne_101 : dk cX12_commitOne 101 (.isub) 1 102 := ⟨by decide +kernel, rfl⟩
theorem dX12_commitOne_102 : dq cX12_commitOne 102 1 103 := dq_i (n := 1) (by decide +kernel) (by decide) rfl
theorem dX12_commitOne_103 : dk cX12_commitOne 103 (.isub) 1 104 := ⟨by decide +kernel, rfl⟩
theorem dX12_commitOne_104 : dsi cX12_commitOne 104 3 105 := Or.inl ⟨3, by decide +kernel, rfl, rfl⟩
theorem dX12_commitOne_105 : dla cX12_commitOne 105 0 106 := Or.inl ⟨0, by decide +kernel, rfl, rfl⟩
theorem dX12_commitOne_106 : dli cX12_commitOne 106 3 107 := Or.inl ⟨3, by decide +kernel, rfl, rfl⟩
theorem dX12_commitOne_107 : db cX12_commitOne 107 (.ifCond .ne 12) 12 110 119 := ⟨by decide +kernel, rfl, by decide⟩
theorem dX12_commitOne_110 : dla cX12_commitOne 110 0 111 := Or.inl ⟨0, by decide +kernel, rfl, rfl⟩
theorem dX12_commitOne_111 : dk cX12_commitOne 111 (.getfield 16) 3 114 := ⟨by decide +kernel, rfl⟩
theorem dX12_commitOne_114 : dq cX12_commitOne 114 0 115 := dq_i (n := 0) (by decide +kernel) (by decide) rfl
theorem dX12_commitOne_115 : dk cX12_commitOne 115 (.iaload) 1 116 := ⟨by decide +kernel, rfl⟩
theorem dX12_commitOne_116 : db cX12_commitOne 116 (.goto 7) 7 119 123 := ⟨by decide +kernel, rfl, by decide⟩
theorem dX12_commitOne_119 : dla cX12_commitOne 119 0 120 := Or.inl ⟨0, by decide +kernel, rfl, rfl⟩
theorem dX12_commitOne_120 : dk cX12_commitOne 120 (.getfield 161) 3 123 := ⟨by decide +kernel, rfl⟩
theorem dX12_commitOne_123 : dk cX12_commitOne 123 (.putfield 161) 3 126 := ⟨by decide +kernel, rfl⟩
theorem dX12_commitOne_126 : dla cX12_commitOne 126 0 127 := Or.inl ⟨0, by decide +kernel, rfl, rfl⟩
theorem dX12_commitOne_127 : dla cX12_commitOne 127 0 128 := Or.inl ⟨0, by decide +kernel, rfl, rfl⟩
theorem dX12_commitOne_128 : dk cX12_commitOne 128 (.getfield 38) 3 131 := ⟨by decide +kernel, rfl⟩
theorem dX12_commitOne_131 : dli cX12_commitOne 131 3 132 := Or.inl ⟨3, by decide +kernel, rfl, rfl⟩
theorem dX12_commitOne_132 : dk cX12_commitOne 132 (.iaload) 1 133 := ⟨by decide +kernel, rfl⟩
theorem dX12_commitOne_133 : dla cX12_commitOne 133 0 134 := Or.inl ⟨0, by decide +kernel, rfl, rfl⟩
theorem dX12_commitOne_134 : dk cX12_commitOne 134 (.getfield 41) 3 137 := ⟨by decide +kernel, rfl⟩
theorem dX12_commitOne_137 : dli cX12_commitOne 137 3 138 := Or.inl ⟨3, by decide +kernel, rfl, rfl⟩
theorem dX12_commitOne_138 : dk cX12_commitOne 138 (.iaload) 1 139 := ⟨by decide +kernel, rfl⟩
theorem dX12_commitOne_139 : dk cX12_commitOne 139 (.invokevirtual 123) 3 142 := ⟨by decide +kernel, rfl⟩
theorem dX12_commitOne_142 : db cX12_commitOne 142 (.goto 62) 62 145 204 := ⟨by decide +kernel, rfl, by decide⟩
theorem dX12_commitOne_145 : dla cX12_commitOne 145 0 146 := Or.inl ⟨0, by decide +kernel, rfl, rfl⟩
theorem dX12_commitOne_146 : dq cX12_commitOne 146 2 147 := dq_i (n := 2) (by decide +kernel) (by decide) rfl
theorem dX12_commitOne_147 : dq cX12_commitOne 147 0 148 := dq_i (n := 0) (by decide +kernel) (by decide) rfl
theorem dX12_commitOne_148 : dk cX12_commitOne 148 (.invokevirtual 123) 3 151 := ⟨by decide +kernel, rfl⟩
theorem dX12_commitOne_151 : dla cX12_commitOne 151 0 152 := Or.inl ⟨0, by decide +kernel, rfl, rfl⟩
theorem dX12_commitOne_152 : dk cX12_commitOne 152 (.getfield 96) 3 155 := ⟨by decide +kernel, rfl⟩
theorem dX12_commitOne_155 : dla cX12_commitOne 155 0 156 := Or.inl ⟨0, by decide +kernel, rfl, rfl⟩
theorem dX12_commitOne_156 : dk cX12_commitOne 156 (.getfield 25) 3 159 := ⟨by decide +kernel, rfl⟩
theorem dX12_commitOne_159 : dla cX12_commitOne 159 0 160 := Or.inl ⟨0, by decide +kernel, rfl, rfl⟩
theorem dX12_commitOne_160 : dk cX12_commitOne 160 (.getfield 161) 3 163 := ⟨by decide +kernel, rfl⟩
theorem dX12_commitOne_163 : dk cX12_commitOne 163 (.iaload) 1 164 := ⟨by decide +kernel, rfl⟩
theorem dX12_commitOne_164 : db cX12_commitOne 164 (.if_icmp .le 16) 16 167 180 := ⟨by decide +kernel, rfl, by decide⟩
theorem dX12_commitOne_167 : dla cX12_commitOne 167 0 168 := Or.inl ⟨0, by decide +kernel, rfl, rfl⟩
theorem dX12_commitOne_168 : dk cX12_commitOne 168 (.getfield 25) 3 171 := ⟨by decide +kernel, rfl⟩
theorem dX12_commitOne_171 : dla cX12_commitOne 171 0 172 := Or.inl ⟨0, by decide +kernel, rfl, rfl⟩
theorem dX12_commitOne_172 : dk cX12_commitOne 172 (.getfield 161) 3 175 := ⟨by decide +kernel, rfl⟩
theorem dX12_commitOne_175 : dla cX12_commitOne 175 0 176 := Or.inl ⟨0, by decide +kernel, rfl, rfl⟩
theorem dX12_commitOne_176 : dk cX12_commitOne 176 (.getfield 96) 3 179 := ⟨by decide +kernel, rfl⟩
theorem dX12_commitOne_179 : dk cX12_commitOne 179 (.iastore) 1 180 := ⟨by decide +kernel, rfl⟩
theorem dX12_commitOne_180 : dla cX12_commitOne 180 0 181 := Or.inl ⟨0, by decide +kernel, rfl, rfl⟩
theorem dX12_commitOne_181 : dk cX12_commitOne 181 (.getfield 28) 3 184 := ⟨by decide +kernel, rfl⟩
theorem dX12_commitOne_184 : dla cX12_commitOne 184 0 185 := Or.inl ⟨0, by decide +kernel, rfl, rfl⟩
theorem dX12_commitOne_185 : dk cX12_commitOne 185 (.getfield 161) 3 188 := ⟨by decide +kernel, rfl⟩
theorem dX12_commitOne_188 : dq cX12_commitOne 188 0 189 := dq_i (n := 0) (by decide +kernel) (by decide) rfl
theorem dX12_commitOne_189 : dk cX12_commitOne 189 (.iastore) 1 190 := ⟨by decide +kernel, rfl⟩
theorem dX12_commitOne_190 : dla cX12_commitOne 190 0 191 := Or.inl ⟨0, by decide +kernel, rfl, rfl⟩
theorem dX12_commitOne_191 : dq cX12_commitOne 191 2 192 := dq_i (n := 2) (by decide +kernel) (by decide) rfl
theorem dX12_commitOne_192 : dk cX12_commitOne 192 (.putfield 93) 3 195 := ⟨by decide +kernel, rfl⟩
theorem dX12_commitOne_195 : dla cX12_commitOne 195 0 196 := Or.inl ⟨0, by decide +kernel, rfl, rfl⟩
theorem dX12_commitOne_196 : dq cX12_commitOne 196 0 197 := dq_i (n := 0) (by decide +kernel) (by decide) rfl
theorem dX12_commitOne_197 : dk cX12_commitOne 197 (.putfield 127) 3 200 := ⟨by decide +kernel, rfl⟩
theorem dX12_commitOne_200 : dla cX12_commitOne 200 0 201 := Or.inl ⟨0, by decide +kernel, rfl, rfl⟩
theorem dX12_commitOne_201 : dk cX12_commitOne 201 (.invokevirtual 99) 3 204 := ⟨by decide +kernel, rfl⟩
theorem dX12_commitOne_204 : dk cX12_commitOne 204 (.return_) 1 205 := ⟨by decide +kernel, rfl⟩
theorem dX12_isRight_0 : dla cX12_isRight 0 0 1 := Or.inl ⟨0, by decide +kernel, rfl, rfl⟩
theorem dX12_isRight_1 : dk cX12_isRight 1 (.getfield 7) 3 4 := ⟨by decide +kernel, rfl⟩
theorem dX12_isRight_4 : dq cX12_isRight 4 32 6 := dq_b (n := 32) (by decide +kernel) (by decide) rfl
theorem dX12_isRight_6 : dli cX12_isRight 6 1 7 := Or.inl ⟨1, by decide +kernel, rfl, rfl⟩
theorem dX12_isRight_7 : dk cX12_isRight 7 (.imul) 1 8 := ⟨by decide +kernel, rfl⟩
theorem dX12_isRight_8 : dli cX12_isRight 8 2 9 := Or.inl ⟨2, by decide +kernel, rfl, rfl⟩
theorem dX12_isRight_9 : dk cX12_isRight 9 (.iadd) 1 10 := ⟨by decide +kernel, rfl⟩
theorem dX12_isRight_10 : dk cX12_isRight 10 (.iaload) 1 11 := ⟨by decide +kernel, rfl⟩
theorem dX12_isRight_11 : dsi cX12_isRight 11 3 12 := Or.inl ⟨3, by decide +kernel, rfl, rfl⟩
theorem dX12_isRight_12 : dli cX12_isRight 12 3 13 := Or.inl ⟨3, by decide +kernel, rfl, rfl⟩
theorem dX12_isRight_13 : dk cX12_isRight 13 (.invokestatic 67) 3 16 := ⟨by decide +kernel, rfl⟩
theorem dX12_isRight_16 : dsi cX12_isRight 16 4 18 := Or.inr ⟨by decide +kernel, rfl⟩
theorem dX12_isRight_18 : dli cX12_isRight 18 2 19 := Or.inl ⟨2, by decide +kernel, rfl, rfl⟩
theorem dX12_isRight_19 : dq cX12_isRight 19 1 20 := dq_i (n := 1) (by decide +kernel) (by decide) rfl
theorem dX12_isRight_20 : dk cX12_isRight 20 (.iadd) 1 21 := ⟨by decide +kernel, rfl⟩
theorem dX12_isRight_21 : dla cX12_isRight 21 0 22 := Or.inl ⟨0, by decide +kernel, rfl, rfl⟩
theorem dX12_isRight_22 : dk cX12_isRight 22 (.getfield 13) 3 25 := ⟨by decide +kernel, rfl⟩
theorem dX12_isRight_25 : dli cX12_isRight 25 1 26 := Or.inl ⟨1, by decide +kernel, rfl, rfl⟩
theorem dX12_isRight_26 : dk cX12_isRight 26 (.iaload) 1 27 := ⟨by decide +kernel, rfl⟩
theorem dX12_isRight_27 : db cX12_isRight 27 (.if_icmp .ne 7) 7 30 34 := ⟨by decide +kernel, rfl, by decide⟩
theorem dX12_isRight_30 : dq cX12_isRight 30 1 31 := dq_i (n := 1) (by decide +kernel) (by decide) rfl
theorem dX12_isRight_31 : db cX12_isRight 31 (.goto 4) 4 34 35 := ⟨by decide +kernel, rfl, by decide⟩
theorem dX12_isRight_34 : dq cX12_isRight 34 0 35 := dq_i (n := 0) (by decide +kernel) (by decide) rfl
theorem dX12_isRight_35 : dsi cX12_isRight 35 5 37 := Or.inr ⟨by decide +kernel, rfl⟩
theorem dX12_isRight_37 : dli cX12_isRight 37 5 39 := Or.inr ⟨by decide +kernel, rfl⟩
theorem dX12_isRight_39 : db cX12_isRight 39 (.ifCond .eq 17) 17 42 56 := ⟨by decide +kernel, rfl, by decide⟩
theorem dX12_isRight_42 : dli cX12_isRight 42 4 44 := Or.inr ⟨by decide +kernel, rfl⟩
theorem dX12_isRight_44 : db cX12_isRight 44 (.ifCond .eq 12) 12 47 56 := ⟨by decide +kernel, rfl, by decide⟩
theorem dX12_isRight_47 : dli cX12_isRight 47 4 49 := Or.inr ⟨by decide +kernel, rfl⟩
theorem dX12_isRight_49 : dq cX12_isRight 49 7 51 := dq_b (n := 7) (by decide +kernel) (by decide) rfl
theorem dX12_isRight_51 : db cX12_isRight 51 (.if_icmp .eq 5) 5 54 56 := ⟨by decide +kernel, rfl, by decide⟩
theorem dX12_isRight_54 : dq cX12_isRight 54 0 55 := dq_i (n := 0) (by decide +kernel) (by decide) rfl
theorem dX12_isRight_55 : dk cX12_isRight 55 (.ireturn) 1 56 := ⟨by decide +kernel, rfl⟩
theorem dX12_isRight_56 : dli cX12_isRight 56 4 58 := Or.inr ⟨by decide +kernel, rfl⟩
theorem dX12_isRight_58_0 : decode cX12_isRight 58 = .ok (.tableswitch 313 0 17 #[86, 114, 129, 129, 129, 129, 162, 190, 209, 209, 233, 233, 265, 265, 288, 114, 311, 311], 86) := by decide +kernel
theorem dX12_isRight_58_c0 : dt cX12_isRight 58 0 144 := ⟨_, _, _, _, _, _, dX12_isRight_58_0, by decide, by decide, rfl, by decide⟩
theorem dX12_isRight_58_c1 : dt cX12_isRight 58 1 172 := ⟨_, _, _, _, _, _, dX12_isRight_58_0, by decide, by decide, rfl, by decide⟩
theorem dX12_isRight_58_c2 : dt cX12_isRight 58 2 187 := ⟨_, _, _, _, _, _, dX12_isRight_58_0, by decide, by decide, rfl, by decide⟩
theorem dX12_isRight_58_c3 : dt cX12_isRight 58 3 187 := ⟨_, _, _, _, _, _, dX12_isRight_58_0, by decide, by decide, rfl, by decide⟩
theorem dX12_isRight_58_c4 : dt cX12_isRight 58 4 187 := ⟨_, _, _, _, _, _, dX12_isRight_58_0, by decide, by decide, rfl, by decide⟩
theorem dX12_isRight_58_c5 : dt cX12_isRight 58 5 187 := ⟨_, _, _, _, _, _, dX12_isRight_58_0, by decide, by decide, rfl, by decide⟩
theorem dX12_isRight_58_c6 : dt cX12_isRight 58 6 220 := ⟨_, _, _, _, _, _, dX12_isRight_58_0, by decide, by decide, rfl, by decide⟩
theorem dX12_isRight_58_c7 : dt cX12_isRight 58 7 248 := ⟨_, _, _, _, _, _, dX12_isRight_58_0, by decide, by decide, rfl, by decide⟩
theorem dX12_isRight_58_c8 : dt cX12_isRight 58 8 267 := ⟨_, _, _, _, _, _, dX12_isRight_58_0, by decide, by decide, rfl, by decide⟩
theorem dX12_isRight_58_c9 : dt cX12_isRight 58 9 267 := ⟨_, _, _, _, _, _, dX12_isRight_58_0, by decide, by decide, rfl, by decide⟩
theorem dX12_isRight_58_c10 : dt cX12_isRight 58 10 291 := ⟨_, _, _, _, _, _, dX12_isRight_58_0, by decide, by decide, rfl, by decide⟩
theorem dX12_isRight_58_c11 : dt cX12_isRight 58 11 291 := ⟨_, _, _, _, _, _, dX12_isRight_58_0, by decide, by decide, rfl, by decide⟩
theorem dX12_isRight_58_c12 : dt cX12_isRight 58 12 323 := ⟨_, _, _, _, _, _, dX12_isRight_58_0, by decide, by decide, rfl, by decide⟩
theorem dX12_isRight_58_c13 : dt cX12_isRight 58 13 323 := ⟨_, _, _, _, _, _, dX12_isRight_58_0, by decide, by decide, rfl, by decide⟩
theorem dX12_isRight_58_c14 : dt cX12_isRight 58 14 346 := ⟨_, _, _, _, _, _, dX12_isRight_58_0, by decide, by decide, rfl, by decide⟩
theorem dX12_isRight_58_c15 : dt cX12_isRight 58 15 172 := ⟨_, _, _, _, _, _, dX12_isRight_58_0, by decide, by decide, rfl, by decide⟩
theorem dX12_isRight_58_c16 : dt cX12_isRight 58 16 369 := ⟨_, _, _, _, _, _, dX12_isRight_58_0, by decide, by decide, rfl, by decide⟩
theorem dX12_isRight_58_c17 : dt cX12_isRight 58 17 369 := ⟨_, _, _, _, _, _, dX12_isRight_58_0, by decide, by decide, rfl, by decide⟩
theorem dX12_isRight_58_d : dtd cX12_isRight 58 0 17 371 := ⟨_, _, _, dX12_isRight_58_0, by decide⟩
theorem dX12_isRight_144 : dli cX12_isRight 144 3 145 := Or.inl ⟨3, by decide +kernel, rfl, rfl⟩
theorem dX12_isRight_145 : dk cX12_isRight 145 (.invokestatic 71) 3 148 := ⟨by decide +kernel, rfl⟩
theorem dX12_isRight_148 : dk cX12_isRight 148 (.invokestatic 63) 3 151 := ⟨by decide +kernel, rfl⟩
theorem dX12_isRight_151 : db cX12_isRight 151 (.ifCond .eq 19) 19 154 170 := ⟨by decide +kernel, rfl, by decide⟩
theorem dX12_isRight_154 : dla cX12_isRight 154 0 155 := Or.inl ⟨0, by decide +kernel, rfl, rfl⟩
theorem dX12_isRight_155 : dk cX12_isRight 155 (.getfield 13) 3 158 := ⟨by decide +kernel, rfl⟩
theorem dX12_isRight_158 : dli cX12_isRight 158 3 159 := Or.inl ⟨3, by decide +kernel, rfl, rfl⟩
theorem dX12_isRight_159 : dk cX12_isRight 159 (.invokestatic 71) 3 162 := ⟨by decide +kernel, rfl⟩
theorem dX12_isRight_162 : dk cX12_isRight 162 (.iaload) 1 163 := ⟨by decide +kernel, rfl⟩
theorem dX12_isRight_163 : db cX12_isRight 163 (.ifCond .le 7) 7 166 170 := ⟨by decide +kernel, rfl, by decide⟩
theorem dX12_isRight_166 : dq cX12_isRight 166 1 167 := dq_i (n := 1) (by decide +kernel) (by decide) rfl
theorem dX12_isRight_167 : db cX12_isRight 167 (.goto 4) 4 170 171 := ⟨by decide +kernel, rfl, by decide⟩
theorem dX12_isRight_170 : dq cX12_isRight 170 0 171 := dq_i (n := 0) (by decide +kernel) (by decide) rfl
theorem dX12_isRight_171 : dk cX12_isRight 171 (.ireturn) 1 172 := ⟨by decide +kernel, rfl⟩
theorem dX12_isRight_172 : dli cX12_isRight 172 3 173 := Or.inl ⟨3, by decide +kernel, rfl, rfl⟩
theorem dX12_isRight_173 : dk cX12_isRight 173 (.invokestatic 71) 3 176 := ⟨by decide +kernel, rfl⟩
theorem dX12_isRight_176 : dq cX12_isRight 176 8 178 := dq_b (n := 8) (by decide +kernel) (by decide) rfl
theorem dX12_isRight_178 : db cX12_isRight 178 (.if_icmp .ge 7) 7 181 185 := ⟨by decide +kernel, rfl, by decide⟩
theorem dX12_isRight_181 : dq cX12_isRight 181 1 182 := dq_i (n := 1) (by decide +kernel) (by decide) rfl
theorem dX12_isRight_182 : db cX12_isRight 182 (.goto 4) 4 185 186 := ⟨by decide +kernel, rfl, by decide⟩
theorem dX12_isRight_185 : dq cX12_isRight 185 0 186 := dq_i (n := 0) (by decide +kernel) (by decide) rfl
theorem dX12_isRight_186 : dk cX12_isRight 186 (.ireturn) 1 187 := ⟨by decide +kernel, rfl⟩
theorem dX12_isRight_187 : dli cX12_isRight 187 3 188 := Or.inl ⟨3, by decide +kernel, rfl, rfl⟩
theorem dX12_isRight_188 : dk cX12_isRight 188 (.invokestatic 71) 3 191 := ⟨by decide +kernel, rfl⟩
theorem dX12_isRight_191 : dq cX12_isRight 191 8 193 := dq_b (n := 8) (by decide +kernel) (by decide) rfl
theorem dX12_isRight_193 : db cX12_isRight 193 (.if_icmp .ge 25) 25 196 218 := ⟨by decide +kernel, rfl, by decide⟩
theorem dX12_isRight_196 : dli cX12_isRight 196 3 197 := Or.inl ⟨3, by decide +kernel, rfl, rfl⟩
theorem dX12_isRight_197 : dk cX12_isRight 197 (.invokestatic 74) 3 200 := ⟨by decide +kernel, rfl⟩
theorem dX12_isRight_200 : dq cX12_isRight 200 8 202 := dq_b (n := 8) (by decide +kernel) (by decide) rfl
theorem dX12_isRight_202 : db cX12_isRight 202 (.if_icmp .ge 16) 16 205 218 := ⟨by decide +kernel, rfl, by decide⟩
theorem dX12_isRight_205 : dli cX12_isRight 205 3 206 := Or.inl ⟨3, by decide +kernel, rfl, rfl⟩
theorem dX12_isRight_206 : dk cX12_isRight 206 (.invokestatic 77) 3 209 := ⟨by decide +kernel, rfl⟩
theorem dX12_isRight_209 : dq cX12_isRight 209 8 211 := dq_b (n := 8) (by decide +kernel) (by decide) rfl
theorem dX12_isRight_211 : db cX12_isRight 211 (.if_icmp .ge 7) 7 214 218 := ⟨by decide +kernel, rfl, by decide⟩
theorem dX12_isRight_214 : dq cX12_isRight 214 1 215 := dq_i (n := 1) (by decide +kernel) (by decide) rfl
theorem dX12_isRight_215 : db cX12_isRight 215 (.goto 4) 4 218 219 := ⟨by decide +kernel, rfl, by decide⟩
theorem dX12_isRight_218 : dq cX12_isRight 218 0 219 := dq_i (n := 0) (by decide +kernel) (by decide) rfl
theorem dX12_isRight_219 : dk cX12_isRight 219 (.ireturn) 1 220 := ⟨by decide +kernel, rfl⟩
theorem dX12_isRight_220 : dli cX12_isRight 220 3 221 := Or.inl ⟨3, by decide +kernel, rfl, rfl⟩
theorem dX12_isRight_221 : dk cX12_isRight 221 (.invokestatic 71) 3 224 := ⟨by decide +kernel, rfl⟩
theorem dX12_isRight_224 : dq cX12_isRight 224 8 226 := dq_b (n := 8) (by decide +kernel) (by decide) rfl
theorem dX12_isRight_226 : db cX12_isRight 226 (.if_icmp .ge 20) 20 229 246 := ⟨by decide +kernel, rfl, by decide⟩
theorem dX12_isRight_229 : dli cX12_isRight 229 3 230 := Or.inl ⟨3, by decide +kernel, rfl, rfl⟩
theorem dX12_isRight_230 : dk cX12_isRight 230 (.invokestatic 74) 3 233 := ⟨by decide +kernel, rfl⟩
theorem dX12_isRight_233 : dla cX12_isRight 233 0 234 := Or.inl ⟨0, by decide +kernel, rfl, rfl⟩
theorem dX12_isRight_234 : dk cX12_isRight 234 (.getfield 13) 3 237 := ⟨by decide +kernel, rfl⟩
theorem dX12_isRight_237 : dli cX12_isRight 237 1 238 := Or.inl ⟨1, by decide +kernel, rfl, rfl⟩
theorem dX12_isRight_238 : dk cX12_isRight 238 (.iaload) 1 239 := ⟨by decide +kernel, rfl⟩
theorem dX12_isRight_239 : db cX12_isRight 239 (.if_icmp .ge 7) 7 242 246 := ⟨by decide +kernel, rfl, by decide⟩
theorem dX12_isRight_242 : dq cX12_isRight 242 1 243 := dq_i (n := 1) (by decide +kernel) (by decide) rfl
theorem dX12_isRight_243 : db cX12_isRight 243 (.goto 4) 4 246 247 := ⟨by decide +kernel, rfl, by decide⟩
theorem dX12_isRight_246 : dq cX12_isRight 246 0 247 := dq_i (n := 0) (by decide +kernel) (by decide) rfl
theorem dX12_isRight_247 : dk cX12_isRight 247 (.ireturn) 1 248 := ⟨by decide +kernel, rfl⟩
theorem dX12_isRight_248 : dli cX12_isRight 248 3 249 := Or.inl ⟨3, by decide +kernel, rfl, rfl⟩
theorem dX12_isRight_249 : dk cX12_isRight 249 (.invokestatic 74) 3 252 := ⟨by decide +kernel, rfl⟩
theorem dX12_isRight_252 : dla cX12_isRight 252 0 253 := Or.inl ⟨0, by decide +kernel, rfl, rfl⟩
theorem dX12_isRight_253 : dk cX12_isRight 253 (.getfield 13) 3 256 := ⟨by decide +kernel, rfl⟩
theorem dX12_isRight_256 : dli cX12_isRight 256 1 257 := Or.inl ⟨1, by decide +kernel, rfl, rfl⟩
theorem dX12_isRight_257 : dk cX12_isRight 257 (.iaload) 1 258 := ⟨by decide +kernel, rfl⟩
theorem dX12_isRight_258 : db cX12_isRight 258 (.if_icmp .ge 7) 7 261 265 := ⟨by decide +kernel, rfl, by decide⟩
theorem dX12_isRight_261 : dq cX12_isRight 261 1 262 := dq_i (n := 1) (by decide +kernel) (by decide) rfl
theorem dX12_isRight_262 : db cX12_isRight 262 (.goto 4) 4 265 266 := ⟨by decide +kernel, rfl, by decide⟩
theorem dX12_isRight_265 : dq cX12_isRight 265 0 266 := dq_i (n := 0) (by decide +kernel) (by decide) rfl
theorem dX12_isRight_266 : dk cX12_isRight 266 (.ireturn) 1 267 := ⟨by decide +kernel, rfl⟩
theorem dX12_isRight_267 : dli cX12_isRight 267 3 268 := Or.inl ⟨3, by decide +kernel, rfl, rfl⟩
theorem dX12_isRight_268 : dk cX12_isRight 268 (.invokestatic 71) 3 271 := ⟨by decide +kernel, rfl⟩
theorem dX12_isRight_271 : dq cX12_isRight 271 8 273 := dq_b (n := 8) (by decide +kernel) (by decide) rfl
theorem dX12_isRight_273 : db cX12_isRight 273 (.if_icmp .ge 16) 16 276 289 := ⟨by decide +kernel, rfl, by decide⟩
theorem dX12_isRight_276 : dli cX12_isRight 276 3 277 := Or.inl ⟨3, by decide +kernel, rfl, rfl⟩
theorem dX12_isRight_277 : dk cX12_isRight 277 (.invokestatic 74) 3 280 := ⟨by decide +kernel, rfl⟩
theorem dX12_isRight_280 : dq cX12_isRight 280 16 282 := dq_b (n := 16) (by decide +kernel) (by decide) rfl
theorem dX12_isRight_282 : db cX12_isRight 282 (.if_icmp .ge 7) 7 285 289 := ⟨by decide +kernel, rfl, by decide⟩
theorem dX12_isRight_285 : dq cX12_isRight 285 1 286 := dq_i (n := 1) (by decide +kernel) (by decide) rfl
theorem dX12_isRight_286 : db cX12_isRight 286 (.goto 4) 4 289 290 := ⟨by decide +kernel, rfl, by decide⟩
theorem dX12_isRight_289 : dq cX12_isRight 289 0 290 := dq_i (n := 0) (by decide +kernel) (by decide) rfl
theorem dX12_isRight_290 : dk cX12_isRight 290 (.ireturn) 1 291 := ⟨by decide +kernel, rfl⟩
theorem dX12_isRight_291 : dli cX12_isRight 291 3 292 := Or.inl ⟨3, by decide +kernel, rfl, rfl⟩
theorem dX12_isRight_292 : dk cX12_isRight 292 (.invokestatic 71) 3 295 := ⟨by decide +kernel, rfl⟩
theorem dX12_isRight_295 : dq cX12_isRight 295 8 297 := dq_b (n := 8) (by decide +kernel) (by decide) rfl
theorem dX12_isRight_297 : db cX12_isRight 297 (.if_icmp .ge 24) 24 300 321 := ⟨by decide +kernel, rfl, by decide⟩
theorem dX12_isRight_300 : dli cX12_isRight 300 3 301 := Or.inl ⟨3, by decide +kernel, rfl, rfl⟩
theorem dX12_isRight_301 : dk cX12_isRight 301 (.invokestatic 74) 3 304 := ⟨by decide +kernel, rfl⟩
theorem dX12_isRight_304 : dq cX12_isRight 304 4 305 := dq_i (n := 4) (by decide +kernel) (by decide) rfl
theorem dX12_isRight_305 : db cX12_isRight 305 (.if_icmp .ge 16) 16 308 321 := ⟨by decide +kernel, rfl, by decide⟩
theorem dX12_isRight_308 : dli cX12_isRight 308 3 309 := Or.inl ⟨3, by decide +kernel, rfl, rfl⟩
theorem dX12_isRight_309 : dk cX12_isRight 309 (.invokestatic 77) 3 312 := ⟨by decide +kernel, rfl⟩
theorem dX12_isRight_312 : dq cX12_isRight 312 8 314 := dq_b (n := 8) (by decide +kernel) (by decide) rfl
theorem dX12_isRight_314 : db cX12_isRight 314 (.if_icmp .ge 7) 7 317 321 := ⟨by decide +kernel, rfl, by decide⟩
theorem dX12_isRight_317 : dq cX12_isRight 317 1 318 := dq_i (n := 1) (by decide +kernel) (by decide) rfl
theorem dX12_isRight_318 : db cX12_isRight 318 (.goto 4) 4 321 322 := ⟨by decide +kernel, rfl, by decide⟩
theorem dX12_isRight_321 : dq cX12_isRight 321 0 322 := dq_i (n := 0) (by decide +kernel) (by decide) rfl
theorem dX12_isRight_322 : dk cX12_isRight 322 (.ireturn) 1 323 := ⟨by decide +kernel, rfl⟩
theorem dX12_isRight_323 : dli cX12_isRight 323 3 324 := Or.inl ⟨3, by decide +kernel, rfl, rfl⟩
theorem dX12_isRight_324 : dk cX12_isRight 324 (.invokestatic 71) 3 327 := ⟨by decide +kernel, rfl⟩
theorem dX12_isRight_327 : dq cX12_isRight 327 8 329 := dq_b (n := 8) (by decide +kernel) (by decide) rfl
theorem dX12_isRight_329 : db cX12_isRight 329 (.if_icmp .ge 15) 15 332 344 := ⟨by decide +kernel, rfl, by decide⟩
theorem dX12_isRight_332 : dli cX12_isRight 332 3 333 := Or.inl ⟨3, by decide +kernel, rfl, rfl⟩
theorem dX12_isRight_333 : dk cX12_isRight 333 (.invokestatic 74) 3 336 := ⟨by decide +kernel, rfl⟩
theorem dX12_isRight_336 : dq cX12_isRight 336 2 337 := dq_i (n := 2) (by decide +kernel) (by decide) rfl
theorem dX12_isRight_337 : db cX12_isRight 337 (.if_icmp .ge 7) 7 340 344 := ⟨by decide +kernel, rfl, by decide⟩
theorem dX12_isRight_340 : dq cX12_isRight 340 1 341 := dq_i (n := 1) (by decide +kernel) (by decide) rfl
theorem dX12_isRight_341 : db cX12_isRight 341 (.goto 4) 4 344 345 := ⟨by decide +kernel, rfl, by decide⟩
theorem dX12_isRight_344 : dq cX12_isRight 344 0 345 := dq_i (n := 0) (by decide +kernel) (by decide) rfl
theorem dX12_isRight_345 : dk cX12_isRight 345 (.ireturn) 1 346 := ⟨by decide +kernel, rfl⟩
theorem dX12_isRight_346 : dli cX12_isRight 346 3 347 := Or.inl ⟨3, by decide +kernel, rfl, rfl⟩
theorem dX12_isRight_347 : dk cX12_isRight 347 (.invokestatic 71) 3 350 := ⟨by decide +kernel, rfl⟩
theorem dX12_isRight_350 : dq cX12_isRight 350 8 352 := dq_b (n := 8) (by decide +kernel) (by decide) rfl
theorem dX12_isRight_352 : db cX12_isRight 352 (.if_icmp .ge 15) 15 355 367 := ⟨by decide +kernel, rfl, by decide⟩
theorem dX12_isRight_355 : dli cX12_isRight 355 3 356 := Or.inl ⟨3, by decide +kernel, rfl, rfl⟩
theorem dX12_isRight_356 : dk cX12_isRight 356 (.invokestatic 74) 3 359 := ⟨by decide +kernel, rfl⟩
theorem dX12_isRight_359 : dq cX12_isRight 359 4 360 := dq_i (n := 4) (by decide +kernel) (by decide) rfl
theorem dX12_isRight_360 : db cX12_isRight 360 (.if_icmp .ge 7) 7 363 367 := ⟨by decide +kernel, rfl, by decide⟩
theorem dX12_isRight_363 : dq cX12_isRight 363 1 364 := dq_i (n := 1) (by decide +kernel) (by decide) rfl
theorem dX12_isRight_364 : db cX12_isRight 364 (.goto 4) 4 367 368 := ⟨by decide +kernel, rfl, by decide⟩
theorem dX12_isRight_367 : dq cX12_isRight 367 0 368 := dq_i (n := 0) (by decide +kernel) (by decide) rfl
theorem dX12_isRight_368 : dk cX12_isRight 368 (.ireturn) 1 369 := ⟨by decide +kernel, rfl⟩
theorem dX12_isRight_369 : dq cX12_isRight 369 1 370 := dq_i (n := 1) (by decide +kernel) (by decide) rfl
theorem dX12_isRight_370 : dk cX12_isRight 370 (.ireturn) 1 371 := ⟨by decide +kernel, rfl⟩
theorem dX12_isRight_371 : dq cX12_isRight 371 0 372 := dq_i (n := 0) (by decide +kernel) (by decide) rfl
theorem dX12_isRight_372 : dk cX12_isRight 372 (.ireturn) 1 373 := ⟨by decide +kernel, rfl⟩
theorem dX12_runStep_0 : dla cX12_runStep 0 0 1 := Or.inl ⟨0, by decide +kernel, rfl, rfl⟩
theorem dX12_runStep_1 : dk cX12_runStep 1 (.getfield 16) 3 4 := ⟨by decide +kernel, rfl⟩
theorem dX12_runStep_4 : dq cX12_runStep 4 0 5 := dq_i (n := 0) (by decide +kernel) (by decide) rfl
theorem dX12_runStep_5 : dk cX12_runStep 5 (.iaload) 1 6 := ⟨by decide +kernel, rfl⟩
theorem dX12_runStep_6 : dsi cX12_runStep 6 1 7 := Or.inl ⟨1, by decide +kernel, rfl, rfl⟩
theorem dX12_runStep_7 : dla cX12_runStep 7 0 8 := Or.inl ⟨0, by decide +kernel, rfl, rfl⟩
theorem dX12_runStep_8 : dk cX12_runStep 8 (.getfield 7) 3 11 := ⟨by decide +kernel, rfl⟩
theorem dX12_runStep_11 : dq cX12_runStep 11 32 13 := dq_b (n := 32) (by decide +kernel) (by decide) rfl
theorem dX12_runStep_13 : dli cX12_runStep 13 1 14 := Or.inl ⟨1, by decide +kernel, rfl, rfl⟩
theorem dX12_runStep_14 : dk cX12_runStep 14 (.imul) 1 15 := ⟨by decide +kernel, rfl⟩
theorem dX12_runStep_15 : dla cX12_runStep 15 0 16 := Or.inl ⟨0, by decide +kernel, rfl, rfl⟩
theorem dX12_runStep_16 : dk cX12_runStep 16 (.getfield 102) 3 19 := ⟨by decide +kernel, rfl⟩
theorem dX12_runStep_19 : dk cX12_runStep 19 (.iadd) 1 20 := ⟨by decide +kernel, rfl⟩
theorem dX12_runStep_20 : dk cX12_runStep 20 (.iaload) 1 21 := ⟨by decide +kernel, rfl⟩
theorem dX12_runStep_21 : dsi cX12_runStep 21 2 22 := Or.inl ⟨2, by decide +kernel, rfl, rfl⟩
theorem dX12_runStep_22 : dla cX12_runStep 22 0 23 := Or.inl ⟨0, by decide +kernel, rfl, rfl⟩
theorem dX12_runStep_23 : dli cX12_runStep 23 2 24 := Or.inl ⟨2, by decide +kernel, rfl, rfl⟩
theorem dX12_runStep_24 : dk cX12_runStep 24 (.invokestatic 67) 3 27 := ⟨by decide +kernel, rfl⟩
theorem dX12_runStep_27 : dk cX12_runStep 27 (.invokestatic 142) 3 30 := ⟨by decide +kernel, rfl⟩
theorem dX12_runStep_30 : dk cX12_runStep 30 (.invokevirtual 117) 3 33 := ⟨by decide +kernel, rfl⟩
theorem dX12_runStep_33 : db cX12_runStep 33 (.ifCond .ne 4) 4 36 37 := ⟨by decide +kernel, rfl, by decide⟩
theorem dX12_runStep_36 : dk cX12_runStep 36 (.return_) 1 37 := ⟨by decide +kernel, rfl⟩
theorem dX12_runStep_37 : dli cX12_runStep 37 2 38 := Or.inl ⟨2, by decide +kernel, rfl, rfl⟩
theorem dX12_runStep_38 : dk cX12_runStep 38 (.invokestatic 71) 3 41 := ⟨by decide +kernel, rfl⟩
theorem dX12_runStep_41 : dsi cX12_runStep 41 3 42 := Or.inl ⟨3, by decide +kernel, rfl, rfl⟩
theorem dX12_runStep_42 : dli cX12_runStep 42 2 43 := Or.inl ⟨2, by decide +kernel, rfl, rfl⟩
theorem dX12_runStep_43 : dk cX12_runStep 43 (.invokestatic 74) 3 46 := ⟨by decide +kernel, rfl⟩
theorem dX12_runStep_46 : dsi cX12_runStep 46 4 48 := Or.inr ⟨by decide +kernel, rfl⟩
theorem dX12_runStep_48 : dli cX12_runStep 48 2 49 := Or.inl ⟨2, by decide +kernel, rfl, rfl⟩
theorem dX12_runStep_49 : dk cX12_runStep 49 (.invokestatic 77) 3 52 := ⟨by decide +kernel, rfl⟩
theorem dX12_runStep_52 : dsi cX12_runStep 52 5 54 := Or.inr ⟨by decide +kernel, rfl⟩
theorem dX12_runStep_54 : dla cX12_runStep 54 0 55 := Or.inl ⟨0, by decide +kernel, rfl, rfl⟩
theorem dX12_runStep_55 : dk cX12_runStep 55 (.dup) 1 56 := ⟨by decide +kernel, rfl⟩
theorem dX12_runStep_56 : dk cX12_runStep 56 (.getfield 102) 3 59 := ⟨by decide +kernel, rfl⟩
theorem dX12_runStep_59 : dq cX12_runStep 59 1 60 := dq_i (n := 1) (by decide +kernel) (by decide) rfl
theorem dX12_runStep_60 : dk cX12_runStep 60 (.iadd) 1 61 := ⟨by decide +kernel, rfl⟩
theorem dX12_runStep_61 : dk cX12_runStep 61 (.putfield 102) 3 64 := ⟨by decide +kernel, rfl⟩
theorem dX12_runStep_64 : dli cX12_runStep 64 2 65 := Or.inl ⟨2, by decide +kernel, rfl, rfl⟩
theorem dX12_runStep_65 : dk cX12_runStep 65 (.invokestatic 67) 3 68 := ⟨by decide +kernel, rfl⟩
theorem dX12_runStep_68_0 : decode cX12_runStep 68 = .ok (.tableswitch 487 0 16 #[84, 148, 167, 191, 215, 239, 263, 281, 290, 308, 343, 375, 422, 437, 447, 463, 476], 84) := by decide +kernel
theorem dX12_runStep_68_c0 : dt cX12_runStep 68 0 152 := ⟨_, _, _, _, _, _, dX12_runStep_68_0, by decide, by decide, rfl, by decide⟩
theorem dX12_runStep_68_c1 : dt cX12_runStep 68 1 216 := ⟨_, _, _, _, _, _, dX12_runStep_68_0, by decide, by decide, rfl, by decide⟩
theorem dX12_runStep_68_c2 : dt cX12_runStep 68 2 235 := ⟨_, _, _, _, _, _, dX12_runStep_68_0, by decide, by decide, rfl, by decide⟩
theorem dX12_runStep_68_c3 : dt cX12_runStep 68 3 259 := ⟨_, _, _, _, _, _, dX12_runStep_68_0, by decide, by decide, rfl, by decide⟩
theorem dX12_runStep_68_c4 : dt cX12_runStep 68 4 283 := ⟨_, _, _, _, _, _, dX12_runStep_68_0, by decide, by decide, rfl, by decide⟩
theorem dX12_runStep_68_c5 : dt cX12_runStep 68 5 307 := ⟨_, _, _, _, _, _, dX12_runStep_68_0, by decide, by decide, rfl, by decide⟩
theorem dX12_runStep_68_c6 : dt cX12_runStep 68 6 331 := ⟨_, _, _, _, _, _, dX12_runStep_68_0, by decide, by decide, rfl, by decide⟩
theorem dX12_runStep_68_c7 : dt cX12_runStep 68 7 349 := ⟨_, _, _, _, _, _, dX12_runStep_68_0, by decide, by decide, rfl, by decide⟩
theorem dX12_runStep_68_c8 : dt cX12_runStep 68 8 358 := ⟨_, _, _, _, _, _, dX12_runStep_68_0, by decide, by decide, rfl, by decide⟩
theorem dX12_runStep_68_c9 : dt cX12_runStep 68 9 376 := ⟨_, _, _, _, _, _, dX12_runStep_68_0, by decide, by decide, rfl, by decide⟩
theorem dX12_runStep_68_c10 : dt cX12_runStep 68 10 411 := ⟨_, _, _, _, _, _, dX12_runStep_68_0, by decide, by decide, rfl, by decide⟩
theorem dX12_runStep_68_c11 : dt cX12_runStep 68 11 443 := ⟨_, _, _, _, _, _, dX12_runStep_68_0, by decide, by decide, rfl, by decide⟩
theorem dX12_runStep_68_c12 : dt cX12_runStep 68 12 490 := ⟨_, _, _, _, _, _, dX12_runStep_68_0, by decide, by decide, rfl, by decide⟩
theorem dX12_runStep_68_c13 : dt cX12_runStep 68 13 505 := ⟨_, _, _, _, _, _, dX12_runStep_68_0, by decide, by decide, rfl, by decide⟩
theorem dX12_runStep_68_c14 : dt cX12_runStep 68 14 515 := ⟨_, _, _, _, _, _, dX12_runStep_68_0, by decide, by decide, rfl, by decide⟩
theorem dX12_runStep_68_c15 : dt cX12_runStep 68 15 531 := ⟨_, _, _, _, _, _, dX12_runStep_68_0, by decide, by decide, rfl, by decide⟩
theorem dX12_runStep_68_c16 : dt cX12_runStep 68 16 544 := ⟨_, _, _, _, _, _, dX12_runStep_68_0, by decide, by decide, rfl, by decide⟩
theorem dX12_runStep_68_d : dtd cX12_runStep 68 0 16 555 := ⟨_, _, _, dX12_runStep_68_0, by decide⟩
theorem dX12_runStep_152 : dla cX12_runStep 152 0 153 := Or.inl ⟨0, by decide +kernel, rfl, rfl⟩
theorem dX12_runStep_153 : dq cX12_runStep 153 4 154 := dq_i (n := 4) (by decide +kernel) (by decide) rfl
theorem dX12_runStep_154 : dk cX12_runStep 154 (.putfield 93) 3 157 := ⟨by decide +kernel, rfl⟩
theorem dX12_runStep_157 : dla cX12_runStep 157 0 158 := Or.inl ⟨0, by decide +kernel, rfl, rfl⟩
theorem dX12_runStep_158 : dk cX12_runStep 158 (.getfield 38) 3 161 := ⟨by decide +kernel, rfl⟩
theorem dX12_runStep_161 : dla cX12_runStep 161 0 162 := Or.inl ⟨0, by decide +kernel, rfl, rfl⟩
theorem dX12_runStep_162 : dk cX12_runStep 162 (.getfield 84) 3 165 := ⟨by decide +kernel, rfl⟩
theorem dX12_runStep_165 : dq cX12_runStep 165 0 166 := dq_i (n := 0) (by decide +kernel) (by decide) rfl
theorem dX12_runStep_166 : dk cX12_runStep 166 (.iastore) 1 167 := ⟨by decide +kernel, rfl⟩
theorem dX12_runStep_167 : dla cX12_runStep 167 0 168 := Or.inl ⟨0, by decide +kernel, rfl, rfl⟩
theorem dX12_runStep_168 : dk cX12_runStep 168 (.getfield 41) 3 171 := ⟨by decide +kernel, rfl⟩
theorem dX12_runStep_171 : dla cX12_runStep 171 0 172 := Or.inl ⟨0, by decide +kernel, rfl, rfl⟩
theorem dX12_runStep_172 : dk cX12_runStep 172 (.getfield 84) 3 175 := ⟨by decide +kernel, rfl⟩
theorem dX12_runStep_175 : dli cX12_runStep 175 3 176 := Or.inl ⟨3, by decide +kernel, rfl, rfl⟩
theorem dX12_runStep_176 : dk cX12_runStep 176 (.iastore) 1 177 := ⟨by decide +kernel, rfl⟩
theorem dX12_runStep_177 : dla cX12_runStep 177 0 178 := Or.inl ⟨0, by decide +kernel, rfl, rfl⟩
theorem dX12_runStep_178 : dk cX12_runStep 178 (.getfield 38) 3 181 := ⟨by decide +kernel, rfl⟩
theorem dX12_runStep_181 : dla cX12_runStep 181 0 182 := Or.inl ⟨0, by decide +kernel, rfl, rfl⟩
theorem dX12_runStep_182 : dk cX12_runStep 182 (.getfield 84) 3 185 := ⟨by decide +kernel, rfl⟩
theorem dX12_runStep_185 : dq cX12_runStep 185 1 186 := dq_i (n := 1) (by decide +kernel) (by decide) rfl
theorem dX12_runStep_186 : dk cX12_runStep 186 (.iadd) 1 187 := ⟨by decide +kernel, rfl⟩
theorem dX12_runStep_187 : dq cX12_runStep 187 1 188 := dq_i (n := 1) (by decide +kernel) (by decide) rfl
theorem dX12_runStep_188 : dk cX12_runStep 188 (.iastore) 1 189 := ⟨by decide +kernel, rfl⟩
theorem dX12_runStep_189 : dla cX12_runStep 189 0 190 := Or.inl ⟨0, by decide +kernel, rfl, rfl⟩
theorem dX12_runStep_190 : dk cX12_runStep 190 (.getfield 41) 3 193 := ⟨by decide +kernel, rfl⟩
theorem dX12_runStep_193 : dla cX12_runStep 193 0 194 := Or.inl ⟨0, by decide +kernel, rfl, rfl⟩
theorem dX12_runStep_194 : dk cX12_runStep 194 (.getfield 84) 3 197 := ⟨by decide +kernel, rfl⟩
theorem dX12_runStep_197 : dq cX12_runStep 197 1 198 := dq_i (n := 1) (by decide +kernel) (by decide) rfl
theorem dX12_runStep_198 : dk cX12_runStep 198 (.iadd) 1 199 := ⟨by decide +kernel, rfl⟩
theorem dX12_runStep_199 : dla cX12_runStep 199 0 200 := Or.inl ⟨0, by decide +kernel, rfl, rfl⟩
theorem dX12_runStep_200 : dk cX12_runStep 200 (.getfield 16) 3 203 := ⟨by decide +kernel, rfl⟩
theorem dX12_runStep_203 : dq cX12_runStep 203 1 204 := dq_i (n := 1) (by decide +kernel) (by decide) rfl
theorem dX12_runStep_204 : dk cX12_runStep 204 (.iaload) 1 205 := ⟨by decide +kernel, rfl⟩
theorem dX12_runStep_205 : dq cX12_runStep 205 1 206 := dq_i (n := 1) (by decide +kernel) (by decide) rfl
theorem dX12_runStep_206 : dk cX12_runStep 206 (.iadd) 1 207 := ⟨by decide +kernel, rfl⟩
theorem dX12_runStep_207 : dk cX12_runStep 207 (.iastore) 1 208 := ⟨by decide +kernel, rfl⟩
theorem dX12_runStep_208 : dla cX12_runStep 208 0 209 := Or.inl ⟨0, by decide +kernel, rfl, rfl⟩
theorem dX12_runStep_209 : dq cX12_runStep 209 0 210 := dq_i (n := 0) (by decide +kernel) (by decide) rfl
theorem dX12_runStep_210 : dk cX12_runStep 210 (.putfield 108) 3 213 := ⟨by decide +kernel, rfl⟩
theorem dX12_runStep_213 : db cX12_runStep 213 (.goto 387) 387 216 600 := ⟨by decide +kernel, rfl, by decide⟩
theorem dX12_runStep_216 : dla cX12_runStep 216 0 217 := Or.inl ⟨0, by decide +kernel, rfl, rfl⟩
theorem dX12_runStep_217 : dk cX12_runStep 217 (.getfield 35) 3 220 := ⟨by decide +kernel, rfl⟩
theorem dX12_runStep_220 : dli cX12_runStep 220 3 221 := Or.inl ⟨3, by decide +kernel, rfl, rfl⟩
theorem dX12_runStep_221 : dq cX12_runStep 221 256 224 := dq_s (n := 256) (by decide +kernel) (by decide) rfl
theorem dX12_runStep_224 : dli cX12_runStep 224 4 226 := Or.inr ⟨by decide +kernel, rfl⟩
theorem dX12_runStep_226 : dk cX12_runStep 226 (.imul) 1 227 := ⟨by decide +kernel, rfl⟩
theorem dX12_runStep_227 : dli cX12_runStep 227 5 229 := Or.inr ⟨by decide +kernel, rfl⟩
theorem dX12_runStep_229 : dk cX12_runStep 229 (.iadd) 1 230 := ⟨by decide +kernel, rfl⟩
theorem dX12_runStep_230 : dk cX12_runStep 230 (.i2s) 1 231 := ⟨by decide +kernel, rfl⟩
theorem dX12_runStep_231 : dk cX12_runStep 231 (.iastore) 1 232 := ⟨by decide +kernel, rfl⟩
theorem dX12_runStep_232 : db cX12_runStep 232 (.goto 368) 368 235 600 := ⟨by decide +kernel, rfl, by decide⟩
theorem dX12_runStep_235 : dla cX12_runStep 235 0 236 := Or.inl ⟨0, by decide +kernel, rfl, rfl⟩
theorem dX12_runStep_236 : dk cX12_runStep 236 (.getfield 35) 3 239 := ⟨by decide +kernel, rfl⟩
theorem dX12_runStep_239 : dli cX12_runStep 239 3 240 := Or.inl ⟨3, by decide +kernel, rfl, rfl⟩
theorem dX12_runStep_240 : dla cX12_runStep 240 0 241 := Or.inl ⟨0, by decide +kernel, rfl, rfl⟩
theorem dX12_runStep_241 : dk cX12_runStep 241 (.getfield 35) 3 244 := ⟨by decide +kernel, rfl⟩
theorem dX12_runStep_244 : dli cX12_runStep 244 4 246 := Or.inr ⟨by decide +kernel, rfl⟩
theorem dX12_runStep_246 : dk cX12_runStep 246 (.iaload) 1 247 := ⟨by decide +kernel, rfl⟩
theorem dX12_runStep_247 : dla cX12_runStep 247 0 248 := Or.inl ⟨0, by decide +kernel, rfl, rfl⟩
theorem dX12_runStep_248 : dk cX12_runStep 248 (.getfield 35) 3 251 := ⟨by decide +kernel, rfl⟩
theorem dX12_runStep_251 : dli cX12_runStep 251 5 253 := Or.inr ⟨by decide +kernel, rfl⟩
theorem dX12_runStep_253 : dk cX12_runStep 253 (.iaload) 1 254 := ⟨by decide +kernel, rfl⟩
theorem dX12_runStep_254 : dk cX12_runStep 254 (.iadd) 1 255 := ⟨by decide +kernel, rfl⟩
theorem dX12_runStep_255 : dk cX12_runStep 255 (.iastore) 1 256 := ⟨by decide +kernel, rfl⟩
theorem dX12_runStep_256 : db cX12_runStep 256 (.goto 344) 344 259 600 := ⟨by decide +kernel, rfl, by decide⟩
theorem dX12_runStep_259 : dla cX12_runStep 259 0 260 := Or.inl ⟨0, by decide +kernel, rfl, rfl⟩
theorem dX12_runStep_260 : dk cX12_runStep 260 (.getfield 35) 3 263 := ⟨by decide +kernel, rfl⟩
theorem dX12_runStep_263 : dli cX12_runStep 263 3 264 := Or.inl ⟨3, by decide +kernel, rfl, rfl⟩
theorem dX12_runStep_264 : dla cX12_runStep 264 0 265 := Or.inl ⟨0, by decide +kernel, rfl, rfl⟩
theorem dX12_runStep_265 : dk cX12_runStep 265 (.getfield 35) 3 268 := ⟨by decide +kernel, rfl⟩
theorem dX12_runStep_268 : dli cX12_runStep 268 4 270 := Or.inr ⟨by decide +kernel, rfl⟩
theorem dX12_runStep_270 : dk cX12_runStep 270 (.iaload) 1 271 := ⟨by decide +kernel, rfl⟩
theorem dX12_runStep_271 : dla cX12_runStep 271 0 272 := Or.inl ⟨0, by decide +kernel, rfl, rfl⟩
theorem dX12_runStep_272 : dk cX12_runStep 272 (.getfield 35) 3 275 := ⟨by decide +kernel, rfl⟩
theorem dX12_runStep_275 : dli cX12_runStep 275 5 277 := Or.inr ⟨by decide +kernel, rfl⟩
theorem dX12_runStep_277 : dk cX12_runStep 277 (.iaload) 1 278 := ⟨by decide +kernel, rfl⟩
theorem dX12_runStep_278 : dk cX12_runStep 278 (.isub) 1 279 := ⟨by decide +kernel, rfl⟩
theorem dX12_runStep_279 : dk cX12_runStep 279 (.iastore) 1 280 := ⟨by decide +kernel, rfl⟩
theorem dX12_runStep_280 : db cX12_runStep 280 (.goto 320) 320 283 600 := ⟨by decide +kernel, rfl, by decide⟩
theorem dX12_runStep_283 : dla cX12_runStep 283 0 284 := Or.inl ⟨0, by decide +kernel, rfl, rfl⟩
theorem dX12_runStep_284 : dk cX12_runStep 284 (.getfield 35) 3 287 := ⟨by decide +kernel, rfl⟩
theorem dX12_runStep_287 : dli cX12_runStep 287 3 288 := Or.inl ⟨3, by decide +kernel, rfl, rfl⟩
theorem dX12_runStep_288 : dla cX12_runStep 288 0 289 := Or.inl ⟨0, by decide +kernel, rfl, rfl⟩
theorem dX12_runStep_289 : dk cX12_runStep 289 (.getfield 35) 3 292 := ⟨by decide +kernel, rfl⟩
theorem dX12_runStep_292 : dli cX12_runStep 292 4 294 := Or.inr ⟨by decide +kernel, rfl⟩
theorem dX12_runStep_294 : dk cX12_runStep 294 (.iaload) 1 295 := ⟨by decide +kernel, rfl⟩
theorem dX12_runStep_295 : dla cX12_runStep 295 0 296 := Or.inl ⟨0, by decide +kernel, rfl, rfl⟩
theorem dX12_runStep_296 : dk cX12_runStep 296 (.getfield 35) 3 299 := ⟨by decide +kernel, rfl⟩
theorem dX12_runStep_299 : dli cX12_runStep 299 5 301 := Or.inr ⟨by decide +kernel, rfl⟩
theorem dX12_runStep_301 : dk cX12_runStep 301 (.iaload) 1 302 := ⟨by decide +kernel, rfl⟩
theorem dX12_runStep_302 : dk cX12_runStep 302 (.imul) 1 303 := ⟨by decide +kernel, rfl⟩
theorem dX12_runStep_303 : dk cX12_runStep 303 (.iastore) 1 304 := ⟨by decide +kernel, rfl⟩
theorem dX12_runStep_304 : db cX12_runStep 304 (.goto 296) 296 307 600 := ⟨by decide +kernel, rfl, by decide⟩
theorem dX12_runStep_307 : dla cX12_runStep 307 0 308 := Or.inl ⟨0, by decide +kernel, rfl, rfl⟩
theorem dX12_runStep_308 : dk cX12_runStep 308 (.getfield 35) 3 311 := ⟨by decide +kernel, rfl⟩
theorem dX12_runStep_311 : dli cX12_runStep 311 3 312 := Or.inl ⟨3, by decide +kernel, rfl, rfl⟩
theorem dX12_runStep_312 : dla cX12_runStep 312 0 313 := Or.inl ⟨0, by decide +kernel, rfl, rfl⟩
theorem dX12_runStep_313 : dk cX12_runStep 313 (.getfield 35) 3 316 := ⟨by decide +kernel, rfl⟩
theorem dX12_runStep_316 : dli cX12_runStep 316 4 318 := Or.inr ⟨by decide +kernel, rfl⟩
theorem dX12_runStep_318 : dk cX12_runStep 318 (.iaload) 1 319 := ⟨by decide +kernel, rfl⟩
theorem dX12_runStep_319 : dla cX12_runStep 319 0 320 := Or.inl ⟨0, by decide +kernel, rfl, rfl⟩
theorem dX12_runStep_320 : dk cX12_runStep 320 (.getfield 35) 3 323 := ⟨by decide +kernel, rfl⟩
theorem dX12_runStep_323 : dli cX12_runStep 323 5 325 := Or.inr ⟨by decide +kernel, rfl⟩
theorem dX12_runStep_325 : dk cX12_runStep 325 (.iaload) 1 326 := ⟨by decide +kernel, rfl⟩
theorem dX12_runStep_326 : dk cX12_runStep 326 (.ixor) 1 327 := ⟨by decide +kernel, rfl⟩
theorem dX12_runStep_327 : dk cX12_runStep 327 (.iastore) 1 328 := ⟨by decide +kernel, rfl⟩
theorem dX12_runStep_328 : db cX12_runStep 328 (.goto 272) 272 331 600 := ⟨by decide +kernel, rfl, by decide⟩
theorem dX12_runStep_331 : dla cX12_runStep 331 0 332 := Or.inl ⟨0, by decide +kernel, rfl, rfl⟩
theorem dX12_runStep_332 : dk cX12_runStep 332 (.getfield 35) 3 335 := ⟨by decide +kernel, rfl⟩
theorem dX12_runStep_335 : dli cX12_runStep 335 3 336 := Or.inl ⟨3, by decide +kernel, rfl, rfl⟩
theorem dX12_runStep_336 : dk cX12_runStep 336 (.iaload) 1 337 := ⟨by decide +kernel, rfl⟩
theorem dX12_runStep_337 : db cX12_runStep 337 (.ifCond .ne 263) 263 340 600 := ⟨by decide +kernel, rfl, by decide⟩
theorem dX12_runStep_340 : dla cX12_runStep 340 0 341 := Or.inl ⟨0, by decide +kernel, rfl, rfl⟩
theorem dX12_runStep_341 : dli cX12_runStep 341 4 343 := Or.inr ⟨by decide +kernel, rfl⟩
theorem dX12_runStep_343 : dk cX12_runStep 343 (.putfield 102) 3 346 := ⟨by decide +kernel, rfl⟩
theorem dX12_runStep_346 : db cX12_runStep 346 (.goto 254) 254 349 600 := ⟨by decide +kernel, rfl, by decide⟩
theorem dX12_runStep_349 : dla cX12_runStep 349 0 350 := Or.inl ⟨0, by decide +kernel, rfl, rfl⟩
theorem dX12_runStep_350 : dli cX12_runStep 350 4 352 := Or.inr ⟨by decide +kernel, rfl⟩
theorem dX12_runStep_352 : dk cX12_runStep 352 (.putfield 102) 3 355 := ⟨by decide +kernel, rfl⟩
theorem dX12_runStep_355 : db cX12_runStep 355 (.goto 245) 245 358 600 := ⟨by decide +kernel, rfl, by decide⟩
theorem dX12_runStep_358 : dla cX12_runStep 358 0 359 := Or.inl ⟨0, by decide +kernel, rfl, rfl⟩
theorem dX12_runStep_359 : dk cX12_runStep 359 (.getfield 35) 3 362 := ⟨by decide +kernel, rfl⟩
theorem dX12_runStep_362 : dli cX12_runStep 362 3 363 := Or.inl ⟨3, by decide +kernel, rfl, rfl⟩
theorem dX12_runStep_363 : dla cX12_runStep 363 0 364 := Or.inl ⟨0, by decide +kernel, rfl, rfl⟩
theorem dX12_runStep_364 : dq cX12_runStep 364 8 366 := dq_b (n := 8) (by decide +kernel) (by decide) rfl
theorem dX12_runStep_366 : dli cX12_runStep 366 4 368 := Or.inr ⟨by decide +kernel, rfl⟩
theorem dX12_runStep_368 : dk cX12_runStep 368 (.iadd) 1 369 := ⟨by decide +kernel, rfl⟩
theorem dX12_runStep_369 : dk cX12_runStep 369 (.invokevirtual 133) 3 372 := ⟨by decide +kernel, rfl⟩
theorem dX12_runStep_372 : dk cX12_runStep 372 (.iastore) 1 373 := ⟨by decide +kernel, rfl⟩
theorem dX12_runStep_373 : db cX12_runStep 373 (.goto 227) 227 376 600 := ⟨by decide +kernel, rfl, by decide⟩
theorem dX12_runStep_376 : dla cX12_runStep 376 0 377 := Or.inl ⟨0, by decide +kernel, rfl, rfl⟩
theorem dX12_runStep_377 : dq cX12_runStep 377 8 379 := dq_b (n := 8) (by decide +kernel) (by decide) rfl
theorem dX12_runStep_379 : dli cX12_runStep 379 4 381 := Or.inr ⟨by decide +kernel, rfl⟩
theorem dX12_runStep_381 : dk cX12_runStep 381 (.iadd) 1 382 := ⟨by decide +kernel, rfl⟩
theorem dX12_runStep_382 : dq cX12_runStep 382 8 384 := dq_b (n := 8) (by decide +kernel) (by decide) rfl
theorem dX12_runStep_384 : dli cX12_runStep 384 4 386 := Or.inr ⟨by decide +kernel, rfl⟩
theorem dX12_runStep_386 : dk cX12_runStep 386 (.iadd) 1 387 := ⟨by decide +kernel, rfl⟩
theorem dX12_runStep_387 : dk cX12_runStep 387 (.invokevirtual 136) 3 390 := ⟨by decide +kernel, rfl⟩
theorem dX12_runStep_390 : db cX12_runStep 390 (.ifCond .eq 210) 210 393 600 := ⟨by decide +kernel, rfl, by decide⟩
theorem dX12_runStep_393 : dla cX12_runStep 393 0 394 := Or.inl ⟨0, by decide +kernel, rfl, rfl⟩
theorem dX12_runStep_394 : dq cX12_runStep 394 8 396 := dq_b (n := 8) (by decide +kernel) (by decide) rfl
theorem dX12_runStep_396 : dli cX12_runStep 396 4 398 := Or.inr ⟨by decide +kernel, rfl⟩
theorem dX12_runStep_398 : dk cX12_runStep 398 (.iadd) 1 399 := ⟨by decide +kernel, rfl⟩
theorem dX12_runStep_399 : dla cX12_runStep 399 0 400 := Or.inl ⟨0, by decide +kernel, rfl, rfl⟩
theorem dX12_runStep_400 : dk cX12_runStep 400 (.getfield 35) 3 403 := ⟨by decide +kernel, rfl⟩
theorem dX12_runStep_403 : dli cX12_runStep 403 3 404 := Or.inl ⟨3, by decide +kernel, rfl, rfl⟩
theorem dX12_runStep_404 : dk cX12_runStep 404 (.iaload) 1 405 := ⟨by decide +kernel, rfl⟩
theorem dX12_runStep_405 : dk cX12_runStep 405 (.invokevirtual 139) 3 408 := ⟨by decide +kernel, rfl⟩
theorem dX12_runStep_408 : db cX12_runStep 408 (.goto 192) 192 411 600 := ⟨by decide +kernel, rfl, by decide⟩
theorem dX12_runStep_411 : dla cX12_runStep 411 0 412 := Or.inl ⟨0, by decide +kernel, rfl, rfl⟩
theorem dX12_runStep_412 : dk cX12_runStep 412 (.getfield 35) 3 415 := ⟨by decide +kernel, rfl⟩
theorem dX12_runStep_415 : dli cX12_runStep 415 3 416 := Or.inl ⟨3, by decide +kernel, rfl, rfl⟩
theorem dX12_runStep_416 : dla cX12_runStep 416 0 417 := Or.inl ⟨0, by decide +kernel, rfl, rfl⟩
theorem dX12_runStep_417 : dq cX12_runStep 417 24 419 := dq_b (n := 24) (by decide +kernel) (by decide) rfl
theorem dX12_runStep_419 : dq cX12_runStep 419 8 421 := dq_b (n := 8) (by decide +kernel) (by decide) rfl
theorem dX12_runStep_421 : dli cX12_runStep 421 4 423 := Or.inr ⟨by decide +kernel, rfl⟩
theorem dX12_runStep_423 : dk cX12_runStep 423 (.imul) 1 424 := ⟨by decide +kernel, rfl⟩
theorem dX12_runStep_424 : dk cX12_runStep 424 (.iadd) 1 425 := ⟨by decide +kernel, rfl⟩
theorem dX12_runStep_425 : dla cX12_runStep 425 0 426 := Or.inl ⟨0, by decide +kernel, rfl, rfl⟩
theorem dX12_runStep_426 : dk cX12_runStep 426 (.getfield 35) 3 429 := ⟨by decide +kernel, rfl⟩
theorem dX12_runStep_429 : dli cX12_runStep 429 5 431 := Or.inr ⟨by decide +kernel, rfl⟩
theorem dX12_runStep_431 : dk cX12_runStep 431 (.iaload) 1 432 := ⟨by decide +kernel, rfl⟩
theorem dX12_runStep_432 : dq cX12_runStep 432 7 434 := dq_b (n := 7) (by decide +kernel) (by decide) rfl
theorem dX12_runStep_434 : dk cX12_runStep 434 (.iand) 1 435 := ⟨by decide +kernel, rfl⟩
theorem dX12_runStep_435 : dk cX12_runStep 435 (.iadd) 1 436 := ⟨by decide +kernel, rfl⟩
theorem dX12_runStep_436 : dk cX12_runStep 436 (.invokevirtual 133) 3 439 := ⟨by decide +kernel, rfl⟩
theorem dX12_runStep_439 : dk cX12_runStep 439 (.iastore) 1 440 := ⟨by decide +kernel, rfl⟩
theorem dX12_runStep_440 : db cX12_runStep 440 (.goto 160) 160 443 600 := ⟨by decide +kernel, rfl, by decide⟩
theorem dX12_runStep_443 : dq cX12_runStep 443 24 445 := dq_b (n := 24) (by decide +kernel) (by decide) rfl
theorem dX12_runStep_445 : dq cX12_runStep 445 8 447 := dq_b (n := 8) (by decide +kernel) (by decide) rfl
theorem dX12_runStep_447 : dli cX12_runStep 447 4 449 := Or.inr ⟨by decide +kernel, rfl⟩
theorem dX12_runStep_449 : dk cX12_runStep 449 (.imul) 1 450 := ⟨by decide +kernel, rfl⟩
theorem dX12_runStep_450 : dk cX12_runStep 450 (.iadd) 1 451 := ⟨by decide +kernel, rfl⟩
theorem dX12_runStep_451 : dla cX12_runStep 451 0 452 := Or.inl ⟨0, by decide +kernel, rfl, rfl⟩
theorem dX12_runStep_452 : dk cX12_runStep 452 (.getfield 35) 3 455 := ⟨by decide +kernel, rfl⟩
theorem dX12_runStep_455 : dli cX12_runStep 455 5 457 := Or.inr ⟨by decide +kernel, rfl⟩
theorem dX12_runStep_457 : dk cX12_runStep 457 (.iaload) 1 458 := ⟨by decide +kernel, rfl⟩
theorem dX12_runStep_458 : dq cX12_runStep 458 7 460 := dq_b (n := 7) (by decide +kernel) (by decide) rfl
theorem dX12_runStep_460 : dk cX12_runStep 460 (.iand) 1 461 := ⟨by decide +kernel, rfl⟩
theorem dX12_runStep_461 : dk cX12_runStep 461 (.iadd) 1 462 := ⟨by decide +kernel, rfl⟩
theorem dX12_runStep_462 : dsi cX12_runStep 462 6 464 := Or.inr ⟨by decide +kernel, rfl⟩
theorem dX12_runStep_464 : dla cX12_runStep 464 0 465 := Or.inl ⟨0, by decide +kernel, rfl, rfl⟩
theorem dX12_runStep_465 : dli cX12_runStep 465 6 467 := Or.inr ⟨by decide +kernel, rfl⟩
theorem dX12_runStep_467 : dli cX12_runStep 467 6 469 := Or.inr ⟨by decide +kernel, rfl⟩
theorem dX12_runStep_469 : dk cX12_runStep 469 (.invokevirtual 136) 3 472 := ⟨by decide +kernel, rfl⟩
theorem dX12_runStep_472 : db cX12_runStep 472 (.ifCond .eq 128) 128 475 600 := ⟨by decide +kernel, rfl, by decide⟩
theorem dX12_runStep_475 : dla cX12_runStep 475 0 476 := Or.inl ⟨0, by decide +kernel, rfl, rfl⟩
theorem dX12_runStep_476 : dli cX12_runStep 476 6 478 := Or.inr ⟨by decide +kernel, rfl⟩
theorem dX12_runStep_478 : dla cX12_runStep 478 0 479 := Or.inl ⟨0, by decide +kernel, rfl, rfl⟩
theorem dX12_runStep_479 : dk cX12_runStep 479 (.getfield 35) 3 482 := ⟨by decide +kernel, rfl⟩
theorem dX12_runStep_482 : dli cX12_runStep 482 3 483 := Or.inl ⟨3, by decide +kernel, rfl, rfl⟩
theorem dX12_runStep_483 : dk cX12_runStep 483 (.iaload) 1 484 := ⟨by decide +kernel, rfl⟩
theorem dX12_runStep_484 : dk cX12_runStep 484 (.invokevirtual 139) 3 487 := ⟨by decide +kernel, rfl⟩
theorem dX12_runStep_487 : db cX12_runStep 487 (.goto 113) 113 490 600 := ⟨by decide +kernel, rfl, by decide⟩
theorem dX12_runStep_490 : dla cX12_runStep 490 0 491 := Or.inl ⟨0, by decide +kernel, rfl, rfl⟩
theorem dX12_runStep_491 : dli cX12_runStep 491 4 493 := Or.inr ⟨by decide +kernel, rfl⟩
theorem dX12_runStep_493 : dla cX12_runStep 493 0 494 := Or.inl ⟨0, by decide +kernel, rfl, rfl⟩
theorem dX12_runStep_494 : dk cX12_runStep 494 (.getfield 35) 3 497 := ⟨by decide +kernel, rfl⟩
theorem dX12_runStep_497 : dli cX12_runStep 497 3 498 := Or.inl ⟨3, by decide +kernel, rfl, rfl⟩
theorem dX12_runStep_498 : dk cX12_runStep 498 (.iaload) 1 499 := ⟨by decide +kernel, rfl⟩
theorem dX12_runStep_499 : dk cX12_runStep 499 (.invokevirtual 145) 3 502 := ⟨by decide +kernel, rfl⟩
theorem dX12_runStep_502 : db cX12_runStep 502 (.goto 98) 98 505 600 := ⟨by decide +kernel, rfl, by decide⟩
theorem dX12_runStep_505 : dla cX12_runStep 505 0 506 := Or.inl ⟨0, by decide +kernel, rfl, rfl⟩
theorem dX12_runStep_506 : dli cX12_runStep 506 4 508 := Or.inr ⟨by decide +kernel, rfl⟩
theorem dX12_runStep_508 : dli cX12_runStep 508 3 509 := Or.inl ⟨3, by decide +kernel, rfl, rfl⟩
theorem dX12_runStep_509 : dk cX12_runStep 509 (.invokevirtual 148) 3 512 := ⟨by decide +kernel, rfl⟩
theorem dX12_runStep_512 : db cX12_runStep 512 (.goto 88) 88 515 600 := ⟨by decide +kernel, rfl, by decide⟩
theorem dX12_runStep_515 : dla cX12_runStep 515 0 516 := Or.inl ⟨0, by decide +kernel, rfl, rfl⟩
theorem dX12_runStep_516 : dk cX12_runStep 516 (.getfield 35) 3 519 := ⟨by decide +kernel, rfl⟩
theorem dX12_runStep_519 : dli cX12_runStep 519 3 520 := Or.inl ⟨3, by decide +kernel, rfl, rfl⟩
theorem dX12_runStep_520 : dla cX12_runStep 520 0 521 := Or.inl ⟨0, by decide +kernel, rfl, rfl⟩
theorem dX12_runStep_521 : dk cX12_runStep 521 (.getfield 22) 3 524 := ⟨by decide +kernel, rfl⟩
theorem dX12_runStep_524 : dli cX12_runStep 524 4 526 := Or.inr ⟨by decide +kernel, rfl⟩
theorem dX12_runStep_526 : dk cX12_runStep 526 (.iaload) 1 527 := ⟨by decide +kernel, rfl⟩
theorem dX12_runStep_527 : dk cX12_runStep 527 (.iastore) 1 528 := ⟨by decide +kernel, rfl⟩
theorem dX12_runStep_528 : db cX12_runStep 528 (.goto 72) 72 531 600 := ⟨by decide +kernel, rfl, by decide⟩
theorem dX12_runStep_531 : dla cX12_runStep 531 0 532 := Or.inl ⟨0, by decide +kernel, rfl, rfl⟩
theorem dX12_runStep_532 : dla cX12_runStep 532 0 533 := Or.inl ⟨0, by decide +kernel, rfl, rfl⟩
theorem dX12_runStep_533 : dk cX12_runStep 533 (.getfield 35) 3 536 := ⟨by decide +kernel, rfl⟩
theorem dX12_runStep_536 : dli cX12_runStep 536 3 537 := Or.inl ⟨3, by decide +kernel, rfl, rfl⟩
theorem dX12_runStep_537 : dk cX12_runStep 537 (.iaload) 1 538 := ⟨by decide +kernel, rfl⟩
theorem dX12_runStep_538 : dk cX12_runStep 538 (.invokevirtual 151) 3 541 := ⟨by decide +kernel, rfl⟩
theorem dX12_runStep_541 : db cX12_runStep 541 (.goto 59) 59 544 600 := ⟨by decide +kernel, rfl, by decide⟩
theorem dX12_runStep_544 : dla cX12_runStep 544 0 545 := Or.inl ⟨0, by decide +kernel, rfl, rfl⟩
theorem dX12_runStep_545 : dla cX12_runStep 545 0 546 := Or.inl ⟨0, by decide +kernel, rfl, rfl⟩
theorem dX12_runStep_546 : dk cX12_runStep 546 (.getfield 155) 3 549 := ⟨by decide +kernel, rfl⟩
theorem dX12_runStep_549 : dk cX12_runStep 549 (.putfield 105) 3 552 := ⟨by decide +kernel, rfl⟩
theorem dX12_runStep_552 : db cX12_runStep 552 (.goto 48) 48 555 600 := ⟨by decide +kernel, rfl, by decide⟩
theorem dX12_runStep_555 : dla cX12_runStep 555 0 556 := Or.inl ⟨0, by decide +kernel, rfl, rfl⟩
theorem dX12_runStep_556 : dk cX12_runStep 556 (.getfield 105) 3 559 := ⟨by decide +kernel, rfl⟩
theorem dX12_runStep_559 : dq cX12_runStep 559 (-1) 560 := dq_i (n := (-1)) (by decide +kernel) (by decide) rfl
theorem dX12_runStep_560 : db cX12_runStep 560 (.if_icmp .eq 40) 40 563 600 := ⟨by decide +kernel, rfl, by decide⟩
theorem dX12_runStep_563 : dla cX12_runStep 563 0 564 := Or.inl ⟨0, by decide +kernel, rfl, rfl⟩
theorem dX12_runStep_564 : dk cX12_runStep 564 (.getfield 155) 3 567 := ⟨by decide +kernel, rfl⟩
theorem dX12_runStep_567 : dla cX12_runStep 567 0 568 := Or.inl ⟨0, by decide +kernel, rfl, rfl⟩
theorem dX12_runStep_568 : dk cX12_runStep 568 (.getfield 105) 3 571 := ⟨by decide +kernel, rfl⟩
theorem dX12_runStep_571 : dk cX12_runStep 571 (.isub) 1 572 := ⟨by decide +kernel, rfl⟩
theorem dX12_runStep_572 : dli cX12_runStep 572 3 573 := Or.inl ⟨3, by decide +kernel, rfl, rfl⟩
theorem dX12_runStep_573 : db cX12_runStep 573 (.if_icmp .le 27) 27 576 600 := ⟨by decide +kernel, rfl, by decide⟩
theorem dX12_runStep_576 : dla cX12_runStep 576 0 577 := Or.inl ⟨0, by decide +kernel, rfl, rfl⟩
theorem dX12_runStep_577 : dk cX12_runStep 577 (.dup) 1 578 := ⟨by decide +kernel, rfl⟩
theorem dX12_runStep_578 : dk cX12_runStep 578 (.getfield 158) 3 581 := ⟨by decide +kernel, rfl⟩
theorem dX12_runStep_581 : dq cX12_runStep 581 1 582 := dq_i (n := 1) (by decide +kernel) (by decide) rfl
theorem dX12_runStep_582 : dk cX12_runStep 582 (.iadd) 1 583 := ⟨by decide +kernel, rfl⟩
theorem dX12_runStep_583 : dk cX12_runStep 583 (.putfield 158) 3 586 := ⟨by decide +kernel, rfl⟩
theorem dX12_runStep_586 : dla cX12_runStep 586 0 587 := Or.inl ⟨0, by decide +kernel, rfl, rfl⟩
theorem dX12_runStep_587 : dq cX12_runStep 587 2 588 := dq_i (n := 2) (by decide +kernel) (by decide) rfl
theorem dX12_runStep_588 : dk cX12_runStep 588 (.putfield 93) 3 591 := ⟨by decide +kernel, rfl⟩
theorem dX12_runStep_591 : dla cX12_runStep 591 0 592 := Or.inl ⟨0, by decide +kernel, rfl, rfl⟩
theorem dX12_runStep_592 : dq cX12_runStep 592 0 593 := dq_i (n := 0) (by decide +kernel) (by decide) rfl
theorem dX12_runStep_593 : dk cX12_runStep 593 (.putfield 127) 3 596 := ⟨by decide +kernel, rfl⟩
theorem dX12_runStep_596 : dla cX12_runStep 596 0 597 := Or.inl ⟨0, by decide +kernel, rfl, rfl⟩
theorem dX12_runStep_597 : dk cX12_runStep 597 (.invokevirtual 99) 3 600 := ⟨by decide +kernel, rfl⟩
theorem dX12_runStep_600 : dk cX12_runStep 600 (.return_) 1 601 := ⟨by decide +kernel, rfl⟩
