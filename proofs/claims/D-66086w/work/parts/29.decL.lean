/-! decode rows, in this proof's own forms -/
set_option maxRecDepth 100000
theorem dX0_slot_0 : dla cX0_slot 0 2 1 := Or.inl ⟨2, by decide +kernel, rfl, rfl⟩
theorem dX0_slot_1 : dq cX0_slot 1 0 2 := dq_i (n := 0) (by decide +kernel) (by decide) rfl
theorem dX0_slot_2 : dla cX0_slot 2 0 3 := Or.inl ⟨0, by decide +kernel, rfl, rfl⟩
theorem dX0_slot_3 : dli cX0_slot 3 1 4 := Or.inl ⟨1, by decide +kernel, rfl, rfl⟩
theorem dX0_slot_4 : dk cX0_slot 4 (.invokevirtual 7) 3 7 := ⟨by decide +kernel, rfl⟩
theorem dX0_slot_7 : dk cX0_slot 7 (.i2l) 1 8 := ⟨by decide +kernel, rfl⟩
theorem dX0_slot_8 : dk cX0_slot 8 (.lastore) 1 9 := ⟨by decide +kernel, rfl⟩
theorem dX0_slot_9 : db cX0_slot 9 (.goto 9) 9 12 18 := ⟨by decide +kernel, rfl, by decide⟩
theorem dX0_slot_12 : dsa cX0_slot 12 3 13 := Or.inl ⟨3, by decide +kernel, rfl, rfl⟩
theorem dX0_slot_13 : dq cX0_slot 13 1 14 := dq_i (n := 1) (by decide +kernel) (by decide) rfl
theorem dX0_slot_14 : dk cX0_slot 14 (.ireturn) 1 15 := ⟨by decide +kernel, rfl⟩
theorem dX0_slot_15 : dsa cX0_slot 15 3 16 := Or.inl ⟨3, by decide +kernel, rfl, rfl⟩
theorem dX0_slot_16 : dq cX0_slot 16 2 17 := dq_i (n := 2) (by decide +kernel) (by decide) rfl
theorem dX0_slot_17 : dk cX0_slot 17 (.ireturn) 1 18 := ⟨by decide +kernel, rfl⟩
theorem dX0_slot_18 : dq cX0_slot 18 0 19 := dq_i (n := 0) (by decide +kernel) (by decide) rfl
theorem dX0_slot_19 : dk cX0_slot 19 (.ireturn) 1 20 := ⟨by decide +kernel, rfl⟩
theorem dX0_kept_0 : dla cX0_kept 0 3 1 := Or.inl ⟨3, by decide +kernel, rfl, rfl⟩
theorem dX0_kept_1 : dq cX0_kept 1 0 2 := dq_i (n := 0) (by decide +kernel) (by decide) rfl
theorem dX0_kept_2 : dla cX0_kept 2 0 3 := Or.inl ⟨0, by decide +kernel, rfl, rfl⟩
theorem dX0_kept_3 : dli cX0_kept 3 1 4 := Or.inl ⟨1, by decide +kernel, rfl, rfl⟩
theorem dX0_kept_4 : dli cX0_kept 4 2 5 := Or.inl ⟨2, by decide +kernel, rfl, rfl⟩
theorem dX0_kept_5 : dk cX0_kept 5 (.invokevirtual 17) 3 8 := ⟨by decide +kernel, rfl⟩
theorem dX0_kept_8 : dk cX0_kept 8 (.i2l) 1 9 := ⟨by decide +kernel, rfl⟩
theorem dX0_kept_9 : dk cX0_kept 9 (.lastore) 1 10 := ⟨by decide +kernel, rfl⟩
theorem dX0_kept_10 : db cX0_kept 10 (.goto 7) 7 13 17 := ⟨by decide +kernel, rfl, by decide⟩
theorem dX0_kept_13 : dsa cX0_kept 13 4 15 := Or.inr ⟨by decide +kernel, rfl⟩
theorem dX0_kept_15 : dq cX0_kept 15 1 16 := dq_i (n := 1) (by decide +kernel) (by decide) rfl
theorem dX0_kept_16 : dk cX0_kept 16 (.ireturn) 1 17 := ⟨by decide +kernel, rfl⟩
theorem dX0_kept_17 : dq cX0_kept 17 0 18 := dq_i (n := 0) (by decide +kernel) (by decide) rfl
theorem dX0_kept_18 : dk cX0_kept 18 (.ireturn) 1 19 := ⟨by decide +kernel, rfl⟩
theorem dX0_heard_0 : dla cX0_heard 0 2 1 := Or.inl ⟨2, by decide +kernel, rfl, rfl⟩
theorem dX0_heard_1 : dq cX0_heard 1 0 2 := dq_i (n := 0) (by decide +kernel) (by decide) rfl
theorem dX0_heard_2 : dla cX0_heard 2 0 3 := Or.inl ⟨0, by decide +kernel, rfl, rfl⟩
theorem dX0_heard_3 : dli cX0_heard 3 1 4 := Or.inl ⟨1, by decide +kernel, rfl, rfl⟩
theorem dX0_heard_4 : dk cX0_heard 4 (.invokevirtual 23) 3 7 := ⟨by decide +kernel, rfl⟩
theorem dX0_heard_7 : dk cX0_heard 7 (.i2l) 1 8 := ⟨by decide +kernel, rfl⟩
theorem dX0_heard_8 : dk cX0_heard 8 (.lastore) 1 9 := ⟨by decide +kernel, rfl⟩
theorem dX0_heard_9 : db cX0_heard 9 (.goto 6) 6 12 15 := ⟨by decide +kernel, rfl, by decide⟩
theorem dX0_heard_12 : dsa cX0_heard 12 3 13 := Or.inl ⟨3, by decide +kernel, rfl, rfl⟩
theorem dX0_heard_13 : dq cX0_heard 13 1 14 := dq_i (n := 1) (by decide +kernel) (by decide) rfl
theorem dX0_heard_14 : dk cX0_heard 14 (.ireturn) 1 15 := ⟨by decide +kernel, rfl⟩
theorem dX0_heard_15 : dq cX0_heard 15 0 16 := dq_i (n := 0) (by decide +kernel) (by decide) rfl
theorem dX0_heard_16 : dk cX0_heard 16 (.ireturn) 1 17 := ⟨by decide +kernel, rfl⟩
theorem dL_law_0 : dk cL_law 0 (.new 8) 3 3 := ⟨by decide +kernel, rfl⟩
theorem dL_law_3 : dk cL_law 3 (.dup) 1 4 := ⟨by decide +kernel, rfl⟩
theorem dL_law_4 : dk cL_law 4 (.invokespecial 26) 3 7 := ⟨by decide +kernel, rfl⟩
theorem dL_law_7 : dsa cL_law 7 1 8 := Or.inl ⟨1, by decide +kernel, rfl, rfl⟩
theorem dL_law_8 : dk cL_law 8 (.new 27) 3 11 := ⟨by decide +kernel, rfl⟩
theorem dL_law_11 : dk cL_law 11 (.dup) 1 12 := ⟨by decide +kernel, rfl⟩
theorem dL_law_12 : dk cL_law 12 (.invokespecial 29) 3 15 := ⟨by decide +kernel, rfl⟩
theorem dL_law_15 : dsa cL_law 15 2 16 := Or.inl ⟨2, by decide +kernel, rfl, rfl⟩
theorem dL_law_16 : dq cL_law 16 1 17 := dq_i (n := 1) (by decide +kernel) (by decide) rfl
theorem dL_law_17 : dk cL_law 17 (.newarray .long) 2 19 := ⟨by decide +kernel, rfl⟩
theorem dL_law_19 : dsa cL_law 19 3 20 := Or.inl ⟨3, by decide +kernel, rfl, rfl⟩
theorem dL_law_20 : dq cL_law 20 0 21 := dq_i (n := 0) (by decide +kernel) (by decide) rfl
theorem dL_law_21 : dsi cL_law 21 4 23 := Or.inr ⟨by decide +kernel, rfl⟩
theorem dL_law_23 : dli cL_law 23 4 25 := Or.inr ⟨by decide +kernel, rfl⟩
theorem dL_law_25 : dla cL_law 25 0 26 := Or.inl ⟨0, by decide +kernel, rfl, rfl⟩
theorem dL_law_26 : dk cL_law 26 (.arraylength) 1 27 := ⟨by decide +kernel, rfl⟩
theorem dL_law_27 : dq cL_law 27 4 28 := dq_i (n := 4) (by decide +kernel) (by decide) rfl
theorem dL_law_28 : dk cL_law 28 (.isub) 1 29 := ⟨by decide +kernel, rfl⟩
theorem dL_law_29 : db cL_law 29 (.if_icmp .gt 517) 517 32 546 := ⟨by decide +kernel, rfl, by decide⟩
theorem dL_law_32 : dla cL_law 32 0 33 := Or.inl ⟨0, by decide +kernel, rfl, rfl⟩
theorem dL_law_33 : dli cL_law 33 4 35 := Or.inr ⟨by decide +kernel, rfl⟩
theorem dL_law_35 : dk cL_law 35 (.iaload) 1 36 := ⟨by decide +kernel, rfl⟩
theorem dL_law_36 : dq cL_law 36 15 38 := dq_b (n := 15) (by decide +kernel) (by decide) rfl
theorem dL_law_38 : dk cL_law 38 (.iand) 1 39 := ⟨by decide +kernel, rfl⟩
theorem dL_law_39_0 : decode cL_law 39 = .ok (.tableswitch 501 0 10 #[57, 106, 119, 175, 200, 237, 321, 358, 414, 439, 476], 57) := by decide +kernel
theorem dL_law_39_c0 : dt cL_law 39 0 96 := ⟨_, _, _, _, _, _, dL_law_39_0, by decide, by decide, rfl, by decide⟩
theorem dL_law_39_c1 : dt cL_law 39 1 145 := ⟨_, _, _, _, _, _, dL_law_39_0, by decide, by decide, rfl, by decide⟩
theorem dL_law_39_c2 : dt cL_law 39 2 158 := ⟨_, _, _, _, _, _, dL_law_39_0, by decide, by decide, rfl, by decide⟩
theorem dL_law_39_c3 : dt cL_law 39 3 214 := ⟨_, _, _, _, _, _, dL_law_39_0, by decide, by decide, rfl, by decide⟩
theorem dL_law_39_c4 : dt cL_law 39 4 239 := ⟨_, _, _, _, _, _, dL_law_39_0, by decide, by decide, rfl, by decide⟩
theorem dL_law_39_c5 : dt cL_law 39 5 276 := ⟨_, _, _, _, _, _, dL_law_39_0, by decide, by decide, rfl, by decide⟩
theorem dL_law_39_c6 : dt cL_law 39 6 360 := ⟨_, _, _, _, _, _, dL_law_39_0, by decide, by decide, rfl, by decide⟩
theorem dL_law_39_c7 : dt cL_law 39 7 397 := ⟨_, _, _, _, _, _, dL_law_39_0, by decide, by decide, rfl, by decide⟩
theorem dL_law_39_c8 : dt cL_law 39 8 453 := ⟨_, _, _, _, _, _, dL_law_39_0, by decide, by decide, rfl, by decide⟩
theorem dL_law_39_c9 : dt cL_law 39 9 478 := ⟨_, _, _, _, _, _, dL_law_39_0, by decide, by decide, rfl, by decide⟩
theorem dL_law_39_c10 : dt cL_law 39 10 515 := ⟨_, _, _, _, _, _, dL_law_39_0, by decide, by decide, rfl, by decide⟩
theorem dL_law_39_d : dtd cL_law 39 0 10 540 := ⟨_, _, _, dL_law_39_0, by decide⟩
theorem dL_law_96 : dla cL_law 96 1 97 := Or.inl ⟨1, by decide +kernel, rfl, rfl⟩
theorem dL_law_97 : dla cL_law 97 0 98 := Or.inl ⟨0, by decide +kernel, rfl, rfl⟩
theorem dL_law_98 : dli cL_law 98 4 100 := Or.inr ⟨by decide +kernel, rfl⟩
theorem dL_law_100 : dq cL_law 100 1 101 := dq_i (n := 1) (by decide +kernel) (by decide) rfl
theorem dL_law_101 : dk cL_law 101 (.iadd) 1 102 := ⟨by decide +kernel, rfl⟩
theorem dL_law_102 : dk cL_law 102 (.iaload) 1 103 := ⟨by decide +kernel, rfl⟩
theorem dL_law_103 : dla cL_law 103 0 104 := Or.inl ⟨0, by decide +kernel, rfl, rfl⟩
theorem dL_law_104 : dli cL_law 104 4 106 := Or.inr ⟨by decide +kernel, rfl⟩
theorem dL_law_106 : dq cL_law 106 2 107 := dq_i (n := 2) (by decide +kernel) (by decide) rfl
theorem dL_law_107 : dk cL_law 107 (.iadd) 1 108 := ⟨by decide +kernel, rfl⟩
theorem dL_law_108 : dk cL_law 108 (.iaload) 1 109 := ⟨by decide +kernel, rfl⟩
theorem dL_law_109 : dla cL_law 109 0 110 := Or.inl ⟨0, by decide +kernel, rfl, rfl⟩
theorem dL_law_110 : dli cL_law 110 4 112 := Or.inr ⟨by decide +kernel, rfl⟩
theorem dL_law_112 : dq cL_law 112 3 113 := dq_i (n := 3) (by decide +kernel) (by decide) rfl
theorem dL_law_113 : dk cL_law 113 (.iadd) 1 114 := ⟨by decide +kernel, rfl⟩
theorem dL_law_114 : dk cL_law 114 (.iaload) 1 115 := ⟨by decide +kernel, rfl⟩
theorem dL_law_115 : dk cL_law 115 (.invokevirtual 30) 3 118 := ⟨by decide +kernel, rfl⟩
theorem dL_law_118 : dla cL_law 118 2 119 := Or.inl ⟨2, by decide +kernel, rfl, rfl⟩
theorem dL_law_119 : dla cL_law 119 0 120 := Or.inl ⟨0, by decide +kernel, rfl, rfl⟩
theorem dL_law_120 : dli cL_law 120 4 122 := Or.inr ⟨by decide +kernel, rfl⟩
theorem dL_law_122 : dq cL_law 122 1 123 := dq_i (n := 1) (by decide +kernel) (by decide) rfl
theorem dL_law_123 : dk cL_law 123 (.iadd) 1 124 := ⟨by decide +kernel, rfl⟩
theorem dL_law_124 : dk cL_law 124 (.iaload) 1 125 := ⟨by decide +kernel, rfl⟩
theorem dL_law_125 : dla cL_law 125 0 126 := Or.inl ⟨0, by decide +kernel, rfl, rfl⟩
theorem dL_law_126 : dli cL_law 126 4 128 := Or.inr ⟨by decide +kernel, rfl⟩
theorem dL_law_128 : dq cL_law 128 2 129 := dq_i (n := 2) (by decide +kernel) (by decide) rfl
theorem dL_law_129 : dk cL_law 129 (.iadd) 1 130 := ⟨by decide +kernel, rfl⟩
theorem dL_law_130 : dk cL_law 130 (.iaload) 1 131 := ⟨by decide +kernel, rfl⟩
theorem dL_law_131 : dla cL_law 131 0 132 := Or.inl ⟨0, by decide +kernel, rfl, rfl⟩
theorem dL_law_132 : dli cL_law 132 4 134 := Or.inr ⟨by decide +kernel, rfl⟩
theorem dL_law_134 : dq cL_law 134 3 135 := dq_i (n := 3) (by decide +kernel) (by decide) rfl
theorem dL_law_135 : dk cL_law 135 (.iadd) 1 136 := ⟨by decide +kernel, rfl⟩
theorem dL_law_136 : dk cL_law 136 (.iaload) 1 137 := ⟨by decide +kernel, rfl⟩
theorem dL_law_137 : dk cL_law 137 (.invokevirtual 34) 3 140 := ⟨by decide +kernel, rfl⟩
theorem dL_law_140 : db cL_law 140 (.if_icmp .eq 400) 400 143 540 := ⟨by decide +kernel, rfl, by decide⟩
theorem dL_law_143 : dq cL_law 143 0 144 := dq_i (n := 0) (by decide +kernel) (by decide) rfl
theorem dL_law_144 : dk cL_law 144 (.ireturn) 1 145 := ⟨by decide +kernel, rfl⟩
theorem dL_law_145 : dla cL_law 145 1 146 := Or.inl ⟨1, by decide +kernel, rfl, rfl⟩
theorem dL_law_146 : dk cL_law 146 (.invokevirtual 35) 3 149 := ⟨by decide +kernel, rfl⟩
theorem dL_law_149 : dla cL_law 149 2 150 := Or.inl ⟨2, by decide +kernel, rfl, rfl⟩
theorem dL_law_150 : dk cL_law 150 (.invokevirtual 39) 3 153 := ⟨by decide +kernel, rfl⟩
theorem dL_law_153 : db cL_law 153 (.if_icmp .eq 387) 387 156 540 := ⟨by decide +kernel, rfl, by decide⟩
theorem dL_law_156 : dq cL_law 156 0 157 := dq_i (n := 0) (by decide +kernel) (by decide) rfl
theorem dL_law_157 : dk cL_law 157 (.ireturn) 1 158 := ⟨by decide +kernel, rfl⟩
theorem dL_law_158 : dla cL_law 158 1 159 := Or.inl ⟨1, by decide +kernel, rfl, rfl⟩
theorem dL_law_159 : dla cL_law 159 0 160 := Or.inl ⟨0, by decide +kernel, rfl, rfl⟩
theorem dL_law_160 : dli cL_law 160 4 162 := Or.inr ⟨by decide +kernel, rfl⟩
theorem dL_law_162 : dq cL_law 162 1 163 := dq_i (n := 1) (by decide +kernel) (by decide) rfl
theorem dL_law_163 : dk cL_law 163 (.iadd) 1 164 := ⟨by decide +kernel, rfl⟩
theorem dL_law_164 : dk cL_law 164 (.iaload) 1 165 := ⟨by decide +kernel, rfl⟩
theorem dL_law_165 : dla cL_law 165 3 166 := Or.inl ⟨3, by decide +kernel, rfl, rfl⟩
theorem dL_law_166 : dk cL_law 166 (.invokestatic 40) 3 169 := ⟨by decide +kernel, rfl⟩
theorem dL_law_169 : dsi cL_law 169 5 171 := Or.inr ⟨by decide +kernel, rfl⟩
theorem dL_law_171 : dla cL_law 171 2 172 := Or.inl ⟨2, by decide +kernel, rfl, rfl⟩
theorem dL_law_172 : dla cL_law 172 0 173 := Or.inl ⟨0, by decide +kernel, rfl, rfl⟩
theorem dL_law_173 : dli cL_law 173 4 175 := Or.inr ⟨by decide +kernel, rfl⟩
theorem dL_law_175 : dq cL_law 175 1 176 := dq_i (n := 1) (by decide +kernel) (by decide) rfl
theorem dL_law_176 : dk cL_law 176 (.iadd) 1 177 := ⟨by decide +kernel, rfl⟩
theorem dL_law_177 : dk cL_law 177 (.iaload) 1 178 := ⟨by decide +kernel, rfl⟩
theorem dL_law_178 : dk cL_law 178 (.invokevirtual 45) 3 181 := ⟨by decide +kernel, rfl⟩
theorem dL_law_181 : dsi cL_law 181 6 183 := Or.inr ⟨by decide +kernel, rfl⟩
theorem dL_law_183 : dla cL_law 183 2 184 := Or.inl ⟨2, by decide +kernel, rfl, rfl⟩
theorem dL_law_184 : dk cL_law 184 (.invokevirtual 46) 3 187 := ⟨by decide +kernel, rfl⟩
theorem dL_law_187 : dli cL_law 187 5 189 := Or.inr ⟨by decide +kernel, rfl⟩
theorem dL_law_189 : db cL_law 189 (.if_icmp .eq 5) 5 192 194 := ⟨by decide +kernel, rfl, by decide⟩
theorem dL_law_192 : dq cL_law 192 0 193 := dq_i (n := 0) (by decide +kernel) (by decide) rfl
theorem dL_law_193 : dk cL_law 193 (.ireturn) 1 194 := ⟨by decide +kernel, rfl⟩
theorem dL_law_194 : dli cL_law 194 5 196 := Or.inr ⟨by decide +kernel, rfl⟩
theorem dL_law_196 : db cL_law 196 (.ifCond .ne 15) 15 199 211 := ⟨by decide +kernel, rfl, by decide⟩
theorem dL_law_199 : dla cL_law 199 3 200 := Or.inl ⟨3, by decide +kernel, rfl, rfl⟩
theorem dL_law_200 : dq cL_law 200 0 201 := dq_i (n := 0) (by decide +kernel) (by decide) rfl
theorem dL_law_201 : dk cL_law 201 (.laload) 1 202 := ⟨by decide +kernel, rfl⟩
theorem dL_law_202 : dli cL_law 202 6 204 := Or.inr ⟨by decide +kernel, rfl⟩
theorem dL_law_204 : dk cL_law 204 (.i2l) 1 205 := ⟨by decide +kernel, rfl⟩
theorem dL_law_205 : dk cL_law 205 (.lcmp) 1 206 := ⟨by decide +kernel, rfl⟩
theorem dL_law_206 : db cL_law 206 (.ifCond .eq 5) 5 209 211 := ⟨by decide +kernel, rfl, by decide⟩
theorem dL_law_209 : dq cL_law 209 0 210 := dq_i (n := 0) (by decide +kernel) (by decide) rfl
theorem dL_law_210 : dk cL_law 210 (.ireturn) 1 211 := ⟨by decide +kernel, rfl⟩
theorem dL_law_211 : db cL_law 211 (.goto 329) 329 214 540 := ⟨by decide +kernel, rfl, by decide⟩
theorem dL_law_214 : dla cL_law 214 1 215 := Or.inl ⟨1, by decide +kernel, rfl, rfl⟩
theorem dL_law_215 : dla cL_law 215 0 216 := Or.inl ⟨0, by decide +kernel, rfl, rfl⟩
theorem dL_law_216 : dli cL_law 216 4 218 := Or.inr ⟨by decide +kernel, rfl⟩
theorem dL_law_218 : dq cL_law 218 1 219 := dq_i (n := 1) (by decide +kernel) (by decide) rfl
theorem dL_law_219 : dk cL_law 219 (.iadd) 1 220 := ⟨by decide +kernel, rfl⟩
theorem dL_law_220 : dk cL_law 220 (.iaload) 1 221 := ⟨by decide +kernel, rfl⟩
theorem dL_law_221 : dk cL_law 221 (.invokevirtual 49) 3 224 := ⟨by decide +kernel, rfl⟩
theorem dL_law_224 : dla cL_law 224 2 225 := Or.inl ⟨2, by decide +kernel, rfl, rfl⟩
theorem dL_law_225 : dla cL_law 225 0 226 := Or.inl ⟨0, by decide +kernel, rfl, rfl⟩
theorem dL_law_226 : dli cL_law 226 4 228 := Or.inr ⟨by decide +kernel, rfl⟩
theorem dL_law_228 : dq cL_law 228 1 229 := dq_i (n := 1) (by decide +kernel) (by decide) rfl
theorem dL_law_229 : dk cL_law 229 (.iadd) 1 230 := ⟨by decide +kernel, rfl⟩
theorem dL_law_230 : dk cL_law 230 (.iaload) 1 231 := ⟨by decide +kernel, rfl⟩
theorem dL_law_231 : dk cL_law 231 (.invokevirtual 53) 3 234 := ⟨by decide +kernel, rfl⟩
theorem dL_law_234 : db cL_law 234 (.if_icmp .eq 306) 306 237 540 := ⟨by decide +kernel, rfl, by decide⟩
theorem dL_law_237 : dq cL_law 237 0 238 := dq_i (n := 0) (by decide +kernel) (by decide) rfl
theorem dL_law_238 : dk cL_law 238 (.ireturn) 1 239 := ⟨by decide +kernel, rfl⟩
theorem dL_law_239 : dla cL_law 239 1 240 := Or.inl ⟨1, by decide +kernel, rfl, rfl⟩
theorem dL_law_240 : dla cL_law 240 0 241 := Or.inl ⟨0, by decide +kernel, rfl, rfl⟩
theorem dL_law_241 : dli cL_law 241 4 243 := Or.inr ⟨by decide +kernel, rfl⟩
theorem dL_law_243 : dq cL_law 243 1 244 := dq_i (n := 1) (by decide +kernel) (by decide) rfl
theorem dL_law_244 : dk cL_law 244 (.iadd) 1 245 := ⟨by decide +kernel, rfl⟩
theorem dL_law_245 : dk cL_law 245 (.iaload) 1 246 := ⟨by decide +kernel, rfl⟩
theorem dL_law_246 : dla cL_law 246 0 247 := Or.inl ⟨0, by decide +kernel, rfl, rfl⟩
theorem dL_law_247 : dli cL_law 247 4 249 := Or.inr ⟨by decide +kernel, rfl⟩
theorem dL_law_249 : dq cL_law 249 2 250 := dq_i (n := 2) (by decide +kernel) (by decide) rfl
theorem dL_law_250 : dk cL_law 250 (.iadd) 1 251 := ⟨by decide +kernel, rfl⟩
theorem dL_law_251 : dk cL_law 251 (.iaload) 1 252 := ⟨by decide +kernel, rfl⟩
theorem dL_law_252 : dk cL_law 252 (.invokevirtual 54) 3 255 := ⟨by decide +kernel, rfl⟩
theorem dL_law_255 : dla cL_law 255 2 256 := Or.inl ⟨2, by decide +kernel, rfl, rfl⟩
theorem dL_law_256 : dla cL_law 256 0 257 := Or.inl ⟨0, by decide +kernel, rfl, rfl⟩
theorem dL_law_257 : dli cL_law 257 4 259 := Or.inr ⟨by decide +kernel, rfl⟩
theorem dL_law_259 : dq cL_law 259 1 260 := dq_i (n := 1) (by decide +kernel) (by decide) rfl
theorem dL_law_260 : dk cL_law 260 (.iadd) 1 261 := ⟨by decide +kernel, rfl⟩
theorem dL_law_261 : dk cL_law 261 (.iaload) 1 262 := ⟨by decide +kernel, rfl⟩
theorem dL_law_262 : dla cL_law 262 0 263 := Or.inl ⟨0, by decide +kernel, rfl, rfl⟩
theorem dL_law_263 : dli cL_law 263 4 265 := Or.inr ⟨by decide +kernel, rfl⟩
theorem dL_law_265 : dq cL_law 265 2 266 := dq_i (n := 2) (by decide +kernel) (by decide) rfl
theorem dL_law_266 : dk cL_law 266 (.iadd) 1 267 := ⟨by decide +kernel, rfl⟩
theorem dL_law_267 : dk cL_law 267 (.iaload) 1 268 := ⟨by decide +kernel, rfl⟩
theorem dL_law_268 : dk cL_law 268 (.invokevirtual 58) 3 271 := ⟨by decide +kernel, rfl⟩
theorem dL_law_271 : db cL_law 271 (.if_icmp .eq 269) 269 274 540 := ⟨by decide +kernel, rfl, by decide⟩
theorem dL_law_274 : dq cL_law 274 0 275 := dq_i (n := 0) (by decide +kernel) (by decide) rfl
theorem dL_law_275 : dk cL_law 275 (.ireturn) 1 276 := ⟨by decide +kernel, rfl⟩
theorem dL_law_276 : dla cL_law 276 1 277 := Or.inl ⟨1, by decide +kernel, rfl, rfl⟩
theorem dL_law_277 : dla cL_law 277 0 278 := Or.inl ⟨0, by decide +kernel, rfl, rfl⟩
theorem dL_law_278 : dli cL_law 278 4 280 := Or.inr ⟨by decide +kernel, rfl⟩
theorem dL_law_280 : dq cL_law 280 1 281 := dq_i (n := 1) (by decide +kernel) (by decide) rfl
theorem dL_law_281 : dk cL_law 281 (.iadd) 1 282 := ⟨by decide +kernel, rfl⟩
theorem dL_law_282 : dk cL_law 282 (.iaload) 1 283 := ⟨by decide +kernel, rfl⟩
theorem dL_law_283 : dla cL_law 283 0 284 := Or.inl ⟨0, by decide +kernel, rfl, rfl⟩
theorem dL_law_284 : dli cL_law 284 4 286 := Or.inr ⟨by decide +kernel, rfl⟩
theorem dL_law_286 : dq cL_law 286 2 287 := dq_i (n := 2) (by decide +kernel) (by decide) rfl
theorem dL_law_287 : dk cL_law 287 (.iadd) 1 288 := ⟨by decide +kernel, rfl⟩
theorem dL_law_288 : dk cL_law 288 (.iaload) 1 289 := ⟨by decide +kernel, rfl⟩
theorem dL_law_289 : db cL_law 289 (.ifCond .eq 7) 7 292 296 := ⟨by decide +kernel, rfl, by decide⟩
theorem dL_law_292 : dq cL_law 292 1 293 := dq_i (n := 1) (by decide +kernel) (by decide) rfl
theorem dL_law_293 : db cL_law 293 (.goto 4) 4 296 297 := ⟨by decide +kernel, rfl, by decide⟩
theorem dL_law_296 : dq cL_law 296 0 297 := dq_i (n := 0) (by decide +kernel) (by decide) rfl
theorem dL_law_297 : dla cL_law 297 3 298 := Or.inl ⟨3, by decide +kernel, rfl, rfl⟩
theorem dL_law_298 : dk cL_law 298 (.invokestatic 59) 3 301 := ⟨by decide +kernel, rfl⟩
theorem dL_law_301 : dsi cL_law 301 5 303 := Or.inr ⟨by decide +kernel, rfl⟩
theorem dL_law_303 : dla cL_law 303 2 304 := Or.inl ⟨2, by decide +kernel, rfl, rfl⟩
theorem dL_law_304 : dla cL_law 304 0 305 := Or.inl ⟨0, by decide +kernel, rfl, rfl⟩
theorem dL_law_305 : dli cL_law 305 4 307 := Or.inr ⟨by decide +kernel, rfl⟩
theorem dL_law_307 : dq cL_law 307 1 308 := dq_i (n := 1) (by decide +kernel) (by decide) rfl
theorem dL_law_308 : dk cL_law 308 (.iadd) 1 309 := ⟨by decide +kernel, rfl⟩
theorem dL_law_309 : dk cL_law 309 (.iaload) 1 310 := ⟨by decide +kernel, rfl⟩
theorem dL_law_310 : dla cL_law 310 0 311 := Or.inl ⟨0, by decide +kernel, rfl, rfl⟩
theorem dL_law_311 : dli cL_law 311 4 313 := Or.inr ⟨by decide +kernel, rfl⟩
theorem dL_law_313 : dq cL_law 313 2 314 := dq_i (n := 2) (by decide +kernel) (by decide) rfl
theorem dL_law_314 : dk cL_law 314 (.iadd) 1 315 := ⟨by decide +kernel, rfl⟩
theorem dL_law_315 : dk cL_law 315 (.iaload) 1 316 := ⟨by decide +kernel, rfl⟩
theorem dL_law_316 : db cL_law 316 (.ifCond .eq 7) 7 319 323 := ⟨by decide +kernel, rfl, by decide⟩
theorem dL_law_319 : dq cL_law 319 1 320 := dq_i (n := 1) (by decide +kernel) (by decide) rfl
theorem dL_law_320 : db cL_law 320 (.goto 4) 4 323 324 := ⟨by decide +kernel, rfl, by decide⟩
theorem dL_law_323 : dq cL_law 323 0 324 := dq_i (n := 0) (by decide +kernel) (by decide) rfl
theorem dL_law_324 : dk cL_law 324 (.invokevirtual 62) 3 327 := ⟨by decide +kernel, rfl⟩
theorem dL_law_327 : dsi cL_law 327 6 329 := Or.inr ⟨by decide +kernel, rfl⟩
theorem dL_law_329 : dla cL_law 329 2 330 := Or.inl ⟨2, by decide +kernel, rfl, rfl⟩
theorem dL_law_330 : dk cL_law 330 (.invokevirtual 46) 3 333 := ⟨by decide +kernel, rfl⟩
theorem dL_law_333 : dli cL_law 333 5 335 := Or.inr ⟨by decide +kernel, rfl⟩
theorem dL_law_335 : db cL_law 335 (.if_icmp .eq 5) 5 338 340 := ⟨by decide +kernel, rfl, by decide⟩
theorem dL_law_338 : dq cL_law 338 0 339 := dq_i (n := 0) (by decide +kernel) (by decide) rfl
theorem dL_law_339 : dk cL_law 339 (.ireturn) 1 340 := ⟨by decide +kernel, rfl⟩
theorem dL_law_340 : dli cL_law 340 5 342 := Or.inr ⟨by decide +kernel, rfl⟩
theorem dL_law_342 : db cL_law 342 (.ifCond .ne 15) 15 345 357 := ⟨by decide +kernel, rfl, by decide⟩
theorem dL_law_345 : dla cL_law 345 3 346 := Or.inl ⟨3, by decide +kernel, rfl, rfl⟩
theorem dL_law_346 : dq cL_law 346 0 347 := dq_i (n := 0) (by decide +kernel) (by decide) rfl
theorem dL_law_347 : dk cL_law 347 (.laload) 1 348 := ⟨by decide +kernel, rfl⟩
theorem dL_law_348 : dli cL_law 348 6 350 := Or.inr ⟨by decide +kernel, rfl⟩
theorem dL_law_350 : dk cL_law 350 (.i2l) 1 351 := ⟨by decide +kernel, rfl⟩
theorem dL_law_351 : dk cL_law 351 (.lcmp) 1 352 := ⟨by decide +kernel, rfl⟩
theorem dL_law_352 : db cL_law 352 (.ifCond .eq 5) 5 355 357 := ⟨by decide +kernel, rfl, by decide⟩
theorem dL_law_355 : dq cL_law 355 0 356 := dq_i (n := 0) (by decide +kernel) (by decide) rfl
theorem dL_law_356 : dk cL_law 356 (.ireturn) 1 357 := ⟨by decide +kernel, rfl⟩
theorem dL_law_357 : db cL_law 357 (.goto 183) 183 360 540 := ⟨by decide +kernel, rfl, by decide⟩
theorem dL_law_360 : dla cL_law 360 1 361 := Or.inl ⟨1, by decide +kernel, rfl, rfl⟩
theorem dL_law_361 : dla cL_law 361 0 362 := Or.inl ⟨0, by decide +kernel, rfl, rfl⟩
theorem dL_law_362 : dli cL_law 362 4 364 := Or.inr ⟨by decide +kernel, rfl⟩
theorem dL_law_364 : dq cL_law 364 1 365 := dq_i (n := 1) (by decide +kernel) (by decide) rfl
theorem dL_law_365 : dk cL_law 365 (.iadd) 1 366 := ⟨by decide +kernel, rfl⟩
theorem dL_law_366 : dk cL_law 366 (.iaload) 1 367 := ⟨by decide +kernel, rfl⟩
theorem dL_law_367 : dla cL_law 367 0 368 := Or.inl ⟨0, by decide +kernel, rfl, rfl⟩
theorem dL_law_368 : dli cL_law 368 4 370 := Or.inr ⟨by decide +kernel, rfl⟩
theorem dL_law_370 : dq cL_law 370 2 371 := dq_i (n := 2) (by decide +kernel) (by decide) rfl
theorem dL_law_371 : dk cL_law 371 (.iadd) 1 372 := ⟨by decide +kernel, rfl⟩
theorem dL_law_372 : dk cL_law 372 (.iaload) 1 373 := ⟨by decide +kernel, rfl⟩
theorem dL_law_373 : dk cL_law 373 (.invokevirtual 63) 3 376 := ⟨by decide +kernel, rfl⟩
theorem dL_law_376 : dla cL_law 376 2 377 := Or.inl ⟨2, by decide +kernel, rfl, rfl⟩
theorem dL_law_377 : dla cL_law 377 0 378 := Or.inl ⟨0, by decide +kernel, rfl, rfl⟩
theorem dL_law_378 : dli cL_law 378 4 380 := Or.inr ⟨by decide +kernel, rfl⟩
theorem dL_law_380 : dq cL_law 380 1 381 := dq_i (n := 1) (by decide +kernel) (by decide) rfl
theorem dL_law_381 : dk cL_law 381 (.iadd) 1 382 := ⟨by decide +kernel, rfl⟩
theorem dL_law_382 : dk cL_law 382 (.iaload) 1 383 := ⟨by decide +kernel, rfl⟩
theorem dL_law_383 : dla cL_law 383 0 384 := Or.inl ⟨0, by decide +kernel, rfl, rfl⟩
theorem dL_law_384 : dli cL_law 384 4 386 := Or.inr ⟨by decide +kernel, rfl⟩
theorem dL_law_386 : dq cL_law 386 2 387 := dq_i (n := 2) (by decide +kernel) (by decide) rfl
theorem dL_law_387 : dk cL_law 387 (.iadd) 1 388 := ⟨by decide +kernel, rfl⟩
theorem dL_law_388 : dk cL_law 388 (.iaload) 1 389 := ⟨by decide +kernel, rfl⟩
theorem dL_law_389 : dk cL_law 389 (.invokevirtual 67) 3 392 := ⟨by decide +kernel, rfl⟩
theorem dL_law_392 : db cL_law 392 (.if_icmp .eq 148) 148 395 540 := ⟨by decide +kernel, rfl, by decide⟩
theorem dL_law_395 : dq cL_law 395 0 396 := dq_i (n := 0) (by decide +kernel) (by decide) rfl
theorem dL_law_396 : dk cL_law 396 (.ireturn) 1 397 := ⟨by decide +kernel, rfl⟩
theorem dL_law_397 : dla cL_law 397 1 398 := Or.inl ⟨1, by decide +kernel, rfl, rfl⟩
theorem dL_law_398 : dla cL_law 398 0 399 := Or.inl ⟨0, by decide +kernel, rfl, rfl⟩
theorem dL_law_399 : dli cL_law 399 4 401 := Or.inr ⟨by decide +kernel, rfl⟩
theorem dL_law_401 : dq cL_law 401 1 402 := dq_i (n := 1) (by decide +kernel) (by decide) rfl
theorem dL_law_402 : dk cL_law 402 (.iadd) 1 403 := ⟨by decide +kernel, rfl⟩
theorem dL_law_403 : dk cL_law 403 (.iaload) 1 404 := ⟨by decide +kernel, rfl⟩
theorem dL_law_404 : dla cL_law 404 3 405 := Or.inl ⟨3, by decide +kernel, rfl, rfl⟩
theorem dL_law_405 : dk cL_law 405 (.invokestatic 68) 3 408 := ⟨by decide +kernel, rfl⟩
theorem dL_law_408 : dsi cL_law 408 5 410 := Or.inr ⟨by decide +kernel, rfl⟩
theorem dL_law_410 : dla cL_law 410 2 411 := Or.inl ⟨2, by decide +kernel, rfl, rfl⟩
theorem dL_law_411 : dla cL_law 411 0 412 := Or.inl ⟨0, by decide +kernel, rfl, rfl⟩
theorem dL_law_412 : dli cL_law 412 4 414 := Or.inr ⟨by decide +kernel, rfl⟩
theorem dL_law_414 : dq cL_law 414 1 415 := dq_i (n := 1) (by decide +kernel) (by decide) rfl
theorem dL_law_415 : dk cL_law 415 (.iadd) 1 416 := ⟨by decide +kernel, rfl⟩
theorem dL_law_416 : dk cL_law 416 (.iaload) 1 417 := ⟨by decide +kernel, rfl⟩
theorem dL_law_417 : dk cL_law 417 (.invokevirtual 70) 3 420 := ⟨by decide +kernel, rfl⟩
theorem dL_law_420 : dsi cL_law 420 6 422 := Or.inr ⟨by decide +kernel, rfl⟩
theorem dL_law_422 : dla cL_law 422 2 423 := Or.inl ⟨2, by decide +kernel, rfl, rfl⟩
theorem dL_law_423 : dk cL_law 423 (.invokevirtual 46) 3 426 := ⟨by decide +kernel, rfl⟩
theorem dL_law_426 : dli cL_law 426 5 428 := Or.inr ⟨by decide +kernel, rfl⟩
theorem dL_law_428 : db cL_law 428 (.if_icmp .eq 5) 5 431 433 := ⟨by decide +kernel, rfl, by decide⟩
theorem dL_law_431 : dq cL_law 431 0 432 := dq_i (n := 0) (by decide +kernel) (by decide) rfl
theorem dL_law_432 : dk cL_law 432 (.ireturn) 1 433 := ⟨by decide +kernel, rfl⟩
theorem dL_law_433 : dli cL_law 433 5 435 := Or.inr ⟨by decide +kernel, rfl⟩
theorem dL_law_435 : db cL_law 435 (.ifCond .ne 15) 15 438 450 := ⟨by decide +kernel, rfl, by decide⟩
theorem dL_law_438 : dla cL_law 438 3 439 := Or.inl ⟨3, by decide +kernel, rfl, rfl⟩
theorem dL_law_439 : dq cL_law 439 0 440 := dq_i (n := 0) (by decide +kernel) (by decide) rfl
theorem dL_law_440 : dk cL_law 440 (.laload) 1 441 := ⟨by decide +kernel, rfl⟩
theorem dL_law_441 : dli cL_law 441 6 443 := Or.inr ⟨by decide +kernel, rfl⟩
theorem dL_law_443 : dk cL_law 443 (.i2l) 1 444 := ⟨by decide +kernel, rfl⟩
theorem dL_law_444 : dk cL_law 444 (.lcmp) 1 445 := ⟨by decide +kernel, rfl⟩
theorem dL_law_445 : db cL_law 445 (.ifCond .eq 5) 5 448 450 := ⟨by decide +kernel, rfl, by decide⟩
theorem dL_law_448 : dq cL_law 448 0 449 := dq_i (n := 0) (by decide +kernel) (by decide) rfl
theorem dL_law_449 : dk cL_law 449 (.ireturn) 1 450 := ⟨by decide +kernel, rfl⟩
theorem dL_law_450 : db cL_law 450 (.goto 90) 90 453 540 := ⟨by decide +kernel, rfl, by decide⟩
theorem dL_law_453 : dla cL_law 453 1 454 := Or.inl ⟨1, by decide +kernel, rfl, rfl⟩
theorem dL_law_454 : dla cL_law 454 0 455 := Or.inl ⟨0, by decide +kernel, rfl, rfl⟩
theorem dL_law_455 : dli cL_law 455 4 457 := Or.inr ⟨by decide +kernel, rfl⟩
theorem dL_law_457 : dq cL_law 457 1 458 := dq_i (n := 1) (by decide +kernel) (by decide) rfl
theorem dL_law_458 : dk cL_law 458 (.iadd) 1 459 := ⟨by decide +kernel, rfl⟩
theorem dL_law_459 : dk cL_law 459 (.iaload) 1 460 := ⟨by decide +kernel, rfl⟩
theorem dL_law_460 : dk cL_law 460 (.invokevirtual 71) 3 463 := ⟨by decide +kernel, rfl⟩
theorem dL_law_463 : dla cL_law 463 2 464 := Or.inl ⟨2, by decide +kernel, rfl, rfl⟩
theorem dL_law_464 : dla cL_law 464 0 465 := Or.inl ⟨0, by decide +kernel, rfl, rfl⟩
theorem dL_law_465 : dli cL_law 465 4 467 := Or.inr ⟨by decide +kernel, rfl⟩
theorem dL_law_467 : dq cL_law 467 1 468 := dq_i (n := 1) (by decide +kernel) (by decide) rfl
theorem dL_law_468 : dk cL_law 468 (.iadd) 1 469 := ⟨by decide +kernel, rfl⟩
theorem dL_law_469 : dk cL_law 469 (.iaload) 1 470 := ⟨by decide +kernel, rfl⟩
theorem dL_law_470 : dk cL_law 470 (.invokevirtual 74) 3 473 := ⟨by decide +kernel, rfl⟩
theorem dL_law_473 : db cL_law 473 (.if_icmp .eq 67) 67 476 540 := ⟨by decide +kernel, rfl, by decide⟩
theorem dL_law_476 : dq cL_law 476 0 477 := dq_i (n := 0) (by decide +kernel) (by decide) rfl
theorem dL_law_477 : dk cL_law 477 (.ireturn) 1 478 := ⟨by decide +kernel, rfl⟩
theorem dL_law_478 : dla cL_law 478 1 479 := Or.inl ⟨1, by decide +kernel, rfl, rfl⟩
theorem dL_law_479 : dla cL_law 479 0 480 := Or.inl ⟨0, by decide +kernel, rfl, rfl⟩
theorem dL_law_480 : dli cL_law 480 4 482 := Or.inr ⟨by decide +kernel, rfl⟩
theorem dL_law_482 : dq cL_law 482 1 483 := dq_i (n := 1) (by decide +kernel) (by decide) rfl
theorem dL_law_483 : dk cL_law 483 (.iadd) 1 484 := ⟨by decide +kernel, rfl⟩
theorem dL_law_484 : dk cL_law 484 (.iaload) 1 485 := ⟨by decide +kernel, rfl⟩
theorem dL_law_485 : dla cL_law 485 0 486 := Or.inl ⟨0, by decide +kernel, rfl, rfl⟩
theorem dL_law_486 : dli cL_law 486 4 488 := Or.inr ⟨by decide +kernel, rfl⟩
theorem dL_law_488 : dq cL_law 488 2 489 := dq_i (n := 2) (by decide +kernel) (by decide) rfl
theorem dL_law_489 : dk cL_law 489 (.iadd) 1 490 := ⟨by decide +kernel, rfl⟩
theorem dL_law_490 : dk cL_law 490 (.iaload) 1 491 := ⟨by decide +kernel, rfl⟩
theorem dL_law_491 : dk cL_law 491 (.invokevirtual 75) 3 494 := ⟨by decide +kernel, rfl⟩
theorem dL_law_494 : dla cL_law 494 2 495 := Or.inl ⟨2, by decide +kernel, rfl, rfl⟩
theorem dL_law_495 : dla cL_law 495 0 496 := Or.inl ⟨0, by decide +kernel, rfl, rfl⟩
theorem dL_law_496 : dli cL_law 496 4 498 := Or.inr ⟨by decide +kernel, rfl⟩
theorem dL_law_498 : dq cL_law 498 1 499 := dq_i (n := 1) (by decide +kernel) (by decide) rfl
theorem dL_law_499 : dk cL_law 499 (.iadd) 1 500 := ⟨by decide +kernel, rfl⟩
theorem dL_law_500 : dk cL_law 500 (.iaload) 1 501 := ⟨by decide +kernel, rfl⟩
theorem dL_law_501 : dla cL_law 501 0 502 := Or.inl ⟨0, by decide +kernel, rfl, rfl⟩
theorem dL_law_502 : dli cL_law 502 4 504 := Or.inr ⟨by decide +kernel, rfl⟩
theorem dL_law_504 : dq cL_law 504 2 505 := dq_i (n := 2) (by decide +kernel) (by decide) rfl
theorem dL_law_505 : dk cL_law 505 (.iadd) 1 506 := ⟨by decide +kernel, rfl⟩
theorem dL_law_506 : dk cL_law 506 (.iaload) 1 507 := ⟨by decide +kernel, rfl⟩
theorem dL_law_507 : dk cL_law 507 (.invokevirtual 78) 3 510 := ⟨by decide +kernel, rfl⟩
theorem dL_law_510 : db cL_law 510 (.if_icmp .eq 30) 30 513 540 := ⟨by decide +kernel, rfl, by decide⟩
theorem dL_law_513 : dq cL_law 513 0 514 := dq_i (n := 0) (by decide +kernel) (by decide) rfl
theorem dL_law_514 : dk cL_law 514 (.ireturn) 1 515 := ⟨by decide +kernel, rfl⟩
theorem dL_law_515 : dla cL_law 515 1 516 := Or.inl ⟨1, by decide +kernel, rfl, rfl⟩
theorem dL_law_516 : dla cL_law 516 0 517 := Or.inl ⟨0, by decide +kernel, rfl, rfl⟩
theorem dL_law_517 : dli cL_law 517 4 519 := Or.inr ⟨by decide +kernel, rfl⟩
theorem dL_law_519 : dq cL_law 519 1 520 := dq_i (n := 1) (by decide +kernel) (by decide) rfl
theorem dL_law_520 : dk cL_law 520 (.iadd) 1 521 := ⟨by decide +kernel, rfl⟩
theorem dL_law_521 : dk cL_law 521 (.iaload) 1 522 := ⟨by decide +kernel, rfl⟩
theorem dL_law_522 : dk cL_law 522 (.invokevirtual 79) 3 525 := ⟨by decide +kernel, rfl⟩
theorem dL_law_525 : dla cL_law 525 2 526 := Or.inl ⟨2, by decide +kernel, rfl, rfl⟩
theorem dL_law_526 : dla cL_law 526 0 527 := Or.inl ⟨0, by decide +kernel, rfl, rfl⟩
theorem dL_law_527 : dli cL_law 527 4 529 := Or.inr ⟨by decide +kernel, rfl⟩
theorem dL_law_529 : dq cL_law 529 1 530 := dq_i (n := 1) (by decide +kernel) (by decide) rfl
theorem dL_law_530 : dk cL_law 530 (.iadd) 1 531 := ⟨by decide +kernel, rfl⟩
theorem dL_law_531 : dk cL_law 531 (.iaload) 1 532 := ⟨by decide +kernel, rfl⟩
theorem dL_law_532 : dk cL_law 532 (.invokevirtual 82) 3 535 := ⟨by decide +kernel, rfl⟩
theorem dL_law_535 : db cL_law 535 (.if_icmp .eq 5) 5 538 540 := ⟨by decide +kernel, rfl, by decide⟩
theorem dL_law_538 : dq cL_law 538 0 539 := dq_i (n := 0) (by decide +kernel) (by decide) rfl
theorem dL_law_539 : dk cL_law 539 (.ireturn) 1 540 := ⟨by decide +kernel, rfl⟩
theorem dL_law_540 : dk cL_law 540 (.iinc 4 4) 3 543 := ⟨by decide +kernel, rfl⟩
theorem dL_law_543 : db cL_law 543 (.goto (-520)) (-520) 546 23 := ⟨by decide +kernel, rfl, by decide⟩
theorem dL_law_546 : dq cL_law 546 1 547 := dq_i (n := 1) (by decide +kernel) (by decide) rfl
theorem dL_law_547 : dk cL_law 547 (.ireturn) 1 548 := ⟨by decide +kernel, rfl⟩
