/-! decode rows, in this proof's own forms -/
set_option maxRecDepth 100000
theorem dX4_takes_0 : dla cX4_takes 0 0 1 := Or.inl ⟨0, by decide +kernel, rfl, rfl⟩
theorem dX4_takes_1 : dk cX4_takes 1 (.getfield 22) 3 4 := ⟨by decide +kernel, rfl⟩
theorem dX4_takes_4 : dla cX4_takes 4 0 5 := Or.inl ⟨0, by decide +kernel, rfl, rfl⟩
theorem dX4_takes_5 : dli cX4_takes 5 1 6 := Or.inl ⟨1, by decide +kernel, rfl, rfl⟩
theorem dX4_takes_6 : dk cX4_takes 6 (.invokevirtual 26) 3 9 := ⟨by decide +kernel, rfl⟩
theorem dX4_takes_9 : dq cX4_takes 9 (-1) 10 := dq_i (n := (-1)) (by decide +kernel) (by decide) rfl
theorem dX4_takes_10 : db cX4_takes 10 (.if_icmp .ne 7) 7 13 17 := ⟨by decide +kernel, rfl, by decide⟩
theorem dX4_takes_13 : dq cX4_takes 13 1 14 := dq_i (n := 1) (by decide +kernel) (by decide) rfl
theorem dX4_takes_14 : db cX4_takes 14 (.goto 4) 4 17 18 := ⟨by decide +kernel, rfl, by decide⟩
theorem dX4_takes_17 : dq cX4_takes 17 0 18 := dq_i (n := 0) (by decide +kernel) (by decide) rfl
theorem dX4_takes_18 : dk cX4_takes 18 (.iadd) 1 19 := ⟨by decide +kernel, rfl⟩
theorem dX4_takes_19 : dli cX4_takes 19 2 20 := Or.inl ⟨2, by decide +kernel, rfl, rfl⟩
theorem dX4_takes_20 : dli cX4_takes 20 1 21 := Or.inl ⟨1, by decide +kernel, rfl, rfl⟩
theorem dX4_takes_21 : db cX4_takes 21 (.if_icmp .eq 12) 12 24 33 := ⟨by decide +kernel, rfl, by decide⟩
theorem dX4_takes_24 : dla cX4_takes 24 0 25 := Or.inl ⟨0, by decide +kernel, rfl, rfl⟩
theorem dX4_takes_25 : dli cX4_takes 25 2 26 := Or.inl ⟨2, by decide +kernel, rfl, rfl⟩
theorem dX4_takes_26 : dk cX4_takes 26 (.invokevirtual 26) 3 29 := ⟨by decide +kernel, rfl⟩
theorem dX4_takes_29 : dq cX4_takes 29 (-1) 30 := dq_i (n := (-1)) (by decide +kernel) (by decide) rfl
theorem dX4_takes_30 : db cX4_takes 30 (.if_icmp .eq 7) 7 33 37 := ⟨by decide +kernel, rfl, by decide⟩
theorem dX4_takes_33 : dq cX4_takes 33 0 34 := dq_i (n := 0) (by decide +kernel) (by decide) rfl
theorem dX4_takes_34 : db cX4_takes 34 (.goto 4) 4 37 38 := ⟨by decide +kernel, rfl, by decide⟩
theorem dX4_takes_37 : dq cX4_takes 37 1 38 := dq_i (n := 1) (by decide +kernel) (by decide) rfl
theorem dX4_takes_38 : dk cX4_takes 38 (.iadd) 1 39 := ⟨by decide +kernel, rfl⟩
theorem dX4_takes_39 : dq cX4_takes 39 38 41 := dq_b (n := 38) (by decide +kernel) (by decide) rfl
theorem dX4_takes_41 : db cX4_takes 41 (.if_icmp .gt 7) 7 44 48 := ⟨by decide +kernel, rfl, by decide⟩
theorem dX4_takes_44 : dq cX4_takes 44 1 45 := dq_i (n := 1) (by decide +kernel) (by decide) rfl
theorem dX4_takes_45 : db cX4_takes 45 (.goto 4) 4 48 49 := ⟨by decide +kernel, rfl, by decide⟩
theorem dX4_takes_48 : dq cX4_takes 48 0 49 := dq_i (n := 0) (by decide +kernel) (by decide) rfl
theorem dX4_takes_49 : dk cX4_takes 49 (.ireturn) 1 50 := ⟨by decide +kernel, rfl⟩
theorem dX2_slot_0 : dla cX2_slot 0 0 1 := Or.inl ⟨0, by decide +kernel, rfl, rfl⟩
theorem dX2_slot_1 : dla cX2_slot 1 0 2 := Or.inl ⟨0, by decide +kernel, rfl, rfl⟩
theorem dX2_slot_2 : dk cX2_slot 2 (.getfield 132) 3 5 := ⟨by decide +kernel, rfl⟩
theorem dX2_slot_5 : dli cX2_slot 5 1 6 := Or.inl ⟨1, by decide +kernel, rfl, rfl⟩
theorem dX2_slot_6 : dk cX2_slot 6 (.iadd) 1 7 := ⟨by decide +kernel, rfl⟩
theorem dX2_slot_7 : dq cX2_slot 7 2000 10 := dq_s (n := 2000) (by decide +kernel) (by decide) rfl
theorem dX2_slot_10 : dk cX2_slot 10 (.invokestatic 129) 3 13 := ⟨by decide +kernel, rfl⟩
theorem dX2_slot_13 : dk cX2_slot 13 (.putfield 132) 3 16 := ⟨by decide +kernel, rfl⟩
theorem dX2_slot_16 : dla cX2_slot 16 0 17 := Or.inl ⟨0, by decide +kernel, rfl, rfl⟩
theorem dX2_slot_17 : dk cX2_slot 17 (.dup) 1 18 := ⟨by decide +kernel, rfl⟩
theorem dX2_slot_18 : dk cX2_slot 18 (.getfield 158) 3 21 := ⟨by decide +kernel, rfl⟩
theorem dX2_slot_21 : dq cX2_slot 21 1 22 := dq_i (n := 1) (by decide +kernel) (by decide) rfl
theorem dX2_slot_22 : dk cX2_slot 22 (.iadd) 1 23 := ⟨by decide +kernel, rfl⟩
theorem dX2_slot_23 : dk cX2_slot 23 (.putfield 158) 3 26 := ⟨by decide +kernel, rfl⟩
theorem dX2_slot_26 : dla cX2_slot 26 0 27 := Or.inl ⟨0, by decide +kernel, rfl, rfl⟩
theorem dX2_slot_27 : dk cX2_slot 27 (.getfield 88) 3 30 := ⟨by decide +kernel, rfl⟩
theorem dX2_slot_30 : db cX2_slot 30 (.ifnonnull 12) 12 33 42 := ⟨by decide +kernel, rfl, by decide⟩
theorem dX2_slot_33 : dla cX2_slot 33 0 34 := Or.inl ⟨0, by decide +kernel, rfl, rfl⟩
theorem dX2_slot_34 : dk cX2_slot 34 (.invokevirtual 161) 3 37 := ⟨by decide +kernel, rfl⟩
theorem dX2_slot_37 : db cX2_slot 37 (.ifCond .ne 5) 5 40 42 := ⟨by decide +kernel, rfl, by decide⟩
theorem dX2_slot_40 : dq cX2_slot 40 (-1) 41 := dq_i (n := (-1)) (by decide +kernel) (by decide) rfl
theorem dX2_slot_41 : dk cX2_slot 41 (.ireturn) 1 42 := ⟨by decide +kernel, rfl⟩
theorem dX2_slot_42 : dq cX2_slot 42 0 43 := dq_i (n := 0) (by decide +kernel) (by decide) rfl
theorem dX2_slot_43 : dsi cX2_slot 43 2 44 := Or.inl ⟨2, by decide +kernel, rfl, rfl⟩
theorem dX2_slot_44 : dla cX2_slot 44 0 45 := Or.inl ⟨0, by decide +kernel, rfl, rfl⟩
theorem dX2_slot_45 : dk cX2_slot 45 (.getfield 88) 3 48 := ⟨by decide +kernel, rfl⟩
theorem dX2_slot_48 : db cX2_slot 48 (.ifnull 22) 22 51 70 := ⟨by decide +kernel, rfl, by decide⟩
theorem dX2_slot_51 : dli cX2_slot 51 2 52 := Or.inl ⟨2, by decide +kernel, rfl, rfl⟩
theorem dX2_slot_52 : dq cX2_slot 52 16 54 := dq_b (n := 16) (by decide +kernel) (by decide) rfl
theorem dX2_slot_54 : db cX2_slot 54 (.if_icmp .ge 16) 16 57 70 := ⟨by decide +kernel, rfl, by decide⟩
theorem dX2_slot_57 : dla cX2_slot 57 0 58 := Or.inl ⟨0, by decide +kernel, rfl, rfl⟩
theorem dX2_slot_58 : dk cX2_slot 58 (.invokevirtual 164) 3 61 := ⟨by decide +kernel, rfl⟩
theorem dX2_slot_61 : db cX2_slot 61 (.ifCond .eq 9) 9 64 70 := ⟨by decide +kernel, rfl, by decide⟩
theorem dX2_slot_64 : dk cX2_slot 64 (.iinc 2 1) 3 67 := ⟨by decide +kernel, rfl⟩
theorem dX2_slot_67 : db cX2_slot 67 (.goto (-23)) (-23) 70 44 := ⟨by decide +kernel, rfl, by decide⟩
theorem dX2_slot_70 : dli cX2_slot 70 2 71 := Or.inl ⟨2, by decide +kernel, rfl, rfl⟩
theorem dX2_slot_71 : dk cX2_slot 71 (.ireturn) 1 72 := ⟨by decide +kernel, rfl⟩
theorem dX6_put_0 : dla cX6_put 0 0 1 := Or.inl ⟨0, by decide +kernel, rfl, rfl⟩
theorem dX6_put_1 : dk cX6_put 1 (.getfield 9) 3 4 := ⟨by decide +kernel, rfl⟩
theorem dX6_put_4 : dla cX6_put 4 0 5 := Or.inl ⟨0, by decide +kernel, rfl, rfl⟩
theorem dX6_put_5 : dk cX6_put 5 (.getfield 19) 3 8 := ⟨by decide +kernel, rfl⟩
theorem dX6_put_8 : dq cX6_put 8 64 10 := dq_b (n := 64) (by decide +kernel) (by decide) rfl
theorem dX6_put_10 : dk cX6_put 10 (.irem) 1 11 := ⟨by decide +kernel, rfl⟩
theorem dX6_put_11 : dli cX6_put 11 1 12 := Or.inl ⟨1, by decide +kernel, rfl, rfl⟩
theorem dX6_put_12 : dk cX6_put 12 (.iastore) 1 13 := ⟨by decide +kernel, rfl⟩
theorem dX6_put_13 : dla cX6_put 13 0 14 := Or.inl ⟨0, by decide +kernel, rfl, rfl⟩
theorem dX6_put_14 : dk cX6_put 14 (.getfield 13) 3 17 := ⟨by decide +kernel, rfl⟩
theorem dX6_put_17 : dla cX6_put 17 0 18 := Or.inl ⟨0, by decide +kernel, rfl, rfl⟩
theorem dX6_put_18 : dk cX6_put 18 (.getfield 19) 3 21 := ⟨by decide +kernel, rfl⟩
theorem dX6_put_21 : dq cX6_put 21 64 23 := dq_b (n := 64) (by decide +kernel) (by decide) rfl
theorem dX6_put_23 : dk cX6_put 23 (.irem) 1 24 := ⟨by decide +kernel, rfl⟩
theorem dX6_put_24 : dli cX6_put 24 2 25 := Or.inl ⟨2, by decide +kernel, rfl, rfl⟩
theorem dX6_put_25 : dk cX6_put 25 (.iastore) 1 26 := ⟨by decide +kernel, rfl⟩
theorem dX6_put_26 : dla cX6_put 26 0 27 := Or.inl ⟨0, by decide +kernel, rfl, rfl⟩
theorem dX6_put_27 : dk cX6_put 27 (.dup) 1 28 := ⟨by decide +kernel, rfl⟩
theorem dX6_put_28 : dk cX6_put 28 (.getfield 19) 3 31 := ⟨by decide +kernel, rfl⟩
theorem dX6_put_31 : dq cX6_put 31 1 32 := dq_i (n := 1) (by decide +kernel) (by decide) rfl
theorem dX6_put_32 : dk cX6_put 32 (.iadd) 1 33 := ⟨by decide +kernel, rfl⟩
theorem dX6_put_33 : dk cX6_put 33 (.putfield 19) 3 36 := ⟨by decide +kernel, rfl⟩
theorem dX6_put_36 : dli cX6_put 36 1 37 := Or.inl ⟨1, by decide +kernel, rfl, rfl⟩
theorem dX6_put_37 : dla cX6_put 37 0 38 := Or.inl ⟨0, by decide +kernel, rfl, rfl⟩
theorem dX6_put_38 : dk cX6_put 38 (.getfield 23) 3 41 := ⟨by decide +kernel, rfl⟩
theorem dX6_put_41 : db cX6_put 41 (.if_icmp .ge 4) 4 44 45 := ⟨by decide +kernel, rfl, by decide⟩
theorem dX6_put_44 : dk cX6_put 44 (.return_) 1 45 := ⟨by decide +kernel, rfl⟩
theorem dX6_put_45 : dla cX6_put 45 0 46 := Or.inl ⟨0, by decide +kernel, rfl, rfl⟩
theorem dX6_put_46 : dk cX6_put 46 (.getfield 16) 3 49 := ⟨by decide +kernel, rfl⟩
theorem dX6_put_49 : dli cX6_put 49 1 50 := Or.inl ⟨1, by decide +kernel, rfl, rfl⟩
theorem dX6_put_50 : dq cX6_put 50 64 52 := dq_b (n := 64) (by decide +kernel) (by decide) rfl
theorem dX6_put_52 : dk cX6_put 52 (.irem) 1 53 := ⟨by decide +kernel, rfl⟩
theorem dX6_put_53 : dli cX6_put 53 2 54 := Or.inl ⟨2, by decide +kernel, rfl, rfl⟩
theorem dX6_put_54 : dk cX6_put 54 (.iastore) 1 55 := ⟨by decide +kernel, rfl⟩
theorem dX6_put_55 : dla cX6_put 55 0 56 := Or.inl ⟨0, by decide +kernel, rfl, rfl⟩
theorem dX6_put_56 : dli cX6_put 56 1 57 := Or.inl ⟨1, by decide +kernel, rfl, rfl⟩
theorem dX6_put_57 : dq cX6_put 57 1 58 := dq_i (n := 1) (by decide +kernel) (by decide) rfl
theorem dX6_put_58 : dk cX6_put 58 (.iadd) 1 59 := ⟨by decide +kernel, rfl⟩
theorem dX6_put_59 : dk cX6_put 59 (.putfield 23) 3 62 := ⟨by decide +kernel, rfl⟩
theorem dX6_put_62 : dk cX6_put 62 (.return_) 1 63 := ⟨by decide +kernel, rfl⟩
theorem dX1_aired_0 : dla cX1_aired 0 0 1 := Or.inl ⟨0, by decide +kernel, rfl, rfl⟩
theorem dX1_aired_1 : dk cX1_aired 1 (.getfield 10) 3 4 := ⟨by decide +kernel, rfl⟩
theorem dX1_aired_4 : dk cX1_aired 4 (.getfield 94) 3 7 := ⟨by decide +kernel, rfl⟩
theorem dX1_aired_7 : dsa cX1_aired 7 3 8 := Or.inl ⟨3, by decide +kernel, rfl, rfl⟩
theorem dX1_aired_8 : dli cX1_aired 8 1 9 := Or.inl ⟨1, by decide +kernel, rfl, rfl⟩
theorem dX1_aired_9 : db cX1_aired 9 (.ifCond .lt 26) 26 12 35 := ⟨by decide +kernel, rfl, by decide⟩
theorem dX1_aired_12 : dli cX1_aired 12 1 13 := Or.inl ⟨1, by decide +kernel, rfl, rfl⟩
theorem dX1_aired_13 : dq cX1_aired 13 64 15 := dq_b (n := 64) (by decide +kernel) (by decide) rfl
theorem dX1_aired_15 : db cX1_aired 15 (.if_icmp .ge 20) 20 18 35 := ⟨by decide +kernel, rfl, by decide⟩
theorem dX1_aired_18 : dli cX1_aired 18 1 19 := Or.inl ⟨1, by decide +kernel, rfl, rfl⟩
theorem dX1_aired_19 : dla cX1_aired 19 3 20 := Or.inl ⟨3, by decide +kernel, rfl, rfl⟩
theorem dX1_aired_20 : dk cX1_aired 20 (.getfield 100) 3 23 := ⟨by decide +kernel, rfl⟩
theorem dX1_aired_23 : db cX1_aired 23 (.if_icmp .ge 12) 12 26 35 := ⟨by decide +kernel, rfl, by decide⟩
theorem dX1_aired_26 : dli cX1_aired 26 2 27 := Or.inl ⟨2, by decide +kernel, rfl, rfl⟩
theorem dX1_aired_27 : db cX1_aired 27 (.ifCond .lt 8) 8 30 35 := ⟨by decide +kernel, rfl, by decide⟩
theorem dX1_aired_30 : dli cX1_aired 30 2 31 := Or.inl ⟨2, by decide +kernel, rfl, rfl⟩
theorem dX1_aired_31 : dq cX1_aired 31 1 32 := dq_i (n := 1) (by decide +kernel) (by decide) rfl
theorem dX1_aired_32 : db cX1_aired 32 (.if_icmp .le 5) 5 35 37 := ⟨by decide +kernel, rfl, by decide⟩
theorem dX1_aired_35 : dq cX1_aired 35 (-1) 36 := dq_i (n := (-1)) (by decide +kernel) (by decide) rfl
theorem dX1_aired_36 : dk cX1_aired 36 (.ireturn) 1 37 := ⟨by decide +kernel, rfl⟩
theorem dX1_aired_37 : dla cX1_aired 37 3 38 := Or.inl ⟨3, by decide +kernel, rfl, rfl⟩
theorem dX1_aired_38 : dk cX1_aired 38 (.getfield 100) 3 41 := ⟨by decide +kernel, rfl⟩
theorem dX1_aired_41 : dq cX1_aired 41 1 42 := dq_i (n := 1) (by decide +kernel) (by decide) rfl
theorem dX1_aired_42 : dk cX1_aired 42 (.isub) 1 43 := ⟨by decide +kernel, rfl⟩
theorem dX1_aired_43 : dli cX1_aired 43 1 44 := Or.inl ⟨1, by decide +kernel, rfl, rfl⟩
theorem dX1_aired_44 : dk cX1_aired 44 (.isub) 1 45 := ⟨by decide +kernel, rfl⟩
theorem dX1_aired_45 : dq cX1_aired 45 64 47 := dq_b (n := 64) (by decide +kernel) (by decide) rfl
theorem dX1_aired_47 : dk cX1_aired 47 (.irem) 1 48 := ⟨by decide +kernel, rfl⟩
theorem dX1_aired_48 : dsi cX1_aired 48 4 50 := Or.inr ⟨by decide +kernel, rfl⟩
theorem dX1_aired_50 : dli cX1_aired 50 2 51 := Or.inl ⟨2, by decide +kernel, rfl, rfl⟩
theorem dX1_aired_51 : db cX1_aired 51 (.ifCond .ne 13) 13 54 64 := ⟨by decide +kernel, rfl, by decide⟩
theorem dX1_aired_54 : dla cX1_aired 54 3 55 := Or.inl ⟨3, by decide +kernel, rfl, rfl⟩
theorem dX1_aired_55 : dk cX1_aired 55 (.getfield 103) 3 58 := ⟨by decide +kernel, rfl⟩
theorem dX1_aired_58 : dli cX1_aired 58 4 60 := Or.inr ⟨by decide +kernel, rfl⟩
theorem dX1_aired_60 : dk cX1_aired 60 (.iaload) 1 61 := ⟨by decide +kernel, rfl⟩
theorem dX1_aired_61 : db cX1_aired 61 (.goto 10) 10 64 71 := ⟨by decide +kernel, rfl, by decide⟩
theorem dX1_aired_64 : dla cX1_aired 64 3 65 := Or.inl ⟨3, by decide +kernel, rfl, rfl⟩
theorem dX1_aired_65 : dk cX1_aired 65 (.getfield 106) 3 68 := ⟨by decide +kernel, rfl⟩
theorem dX1_aired_68 : dli cX1_aired 68 4 70 := Or.inr ⟨by decide +kernel, rfl⟩
theorem dX1_aired_70 : dk cX1_aired 70 (.iaload) 1 71 := ⟨by decide +kernel, rfl⟩
theorem dX1_aired_71 : dk cX1_aired 71 (.ireturn) 1 72 := ⟨by decide +kernel, rfl⟩
theorem dX9_act_0 : dla cX9_act 0 0 1 := Or.inl ⟨0, by decide +kernel, rfl, rfl⟩
theorem dX9_act_1 : dk cX9_act 1 (.getfield 9) 3 4 := ⟨by decide +kernel, rfl⟩
theorem dX9_act_4 : dk cX9_act 4 (.getfield 15) 3 7 := ⟨by decide +kernel, rfl⟩
theorem dX9_act_7 : dk cX9_act 7 (.getfield 21) 3 10 := ⟨by decide +kernel, rfl⟩
theorem dX9_act_10 : dq cX9_act 10 4 11 := dq_i (n := 4) (by decide +kernel) (by decide) rfl
theorem dX9_act_11 : dk cX9_act 11 (.iaload) 1 12 := ⟨by decide +kernel, rfl⟩
theorem dX9_act_12 : dsi cX9_act 12 1 13 := Or.inl ⟨1, by decide +kernel, rfl, rfl⟩
theorem dX9_act_13 : dla cX9_act 13 0 14 := Or.inl ⟨0, by decide +kernel, rfl, rfl⟩
theorem dX9_act_14 : dk cX9_act 14 (.getfield 27) 3 17 := ⟨by decide +kernel, rfl⟩
theorem dX9_act_17 : db cX9_act 17 (.ifCond .eq 20) 20 20 37 := ⟨by decide +kernel, rfl, by decide⟩
theorem dX9_act_20 : dla cX9_act 20 0 21 := Or.inl ⟨0, by decide +kernel, rfl, rfl⟩
theorem dX9_act_21 : dk cX9_act 21 (.getfield 9) 3 24 := ⟨by decide +kernel, rfl⟩
theorem dX9_act_24 : dk cX9_act 24 (.getfield 15) 3 27 := ⟨by decide +kernel, rfl⟩
theorem dX9_act_27 : dq cX9_act 27 4 28 := dq_i (n := 4) (by decide +kernel) (by decide) rfl
theorem dX9_act_28 : dli cX9_act 28 1 29 := Or.inl ⟨1, by decide +kernel, rfl, rfl⟩
theorem dX9_act_29 : dq cX9_act 29 1 30 := dq_i (n := 1) (by decide +kernel) (by decide) rfl
theorem dX9_act_30 : dk cX9_act 30 (.iadd) 1 31 := ⟨by decide +kernel, rfl⟩
theorem dX9_act_31 : dk cX9_act 31 (.invokevirtual 31) 3 34 := ⟨by decide +kernel, rfl⟩
theorem dX9_act_34 : db cX9_act 34 (.goto 32) 32 37 66 := ⟨by decide +kernel, rfl, by decide⟩
theorem dX9_act_37 : dla cX9_act 37 0 38 := Or.inl ⟨0, by decide +kernel, rfl, rfl⟩
theorem dX9_act_38 : dk cX9_act 38 (.getfield 9) 3 41 := ⟨by decide +kernel, rfl⟩
theorem dX9_act_41 : dk cX9_act 41 (.getfield 35) 3 44 := ⟨by decide +kernel, rfl⟩
theorem dX9_act_44 : dli cX9_act 44 1 45 := Or.inl ⟨1, by decide +kernel, rfl, rfl⟩
theorem dX9_act_45 : dla cX9_act 45 0 46 := Or.inl ⟨0, by decide +kernel, rfl, rfl⟩
theorem dX9_act_46 : dk cX9_act 46 (.getfield 9) 3 49 := ⟨by decide +kernel, rfl⟩
theorem dX9_act_49 : dk cX9_act 49 (.getfield 15) 3 52 := ⟨by decide +kernel, rfl⟩
theorem dX9_act_52 : dk cX9_act 52 (.getfield 21) 3 55 := ⟨by decide +kernel, rfl⟩
theorem dX9_act_55 : dq cX9_act 55 68 57 := dq_b (n := 68) (by decide +kernel) (by decide) rfl
theorem dX9_act_57 : dli cX9_act 57 1 58 := Or.inl ⟨1, by decide +kernel, rfl, rfl⟩
theorem dX9_act_58 : dq cX9_act 58 16 60 := dq_b (n := 16) (by decide +kernel) (by decide) rfl
theorem dX9_act_60 : dk cX9_act 60 (.irem) 1 61 := ⟨by decide +kernel, rfl⟩
theorem dX9_act_61 : dk cX9_act 61 (.iadd) 1 62 := ⟨by decide +kernel, rfl⟩
theorem dX9_act_62 : dk cX9_act 62 (.iaload) 1 63 := ⟨by decide +kernel, rfl⟩
theorem dX9_act_63 : dk cX9_act 63 (.invokevirtual 39) 3 66 := ⟨by decide +kernel, rfl⟩
theorem dX9_act_66 : dla cX9_act 66 0 67 := Or.inl ⟨0, by decide +kernel, rfl, rfl⟩
theorem dX9_act_67 : dla cX9_act 67 0 68 := Or.inl ⟨0, by decide +kernel, rfl, rfl⟩
theorem dX9_act_68 : dk cX9_act 68 (.getfield 27) 3 71 := ⟨by decide +kernel, rfl⟩
theorem dX9_act_71 : db cX9_act 71 (.ifCond .ne 7) 7 74 78 := ⟨by decide +kernel, rfl, by decide⟩
theorem dX9_act_74 : dq cX9_act 74 1 75 := dq_i (n := 1) (by decide +kernel) (by decide) rfl
theorem dX9_act_75 : db cX9_act 75 (.goto 4) 4 78 79 := ⟨by decide +kernel, rfl, by decide⟩
theorem dX9_act_78 : dq cX9_act 78 0 79 := dq_i (n := 0) (by decide +kernel) (by decide) rfl
theorem dX9_act_79 : dk cX9_act 79 (.putfield 27) 3 82 := ⟨by decide +kernel, rfl⟩
theorem dX9_act_82 : dk cX9_act 82 (.return_) 1 83 := ⟨by decide +kernel, rfl⟩
theorem dX5_seal_0 : dla cX5_seal 0 0 1 := Or.inl ⟨0, by decide +kernel, rfl, rfl⟩
theorem dX5_seal_1 : dk cX5_seal 1 (.getfield 58) 3 4 := ⟨by decide +kernel, rfl⟩
theorem dX5_seal_4 : db cX5_seal 4 (.ifCond .eq 5) 5 7 9 := ⟨by decide +kernel, rfl, by decide⟩
theorem dX5_seal_7 : dq cX5_seal 7 0 8 := dq_i (n := 0) (by decide +kernel) (by decide) rfl
theorem dX5_seal_8 : dk cX5_seal 8 (.ireturn) 1 9 := ⟨by decide +kernel, rfl⟩
theorem dX5_seal_9 : dq cX5_seal 9 0 10 := dq_i (n := 0) (by decide +kernel) (by decide) rfl
theorem dX5_seal_10 : dsi cX5_seal 10 1 11 := Or.inl ⟨1, by decide +kernel, rfl, rfl⟩
theorem dX5_seal_11 : dli cX5_seal 11 1 12 := Or.inl ⟨1, by decide +kernel, rfl, rfl⟩
theorem dX5_seal_12 : dq cX5_seal 12 16 14 := dq_b (n := 16) (by decide +kernel) (by decide) rfl
theorem dX5_seal_14 : db cX5_seal 14 (.if_icmp .ge 58) 58 17 72 := ⟨by decide +kernel, rfl, by decide⟩
theorem dX5_seal_17 : dli cX5_seal 17 1 18 := Or.inl ⟨1, by decide +kernel, rfl, rfl⟩
theorem dX5_seal_18 : db cX5_seal 18 (.ifCond .ne 13) 13 21 31 := ⟨by decide +kernel, rfl, by decide⟩
theorem dX5_seal_21 : dla cX5_seal 21 0 22 := Or.inl ⟨0, by decide +kernel, rfl, rfl⟩
theorem dX5_seal_22 : dli cX5_seal 22 1 23 := Or.inl ⟨1, by decide +kernel, rfl, rfl⟩
theorem dX5_seal_23 : dk cX5_seal 23 (.invokevirtual 38) 3 26 := ⟨by decide +kernel, rfl⟩
theorem dX5_seal_26 : db cX5_seal 26 (.ifCond .ne 5) 5 29 31 := ⟨by decide +kernel, rfl, by decide⟩
theorem dX5_seal_29 : dq cX5_seal 29 1 30 := dq_i (n := 1) (by decide +kernel) (by decide) rfl
theorem dX5_seal_30 : dk cX5_seal 30 (.ireturn) 1 31 := ⟨by decide +kernel, rfl⟩
theorem dX5_seal_31 : dq cX5_seal 31 0 32 := dq_i (n := 0) (by decide +kernel) (by decide) rfl
theorem dX5_seal_32 : dsi cX5_seal 32 2 33 := Or.inl ⟨2, by decide +kernel, rfl, rfl⟩
theorem dX5_seal_33 : dli cX5_seal 33 2 34 := Or.inl ⟨2, by decide +kernel, rfl, rfl⟩
theorem dX5_seal_34 : dla cX5_seal 34 0 35 := Or.inl ⟨0, by decide +kernel, rfl, rfl⟩
theorem dX5_seal_35 : dli cX5_seal 35 1 36 := Or.inl ⟨1, by decide +kernel, rfl, rfl⟩
theorem dX5_seal_36 : dk cX5_seal 36 (.invokevirtual 38) 3 39 := ⟨by decide +kernel, rfl⟩
theorem dX5_seal_39 : db cX5_seal 39 (.if_icmp .ge 27) 27 42 66 := ⟨by decide +kernel, rfl, by decide⟩
theorem dX5_seal_42 : dla cX5_seal 42 0 43 := Or.inl ⟨0, by decide +kernel, rfl, rfl⟩
theorem dX5_seal_43 : dli cX5_seal 43 1 44 := Or.inl ⟨1, by decide +kernel, rfl, rfl⟩
theorem dX5_seal_44 : dli cX5_seal 44 2 45 := Or.inl ⟨2, by decide +kernel, rfl, rfl⟩
theorem dX5_seal_45 : dk cX5_seal 45 (.invokevirtual 62) 3 48 := ⟨by decide +kernel, rfl⟩
theorem dX5_seal_48 : db cX5_seal 48 (.ifCond .ne 12) 12 51 60 := ⟨by decide +kernel, rfl, by decide⟩
theorem dX5_seal_51 : dq cX5_seal 51 1 52 := dq_i (n := 1) (by decide +kernel) (by decide) rfl
theorem dX5_seal_52 : dq cX5_seal 52 32 54 := dq_b (n := 32) (by decide +kernel) (by decide) rfl
theorem dX5_seal_54 : dli cX5_seal 54 1 55 := Or.inl ⟨1, by decide +kernel, rfl, rfl⟩
theorem dX5_seal_55 : dk cX5_seal 55 (.imul) 1 56 := ⟨by decide +kernel, rfl⟩
theorem dX5_seal_56 : dk cX5_seal 56 (.iadd) 1 57 := ⟨by decide +kernel, rfl⟩
theorem dX5_seal_57 : dli cX5_seal 57 2 58 := Or.inl ⟨2, by decide +kernel, rfl, rfl⟩
theorem dX5_seal_58 : dk cX5_seal 58 (.iadd) 1 59 := ⟨by decide +kernel, rfl⟩
theorem dX5_seal_59 : dk cX5_seal 59 (.ireturn) 1 60 := ⟨by decide +kernel, rfl⟩
theorem dX5_seal_60 : dk cX5_seal 60 (.iinc 2 1) 3 63 := ⟨by decide +kernel, rfl⟩
theorem dX5_seal_63 : db cX5_seal 63 (.goto (-30)) (-30) 66 33 := ⟨by decide +kernel, rfl, by decide⟩
theorem dX5_seal_66 : dk cX5_seal 66 (.iinc 1 1) 3 69 := ⟨by decide +kernel, rfl⟩
theorem dX5_seal_69 : db cX5_seal 69 (.goto (-58)) (-58) 72 11 := ⟨by decide +kernel, rfl, by decide⟩
theorem dX5_seal_72 : dla cX5_seal 72 0 73 := Or.inl ⟨0, by decide +kernel, rfl, rfl⟩
theorem dX5_seal_73 : dq cX5_seal 73 1 74 := dq_i (n := 1) (by decide +kernel) (by decide) rfl
theorem dX5_seal_74 : dk cX5_seal 74 (.putfield 58) 3 77 := ⟨by decide +kernel, rfl⟩
theorem dX5_seal_77 : dq cX5_seal 77 0 78 := dq_i (n := 0) (by decide +kernel) (by decide) rfl
theorem dX5_seal_78 : dk cX5_seal 78 (.ireturn) 1 79 := ⟨by decide +kernel, rfl⟩
theorem dX8_act_0 : dla cX8_act 0 0 1 := Or.inl ⟨0, by decide +kernel, rfl, rfl⟩
theorem dX8_act_1 : dk cX8_act 1 (.getfield 9) 3 4 := ⟨by decide +kernel, rfl⟩
theorem dX8_act_4 : dk cX8_act 4 (.getfield 15) 3 7 := ⟨by decide +kernel, rfl⟩
theorem dX8_act_7 : dsa cX8_act 7 1 8 := Or.inl ⟨1, by decide +kernel, rfl, rfl⟩
theorem dX8_act_8 : dla cX8_act 8 0 9 := Or.inl ⟨0, by decide +kernel, rfl, rfl⟩
theorem dX8_act_9 : dk cX8_act 9 (.getfield 21) 3 12 := ⟨by decide +kernel, rfl⟩
theorem dX8_act_12 : dla cX8_act 12 1 13 := Or.inl ⟨1, by decide +kernel, rfl, rfl⟩
theorem dX8_act_13 : dk cX8_act 13 (.getfield 25) 3 16 := ⟨by decide +kernel, rfl⟩
theorem dX8_act_16 : dq cX8_act 16 2 17 := dq_i (n := 2) (by decide +kernel) (by decide) rfl
theorem dX8_act_17 : dk cX8_act 17 (.iaload) 1 18 := ⟨by decide +kernel, rfl⟩
theorem dX8_act_18 : db cX8_act 18 (.if_icmp .ge 48) 48 21 66 := ⟨by decide +kernel, rfl, by decide⟩
theorem dX8_act_21 : dla cX8_act 21 1 22 := Or.inl ⟨1, by decide +kernel, rfl, rfl⟩
theorem dX8_act_22 : dla cX8_act 22 1 23 := Or.inl ⟨1, by decide +kernel, rfl, rfl⟩
theorem dX8_act_23 : dk cX8_act 23 (.getfield 25) 3 26 := ⟨by decide +kernel, rfl⟩
theorem dX8_act_26 : dq cX8_act 26 84 28 := dq_b (n := 84) (by decide +kernel) (by decide) rfl
theorem dX8_act_28 : dq cX8_act 28 2 29 := dq_i (n := 2) (by decide +kernel) (by decide) rfl
theorem dX8_act_29 : dla cX8_act 29 0 30 := Or.inl ⟨0, by decide +kernel, rfl, rfl⟩
theorem dX8_act_30 : dk cX8_act 30 (.getfield 21) 3 33 := ⟨by decide +kernel, rfl⟩
theorem dX8_act_33 : dk cX8_act 33 (.imul) 1 34 := ⟨by decide +kernel, rfl⟩
theorem dX8_act_34 : dk cX8_act 34 (.iadd) 1 35 := ⟨by decide +kernel, rfl⟩
theorem dX8_act_35 : dk cX8_act 35 (.iaload) 1 36 := ⟨by decide +kernel, rfl⟩
theorem dX8_act_36 : dla cX8_act 36 1 37 := Or.inl ⟨1, by decide +kernel, rfl, rfl⟩
theorem dX8_act_37 : dk cX8_act 37 (.getfield 25) 3 40 := ⟨by decide +kernel, rfl⟩
theorem dX8_act_40 : dq cX8_act 40 84 42 := dq_b (n := 84) (by decide +kernel) (by decide) rfl
theorem dX8_act_42 : dq cX8_act 42 2 43 := dq_i (n := 2) (by decide +kernel) (by decide) rfl
theorem dX8_act_43 : dla cX8_act 43 0 44 := Or.inl ⟨0, by decide +kernel, rfl, rfl⟩
theorem dX8_act_44 : dk cX8_act 44 (.getfield 21) 3 47 := ⟨by decide +kernel, rfl⟩
theorem dX8_act_47 : dk cX8_act 47 (.imul) 1 48 := ⟨by decide +kernel, rfl⟩
theorem dX8_act_48 : dk cX8_act 48 (.iadd) 1 49 := ⟨by decide +kernel, rfl⟩
theorem dX8_act_49 : dq cX8_act 49 1 50 := dq_i (n := 1) (by decide +kernel) (by decide) rfl
theorem dX8_act_50 : dk cX8_act 50 (.iadd) 1 51 := ⟨by decide +kernel, rfl⟩
theorem dX8_act_51 : dk cX8_act 51 (.iaload) 1 52 := ⟨by decide +kernel, rfl⟩
theorem dX8_act_52 : dk cX8_act 52 (.invokevirtual 31) 3 55 := ⟨by decide +kernel, rfl⟩
theorem dX8_act_55 : dla cX8_act 55 0 56 := Or.inl ⟨0, by decide +kernel, rfl, rfl⟩
theorem dX8_act_56 : dk cX8_act 56 (.dup) 1 57 := ⟨by decide +kernel, rfl⟩
theorem dX8_act_57 : dk cX8_act 57 (.getfield 21) 3 60 := ⟨by decide +kernel, rfl⟩
theorem dX8_act_60 : dq cX8_act 60 1 61 := dq_i (n := 1) (by decide +kernel) (by decide) rfl
theorem dX8_act_61 : dk cX8_act 61 (.iadd) 1 62 := ⟨by decide +kernel, rfl⟩
theorem dX8_act_62 : dk cX8_act 62 (.putfield 21) 3 65 := ⟨by decide +kernel, rfl⟩
theorem dX8_act_65 : dk cX8_act 65 (.return_) 1 66 := ⟨by decide +kernel, rfl⟩
theorem dX8_act_66 : dla cX8_act 66 1 67 := Or.inl ⟨1, by decide +kernel, rfl, rfl⟩
theorem dX8_act_67 : dq cX8_act 67 2 68 := dq_i (n := 2) (by decide +kernel) (by decide) rfl
theorem dX8_act_68 : dq cX8_act 68 0 69 := dq_i (n := 0) (by decide +kernel) (by decide) rfl
theorem dX8_act_69 : dk cX8_act 69 (.invokevirtual 31) 3 72 := ⟨by decide +kernel, rfl⟩
theorem dX8_act_72 : dla cX8_act 72 0 73 := Or.inl ⟨0, by decide +kernel, rfl, rfl⟩
theorem dX8_act_73 : dk cX8_act 73 (.getfield 9) 3 76 := ⟨by decide +kernel, rfl⟩
theorem dX8_act_76 : dla cX8_act 76 0 77 := Or.inl ⟨0, by decide +kernel, rfl, rfl⟩
theorem dX8_act_77 : dk cX8_act 77 (.getfield 9) 3 80 := ⟨by decide +kernel, rfl⟩
theorem dX8_act_80 : dk cX8_act 80 (.getfield 35) 3 83 := ⟨by decide +kernel, rfl⟩
theorem dX8_act_83 : dk cX8_act 83 (.putfield 39) 3 86 := ⟨by decide +kernel, rfl⟩
theorem dX8_act_86 : dk cX8_act 86 (.return_) 1 87 := ⟨by decide +kernel, rfl⟩
theorem dX2_fail_0 : dla cX2_fail 0 0 1 := Or.inl ⟨0, by decide +kernel, rfl, rfl⟩
theorem dX2_fail_1 : dk cX2_fail 1 (.dup) 1 2 := ⟨by decide +kernel, rfl⟩
theorem dX2_fail_2 : dk cX2_fail 2 (.getfield 120) 3 5 := ⟨by decide +kernel, rfl⟩
theorem dX2_fail_5 : dq cX2_fail 5 1 6 := dq_i (n := 1) (by decide +kernel) (by decide) rfl
theorem dX2_fail_6 : dk cX2_fail 6 (.iadd) 1 7 := ⟨by decide +kernel, rfl⟩
theorem dX2_fail_7 : dk cX2_fail 7 (.putfield 120) 3 10 := ⟨by decide +kernel, rfl⟩
theorem dX2_fail_10 : dla cX2_fail 10 0 11 := Or.inl ⟨0, by decide +kernel, rfl, rfl⟩
theorem dX2_fail_11 : dk cX2_fail 11 (.getfield 88) 3 14 := ⟨by decide +kernel, rfl⟩
theorem dX2_fail_14 : dk cX2_fail 14 (.invokevirtual 123) 3 17 := ⟨by decide +kernel, rfl⟩
theorem dX2_fail_17 : db cX2_fail 17 (.ifCond .eq 71) 71 20 88 := ⟨by decide +kernel, rfl, by decide⟩
theorem dX2_fail_20 : dla cX2_fail 20 0 21 := Or.inl ⟨0, by decide +kernel, rfl, rfl⟩
theorem dX2_fail_21 : dk cX2_fail 21 (.getfield 51) 3 24 := ⟨by decide +kernel, rfl⟩
theorem dX2_fail_24 : dla cX2_fail 24 0 25 := Or.inl ⟨0, by decide +kernel, rfl, rfl⟩
theorem dX2_fail_25 : dk cX2_fail 25 (.getfield 105) 3 28 := ⟨by decide +kernel, rfl⟩
theorem dX2_fail_28 : dk cX2_fail 28 (.dup2) 1 29 := ⟨by decide +kernel, rfl⟩
theorem dX2_fail_29 : dk cX2_fail 29 (.iaload) 1 30 := ⟨by decide +kernel, rfl⟩
theorem dX2_fail_30 : dq cX2_fail 30 1 31 := dq_i (n := 1) (by decide +kernel) (by decide) rfl
theorem dX2_fail_31 : dk cX2_fail 31 (.iadd) 1 32 := ⟨by decide +kernel, rfl⟩
theorem dX2_fail_32 : dk cX2_fail 32 (.iastore) 1 33 := ⟨by decide +kernel, rfl⟩
theorem dX2_fail_33 : dla cX2_fail 33 0 34 := Or.inl ⟨0, by decide +kernel, rfl, rfl⟩
theorem dX2_fail_34 : dk cX2_fail 34 (.getfield 48) 3 37 := ⟨by decide +kernel, rfl⟩
theorem dX2_fail_37 : dla cX2_fail 37 0 38 := Or.inl ⟨0, by decide +kernel, rfl, rfl⟩
theorem dX2_fail_38 : dk cX2_fail 38 (.getfield 105) 3 41 := ⟨by decide +kernel, rfl⟩
theorem dX2_fail_41 : dq cX2_fail 41 2 42 := dq_i (n := 2) (by decide +kernel) (by decide) rfl
theorem dX2_fail_42 : dla cX2_fail 42 0 43 := Or.inl ⟨0, by decide +kernel, rfl, rfl⟩
theorem dX2_fail_43 : dk cX2_fail 43 (.getfield 48) 3 46 := ⟨by decide +kernel, rfl⟩
theorem dX2_fail_46 : dla cX2_fail 46 0 47 := Or.inl ⟨0, by decide +kernel, rfl, rfl⟩
theorem dX2_fail_47 : dk cX2_fail 47 (.getfield 105) 3 50 := ⟨by decide +kernel, rfl⟩
theorem dX2_fail_50 : dk cX2_fail 50 (.iaload) 1 51 := ⟨by decide +kernel, rfl⟩
theorem dX2_fail_51 : dla cX2_fail 51 0 52 := Or.inl ⟨0, by decide +kernel, rfl, rfl⟩
theorem dX2_fail_52 : dk cX2_fail 52 (.getfield 99) 3 55 := ⟨by decide +kernel, rfl⟩
theorem dX2_fail_55 : dk cX2_fail 55 (.invokestatic 108) 3 58 := ⟨by decide +kernel, rfl⟩
theorem dX2_fail_58 : dk cX2_fail 58 (.imul) 1 59 := ⟨by decide +kernel, rfl⟩
theorem dX2_fail_59 : dq cX2_fail 59 1940 62 := dq_s (n := 1940) (by decide +kernel) (by decide) rfl
theorem dX2_fail_62 : dk cX2_fail 62 (.invokestatic 129) 3 65 := ⟨by decide +kernel, rfl⟩
theorem dX2_fail_65 : dk cX2_fail 65 (.iastore) 1 66 := ⟨by decide +kernel, rfl⟩
theorem dX2_fail_66 : dla cX2_fail 66 0 67 := Or.inl ⟨0, by decide +kernel, rfl, rfl⟩
theorem dX2_fail_67 : dk cX2_fail 67 (.getfield 51) 3 70 := ⟨by decide +kernel, rfl⟩
theorem dX2_fail_70 : dla cX2_fail 70 0 71 := Or.inl ⟨0, by decide +kernel, rfl, rfl⟩
theorem dX2_fail_71 : dk cX2_fail 71 (.getfield 105) 3 74 := ⟨by decide +kernel, rfl⟩
theorem dX2_fail_74 : dk cX2_fail 74 (.iaload) 1 75 := ⟨by decide +kernel, rfl⟩
theorem dX2_fail_75 : dq cX2_fail 75 12 77 := dq_b (n := 12) (by decide +kernel) (by decide) rfl
theorem dX2_fail_77 : db cX2_fail 77 (.if_icmp .ne 11) 11 80 88 := ⟨by decide +kernel, rfl, by decide⟩
theorem dX2_fail_80 : dla cX2_fail 80 0 81 := Or.inl ⟨0, by decide +kernel, rfl, rfl⟩
theorem dX2_fail_81 : dla cX2_fail 81 0 82 := Or.inl ⟨0, by decide +kernel, rfl, rfl⟩
theorem dX2_fail_82 : dk cX2_fail 82 (.getfield 105) 3 85 := ⟨by decide +kernel, rfl⟩
theorem dX2_fail_85 : dk cX2_fail 85 (.putfield 84) 3 88 := ⟨by decide +kernel, rfl⟩
theorem dX2_fail_88 : dla cX2_fail 88 0 89 := Or.inl ⟨0, by decide +kernel, rfl, rfl⟩
theorem dX2_fail_89 : dk cX2_fail 89 (.aconst_null) 1 90 := ⟨by decide +kernel, rfl⟩
theorem dX2_fail_90 : dk cX2_fail 90 (.putfield 88) 3 93 := ⟨by decide +kernel, rfl⟩
theorem dX2_fail_93 : dla cX2_fail 93 0 94 := Or.inl ⟨0, by decide +kernel, rfl, rfl⟩
theorem dX2_fail_94 : dk cX2_fail 94 (.invokevirtual 96) 3 97 := ⟨by decide +kernel, rfl⟩
theorem dX2_fail_97 : dk cX2_fail 97 (.return_) 1 98 := ⟨by decide +kernel, rfl⟩
theorem dX2_boots_0 : dla cX2_boots 0 0 1 := Or.inl ⟨0, by decide +kernel, rfl, rfl⟩
theorem dX2_boots_1 : dk cX2_boots 1 (.getfield 84) 3 4 := ⟨by decide +kernel, rfl⟩
theorem dX2_boots_4 : dq cX2_boots 4 (-1) 5 := dq_i (n := (-1)) (by decide +kernel) (by decide) rfl
theorem dX2_boots_5 : db cX2_boots 5 (.if_icmp .ne 42) 42 8 47 := ⟨by decide +kernel, rfl, by decide⟩
theorem dX2_boots_8 : dla cX2_boots 8 0 9 := Or.inl ⟨0, by decide +kernel, rfl, rfl⟩
theorem dX2_boots_9 : dk cX2_boots 9 (.getfield 132) 3 12 := ⟨by decide +kernel, rfl⟩
theorem dX2_boots_12 : dq cX2_boots 12 60 14 := dq_b (n := 60) (by decide +kernel) (by decide) rfl
theorem dX2_boots_14 : db cX2_boots 14 (.if_icmp .lt 33) 33 17 47 := ⟨by decide +kernel, rfl, by decide⟩
theorem dX2_boots_17 : dla cX2_boots 17 0 18 := Or.inl ⟨0, by decide +kernel, rfl, rfl⟩
theorem dX2_boots_18 : dk cX2_boots 18 (.getfield 132) 3 21 := ⟨by decide +kernel, rfl⟩
theorem dX2_boots_21 : dq cX2_boots 21 60 23 := dq_b (n := 60) (by decide +kernel) (by decide) rfl
theorem dX2_boots_23 : dla cX2_boots 23 0 24 := Or.inl ⟨0, by decide +kernel, rfl, rfl⟩
theorem dX2_boots_24 : dk cX2_boots 24 (.getfield 48) 3 27 := ⟨by decide +kernel, rfl⟩
theorem dX2_boots_27 : dla cX2_boots 27 0 28 := Or.inl ⟨0, by decide +kernel, rfl, rfl⟩
theorem dX2_boots_28 : dk cX2_boots 28 (.getfield 12) 3 31 := ⟨by decide +kernel, rfl⟩
theorem dX2_boots_31 : dk cX2_boots 31 (.getfield 114) 3 34 := ⟨by decide +kernel, rfl⟩
theorem dX2_boots_34 : dq cX2_boots 34 0 35 := dq_i (n := 0) (by decide +kernel) (by decide) rfl
theorem dX2_boots_35 : dk cX2_boots 35 (.iaload) 1 36 := ⟨by decide +kernel, rfl⟩
theorem dX2_boots_36 : dk cX2_boots 36 (.iaload) 1 37 := ⟨by decide +kernel, rfl⟩
theorem dX2_boots_37 : dk cX2_boots 37 (.iadd) 1 38 := ⟨by decide +kernel, rfl⟩
theorem dX2_boots_38 : dq cX2_boots 38 2000 41 := dq_s (n := 2000) (by decide +kernel) (by decide) rfl
theorem dX2_boots_41 : dk cX2_boots 41 (.invokestatic 129) 3 44 := ⟨by decide +kernel, rfl⟩
theorem dX2_boots_44 : db cX2_boots 44 (.if_icmp .ge 5) 5 47 49 := ⟨by decide +kernel, rfl, by decide⟩
theorem dX2_boots_47 : dq cX2_boots 47 0 48 := dq_i (n := 0) (by decide +kernel) (by decide) rfl
theorem dX2_boots_48 : dk cX2_boots 48 (.ireturn) 1 49 := ⟨by decide +kernel, rfl⟩
theorem dX2_boots_49 : dla cX2_boots 49 0 50 := Or.inl ⟨0, by decide +kernel, rfl, rfl⟩
theorem dX2_boots_50 : dk cX2_boots 50 (.dup) 1 51 := ⟨by decide +kernel, rfl⟩
theorem dX2_boots_51 : dk cX2_boots 51 (.getfield 132) 3 54 := ⟨by decide +kernel, rfl⟩
theorem dX2_boots_54 : dq cX2_boots 54 60 56 := dq_b (n := 60) (by decide +kernel) (by decide) rfl
theorem dX2_boots_56 : dk cX2_boots 56 (.isub) 1 57 := ⟨by decide +kernel, rfl⟩
theorem dX2_boots_57 : dk cX2_boots 57 (.putfield 132) 3 60 := ⟨by decide +kernel, rfl⟩
theorem dX2_boots_60 : dla cX2_boots 60 0 61 := Or.inl ⟨0, by decide +kernel, rfl, rfl⟩
theorem dX2_boots_61 : dk cX2_boots 61 (.getfield 59) 3 64 := ⟨by decide +kernel, rfl⟩
theorem dX2_boots_64 : dq cX2_boots 64 0 65 := dq_i (n := 0) (by decide +kernel) (by decide) rfl
theorem dX2_boots_65 : dk cX2_boots 65 (.putfield 135) 3 68 := ⟨by decide +kernel, rfl⟩
theorem dX2_boots_68 : dla cX2_boots 68 0 69 := Or.inl ⟨0, by decide +kernel, rfl, rfl⟩
theorem dX2_boots_69 : dk cX2_boots 69 (.getfield 66) 3 72 := ⟨by decide +kernel, rfl⟩
theorem dX2_boots_72 : dq cX2_boots 72 0 73 := dq_i (n := 0) (by decide +kernel) (by decide) rfl
theorem dX2_boots_73 : dk cX2_boots 73 (.putfield 92) 3 76 := ⟨by decide +kernel, rfl⟩
theorem dX2_boots_76 : dla cX2_boots 76 0 77 := Or.inl ⟨0, by decide +kernel, rfl, rfl⟩
theorem dX2_boots_77 : dla cX2_boots 77 0 78 := Or.inl ⟨0, by decide +kernel, rfl, rfl⟩
theorem dX2_boots_78 : dk cX2_boots 78 (.getfield 12) 3 81 := ⟨by decide +kernel, rfl⟩
theorem dX2_boots_81 : dk cX2_boots 81 (.getfield 114) 3 84 := ⟨by decide +kernel, rfl⟩
theorem dX2_boots_84 : dq cX2_boots 84 2 85 := dq_i (n := 2) (by decide +kernel) (by decide) rfl
theorem dX2_boots_85 : dk cX2_boots 85 (.iaload) 1 86 := ⟨by decide +kernel, rfl⟩
theorem dX2_boots_86 : db cX2_boots 86 (.ifCond .eq 10) 10 89 96 := ⟨by decide +kernel, rfl, by decide⟩
theorem dX2_boots_89 : dla cX2_boots 89 0 90 := Or.inl ⟨0, by decide +kernel, rfl, rfl⟩
theorem dX2_boots_90 : dk cX2_boots 90 (.getfield 59) 3 93 := ⟨by decide +kernel, rfl⟩
theorem dX2_boots_93 : db cX2_boots 93 (.goto 7) 7 96 100 := ⟨by decide +kernel, rfl, by decide⟩
theorem dX2_boots_96 : dla cX2_boots 96 0 97 := Or.inl ⟨0, by decide +kernel, rfl, rfl⟩
theorem dX2_boots_97 : dk cX2_boots 97 (.getfield 66) 3 100 := ⟨by decide +kernel, rfl⟩
theorem dX2_boots_100 : dk cX2_boots 100 (.putfield 88) 3 103 := ⟨by decide +kernel, rfl⟩
theorem dX2_boots_103 : dq cX2_boots 103 1 104 := dq_i (n := 1) (by decide +kernel) (by decide) rfl
theorem dX2_boots_104 : dk cX2_boots 104 (.ireturn) 1 105 := ⟨by decide +kernel, rfl⟩
theorem dX10_send_0 : dla cX10_send 0 0 1 := Or.inl ⟨0, by decide +kernel, rfl, rfl⟩
theorem dX10_send_1 : dk cX10_send 1 (.getfield 18) 3 4 := ⟨by decide +kernel, rfl⟩
theorem dX10_send_4 : dk cX10_send 4 (.getfield 79) 3 7 := ⟨by decide +kernel, rfl⟩
theorem dX10_send_7 : dsa cX10_send 7 2 8 := Or.inl ⟨2, by decide +kernel, rfl, rfl⟩
theorem dX10_send_8 : dla cX10_send 8 2 9 := Or.inl ⟨2, by decide +kernel, rfl, rfl⟩
theorem dX10_send_9 : dq cX10_send 9 3 10 := dq_i (n := 3) (by decide +kernel) (by decide) rfl
theorem dX10_send_10 : dk cX10_send 10 (.invokevirtual 83) 3 13 := ⟨by decide +kernel, rfl⟩
theorem dX10_send_13 : dsi cX10_send 13 3 14 := Or.inl ⟨3, by decide +kernel, rfl, rfl⟩
theorem dX10_send_14 : dq cX10_send 14 68 16 := dq_b (n := 68) (by decide +kernel) (by decide) rfl
theorem dX10_send_16 : dli cX10_send 16 3 17 := Or.inl ⟨3, by decide +kernel, rfl, rfl⟩
theorem dX10_send_17 : dq cX10_send 17 16 19 := dq_b (n := 16) (by decide +kernel) (by decide) rfl
theorem dX10_send_19 : dk cX10_send 19 (.irem) 1 20 := ⟨by decide +kernel, rfl⟩
theorem dX10_send_20 : dk cX10_send 20 (.iadd) 1 21 := ⟨by decide +kernel, rfl⟩
theorem dX10_send_21 : dsi cX10_send 21 4 23 := Or.inr ⟨by decide +kernel, rfl⟩
theorem dX10_send_23 : dli cX10_send 23 3 24 := Or.inl ⟨3, by decide +kernel, rfl, rfl⟩
theorem dX10_send_24 : dla cX10_send 24 0 25 := Or.inl ⟨0, by decide +kernel, rfl, rfl⟩
theorem dX10_send_25 : dk cX10_send 25 (.getfield 18) 3 28 := ⟨by decide +kernel, rfl⟩
theorem dX10_send_28 : dk cX10_send 28 (.getfield 28) 3 31 := ⟨by decide +kernel, rfl⟩
theorem dX10_send_31 : dk cX10_send 31 (.getfield 32) 3 34 := ⟨by decide +kernel, rfl⟩
theorem dX10_send_34 : dq cX10_send 34 4 35 := dq_i (n := 4) (by decide +kernel) (by decide) rfl
theorem dX10_send_35 : dk cX10_send 35 (.iaload) 1 36 := ⟨by decide +kernel, rfl⟩
theorem dX10_send_36 : dk cX10_send 36 (.isub) 1 37 := ⟨by decide +kernel, rfl⟩
theorem dX10_send_37 : dq cX10_send 37 16 39 := dq_b (n := 16) (by decide +kernel) (by decide) rfl
theorem dX10_send_39 : db cX10_send 39 (.if_icmp .ge 17) 17 42 56 := ⟨by decide +kernel, rfl, by decide⟩
theorem dX10_send_42 : dla cX10_send 42 2 43 := Or.inl ⟨2, by decide +kernel, rfl, rfl⟩
theorem dX10_send_43 : dli cX10_send 43 4 45 := Or.inr ⟨by decide +kernel, rfl⟩
theorem dX10_send_45 : dq cX10_send 45 3 46 := dq_i (n := 3) (by decide +kernel) (by decide) rfl
theorem dX10_send_46 : dk cX10_send 46 (.invokevirtual 112) 3 49 := ⟨by decide +kernel, rfl⟩
theorem dX10_send_49 : db cX10_send 49 (.ifCond .eq 7) 7 52 56 := ⟨by decide +kernel, rfl, by decide⟩
theorem dX10_send_52 : dq cX10_send 52 1 53 := dq_i (n := 1) (by decide +kernel) (by decide) rfl
theorem dX10_send_53 : db cX10_send 53 (.goto 4) 4 56 57 := ⟨by decide +kernel, rfl, by decide⟩
theorem dX10_send_56 : dq cX10_send 56 0 57 := dq_i (n := 0) (by decide +kernel) (by decide) rfl
theorem dX10_send_57 : dsi cX10_send 57 5 59 := Or.inr ⟨by decide +kernel, rfl⟩
theorem dX10_send_59 : dli cX10_send 59 5 61 := Or.inr ⟨by decide +kernel, rfl⟩
theorem dX10_send_61 : db cX10_send 61 (.ifCond .eq 18) 18 64 79 := ⟨by decide +kernel, rfl, by decide⟩
theorem dX10_send_64 : dla cX10_send 64 2 65 := Or.inl ⟨2, by decide +kernel, rfl, rfl⟩
theorem dX10_send_65 : dli cX10_send 65 4 67 := Or.inr ⟨by decide +kernel, rfl⟩
theorem dX10_send_67 : dli cX10_send 67 1 68 := Or.inl ⟨1, by decide +kernel, rfl, rfl⟩
theorem dX10_send_68 : dk cX10_send 68 (.invokevirtual 116) 3 71 := ⟨by decide +kernel, rfl⟩
theorem dX10_send_71 : dla cX10_send 71 2 72 := Or.inl ⟨2, by decide +kernel, rfl, rfl⟩
theorem dX10_send_72 : dq cX10_send 72 3 73 := dq_i (n := 3) (by decide +kernel) (by decide) rfl
theorem dX10_send_73 : dli cX10_send 73 3 74 := Or.inl ⟨3, by decide +kernel, rfl, rfl⟩
theorem dX10_send_74 : dq cX10_send 74 1 75 := dq_i (n := 1) (by decide +kernel) (by decide) rfl
theorem dX10_send_75 : dk cX10_send 75 (.iadd) 1 76 := ⟨by decide +kernel, rfl⟩
theorem dX10_send_76 : dk cX10_send 76 (.invokevirtual 116) 3 79 := ⟨by decide +kernel, rfl⟩
theorem dX10_send_79 : dla cX10_send 79 0 80 := Or.inl ⟨0, by decide +kernel, rfl, rfl⟩
theorem dX10_send_80 : dk cX10_send 80 (.getfield 18) 3 83 := ⟨by decide +kernel, rfl⟩
theorem dX10_send_83 : dk cX10_send 83 (.getfield 54) 3 86 := ⟨by decide +kernel, rfl⟩
theorem dX10_send_86 : dq cX10_send 86 7 88 := dq_b (n := 7) (by decide +kernel) (by decide) rfl
theorem dX10_send_88 : dli cX10_send 88 5 90 := Or.inr ⟨by decide +kernel, rfl⟩
theorem dX10_send_90 : db cX10_send 90 (.ifCond .eq 7) 7 93 97 := ⟨by decide +kernel, rfl, by decide⟩
theorem dX10_send_93 : dq cX10_send 93 1 94 := dq_i (n := 1) (by decide +kernel) (by decide) rfl
theorem dX10_send_94 : db cX10_send 94 (.goto 4) 4 97 98 := ⟨by decide +kernel, rfl, by decide⟩
theorem dX10_send_97 : dq cX10_send 97 0 98 := dq_i (n := 0) (by decide +kernel) (by decide) rfl
theorem dX10_send_98 : dk cX10_send 98 (.iastore) 1 99 := ⟨by decide +kernel, rfl⟩
theorem dX10_send_99 : dk cX10_send 99 (.return_) 1 100 := ⟨by decide +kernel, rfl⟩
theorem dX1_program_0 : dla cX1_program 0 0 1 := Or.inl ⟨0, by decide +kernel, rfl, rfl⟩
theorem dX1_program_1 : dk cX1_program 1 (.getfield 10) 3 4 := ⟨by decide +kernel, rfl⟩
theorem dX1_program_4 : dk cX1_program 4 (.getfield 16) 3 7 := ⟨by decide +kernel, rfl⟩
theorem dX1_program_7 : dk cX1_program 7 (.getfield 20) 3 10 := ⟨by decide +kernel, rfl⟩
theorem dX1_program_10 : db cX1_program 10 (.ifCond .ne 35) 35 13 45 := ⟨by decide +kernel, rfl, by decide⟩
theorem dX1_program_13 : dli cX1_program 13 1 14 := Or.inl ⟨1, by decide +kernel, rfl, rfl⟩
theorem dX1_program_14 : dk cX1_program 14 (.invokestatic 26) 3 17 := ⟨by decide +kernel, rfl⟩
theorem dX1_program_17 : db cX1_program 17 (.ifCond .eq 28) 28 20 45 := ⟨by decide +kernel, rfl, by decide⟩
theorem dX1_program_20 : dli cX1_program 20 2 21 := Or.inl ⟨2, by decide +kernel, rfl, rfl⟩
theorem dX1_program_21 : db cX1_program 21 (.ifCond .lt 24) 24 24 45 := ⟨by decide +kernel, rfl, by decide⟩
theorem dX1_program_24 : dli cX1_program 24 2 25 := Or.inl ⟨2, by decide +kernel, rfl, rfl⟩
theorem dX1_program_25 : dla cX1_program 25 0 26 := Or.inl ⟨0, by decide +kernel, rfl, rfl⟩
theorem dX1_program_26 : dk cX1_program 26 (.getfield 10) 3 29 := ⟨by decide +kernel, rfl⟩
theorem dX1_program_29 : dk cX1_program 29 (.getfield 16) 3 32 := ⟨by decide +kernel, rfl⟩
theorem dX1_program_32 : dli cX1_program 32 1 33 := Or.inl ⟨1, by decide +kernel, rfl, rfl⟩
theorem dX1_program_33 : dk cX1_program 33 (.invokevirtual 30) 3 36 := ⟨by decide +kernel, rfl⟩
theorem dX1_program_36 : db cX1_program 36 (.if_icmp .gt 9) 9 39 45 := ⟨by decide +kernel, rfl, by decide⟩
theorem dX1_program_39 : dli cX1_program 39 2 40 := Or.inl ⟨2, by decide +kernel, rfl, rfl⟩
theorem dX1_program_40 : dq cX1_program 40 32 42 := dq_b (n := 32) (by decide +kernel) (by decide) rfl
theorem dX1_program_42 : db cX1_program 42 (.if_icmp .ne 5) 5 45 47 := ⟨by decide +kernel, rfl, by decide⟩
theorem dX1_program_45 : dq cX1_program 45 0 46 := dq_i (n := 0) (by decide +kernel) (by decide) rfl
theorem dX1_program_46 : dk cX1_program 46 (.ireturn) 1 47 := ⟨by decide +kernel, rfl⟩
theorem dX1_program_47 : dli cX1_program 47 3 48 := Or.inl ⟨3, by decide +kernel, rfl, rfl⟩
theorem dX1_program_48 : dk cX1_program 48 (.invokestatic 34) 3 51 := ⟨by decide +kernel, rfl⟩
theorem dX1_program_51 : dsa cX1_program 51 4 53 := Or.inr ⟨by decide +kernel, rfl⟩
theorem dX1_program_53 : dli cX1_program 53 2 54 := Or.inl ⟨2, by decide +kernel, rfl, rfl⟩
theorem dX1_program_54 : dla cX1_program 54 0 55 := Or.inl ⟨0, by decide +kernel, rfl, rfl⟩
theorem dX1_program_55 : dk cX1_program 55 (.getfield 10) 3 58 := ⟨by decide +kernel, rfl⟩
theorem dX1_program_58 : dk cX1_program 58 (.getfield 16) 3 61 := ⟨by decide +kernel, rfl⟩
theorem dX1_program_61 : dli cX1_program 61 1 62 := Or.inl ⟨1, by decide +kernel, rfl, rfl⟩
theorem dX1_program_62 : dk cX1_program 62 (.invokevirtual 30) 3 65 := ⟨by decide +kernel, rfl⟩
theorem dX1_program_65 : db cX1_program 65 (.if_icmp .ne 29) 29 68 94 := ⟨by decide +kernel, rfl, by decide⟩
theorem dX1_program_68 : dla cX1_program 68 0 69 := Or.inl ⟨0, by decide +kernel, rfl, rfl⟩
theorem dX1_program_69 : dk cX1_program 69 (.getfield 10) 3 72 := ⟨by decide +kernel, rfl⟩
theorem dX1_program_72 : dk cX1_program 72 (.getfield 16) 3 75 := ⟨by decide +kernel, rfl⟩
theorem dX1_program_75 : dk cX1_program 75 (.getfield 40) 3 78 := ⟨by decide +kernel, rfl⟩
theorem dX1_program_78 : dli cX1_program 78 1 79 := Or.inl ⟨1, by decide +kernel, rfl, rfl⟩
theorem dX1_program_79 : dk cX1_program 79 (.invokevirtual 44) 3 82 := ⟨by decide +kernel, rfl⟩
theorem dX1_program_82 : dk cX1_program 82 (.checkcast 45) 3 85 := ⟨by decide +kernel, rfl⟩
theorem dX1_program_85 : dla cX1_program 85 4 87 := Or.inr ⟨by decide +kernel, rfl⟩
theorem dX1_program_87 : dk cX1_program 87 (.invokevirtual 50) 3 90 := ⟨by decide +kernel, rfl⟩
theorem dX1_program_90 : dk cX1_program 90 (.pop) 1 91 := ⟨by decide +kernel, rfl⟩
theorem dX1_program_91 : db cX1_program 91 (.goto 27) 27 94 118 := ⟨by decide +kernel, rfl, by decide⟩
theorem dX1_program_94 : dla cX1_program 94 0 95 := Or.inl ⟨0, by decide +kernel, rfl, rfl⟩
theorem dX1_program_95 : dk cX1_program 95 (.getfield 10) 3 98 := ⟨by decide +kernel, rfl⟩
theorem dX1_program_98 : dk cX1_program 98 (.getfield 16) 3 101 := ⟨by decide +kernel, rfl⟩
theorem dX1_program_101 : dk cX1_program 101 (.getfield 40) 3 104 := ⟨by decide +kernel, rfl⟩
theorem dX1_program_104 : dli cX1_program 104 1 105 := Or.inl ⟨1, by decide +kernel, rfl, rfl⟩
theorem dX1_program_105 : dk cX1_program 105 (.invokevirtual 44) 3 108 := ⟨by decide +kernel, rfl⟩
theorem dX1_program_108 : dk cX1_program 108 (.checkcast 45) 3 111 := ⟨by decide +kernel, rfl⟩
theorem dX1_program_111 : dli cX1_program 111 2 112 := Or.inl ⟨2, by decide +kernel, rfl, rfl⟩
theorem dX1_program_112 : dla cX1_program 112 4 114 := Or.inr ⟨by decide +kernel, rfl⟩
theorem dX1_program_114 : dk cX1_program 114 (.invokevirtual 54) 3 117 := ⟨by decide +kernel, rfl⟩
theorem dX1_program_117 : dk cX1_program 117 (.pop) 1 118 := ⟨by decide +kernel, rfl⟩
theorem dX1_program_118 : dq cX1_program 118 1 119 := dq_i (n := 1) (by decide +kernel) (by decide) rfl
theorem dX1_program_119 : dk cX1_program 119 (.ireturn) 1 120 := ⟨by decide +kernel, rfl⟩
theorem dX2_step_0 : dla cX2_step 0 0 1 := Or.inl ⟨0, by decide +kernel, rfl, rfl⟩
theorem dX2_step_1 : dk cX2_step 1 (.getfield 88) 3 4 := ⟨by decide +kernel, rfl⟩
theorem dX2_step_4 : dla cX2_step 4 0 5 := Or.inl ⟨0, by decide +kernel, rfl, rfl⟩
theorem dX2_step_5 : dk cX2_step 5 (.getfield 66) 3 8 := ⟨by decide +kernel, rfl⟩
theorem dX2_step_8 : db cX2_step 8 (.if_acmp .ne 17) 17 11 25 := ⟨by decide +kernel, rfl, by decide⟩
theorem dX2_step_11 : dla cX2_step 11 0 12 := Or.inl ⟨0, by decide +kernel, rfl, rfl⟩
theorem dX2_step_12 : dk cX2_step 12 (.getfield 66) 3 15 := ⟨by decide +kernel, rfl⟩
theorem dX2_step_15 : dk cX2_step 15 (.invokevirtual 138) 3 18 := ⟨by decide +kernel, rfl⟩
theorem dX2_step_18 : db cX2_step 18 (.ifCond .eq 7) 7 21 25 := ⟨by decide +kernel, rfl, by decide⟩
theorem dX2_step_21 : dla cX2_step 21 0 22 := Or.inl ⟨0, by decide +kernel, rfl, rfl⟩
theorem dX2_step_22 : dk cX2_step 22 (.invokevirtual 141) 3 25 := ⟨by decide +kernel, rfl⟩
theorem dX2_step_25 : dla cX2_step 25 0 26 := Or.inl ⟨0, by decide +kernel, rfl, rfl⟩
theorem dX2_step_26 : dk cX2_step 26 (.getfield 88) 3 29 := ⟨by decide +kernel, rfl⟩
theorem dX2_step_29 : dk cX2_step 29 (.invokevirtual 142) 3 32 := ⟨by decide +kernel, rfl⟩
theorem dX2_step_32 : dsi cX2_step 32 1 33 := Or.inl ⟨1, by decide +kernel, rfl, rfl⟩
theorem dX2_step_33 : dli cX2_step 33 1 34 := Or.inl ⟨1, by decide +kernel, rfl, rfl⟩
theorem dX2_step_34 : dla cX2_step 34 0 35 := Or.inl ⟨0, by decide +kernel, rfl, rfl⟩
theorem dX2_step_35 : dk cX2_step 35 (.getfield 132) 3 38 := ⟨by decide +kernel, rfl⟩
theorem dX2_step_38 : db cX2_step 38 (.if_icmp .le 9) 9 41 47 := ⟨by decide +kernel, rfl, by decide⟩
theorem dX2_step_41 : dla cX2_step 41 0 42 := Or.inl ⟨0, by decide +kernel, rfl, rfl⟩
theorem dX2_step_42 : dk cX2_step 42 (.invokevirtual 146) 3 45 := ⟨by decide +kernel, rfl⟩
theorem dX2_step_45 : dq cX2_step 45 0 46 := dq_i (n := 0) (by decide +kernel) (by decide) rfl
theorem dX2_step_46 : dk cX2_step 46 (.ireturn) 1 47 := ⟨by decide +kernel, rfl⟩
theorem dX2_step_47 : dla cX2_step 47 0 48 := Or.inl ⟨0, by decide +kernel, rfl, rfl⟩
theorem dX2_step_48 : dk cX2_step 48 (.dup) 1 49 := ⟨by decide +kernel, rfl⟩
theorem dX2_step_49 : dk cX2_step 49 (.getfield 132) 3 52 := ⟨by decide +kernel, rfl⟩
theorem dX2_step_52 : dli cX2_step 52 1 53 := Or.inl ⟨1, by decide +kernel, rfl, rfl⟩
theorem dX2_step_53 : dk cX2_step 53 (.isub) 1 54 := ⟨by decide +kernel, rfl⟩
theorem dX2_step_54 : dk cX2_step 54 (.putfield 132) 3 57 := ⟨by decide +kernel, rfl⟩
theorem dX2_step_57 : dla cX2_step 57 0 58 := Or.inl ⟨0, by decide +kernel, rfl, rfl⟩
theorem dX2_step_58 : dk cX2_step 58 (.dup) 1 59 := ⟨by decide +kernel, rfl⟩
theorem dX2_step_59 : dk cX2_step 59 (.getfield 99) 3 62 := ⟨by decide +kernel, rfl⟩
theorem dX2_step_62 : dla cX2_step 62 0 63 := Or.inl ⟨0, by decide +kernel, rfl, rfl⟩
theorem dX2_step_63 : dk cX2_step 63 (.invokevirtual 149) 3 66 := ⟨by decide +kernel, rfl⟩
theorem dX2_step_66 : db cX2_step 66 (.ifCond .eq 7) 7 69 73 := ⟨by decide +kernel, rfl, by decide⟩
theorem dX2_step_69 : dli cX2_step 69 1 70 := Or.inl ⟨1, by decide +kernel, rfl, rfl⟩
theorem dX2_step_70 : db cX2_step 70 (.goto 4) 4 73 74 := ⟨by decide +kernel, rfl, by decide⟩
theorem dX2_step_73 : dq cX2_step 73 0 74 := dq_i (n := 0) (by decide +kernel) (by decide) rfl
theorem dX2_step_74 : dk cX2_step 74 (.iadd) 1 75 := ⟨by decide +kernel, rfl⟩
theorem dX2_step_75 : dk cX2_step 75 (.putfield 99) 3 78 := ⟨by decide +kernel, rfl⟩
theorem dX2_step_78 : dla cX2_step 78 0 79 := Or.inl ⟨0, by decide +kernel, rfl, rfl⟩
theorem dX2_step_79 : dk cX2_step 79 (.getfield 88) 3 82 := ⟨by decide +kernel, rfl⟩
theorem dX2_step_82 : dk cX2_step 82 (.invokevirtual 152) 3 85 := ⟨by decide +kernel, rfl⟩
theorem dX2_step_85 : dla cX2_step 85 0 86 := Or.inl ⟨0, by decide +kernel, rfl, rfl⟩
theorem dX2_step_86 : dk cX2_step 86 (.getfield 155) 3 89 := ⟨by decide +kernel, rfl⟩
theorem dX2_step_89 : db cX2_step 89 (.ifCond .le 24) 24 92 113 := ⟨by decide +kernel, rfl, by decide⟩
theorem dX2_step_92 : dla cX2_step 92 0 93 := Or.inl ⟨0, by decide +kernel, rfl, rfl⟩
theorem dX2_step_93 : dk cX2_step 93 (.dup) 1 94 := ⟨by decide +kernel, rfl⟩
theorem dX2_step_94 : dk cX2_step 94 (.getfield 155) 3 97 := ⟨by decide +kernel, rfl⟩
theorem dX2_step_97 : dq cX2_step 97 1 98 := dq_i (n := 1) (by decide +kernel) (by decide) rfl
theorem dX2_step_98 : dk cX2_step 98 (.isub) 1 99 := ⟨by decide +kernel, rfl⟩
theorem dX2_step_99 : dk cX2_step 99 (.putfield 155) 3 102 := ⟨by decide +kernel, rfl⟩
theorem dX2_step_102 : dla cX2_step 102 0 103 := Or.inl ⟨0, by decide +kernel, rfl, rfl⟩
theorem dX2_step_103 : dk cX2_step 103 (.getfield 155) 3 106 := ⟨by decide +kernel, rfl⟩
theorem dX2_step_106 : db cX2_step 106 (.ifCond .ne 7) 7 109 113 := ⟨by decide +kernel, rfl, by decide⟩
theorem dX2_step_109 : dla cX2_step 109 0 110 := Or.inl ⟨0, by decide +kernel, rfl, rfl⟩
theorem dX2_step_110 : dk cX2_step 110 (.invokevirtual 146) 3 113 := ⟨by decide +kernel, rfl⟩
theorem dX2_step_113 : dq cX2_step 113 1 114 := dq_i (n := 1) (by decide +kernel) (by decide) rfl
theorem dX2_step_114 : dk cX2_step 114 (.ireturn) 1 115 := ⟨by decide +kernel, rfl⟩
theorem dX10_push_0 : dla cX10_push 0 0 1 := Or.inl ⟨0, by decide +kernel, rfl, rfl⟩
theorem dX10_push_1 : dk cX10_push 1 (.getfield 18) 3 4 := ⟨by decide +kernel, rfl⟩
theorem dX10_push_4 : dk cX10_push 4 (.getfield 79) 3 7 := ⟨by decide +kernel, rfl⟩
theorem dX10_push_7 : dsa cX10_push 7 3 8 := Or.inl ⟨3, by decide +kernel, rfl, rfl⟩
theorem dX10_push_8 : dla cX10_push 8 3 9 := Or.inl ⟨3, by decide +kernel, rfl, rfl⟩
theorem dX10_push_9 : dli cX10_push 9 1 10 := Or.inl ⟨1, by decide +kernel, rfl, rfl⟩
theorem dX10_push_10 : dq cX10_push 10 1 11 := dq_i (n := 1) (by decide +kernel) (by decide) rfl
theorem dX10_push_11 : dk cX10_push 11 (.iadd) 1 12 := ⟨by decide +kernel, rfl⟩
theorem dX10_push_12 : dk cX10_push 12 (.invokevirtual 83) 3 15 := ⟨by decide +kernel, rfl⟩
theorem dX10_push_15 : dsi cX10_push 15 4 17 := Or.inr ⟨by decide +kernel, rfl⟩
theorem dX10_push_17 : dli cX10_push 17 1 18 := Or.inl ⟨1, by decide +kernel, rfl, rfl⟩
theorem dX10_push_18 : dq cX10_push 18 2 19 := dq_i (n := 2) (by decide +kernel) (by decide) rfl
theorem dX10_push_19 : dk cX10_push 19 (.iadd) 1 20 := ⟨by decide +kernel, rfl⟩
theorem dX10_push_20 : dla cX10_push 20 3 21 := Or.inl ⟨3, by decide +kernel, rfl, rfl⟩
theorem dX10_push_21 : dli cX10_push 21 1 22 := Or.inl ⟨1, by decide +kernel, rfl, rfl⟩
theorem dX10_push_22 : dk cX10_push 22 (.invokevirtual 83) 3 25 := ⟨by decide +kernel, rfl⟩
theorem dX10_push_25 : dli cX10_push 25 4 27 := Or.inr ⟨by decide +kernel, rfl⟩
theorem dX10_push_27 : dk cX10_push 27 (.iadd) 1 28 := ⟨by decide +kernel, rfl⟩
theorem dX10_push_28 : dq cX10_push 28 4 29 := dq_i (n := 4) (by decide +kernel) (by decide) rfl
theorem dX10_push_29 : dk cX10_push 29 (.irem) 1 30 := ⟨by decide +kernel, rfl⟩
theorem dX10_push_30 : dk cX10_push 30 (.iadd) 1 31 := ⟨by decide +kernel, rfl⟩
theorem dX10_push_31 : dsi cX10_push 31 5 33 := Or.inr ⟨by decide +kernel, rfl⟩
theorem dX10_push_33 : dli cX10_push 33 4 35 := Or.inr ⟨by decide +kernel, rfl⟩
theorem dX10_push_35 : dq cX10_push 35 4 36 := dq_i (n := 4) (by decide +kernel) (by decide) rfl
theorem dX10_push_36 : db cX10_push 36 (.if_icmp .ge 19) 19 39 55 := ⟨by decide +kernel, rfl, by decide⟩
theorem dX10_push_39 : dla cX10_push 39 3 40 := Or.inl ⟨3, by decide +kernel, rfl, rfl⟩
theorem dX10_push_40 : dli cX10_push 40 5 42 := Or.inr ⟨by decide +kernel, rfl⟩
theorem dX10_push_42 : dli cX10_push 42 1 43 := Or.inl ⟨1, by decide +kernel, rfl, rfl⟩
theorem dX10_push_43 : dq cX10_push 43 1 44 := dq_i (n := 1) (by decide +kernel) (by decide) rfl
theorem dX10_push_44 : dk cX10_push 44 (.iadd) 1 45 := ⟨by decide +kernel, rfl⟩
theorem dX10_push_45 : dk cX10_push 45 (.invokevirtual 112) 3 48 := ⟨by decide +kernel, rfl⟩
theorem dX10_push_48 : db cX10_push 48 (.ifCond .eq 7) 7 51 55 := ⟨by decide +kernel, rfl, by decide⟩
theorem dX10_push_51 : dq cX10_push 51 1 52 := dq_i (n := 1) (by decide +kernel) (by decide) rfl
theorem dX10_push_52 : db cX10_push 52 (.goto 4) 4 55 56 := ⟨by decide +kernel, rfl, by decide⟩
theorem dX10_push_55 : dq cX10_push 55 0 56 := dq_i (n := 0) (by decide +kernel) (by decide) rfl
theorem dX10_push_56 : dsi cX10_push 56 6 58 := Or.inr ⟨by decide +kernel, rfl⟩
theorem dX10_push_58 : dli cX10_push 58 6 60 := Or.inr ⟨by decide +kernel, rfl⟩
theorem dX10_push_60 : db cX10_push 60 (.ifCond .eq 21) 21 63 81 := ⟨by decide +kernel, rfl, by decide⟩
theorem dX10_push_63 : dla cX10_push 63 3 64 := Or.inl ⟨3, by decide +kernel, rfl, rfl⟩
theorem dX10_push_64 : dli cX10_push 64 5 66 := Or.inr ⟨by decide +kernel, rfl⟩
theorem dX10_push_66 : dli cX10_push 66 2 67 := Or.inl ⟨2, by decide +kernel, rfl, rfl⟩
theorem dX10_push_67 : dk cX10_push 67 (.invokevirtual 116) 3 70 := ⟨by decide +kernel, rfl⟩
theorem dX10_push_70 : dla cX10_push 70 3 71 := Or.inl ⟨3, by decide +kernel, rfl, rfl⟩
theorem dX10_push_71 : dli cX10_push 71 1 72 := Or.inl ⟨1, by decide +kernel, rfl, rfl⟩
theorem dX10_push_72 : dq cX10_push 72 1 73 := dq_i (n := 1) (by decide +kernel) (by decide) rfl
theorem dX10_push_73 : dk cX10_push 73 (.iadd) 1 74 := ⟨by decide +kernel, rfl⟩
theorem dX10_push_74 : dli cX10_push 74 4 76 := Or.inr ⟨by decide +kernel, rfl⟩
theorem dX10_push_76 : dq cX10_push 76 1 77 := dq_i (n := 1) (by decide +kernel) (by decide) rfl
theorem dX10_push_77 : dk cX10_push 77 (.iadd) 1 78 := ⟨by decide +kernel, rfl⟩
theorem dX10_push_78 : dk cX10_push 78 (.invokevirtual 116) 3 81 := ⟨by decide +kernel, rfl⟩
theorem dX10_push_81 : dla cX10_push 81 0 82 := Or.inl ⟨0, by decide +kernel, rfl, rfl⟩
theorem dX10_push_82 : dk cX10_push 82 (.getfield 18) 3 85 := ⟨by decide +kernel, rfl⟩
theorem dX10_push_85 : dk cX10_push 85 (.getfield 54) 3 88 := ⟨by decide +kernel, rfl⟩
theorem dX10_push_88 : dq cX10_push 88 7 90 := dq_b (n := 7) (by decide +kernel) (by decide) rfl
theorem dX10_push_90 : dli cX10_push 90 6 92 := Or.inr ⟨by decide +kernel, rfl⟩
theorem dX10_push_92 : db cX10_push 92 (.ifCond .eq 7) 7 95 99 := ⟨by decide +kernel, rfl, by decide⟩
theorem dX10_push_95 : dq cX10_push 95 1 96 := dq_i (n := 1) (by decide +kernel) (by decide) rfl
theorem dX10_push_96 : db cX10_push 96 (.goto 4) 4 99 100 := ⟨by decide +kernel, rfl, by decide⟩
theorem dX10_push_99 : dq cX10_push 99 0 100 := dq_i (n := 0) (by decide +kernel) (by decide) rfl
theorem dX10_push_100 : dk cX10_push 100 (.iastore) 1 101 := ⟨by decide +kernel, rfl⟩
theorem dX10_push_101 : dk cX10_push 101 (.return_) 1 102 := ⟨by decide +kernel, rfl⟩
