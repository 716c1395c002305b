/-! the component and its program -/
set_option maxRecDepth 100000
theorem g_state_out {S : XS} {x : Int32} (h : x.toInt < 0 ∨ 9 < x.toInt) : g_stateR S x = -1 := by
  have k : ∀ v : Int32, 0 ≤ v.toInt → v.toInt ≤ 9 → (x = v) = False := fun v a b => eq_false (fun e => by rw [e] at h; omega)
  unfold g_stateR
  simp only [k 0 (by decide) (by decide), k 1 (by decide) (by decide), k 2 (by decide) (by decide), k 3 (by decide) (by decide), k 4 (by decide) (by decide), k 5 (by decide) (by decide), k 6 (by decide) (by decide), k 7 (by decide) (by decide), k 8 (by decide) (by decide), k 9 (by decide) (by decide), if_false]
theorem g_task_out {S : XS} {t x : Int32} (h0 : ¬ f_isTask t = 0) (h : x.toInt < 0 ∨ 2 < x.toInt) : g_taskR S t x = -1 := by
  have k : ∀ v : Int32, 0 ≤ v.toInt → v.toInt ≤ 2 → (x = v) = False := fun v a b => eq_false (fun e => by rw [e] at h; omega)
  unfold g_taskR
  simp only [eq_false h0, k 0 (by decide) (by decide), k 1 (by decide) (by decide), k 2 (by decide) (by decide), if_false]
def g_reg (x : Int32) : Int32 := if 8 ≤ x then 0 else 1
def h_goodW (sz : Nat → Int32) (n w last : Int32) : Int32 :=
  if f_op w = 0 then (if 16 ≤ f_a w then 0 else if sz (ix (f_a w)) ≤ 0 then 0 else 1)
  else if f_op w = 7 then (if n ≤ f_b w then 0 else 1)
  else if 17 < f_op w then 0
  else if last = 1 then 0
  else if f_op w = 1 ∨ f_op w = 15 then (if g_reg (f_a w) = 0 then 0 else 1)
  else if f_op w = 2 ∨ f_op w = 3 ∨ f_op w = 4 ∨ f_op w = 5 then (if g_reg (f_a w) = 0 then 0 else if g_reg (f_b w) = 0 then 0 else if g_reg (f_c w) = 0 then 0 else 1)
  else if f_op w = 6 then (if g_reg (f_a w) = 0 then 0 else if n ≤ f_b w then 0 else 1)
  else if f_op w = 8 ∨ f_op w = 9 then (if g_reg (f_a w) = 0 then 0 else if 16 ≤ f_b w then 0 else 1)
  else if f_op w = 10 ∨ f_op w = 11 then (if g_reg (f_a w) = 0 then 0 else if g_reg (f_c w) = 0 then 0 else if 4 ≤ f_b w then 0 else 1)
  else if f_op w = 12 ∨ f_op w = 13 then (if g_reg (f_a w) = 0 then 0 else if 2 ≤ f_b w then 0 else 1)
  else if f_op w = 14 then (if g_reg (f_a w) = 0 then 0 else if 4 ≤ f_b w then 0 else 1)
  else 1
theorem h_good_out {sz : Nat → Int32} {n w last : Int32} (h : (f_op w).toInt < 0 ∨ 17 < (f_op w).toInt) : h_goodW sz n w last = 0 := by
  obtain ⟨j, h1, h2⟩ := f_op_nn w
  have h3 : 17 < j := by rw [h2, nI_toInt (by omega)] at h; omega
  have k : ∀ v : Nat, v ≤ 17 → (f_op w = nI v) = False := fun v a => eq_false (fun e => by rw [h2, nI_eq (by omega) (by omega)] at e; omega)
  have k0 : (f_op w = 0) = False := k 0 (by decide)
  have k7 : (f_op w = 7) = False := k 7 (by decide)
  have k17 : (17 : Int32) < f_op w := by rw [h2]; exact nI_lt (a := 17) h3 (by omega)
  unfold h_goodW
  simp only [k0, k7, if_false, if_true, eq_true k17]
def h_good (cd sz : Nat → Int32) (t i : Int32) : Int32 := h_goodW sz (sz (ix t)) (cd (ix (32 * t + i))) (if i = sz (ix t) - 1 then 1 else 0)
def h_sealI (cd sz : Nat → Int32) (t : Nat) : Nat → Nat → Int32
  | 0, _ => 0
  | n + 1, i => if h_good cd sz (nI t) (nI i) = 0 then 1 + 32 * nI t + nI i else h_sealI cd sz t n (i + 1)
def h_sealT (cd sz : Nat → Int32) : Nat → Nat → Int32
  | 0, _ => 0
  | n + 1, t => if t = 0 then (if sz t = 0 then 1 else (if h_sealI cd sz t (ix (sz t)) 0 = 0 then h_sealT cd sz n (t + 1) else h_sealI cd sz t (ix (sz t)) 0)) else (if h_sealI cd sz t (ix (sz t)) 0 = 0 then h_sealT cd sz n (t + 1) else h_sealI cd sz t (ix (sz t)) 0)
def h_sealR (cd sz : Nat → Int32) (S : XS) : Int32 := if S.1 14 = 0 then h_sealT cd sz 16 0 else 0
def h_seal (cd sz : Nat → Int32) (S : XS) : XS := if S.1 14 = 0 then (if h_sealT cd sz 16 0 = 0 then xs S 14 1 else S) else S
theorem p_hJ {dO : ClassId} {h : Nat → Nat} {P : PA} {cd sz : Nat → Int32} {ex ex0 : va_W} {t i : Int32} (hex : ex = pW dO h P cd sz ++ ex0) (hp : pOK P sz) (ht : vp_in t 16) (hi : vp_in i (ix (sz (ix t)))) : ((P.2.2.2 (ix t) (ix i), .inr (11, [.int (f_op (cd (ix (32 * t + i)))), .int (f_a (cd (ix (32 * t + i)))), .int (f_b (cd (ix (32 * t + i)))), .int (f_c (cd (ix (32 * t + i))))])) : Nat × va_E) ∈ ex := by
  obtain ⟨j, hj, rfl⟩ := vp_in_of ht (by decide)
  obtain ⟨z, z1, z2, -⟩ := hp j hj
  have e1 : ix (nI j) = j := nI_clamp (by omega)
  have ez : ix (sz j) = z := by rw [z2]; exact nI_clamp (by omega)
  rw [e1, ez] at hi
  obtain ⟨i', hi', rfl⟩ := vp_in_of hi (by omega)
  have e2 : ix (nI i') = i' := nI_clamp (by omega)
  have e3 : ix (32 * nI j + nI i') = 32 * j + i' := by
    rw [show (32 : Int32) = nI 32 from rfl, pk_mul, nI_add]
    exact nI_clamp (by omega)
  rw [e1, e2, e3]
  exact p_mI hex hj (by omega)

theorem tgX1_10 : fG cG RX1 10 0 0 (.inr (.inl 1)) := ⟨_, _, _, _, "ThriftNode", rfl, rfl, rfl, by decide, in_X1, Or.inl q727, Or.inl rfl⟩
theorem tpX1_71 : fP cG RX1 71 1 16 3 (.inl 3) .int := ⟨by decide +kernel, Or.inl rfl, _, _, _, _, "ThriftNode$Node", tyX2, rfl, rfl, rfl, by decide, in_X2, Or.inr ⟨_, q675⟩, Or.inl rfl, tyX2_ok, nmX2, rfl, rfl⟩
theorem tgX1_75 : fG cG RX1 75 1 5 (.inr (.inl 15)) := ⟨_, _, _, _, "ThriftNode$Node", rfl, rfl, rfl, by decide, in_X2, Or.inr ⟨_, q651⟩, Or.inl rfl⟩
theorem tgX1_94 : fG cG RX1 94 1 3 (.inr (.inl 5)) := ⟨_, _, _, _, "ThriftNode$Node", rfl, rfl, rfl, by decide, in_X2, Or.inr ⟨_, q645⟩, Or.inl rfl⟩
theorem tgX1_100 : fG cG RX1 100 5 3 (.inl 13) := ⟨_, _, _, _, "ThriftNode$Air", rfl, rfl, rfl, by decide, in_X6, Or.inr ⟨_, q554⟩, Or.inl rfl⟩
theorem tgX1_106 : fG cG RX1 106 5 1 (.inr (.inl 19)) := ⟨_, _, _, _, "ThriftNode$Air", rfl, rfl, rfl, by decide, in_X6, Or.inr ⟨_, q550⟩, Or.inl rfl⟩
theorem tgX1_103 : fG cG RX1 103 5 0 (.inr (.inl 18)) := ⟨_, _, _, _, "ThriftNode$Air", rfl, rfl, rfl, by decide, in_X6, Or.inr ⟨_, q548⟩, Or.inl rfl⟩
theorem tgX1_117 : fG cG RX1 117 1 13 (.inl 0) := ⟨_, _, _, _, "ThriftNode$Node", rfl, rfl, rfl, by decide, in_X2, Or.inr ⟨_, q669⟩, Or.inl rfl⟩
theorem tgX1_120 : fG cG RX1 120 1 14 (.inl 1) := ⟨_, _, _, _, "ThriftNode$Node", rfl, rfl, rfl, by decide, in_X2, Or.inr ⟨_, q672⟩, Or.inl rfl⟩
theorem tgX1_122 : fG cG RX1 122 1 15 (.inl 2) := ⟨_, _, _, _, "ThriftNode$Node", rfl, rfl, rfl, by decide, in_X2, Or.inr ⟨_, q674⟩, Or.inl rfl⟩
theorem tgX1_125 : fG cG RX1 125 1 12 (.inr (.inr 17)) := ⟨_, _, _, _, "ThriftNode$Node", rfl, rfl, rfl, by decide, in_X2, Or.inr ⟨_, q667⟩, Or.inl rfl⟩
theorem tgX1_129 : fG cG RX1 129 1 10 (.inr (.inl 8)) := ⟨_, _, _, _, "ThriftNode$Node", rfl, rfl, rfl, by decide, in_X2, Or.inr ⟨_, q660⟩, Or.inl rfl⟩
theorem tgX1_140 : fG cG RX1 140 1 11 (.inr (.inl 9)) := ⟨_, _, _, _, "ThriftNode$Node", rfl, rfl, rfl, by decide, in_X2, Or.inr ⟨_, q663⟩, Or.inl rfl⟩
theorem tgX1_133 : fG cG RX1 133 1 1 (.inr (.inl 3)) := ⟨_, _, _, _, "ThriftNode$Node", rfl, rfl, rfl, by decide, in_X2, Or.inr ⟨_, q639⟩, Or.inl rfl⟩
theorem tgX1_137 : fG cG RX1 137 3 3 (.inl 12) := ⟨_, _, _, _, "ThriftNode$Pending", rfl, rfl, rfl, by decide, in_X4, Or.inr ⟨_, q124⟩, Or.inl rfl⟩
theorem tgX1_144 : fG cG RX1 144 8 1 (.inl 9) := ⟨_, _, _, _, "ThriftNode$Run", rfl, rfl, rfl, by decide, in_X10, Or.inr ⟨_, q611⟩, Or.inl rfl⟩
theorem tgX1_149 : fG cG RX1 149 1 17 (.inl 4) := ⟨_, _, _, _, "ThriftNode$Node", rfl, rfl, rfl, by decide, in_X2, Or.inr ⟨_, q678⟩, Or.inl rfl⟩
theorem tgX1_152 : fG cG RX1 152 1 18 (.inl 5) := ⟨_, _, _, _, "ThriftNode$Node", rfl, rfl, rfl, by decide, in_X2, Or.inr ⟨_, q680⟩, Or.inl rfl⟩
theorem tgX1_155 : fG cG RX1 155 1 19 (.inl 6) := ⟨_, _, _, _, "ThriftNode$Node", rfl, rfl, rfl, by decide, in_X2, Or.inr ⟨_, q682⟩, Or.inl rfl⟩
theorem tgX1_164 : fG cG RX1 164 1 4 (.inr (.inl 14)) := ⟨_, _, _, _, "ThriftNode$Node", rfl, rfl, rfl, by decide, in_X2, Or.inr ⟨_, q648⟩, Or.inl rfl⟩
theorem tgX1_158 : fG cG RX1 158 1 6 (.inr (.inl 16)) := ⟨_, _, _, _, "ThriftNode$Node", rfl, rfl, rfl, by decide, in_X2, Or.inr ⟨_, q653⟩, Or.inl rfl⟩
theorem tgX1_161 : fG cG RX1 161 1 7 (.inr (.inl 17)) := ⟨_, _, _, _, "ThriftNode$Node", rfl, rfl, rfl, by decide, in_X2, Or.inr ⟨_, q655⟩, Or.inl rfl⟩
theorem tgX1_16 : fG cG RX1 16 1 2 (.inr (.inl 4)) := ⟨_, _, _, _, "ThriftNode$Node", rfl, rfl, rfl, by decide, in_X2, Or.inr ⟨_, q641⟩, Or.inl rfl⟩
theorem tpX5_58 : fP cG RX5 58 4 1 14 (.inl 14) .boolean := ⟨by decide +kernel, Or.inl rfl, _, _, _, _, "ThriftNode$Program", tyX5, rfl, rfl, rfl, by decide, in_X5, Or.inl q535, Or.inl rfl, tyX5_ok, nmX5, rfl, rfl⟩
theorem tgX5_58 : fG cG RX5 58 4 1 (.inl 14) := ⟨_, _, _, _, "ThriftNode$Program", rfl, rfl, rfl, by decide, in_X5, Or.inl q535, Or.inl rfl⟩
theorem kX1_114 : kV RX1 114 RX2 yX2_phase cX2_phase 1 (some .int) 0 := ⟨lw_V q837 q838 q839 q39 q840, by decide +kernel, by decide⟩
theorem kX1_26 : kS RX1 26 yX1_isTask cX1_isTask 1 (some .boolean) 1 := ⟨lw_S q735 q736 q38 q737, by decide +kernel, by decide⟩
theorem kX1_30 : kV RX1 30 RX5 yX5_size cX5_size 2 (some .int) 1 := ⟨lw_V q738 q739 q740 q42 q741, by decide +kernel, by decide⟩
theorem kX5_34 : kV RX5 34 RX5 yX5_at cX5_at 3 (some (.object "ThriftNode$Instruction")) 2 := ⟨lw_V q813 q814 q815 q42 q816, by decide +kernel, by decide⟩
theorem kX5_38 : kV RX5 38 RX5 yX5_size cX5_size 2 (some .int) 1 := ⟨lw_V q808 q739 q740 q42 q741, by decide +kernel, by decide⟩
theorem kX5_51 : kS RX5 51 yX5_isRegister cX5_isRegister 1 (some .boolean) 1 := ⟨lw_S q818 q819 q42 q820, by decide +kernel, by decide⟩
theorem kX5_62 : kV RX5 62 RX5 yX5_isGood cX5_isGood 5 (some .boolean) 2 := ⟨lw_V q809 q811 qs4 q42 q812, by decide +kernel, by decide⟩
theorem kX1_58 : kV RX1 58 RX5 yX5_seal cX5_seal 3 (some .int) 0 := ⟨lw_V q804 q805 q806 q42 q807, by decide +kernel, by decide⟩
theorem iFX5_41 : fM RX5 41 11 0 := ⟨_, _, _, "ThriftNode$Instruction", rfl, by decide, in_X13, Or.inr ⟨_, q773⟩, Or.inl rfl⟩
theorem iFX5_45 : fM RX5 45 11 1 := ⟨_, _, _, "ThriftNode$Instruction", rfl, by decide, in_X13, Or.inr ⟨_, q776⟩, Or.inl rfl⟩
theorem iFX5_48 : fM RX5 48 11 2 := ⟨_, _, _, "ThriftNode$Instruction", rfl, by decide, in_X13, Or.inr ⟨_, q779⟩, Or.inl rfl⟩
theorem iFX5_55 : fM RX5 55 11 3 := ⟨_, _, _, "ThriftNode$Instruction", rfl, by decide, in_X13, Or.inr ⟨_, q782⟩, Or.inl rfl⟩
