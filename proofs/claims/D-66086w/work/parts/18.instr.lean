/-! the component and its program -/
set_option maxRecDepth 100000
theorem tgX1_40 : fG cG RX1 40 4 0 (.inr (.inl 21)) := ⟨_, _, _, _, "ThriftNode$Program", rfl, rfl, rfl, by decide, in_X5, Or.inr ⟨_, q533⟩, Or.inl rfl⟩
theorem tgX1_20 : fG cG RX1 20 4 1 (.inl 14) := ⟨_, _, _, _, "ThriftNode$Program", rfl, rfl, rfl, by decide, in_X5, Or.inr ⟨_, q534⟩, Or.inl rfl⟩
theorem kX13_1 : kI RX13 1 yJ18_init cJ18_init 1 0 := ⟨q770, q69, q769, rfl, Or.inl q768, by decide +kernel, by decide⟩
theorem kX13_22 : kI RX13 22 yX13_init cX13_init 5 4 := ⟨q767, q70, q766, rfl, Or.inl q765, by decide +kernel, by decide⟩
theorem kX1_44 : kV RX1 44 RJ2 yJ2_get cJ2_get 2 (some (.object "java/lang/Object")) 1 := ⟨lw_V q793 q743 q744 q45 q745, by decide +kernel, by decide⟩
theorem kX1_54 : kV RX1 54 RJ2 yJ2_set cJ2_set 4 (some (.object "java/lang/Object")) 2 := ⟨lw_V q796 q797 q798 q45 q799, by decide +kernel, by decide⟩
theorem kX1_50 : kV RX1 50 RJ2 yJ2_add cJ2_add 2 (some .boolean) 1 := ⟨lw_V q795 q482 q483 q45 q484, by decide +kernel, by decide⟩
theorem kX1_34 : kS RX1 34 yX13_of cX13_of 1 (some (.object "ThriftNode$Instruction")) 1 := ⟨lw_S q760 q761 q70 q762, by decide +kernel, by decide⟩
theorem iP0 : fMf RX13 7 11 0 .int := ⟨_, _, _, "ThriftNode$Instruction", tyX13, rfl, by decide, in_X13, q772, Or.inl rfl, tyX13_ok, nmX13, rfl, rfl, rfl⟩
theorem iP1 : fMf RX13 13 11 1 .int := ⟨_, _, _, "ThriftNode$Instruction", tyX13, rfl, by decide, in_X13, q775, Or.inl rfl, tyX13_ok, nmX13, rfl, rfl, rfl⟩
theorem iP2 : fMf RX13 16 11 2 .int := ⟨_, _, _, "ThriftNode$Instruction", tyX13, rfl, by decide, in_X13, q778, Or.inl rfl, tyX13_ok, nmX13, rfl, rfl, rfl⟩
theorem iP3 : fMf RX13 19 11 3 .int := ⟨_, _, _, "ThriftNode$Instruction", tyX13, rfl, by decide, in_X13, q781, Or.inl rfl, tyX13_ok, nmX13, rfl, rfl, rfl⟩
theorem iN : nM RX13 8 11 4 [.int 0, .int 0, .int 0, .int 0] := ⟨_, _, tyX13, rfl, in_X13, tyX13_ok, q763, q764, q70, fun j hj => by rcases (show j = 0 ∨ j = 1 ∨ j = 2 ∨ j = 3 by omega) with rfl | rfl | rfl | rfl <;> rfl⟩
/-- a constructor's body knows its name -/
theorem Cw.introI {dd : ClassId × ClassId × ClassId} {y : MethodName} {cc : ByteArray} {nL : Nat} {ret : Option FieldType} {d mc ms : Nat} {As : List Value} {ws : va_W} {post : Option Value → va_W → Prop} (hy : plainName y.cls = true) (hi : y.name = "<init>") (hc : ∀ v ∈ As, v.category = 1) (hn : As.length ≤ nL)
    (body : ∀ K : YK, kd K = dd → Y K cc y.cls nL d → YR K ret mc ms post → mc ≤ (kR K).cells ∧ ms ≤ (kR K).slots → (kM K).name = "<init>" → Vw K nL ws 0 0 As 0 []) : Cw dd y cc nL ret d mc ms As ws post := by
  intro l D sz
  refine Met.ofW (cc := cc) (maxL := nL) (ret := ret) hy rfl ?_
  intro p e s m args below meth c s₁ B hml hv
  obtain ⟨rfl, hsz, hP, hK, hD0, hN, hZ⟩ := hv
  subst hsz
  have hts := atoms_spec (ws := ws_ y cc nL ret) B.pre
  have hts : ∀ w ∈ lw_all, w.before As.toArray s = true := fun w h => hts w (List.mem_cons_of_mem _ h)
  have hown : s.vm.findClass y.cls = some m.cls := findClass_of_methodNamed B.named
  have hnm : meth.name = "<init>" := (name_of_methodNamed B.named B.method).1.trans hi
  have hl := lv_entry As (n := nL) (by rw [y_sl_len As hc]; exact hn)
  rw [lg_entry_eq]
  generalize (lg_sl As ++ List.replicate (nL - (lg_sl As).length) Slot.unset).toArray = ls at hl ⊢
  have hl' : y_ls ls nL As := ⟨hl.1, hl.2.1, hc, fun k v hk => by have := hl.2.2 _ (y_args_get As 0 hc k v hk); simpa using this⟩
  have hb := body (p, l, e, (headSpec (ws_ y cc nL ret) (y_rm d mc ms)).room, s, m, As.toArray, below, meth, c, MQ below (y_Qc D (va_A ws s.heap.size) post) As.toArray s mc ms (va_A ws s.heap.size), va_A ws s.heap.size, D, dd) rfl
    ⟨B.exec, B.bytes, hml, hown, hts, hK, hN, fun q hq => Or.inr hq, B.notSynchronized, ⟨Nat.le_refl _, Nat.le_refl _⟩, hZ⟩ ⟨B.returns, rfl⟩ ⟨Nat.le_refl _, Nat.le_refl _⟩ hnm
  exact hb s.heap [] ls hP hD0.self va_S.rf hl'
theorem rec_init (dd : ClassId × ClassId × ClassId) (ws : va_W) (b : Nat) : Ce dd yJ18_init cJ18_init 1 none 1 0 0 [.ref b] ws none ws := by
  refine Cw.intro (by decide) (by simp [Value.category]) (Nat.le_of_ble_eq_true rfl) (fun K e o r hk => ?_)
  have o : Y K cJ18_init RJ18 1 1 := o
  refine y_aload o dJ18_init_0 rfl ?_
  refine y_objI o q771 q80 q81 (by decide) (Nat.le_of_ble_eq_true rfl) dJ18_init_1 ?_
  exact y_vret o r dJ18_init_4 ⟨rfl, rfl⟩
theorem ci_init (dd : ClassId × ClassId × ClassId) (ws : va_W) (b : Nat) (p a c d : Int32) : Ce dd yX13_init cX13_init 5 none 2 0 0 [.ref b, .int p, .int a, .int c, .int d] (ws ++ [(b, .inr (11, [.int 0, .int 0, .int 0, .int 0]))]) none (ws ++ [(b, .inr (11, [.int p, .int a, .int c, .int d]))]) := by
  refine Cw.introI (by decide) rfl (by simp [Value.category]) (Nat.le_of_ble_eq_true rfl) (fun K e o r hk hi => ?_)
  have o : Y K cX13_init RX13 5 2 := o
  refine y_aload o dX13_init_0 rfl ?_
  refine y_callIe (As := []) (rest := []) o kX13_1 (rec_init _ _ b) (by decide) rfl rfl (Nat.le_of_ble_eq_true rfl) hk dX13_init_1 ?_
  refine y_aload o dX13_init_4 rfl ?_
  refine y_iload o dX13_init_5 rfl ?_
  refine y_putF (fs := [.int 0, .int 0, .int 0, .int 0]) o hi iP0 ws.length (get_last _ _) (Nat.le_of_ble_eq_true rfl) rfl rfl dX13_init_6 (set_last _ _ _) ?_
  refine y_aload o dX13_init_9 rfl ?_
  refine y_iload o dX13_init_10 rfl ?_
  refine y_putF (fs := [.int p, .int 0, .int 0, .int 0]) o hi iP1 ws.length (get_last _ _) (Nat.le_of_ble_eq_true rfl) rfl rfl dX13_init_11 (set_last _ _ _) ?_
  refine y_aload o dX13_init_14 rfl ?_
  refine y_iload o dX13_init_15 rfl ?_
  refine y_putF (fs := [.int p, .int a, .int 0, .int 0]) o hi iP2 ws.length (get_last _ _) (Nat.le_of_ble_eq_true rfl) rfl rfl dX13_init_16 (set_last _ _ _) ?_
  refine y_aload o dX13_init_19 rfl ?_
  refine y_iload o dX13_init_20 rfl ?_
  refine y_putF (fs := [.int p, .int a, .int c, .int 0]) o hi iP3 ws.length (get_last _ _) (Nat.le_of_ble_eq_true rfl) rfl rfl dX13_init_22 (set_last _ _ _) ?_
  exact y_vret o r dX13_init_25 ⟨rfl, rfl⟩
/-- an instruction's cell, of the word w -/
def iC (q : Nat) (w : Int32) : Nat × va_E := (q, .inr (11, [.int (f_op w), .int (f_a w), .int (f_b w), .int (f_c w)]))
theorem ci_of (dd : ClassId × ClassId × ClassId) (ws : va_W) (w : Int32) : Cw dd yX13_of cX13_of 1 (some (.object "ThriftNode$Instruction")) 3 1 4 [.int w] ws (fun v w' => ∃ q, v = some (.ref q) ∧ w' = ws ++ [iC q w]) := by
  refine Cw.intro (by decide) (by simp [Value.category]) (Nat.le_of_ble_eq_true rfl) (fun K e o r hk => ?_)
  have o : Y K cX13_of RX13 1 3 := o
  refine y_new o iN hk.1 hk.2 dX13_of_0 (fun q => ?_)
  refine y_dup o dX13_of_3 rfl ?_
  refine y_iload o dX13_of_4 rfl ?_
  refine y_const o dX13_of_5 ?_
  refine y_iushr o dX13_of_7 ?_
  refine y_iload o dX13_of_8 rfl ?_
  refine y_const o dX13_of_9 ?_
  refine y_ishr o dX13_of_11 ?_
  refine y_const o dX13_of_12 ?_
  refine y_iand o dX13_of_15 ?_
  rw [sh_a]
  refine y_iload o dX13_of_16 rfl ?_
  refine y_const o dX13_of_17 ?_
  refine y_ishr o dX13_of_19 ?_
  refine y_const o dX13_of_20 ?_
  refine y_iand o dX13_of_23 ?_
  rw [sh_b]
  refine y_iload o dX13_of_24 rfl ?_
  refine y_const o dX13_of_25 ?_
  refine y_iand o dX13_of_28 ?_
  refine y_callIe (As := [.int (f_op w), .int (f_a w), .int (f_b w), .int (f_c w)]) (rest := [.ref q]) o kX13_22 (ci_init _ _ q _ _ _ _) (by decide) rfl rfl (Nat.le_of_ble_eq_true rfl) (by simpa using hk) dX13_of_29 ?_
  refine y_wide (k' := 1) (n' := 4) (by omega) (by omega) ?_
  exact y_aret o r (Or.inl ⟨_, rfl⟩) dX13_of_32 (Or.inr ⟨_, rfl⟩) ⟨q, rfl, rfl⟩
/-! worlds by permutation -/
theorem sub_app {α : Type} {l₁ l₂ : List α} (h : List.Sublist l₁ l₂) : ∃ r, l₂.Perm (l₁ ++ r) := by
  induction h with
  | slnil => exact ⟨[], List.Perm.refl _⟩
  | cons a _ ih =>
    obtain ⟨r, hr⟩ := ih
    exact ⟨a :: r, (List.Perm.cons a hr).trans List.perm_middle.symm⟩
  | cons_cons a _ ih =>
    obtain ⟨r, hr⟩ := ih
    exact ⟨r, List.Perm.cons a hr⟩
theorem sw.app {ws ws' r : va_W} (h : ws.Perm (ws' ++ r)) : sw ws' ws := ⟨_, h, List.sublist_append_left _ _⟩
theorem sw.ex {ws ws' : va_W} (h : sw ws' ws) : ∃ r, ws.Perm (ws' ++ r) := by
  obtain ⟨w1, h1, h2⟩ := h
  obtain ⟨r, hr⟩ := sub_app h2
  exact ⟨r, h1.trans hr⟩
theorem sw.trans {a b c : va_W} (h1 : sw b c) (h2 : sw a b) : sw a c := by
  obtain ⟨r1, h1⟩ := h1.ex
  obtain ⟨r2, h2⟩ := h2.ex
  refine sw.app (r := r2 ++ r1) (h1.trans ((List.Perm.append_right r1 h2).trans ?_))
  rw [List.append_assoc]
section PU
variable {dO : ClassId} {h : Nat → Nat} {P : PA} {cd sz : Nat → Int32}
/-- the program's cells but a list's own two -/
def p_R (dO : ClassId) (h : Nat → Nat) (P : PA) (cd sz : Nat → Int32) (t : Nat) : va_W := ((List.range (ix (sz t))).map (p_I cd P t) ++ ((List.range 16).erase t).flatMap (p_T dO h P cd sz)) ++ p_O dO h
theorem pW_perm {t : Nat} (ht : t < 16) : (pW dO h P cd sz).Perm (p_L h P sz t :: p_A dO P sz t :: p_R dO h P cd sz t) := by
  have h1 : (List.range 16).Perm (t :: (List.range 16).erase t) := List.perm_cons_erase (List.mem_range.mpr ht)
  have h2 := h1.flatMap_right (p_T dO h P cd sz)
  rw [List.flatMap_cons] at h2
  unfold pW
  refine (List.Perm.append_left _ h2).trans (List.perm_append_comm.trans ?_)
  exact List.Perm.refl _
theorem prog_out {dA : ClassId} {S : XS} {ex ex0 : va_W} {t z : Nat} (hex : ex = pW dO h P cd sz ++ ex0) (ht : t < 16) (hz : sz t = nI z) : (g_W dA cG h S ++ ex).Perm (lC (h (23 + t)) (P.2.2.1 t) (P.2.1 t) (nI z) :: (P.2.1 t, rA dO (P.1 t) (p_F P sz t)) :: (p_R dO h P cd sz t ++ (g_W dA cG h S ++ ex0))) := by
  have h1 : (pW dO h P cd sz).Perm (lC (h (23 + t)) (P.2.2.1 t) (P.2.1 t) (nI z) :: (P.2.1 t, rA dO (P.1 t) (p_F P sz t)) :: p_R dO h P cd sz t) := by
    rw [← hz]
    exact pW_perm ht
  rw [hex, ← List.append_assoc]
  refine (List.Perm.append_right _ (List.perm_append_comm.trans (List.Perm.append_right _ h1))).trans ?_
  simp only [List.cons_append, List.append_assoc]
  exact List.Perm.refl _
theorem p_F_none {t z : Nat} (hz : ix (sz t) = z) {n : Nat} (e : z = n) : ∀ k, n ≤ k → p_F P sz t k = none := fun k hk => if_neg (by omega)
theorem p_F_el {t z n : Nat} {ex : va_W} (hz : ix (sz t) = z) : ∀ i y, i < n → p_F P sz t i = some y → ∃ fs, ((y, .inr (11, fs)) : Nat × va_E) ∈ p_R dO h P cd sz t ++ ex := by
  intro i y _ hy
  unfold p_F at hy
  split at hy
  · rename_i hi
    cases hy
    exact ⟨_, List.mem_append_left _ (List.mem_append_left _ (List.mem_append_left _ (List.mem_map.mpr ⟨i, List.mem_range.mpr hi, rfl⟩)))⟩
  · cases hy
def p_add (P : PA) (t n' a' c q : Nat) (m : Int32) : PA := (va_up P.1 t n', va_up P.2.1 t a', va_up P.2.2.1 t m, va_up P.2.2.2 t (va_up (P.2.2.2 t) c q))
def p_set (P : PA) (t i q : Nat) : PA := (P.1, P.2.1, P.2.2.1, va_up P.2.2.2 t (va_up (P.2.2.2 t) i q))
theorem up_s {α : Type} (f : Nat → α) (k : Nat) (v : α) : va_up f k v k = v := by simp [va_up]
theorem up_n {α : Type} (f : Nat → α) {k j : Nat} (v : α) (h : j ≠ k) : va_up f k v j = f j := by simp [va_up, h]
theorem pT_other {P' : PA} {cd' sz' : Nat → Int32} {t t' z : Nat} (hs : sz' t' = sz t') (h1 : P'.1 t' = P.1 t') (h2 : P'.2.1 t' = P.2.1 t') (h3 : P'.2.2.1 t' = P.2.2.1 t') (h4 : P'.2.2.2 t' = P.2.2.2 t') (hz : ix (sz t') = z) (hc : ∀ i, i < z → cd' (32 * t' + i) = cd (32 * t' + i)) : p_T dO h P' cd' sz' t' = p_T dO h P cd sz t' := by
  unfold p_T p_L p_A p_F
  rw [hs, h1, h2, h3, h4, hz]
  congr 2
  apply List.map_congr_left
  intro i hi
  unfold p_I
  rw [h4, hc i (List.mem_range.mp hi)]
theorem fm_congr {α β : Type} {f g : α → List β} : ∀ {l : List α}, (∀ a ∈ l, f a = g a) → l.flatMap f = l.flatMap g
  | [], _ => rfl
  | a :: l, h => by
    rw [List.flatMap_cons, List.flatMap_cons, h a List.mem_cons_self, fm_congr (fun b hb => h b (List.mem_cons_of_mem _ hb))]
theorem pR_rest {P' : PA} {cd' sz' : Nat → Int32} {t : Nat} (hp : pOK P sz) (hs : ∀ t', t' ≠ t → sz' t' = sz t') (h1 : ∀ t', t' ≠ t → P'.1 t' = P.1 t') (h2 : ∀ t', t' ≠ t → P'.2.1 t' = P.2.1 t') (h3 : ∀ t', t' ≠ t → P'.2.2.1 t' = P.2.2.1 t') (h4 : ∀ t', t' ≠ t → P'.2.2.2 t' = P.2.2.2 t') (hc : ∀ t' i, t' ≠ t → i < 32 → cd' (32 * t' + i) = cd (32 * t' + i)) : ((List.range 16).erase t).flatMap (p_T dO h P' cd' sz') = ((List.range 16).erase t).flatMap (p_T dO h P cd sz) := by
  refine fm_congr (fun t' ht' => ?_)
  have hne : t' ≠ t := (List.Nodup.mem_erase_iff List.nodup_range).mp ht' |>.1
  have hlt : t' < 16 := List.mem_range.mp ((List.Nodup.mem_erase_iff List.nodup_range).mp ht').2
  obtain ⟨z, z1, z2, -⟩ := hp t' hlt
  exact pT_other (t := t) (hs t' hne) (h1 t' hne) (h2 t' hne) (h3 t' hne) (h4 t' hne) (z := z) (by rw [z2]; exact nI_clamp (by omega)) (fun i hi => hc t' i hne (by omega))
/-- the cells of the component's graph don't see the program -/
theorem gW_prog {dA : ClassId} {S T : XS} (h1 : T.1 = S.1) (h2 : ∀ j, j < 12 → T.2 j = S.2 j) : g_W dA cG h T = g_W dA cG h S := by
  unfold g_W
  apply List.ext_getElem?
  intro k
  simp only [List.getElem?_mapIdx]
  have hall : ∀ k c, cG[k]? = some c → g_cell dA h T k c = g_cell dA h S k c := by
    intro k c hc
    rcases c with o | a
    · simp only [g_cell]
      congr 3
      apply List.map_congr_left
      intro f _
      rcases f with a | a | a <;> simp only [g_fv, h1]
    · have : a.1 < 12 := by
        have hm := List.mem_of_getElem? hc
        have hd : cG.all (fun c => match c with
          | .inr a => decide (a.1 < 12)
          | .inl _ => true) = true := by decide +kernel
        have := List.all_eq_true.mp hd _ hm
        simpa using this
      simp only [g_cell, h2 _ this]
  cases hc : cG[k]? with
  | none => rfl
  | some c => simp only [Option.map_some, hall k c hc]
end PU
section PV
variable {dO dA : ClassId} {h : Nat → Nat} {P : PA} {S : XS}
theorem prog_ixc {t i : Nat} (ht : t < 16) (hi : i < 32) : ix (32 * nI t + nI i) = 32 * t + i := by
  rw [show (32 : Int32) = nI 32 from rfl, pk_mul, nI_add]
  exact nI_clamp (by omega)
theorem prog1_add {t z : Nat} {w : Int32} (ht : t < 16) (hz : S.2 13 t = nI z) (hz2 : z < 32) : f_program1 S (nI t) (nI z) w = xa (xa S 12 (32 * t + z) w) 13 t (nI (z + 1)) := by
  have et : ix (nI t) = t := nI_clamp (by omega)
  have e2 : (xa S 12 (32 * t + z) w).2 13 t = nI z := hz
  unfold f_program1
  rw [prog_ixc ht hz2, et, e2, if_pos rfl, nI_1]
theorem prog1_set {t z i : Nat} {w : Int32} (ht : t < 16) (hz : S.2 13 t = nI z) (hz2 : z ≤ 32) (hi : i < z) : f_program1 S (nI t) (nI i) w = xa S 12 (32 * t + i) w := by
  have et : ix (nI t) = t := nI_clamp (by omega)
  have e2 : (xa S 12 (32 * t + i) w).2 13 t = nI z := hz
  unfold f_program1
  rw [prog_ixc ht (by omega), et, e2, if_neg (by rw [nI_eq (by omega) (by omega)]; omega)]
theorem xa_same (S : XS) (j i : Nat) (v : Int32) : (xa S j i v).2 j = upd (S.2 j) i v := by simp [xa]
theorem xa_other (S : XS) {j j' : Nat} (i : Nat) (v : Int32) (h : j' ≠ j) : (xa S j i v).2 j' = S.2 j' := by simp [xa, h]
theorem prog_add_ok {t z n' a' q : Nat} {m w : Int32} (hp : pOK P (S.2 13)) (ht : t < 16) (hz : S.2 13 t = nI z) (hz2 : z < 32) (hn48 : P.1 t ≤ 48) (hn1 : n' = P.1 t ∨ (n' = P.1 t + P.1 t / 2 ∧ P.1 t ≤ 31)) (hn2 : z + 1 ≤ n') (hn3 : 2 ≤ P.1 t) : pOK (p_add P t n' a' z q m) ((f_program1 S (nI t) (nI z) w).2 13) := by
  rw [prog1_add ht hz hz2, xa_same, xa_other _ _ _ (by decide)]
  intro t' ht'
  by_cases c : t' = t
  · subst c
    refine ⟨z + 1, by omega, pk_us, ?_⟩
    show z + 1 ≤ va_up P.1 t' n' t' ∧ 2 ≤ va_up P.1 t' n' t' ∧ va_up P.1 t' n' t' ≤ 48
    rw [up_s]
    omega
  · obtain ⟨y, y1, y2, y3⟩ := hp t' ht'
    refine ⟨y, y1, (pk_un c).trans y2, ?_⟩
    show y ≤ va_up P.1 t n' t' ∧ 2 ≤ va_up P.1 t n' t' ∧ va_up P.1 t n' t' ≤ 48
    rw [up_n _ _ c]
    exact y3
theorem prog_set_ok {t z i q : Nat} {w : Int32} (hp : pOK P (S.2 13)) (ht : t < 16) (hz : S.2 13 t = nI z) (hz2 : z ≤ 32) (hi : i < z) : pOK (p_set P t i q) ((f_program1 S (nI t) (nI i) w).2 13) := by
  rw [prog1_set ht hz hz2 hi, xa_other _ _ _ (by decide)]
  exact hp
set_option maxHeartbeats 4000000 in
theorem prog_add_sw {t z n' a' q : Nat} {m w : Int32} (hp : pOK P (S.2 13)) (ht : t < 16) (hz : S.2 13 t = nI z) (hz2 : z < 32) (ex0 : va_W) : sw (g_W dA cG h (f_program1 S (nI t) (nI z) w) ++ (pW dO h (p_add P t n' a' z q m) ((f_program1 S (nI t) (nI z) w).2 12) ((f_program1 S (nI t) (nI z) w).2 13) ++ ex0)) (lC (h (23 + t)) m a' (nI (z + 1)) :: (a', rA dO n' (va_up (p_F P (S.2 13) t) z (some q))) :: (p_R dO h P (S.2 12) (S.2 13) t ++ (g_W dA cG h S ++ (ex0 ++ [iC q w])))) := by
  rw [prog1_add ht hz hz2]
  have eg : g_W dA cG h (xa (xa S 12 (32 * t + z) w) 13 t (nI (z + 1))) = g_W dA cG h S := gW_prog rfl (fun j hj => by rw [xa_other _ _ _ (by omega), xa_other _ _ _ (by omega)])
  have e12 : (xa (xa S 12 (32 * t + z) w) 13 t (nI (z + 1))).2 12 = upd (S.2 12) (32 * t + z) w := by rw [xa_other _ _ _ (by decide), xa_same]
  have e13 : (xa (xa S 12 (32 * t + z) w) 13 t (nI (z + 1))).2 13 = upd (S.2 13) t (nI (z + 1)) := by rw [xa_same, xa_other _ _ _ (by decide)]
  rw [eg, e12, e13]
  have ez : ix (S.2 13 t) = z := by rw [hz]; exact nI_clamp (by omega)
  have ez' : ix (upd (S.2 13) t (nI (z + 1)) t) = z + 1 := by rw [pk_us]; exact nI_clamp (by omega)
  -- the new list's own cells
  have hL : p_L h (p_add P t n' a' z q m) (upd (S.2 13) t (nI (z + 1))) t = lC (h (23 + t)) m a' (nI (z + 1)) := by
    simp only [p_L, p_add, up_s, pk_us]
  have hF : p_F (p_add P t n' a' z q m) (upd (S.2 13) t (nI (z + 1))) t = va_up (p_F P (S.2 13) t) z (some q) := by
    funext i
    simp only [p_F, ez, ez', p_add, up_s]
    by_cases c : i = z
    · subst c
      rw [up_s, up_s, if_pos (by omega)]
    · rw [up_n _ _ c, up_n _ _ c]
      show _ = (if i < ix (S.2 13 t) then some (P.2.2.2 t i) else none)
      rw [ez]
      by_cases c2 : i < z
      · rw [if_pos c2, if_pos (by omega)]
      · rw [if_neg c2, if_neg (by omega)]
  have hA : p_A dO (p_add P t n' a' z q m) (upd (S.2 13) t (nI (z + 1))) t = (a', rA dO n' (va_up (p_F P (S.2 13) t) z (some q))) := by
    unfold p_A
    rw [hF]
    simp only [p_add, up_s]
  have hIs : (List.range (ix (upd (S.2 13) t (nI (z + 1)) t))).map (p_I (upd (S.2 12) (32 * t + z) w) (p_add P t n' a' z q m) t) = (List.range (ix (S.2 13 t))).map (p_I (S.2 12) P t) ++ [iC q w] := by
    have hx1 : (List.range z).map (p_I (upd (S.2 12) (32 * t + z) w) (p_add P t n' a' z q m) t) = (List.range z).map (p_I (S.2 12) P t) := by
      apply List.map_congr_left
      intro i hi
      have hi := List.mem_range.mp hi
      simp only [p_I, p_add, up_s]
      rw [up_n _ _ (by omega), pk_un (by omega)]
    have hx2 : [z].map (p_I (upd (S.2 12) (32 * t + z) w) (p_add P t n' a' z q m) t) = [iC q w] := by
      simp only [List.map_cons, List.map_nil, p_I, p_add, up_s, pk_us, iC]
    rw [ez', ez, List.range_succ, List.map_append, hx1, hx2]
  have hRst := pR_rest (dO := dO) (h := h) (P := P) (P' := p_add P t n' a' z q m) (cd := S.2 12) (cd' := upd (S.2 12) (32 * t + z) w) (sz := S.2 13) (sz' := upd (S.2 13) t (nI (z + 1))) (t := t) hp (fun t' c => pk_un c) (fun t' c => up_n _ _ c) (fun t' c => up_n _ _ c) (fun t' c => up_n _ _ c) (fun t' c => up_n _ _ c) (fun t' i c hi => pk_un (by omega))
  have hpm := pW_perm (dO := dO) (h := h) (P := p_add P t n' a' z q m) (cd := upd (S.2 12) (32 * t + z) w) (sz := upd (S.2 13) t (nI (z + 1))) ht
  rw [hL, hA] at hpm
  unfold p_R at hpm
  rw [hIs, hRst] at hpm
  refine sw.of ?_
  refine List.Perm.symm ((List.perm_append_comm).trans ?_)
  rw [List.append_assoc]
  refine (List.Perm.append_right _ hpm).trans ?_
  simp only [List.cons_append]
  refine List.Perm.cons _ (List.Perm.cons _ ?_)
  unfold p_R
  simp only [List.append_assoc]
  refine List.Perm.append_left _ ?_
  refine ((List.perm_append_comm (l₁ := [iC q w])).trans ?_)
  simp only [List.append_assoc]
  refine List.Perm.append_left _ (List.Perm.append_left _ ?_)
  rw [← List.append_assoc, ← List.append_assoc]
  exact List.Perm.append_right _ List.perm_append_comm
theorem perm_set (g e r o ex : va_W) (x y L A : Nat × va_E) : (L :: A :: ((((y :: e) ++ r) ++ o) ++ (g ++ (ex ++ [x])))).Perm ((g ++ ((L :: A :: (((x :: e) ++ r) ++ o)) ++ ex)) ++ [y]) := by
  have hM : (e ++ (r ++ (o ++ (ex ++ g)))).Perm (e ++ (r ++ (o ++ (g ++ ex)))) := List.Perm.append_left _ (List.Perm.append_left _ (List.Perm.append_left _ List.perm_append_comm))
  refine List.Perm.symm ?_
  refine (List.Perm.append_right [y] (List.perm_append_comm (l₁ := g))).trans ?_
  have e1 : (((L :: A :: (((x :: e) ++ r) ++ o)) ++ ex) ++ g) ++ [y] = L :: A :: x :: ((e ++ (r ++ (o ++ (ex ++ g)))) ++ [y]) := by simp
  have e2 : L :: A :: ((((y :: e) ++ r) ++ o) ++ (g ++ (ex ++ [x]))) = L :: A :: y :: ((e ++ (r ++ (o ++ (g ++ ex)))) ++ [x]) := by simp
  rw [e1, e2]
  refine List.Perm.cons _ (List.Perm.cons _ ?_)
  refine (List.Perm.cons x ((List.perm_append_singleton y _).trans (List.Perm.cons y hM))).trans ?_
  refine (List.Perm.swap y x _).trans ?_
  exact List.Perm.cons y (List.perm_append_singleton x _).symm
theorem prog_set_sw {t z i q : Nat} {w : Int32} (hp : pOK P (S.2 13)) (ht : t < 16) (hz : S.2 13 t = nI z) (hz2 : z ≤ 32) (hi : i < z) (ex0 : va_W) : sw (g_W dA cG h (f_program1 S (nI t) (nI i) w) ++ (pW dO h (p_set P t i q) ((f_program1 S (nI t) (nI i) w).2 12) ((f_program1 S (nI t) (nI i) w).2 13) ++ ex0)) (lC (h (23 + t)) (P.2.2.1 t) (P.2.1 t) (nI z) :: (P.2.1 t, rA dO (P.1 t) (va_up (p_F P (S.2 13) t) i (some q))) :: (p_R dO h P (S.2 12) (S.2 13) t ++ (g_W dA cG h S ++ (ex0 ++ [iC q w])))) := by
  rw [prog1_set ht hz hz2 hi]
  have eg : g_W dA cG h (xa S 12 (32 * t + i) w) = g_W dA cG h S := gW_prog rfl (fun j hj => by rw [xa_other _ _ _ (by omega)])
  have e12 : (xa S 12 (32 * t + i) w).2 12 = upd (S.2 12) (32 * t + i) w := xa_same _ _ _ _
  have e13 : (xa S 12 (32 * t + i) w).2 13 = S.2 13 := xa_other _ _ _ (by decide)
  rw [eg, e12, e13]
  have ez : ix (S.2 13 t) = z := by rw [hz]; exact nI_clamp (by omega)
  have hL : p_L h (p_set P t i q) (S.2 13) t = lC (h (23 + t)) (P.2.2.1 t) (P.2.1 t) (nI z) := by
    simp only [p_L, p_set, hz]
  have hF : p_F (p_set P t i q) (S.2 13) t = va_up (p_F P (S.2 13) t) i (some q) := by
    funext k
    simp only [p_F, ez, p_set, up_s]
    by_cases c : k = i
    · subst c
      rw [up_s, up_s, if_pos hi]
    · rw [up_n _ _ c, up_n _ _ c]
      show _ = (if k < ix (S.2 13 t) then some (P.2.2.2 t k) else none)
      rw [ez]
  have hA : p_A dO (p_set P t i q) (S.2 13) t = (P.2.1 t, rA dO (P.1 t) (va_up (p_F P (S.2 13) t) i (some q))) := by
    unfold p_A
    rw [hF]
    rfl
  have hIs : ((List.range (ix (S.2 13 t))).map (p_I (upd (S.2 12) (32 * t + i) w) (p_set P t i q) t)).Perm (iC q w :: ((List.range z).erase i).map (p_I (S.2 12) P t)) := by
    rw [ez]
    refine ((List.perm_cons_erase (List.mem_range.mpr hi)).map _).trans ?_
    rw [List.map_cons]
    have e1 : p_I (upd (S.2 12) (32 * t + i) w) (p_set P t i q) t i = iC q w := by simp only [p_I, p_set, up_s, pk_us, iC]
    rw [e1]
    refine List.Perm.cons _ (List.Perm.of_eq (List.map_congr_left (fun k hk => ?_)))
    have hk1 : k ≠ i := (List.Nodup.mem_erase_iff List.nodup_range).mp hk |>.1
    simp only [p_I, p_set, up_s]
    rw [up_n _ _ hk1, pk_un (by omega)]
  have hIo : ((List.range (ix (S.2 13 t))).map (p_I (S.2 12) P t)).Perm (p_I (S.2 12) P t i :: ((List.range z).erase i).map (p_I (S.2 12) P t)) := by
    rw [ez]
    exact ((List.perm_cons_erase (List.mem_range.mpr hi)).map _)
  have hRst := pR_rest (dO := dO) (h := h) (P := P) (P' := p_set P t i q) (cd := S.2 12) (cd' := upd (S.2 12) (32 * t + i) w) (sz := S.2 13) (sz' := S.2 13) (t := t) hp (fun _ _ => rfl) (fun _ _ => rfl) (fun _ _ => rfl) (fun _ _ => rfl) (fun t' c => up_n _ _ c) (fun t' k c hk => pk_un (by omega))
  have hpm := pW_perm (dO := dO) (h := h) (P := p_set P t i q) (cd := upd (S.2 12) (32 * t + i) w) (sz := S.2 13) ht
  rw [hL, hA] at hpm
  unfold p_R at hpm
  rw [hRst] at hpm
  have hpm2 := hpm.trans (List.Perm.cons _ (List.Perm.cons _ (List.Perm.append_right (p_O dO h) (List.Perm.append_right (((List.range 16).erase t).flatMap (p_T dO h P (S.2 12) (S.2 13))) hIs))))
  refine sw.app (r := [p_I (S.2 12) P t i]) ?_
  have hw : (p_R dO h P (S.2 12) (S.2 13) t).Perm (((p_I (S.2 12) P t i :: ((List.range z).erase i).map (p_I (S.2 12) P t)) ++ ((List.range 16).erase t).flatMap (p_T dO h P (S.2 12) (S.2 13))) ++ p_O dO h) := List.Perm.append_right _ (List.Perm.append_right _ hIo)
  refine (List.Perm.cons _ (List.Perm.cons _ (List.Perm.append_right _ hw))).trans ?_
  refine (perm_set _ _ _ _ _ _ _ _ _).trans ?_
  exact List.Perm.append_right _ (List.Perm.append_left _ (List.Perm.append_right _ hpm2.symm))
end PV

