/-! THE LAYER, second part: worlds in another order; cells by membership or by place; references; calls through an overridden method; Math; the table of costs; new cells -/
theorem d_nodup {A : Nat → Prop} {ws : va_W} (h : va_D A ws) : (ws.map (fun q => q.1)).Nodup := by
  refine List.pairwise_iff_getElem.mpr (fun i j hi hj hij e => ?_)
  have hi' : i < ws.length := by simpa using hi
  have hj' : j < ws.length := by simpa using hj
  have := h.1 i j ws[i] ws[j] (List.getElem?_eq_getElem hi') (List.getElem?_eq_getElem hj') (by simpa using e)
  omega
theorem nodup_d {A : Nat → Prop} {ws : va_W} (h1 : (ws.map (fun q => q.1)).Nodup) (h2 : ∀ q ∈ ws, A q.1) : va_D A ws := by
  refine ⟨fun i j p q hi hj e => ?_, fun k q hq => h2 q (List.mem_of_getElem? hq)⟩
  have h := List.pairwise_iff_getElem.mp h1
  obtain ⟨hi1, hi2⟩ := List.getElem?_eq_some_iff.mp hi
  obtain ⟨hj1, hj2⟩ := List.getElem?_eq_some_iff.mp hj
  rcases Nat.lt_trichotomy i j with c | c | c
  · exact ((h i j (by simpa using hi1) (by simpa using hj1) c) (by simp [hi2, hj2, e])).elim
  · exact c
  · exact ((h j i (by simpa using hj1) (by simpa using hi1) c) (by simp [hi2, hj2, e])).elim
/-- ws' is ws in another order, or less of it -/
def sw (ws' ws : va_W) : Prop := ∃ w1 : va_W, ws.Perm w1 ∧ List.Sublist ws' w1
theorem sw.of {ws ws' : va_W} (h : ws.Perm ws') : sw ws' ws := ⟨ws', h, List.Sublist.refl _⟩
theorem sw.mem {ws ws' : va_W} (h : sw ws' ws) {q : Nat × va_E} (hq : q ∈ ws') : q ∈ ws := by
  obtain ⟨w1, h1, h2⟩ := h
  exact (h1.mem_iff).mpr (h2.subset hq)
theorem sw.P {D : va_G} {ws ws' : va_W} {H : Heap} (h : sw ws' ws) (hP : va_P D y_cl ws H) : va_P D y_cl ws' H := by
  intro k q hq
  obtain ⟨j, hj⟩ := List.getElem?_of_mem (h.mem (List.mem_of_getElem? hq))
  exact hP j q hj
theorem sw.D {A : Nat → Prop} {ws ws' : va_W} (h : sw ws' ws) (hD : va_D A ws) : va_D A ws' := by
  refine nodup_d ?_ (fun q hq => ?_)
  · obtain ⟨w1, h1, h2⟩ := h
    exact (h2.map _).nodup ((h1.map _).nodup_iff.mp (d_nodup hD))
  · obtain ⟨j, hj⟩ := List.getElem?_of_mem (h.mem hq)
    exact hD.2 j q hj
section YM
variable {K : YK} {cc : ByteArray} {own : String} {nL d : Nat} {ws ws' : va_W} {k n : Nat} {lv : List Value} {pc pc' tgt : Nat} {st : List Value} {off : Int}
theorem y_ws (h : sw ws' ws) (kk : Vw K nL ws' k n lv pc st) : Vw K nL ws k n lv pc st := fun H locs ls hP hD hS hl => kk H locs ls (h.P hP) (h.D hD) hS hl
theorem y_we (h : ws = ws') (kk : Vw K nL ws' k n lv pc st) : Vw K nL ws k n lv pc st := h ▸ kk
theorem y_rf {r : Option Nat} {a : Nat} (e : r = some a) (kk : Vw K nL ws k n lv pc (.ref a :: st)) : Vw K nL ws k n lv pc (va_rf r :: st) := by
  subst e
  exact kk
/-- pool entry idx of class own is field k of class number ci -/
def fM (own : String) (idx ci k : Nat) : Prop := ∃ (C : String) (T : u_T) (N : Nat) (ref : String), y_cl[ci]? = some (C, T, N) ∧ k < N ∧ (∀ w ∈ u_ws C T N, w ∈ lw_all) ∧ y_link own idx ref (T k).2.1 (T k).2.2.1 ∧ (ref = (T k).1 ∨ Cond.sameField ref (T k).1 (T k).2.1 (T k).2.2.1 ∈ lw_all)
theorem y_getM (o : Y K cc own nL d) {b ci k0 idx : Nat} {fs : List Value} {v : Value} (F : fM own idx ci k0) (hm : ((b, .inr (ci, fs)) : Nat × va_E) ∈ ws) (hv : fs[k0]? = some v) (dd : dk cc pc (.getfield idx) 3 pc') (kk : Vw K nL ws k n lv pc' (v :: st)) : Vw K nL ws k n lv pc (.ref b :: st) := by
  intro H locs ls hP hD hS hl
  obtain ⟨h1, h3⟩ := dd; subst h3
  obtain ⟨C, T, N, ref, g3, g4, g5, g6, g7⟩ := F
  obtain ⟨q, he⟩ := List.getElem?_of_mem hm
  rcases g6 with g6 | ⟨host, g6⟩
  · exact va_get o.1 o.2.1 o.2.2.2.2.1 g5 o.2.2.2.1 o.2.2.2.2.2.1 hP q he g3 k0 g4 (o.2.2.2.2.1 _ g6) (y_same o g7) hv h1 (kk H locs ls hP hD hS hl)
  · exact va_getN o.1 o.2.1 o.2.2.2.2.1 g5 o.2.2.2.1 o.2.2.2.2.2.1 hP q he g3 k0 g4 (va_Nw.use rfl (o.2.2.2.2.2.2.1.1 _ g6 rfl)) (y_same o g7) hv h1 (kk H locs ls hP hD hS hl)
/-- .. and it may be written (its type ty) -/
def fMp (own : String) (idx ci k : Nat) (ty : FieldType) : Prop := ∃ (C : String) (T : u_T) (N : Nat) (ref : String) (ty0 : Nat → FieldType), y_cl[ci]? = some (C, T, N) ∧ k < N ∧ (∀ w ∈ u_ws C T N, w ∈ lw_all) ∧ y_link own idx ref (T k).2.1 (T k).2.2.1 ∧ (ref = (T k).1 ∨ Cond.sameField ref (T k).1 (T k).2.1 (T k).2.2.1 ∈ lw_all) ∧ (∀ k, k < N → parseFieldDescriptor (T k).2.2.1 = some (ty0 k)) ∧ (∀ a, a < N → ∀ b, b < N → a ≠ b → (T a).2.1 ≠ (T b).2.1) ∧ (T k).2.2.2 = false ∧ ty0 k = ty
theorem y_putM (o : Y K cc own nL d) {b ci k0 idx : Nat} {fs : List Value} {v : Value} {ty : FieldType} (F : fMp own idx ci k0 ty) (q : Nat) (he : ws[q]? = some (b, .inr (ci, fs))) (hlen : k0 < fs.length) (hn : narrow ty v = v) (hfit : fits ty v = true) (dd : dk cc pc (.putfield idx) 3 pc') (hw : ws.set q (b, .inr (ci, fs.set k0 v)) = ws') (kk : Vw K nL ws' k n lv pc' st) : Vw K nL ws k n lv pc (v :: .ref b :: st) := by
  intro H locs ls hP hD hS hl
  obtain ⟨h1, h3⟩ := dd; subst h3
  subst hw
  obtain ⟨C, T, N, ref, ty0, g3, g4, g5, g6, g7, g8, g9, g10, g11⟩ := F
  have hty : parseFieldDescriptor (T k0).2.2.1 = some ty := by rw [← g11]; exact g8 k0 g4
  rcases g6 with g6 | ⟨host, g6⟩
  · exact va_put o.1 o.2.1 o.2.2.2.2.1 g5 ty0 g8 g9 o.2.2.2.1 o.2.2.2.2.2.1 hP hD hS q he g3 k0 g4 (o.2.2.2.2.1 _ g6) (y_same o g7) g10 hty hn hfit hlen h1 (fun H1 locs1 hP1 hD1 hS1 => kk H1 locs1 ls hP1 hD1 hS1 hl)
  · exact va_putN o.1 o.2.1 o.2.2.2.2.1 g5 ty0 g8 g9 o.2.2.2.1 o.2.2.2.2.2.1 hP hD hS q he g3 k0 g4 (va_Nw.use rfl (o.2.2.2.2.2.2.1.1 _ g6 rfl)) (y_same o g7) g10 hty hn hfit hlen h1 (fun H1 locs1 hP1 hD1 hS1 => kk H1 locs1 ls hP1 hD1 hS1 hl)
/-- a final field, in a constructor of its class -/
def fMf (own : String) (idx ci k : Nat) (ty : FieldType) : Prop := ∃ (C : String) (T : u_T) (N : Nat) (ref : String) (ty0 : Nat → FieldType), y_cl[ci]? = some (C, T, N) ∧ k < N ∧ (∀ w ∈ u_ws C T N, w ∈ lw_all) ∧ Cond.fieldLink own idx ref (T k).2.1 (T k).2.2.1 ∈ lw_all ∧ (ref = (T k).1 ∨ Cond.sameField ref (T k).1 (T k).2.1 (T k).2.2.1 ∈ lw_all) ∧ (∀ k, k < N → parseFieldDescriptor (T k).2.2.1 = some (ty0 k)) ∧ (∀ a, a < N → ∀ b, b < N → a ≠ b → (T a).2.1 ≠ (T b).2.1) ∧ (T k).2.2.2 = true ∧ (T k).1 = own ∧ ty0 k = ty
theorem y_putF (o : Y K cc own nL d) (hi : (kM K).name = "<init>") {b ci k0 idx : Nat} {fs : List Value} {v : Value} {ty : FieldType} (F : fMf own idx ci k0 ty) (q : Nat) (he : ws[q]? = some (b, .inr (ci, fs))) (hlen : k0 < fs.length) (hn : narrow ty v = v) (hfit : fits ty v = true) (dd : dk cc pc (.putfield idx) 3 pc') (hw : ws.set q (b, .inr (ci, fs.set k0 v)) = ws') (kk : Vw K nL ws' k n lv pc' st) : Vw K nL ws k n lv pc (v :: .ref b :: st) := by
  intro H locs ls hP hD hS hl
  obtain ⟨h1, h3⟩ := dd; subst h3
  subst hw
  obtain ⟨C, T, N, ref, ty0, g3, g4, g5, g6, g7, g8, g9, g10, g12, g11⟩ := F
  have hty : parseFieldDescriptor (T k0).2.2.1 = some ty := by rw [← g11]; exact g8 k0 g4
  exact va_putF o.1 o.2.1 o.2.2.2.2.1 g5 ty0 g8 g9 o.2.2.2.1 o.2.2.2.2.2.1 hP hD hS q he g3 k0 g4 (o.2.2.2.2.1 _ g6) (y_same o g7) g10 hi g12 hty hn hfit hlen h1 (fun H1 locs1 hP1 hD1 hS1 => kk H1 locs1 ls hP1 hD1 hS1 hl)
/-- an array of references -/
abbrev rA (d : ClassId) (n : Nat) (f : Nat → Option Nat) : va_E := .inl (d, n, .inr (.inr (.inr (.inr f))))
theorem y_aald (o : Y K cc own nL d) {a n' : Nat} {f : Nat → Option Nat} {i : Int32} (hm : ((a, rA (kd K).2.2 n' f) : Nat × va_E) ∈ ws) (dd : dk cc pc .aaload 1 pc') (hin : vp_in i n') (kk : Vw K nL ws k n lv pc' (va_rf (f i.toNatClampNeg) :: st)) : Vw K nL ws k n lv pc (.int i :: .ref a :: st) := by
  intro H locs ls hP hD hS hl
  obtain ⟨h1, h3⟩ := dd; subst h3
  obtain ⟨q, he⟩ := List.getElem?_of_mem hm
  exact va_aldq o.1 o.2.1 o.2.2.2.2.2.1 hP q 2 he rfl hin h1 (kk H locs ls hP hD hS hl)
theorem y_asg (o : Y K cc own nL d) {C : String} (hc : Cond.castable C "java/lang/Object" ∈ lw_tbl) : ∀ comp c0 : ClassId, (ks K).vm.findClass "java/lang/Object" = some comp → (ks K).vm.findClass C = some c0 → (ks K).vm.assignable c0 comp = true := by
  intro comp c0 h1 h2
  obtain ⟨c1, t1, f1, f2, f3⟩ := Cond.castable_spec (va_Nw.use (A := ka K) rfl (o.2.2.2.2.2.2.1.1 _ hc rfl))
  cases h2.symm.trans f1
  cases h1.symm.trans f2
  exact f3
theorem y_aast (o : Y K cc own nL d) {a n' x ci : Nat} {fs : List Value} {f : Nat → Option Nat} {i : Int32} {C : String} {T : u_T} {N : Nat} (q : Nat) (he : ws[q]? = some (a, rA (kd K).2.2 n' f)) (hm : ((x, .inr (ci, fs)) : Nat × va_E) ∈ ws) (hcl : y_cl[ci]? = some (C, T, N)) (hc : Cond.castable C "java/lang/Object" ∈ lw_tbl) (dd : dk cc pc .aastore 1 pc') (hin : vp_in i n') (hw : ws.set q (a, rA (kd K).2.2 n' (va_up f i.toNatClampNeg (some x))) = ws') (kk : Vw K nL ws' k n lv pc' st) : Vw K nL ws k n lv pc (.ref x :: .int i :: .ref a :: st) := by
  intro H locs ls hP hD hS hl
  obtain ⟨h1, h3⟩ := dd; subst h3
  subst hw
  obtain ⟨q2, he2⟩ := List.getElem?_of_mem hm
  exact va_astqM o.1 o.2.1 o.2.2.2.2.2.1 hP hD hS q 2 he rfl (va_rAny o.2.2.2.2.2.1 hP he2 hcl (y_asg o hc)) hin h1 (fun H1 locs1 hP1 hD1 hS1 => kk H1 locs1 ls hP1 hD1 hS1 hl)
theorem y_alen (o : Y K cc own nL d) {a n' : Nat} {f : Nat → Option Nat} (hm : ((a, rA (kd K).2.2 n' f) : Nat × va_E) ∈ ws) (dd : dk cc pc .arraylength 1 pc') (kk : Vw K nL ws k n lv pc' (.int (nI n') :: st)) : Vw K nL ws k n lv pc (.ref a :: st) := by
  intro H locs ls hP hD hS hl
  obtain ⟨h1, h3⟩ := dd; subst h3
  obtain ⟨q, he⟩ := List.getElem?_of_mem hm
  exact va_alen o.1 o.2.1 o.2.2.2.2.2.1 hP q 2 he rfl rfl h1 (kk H locs ls hP hD hS hl)
theorem y_cast (o : Y K cc own nL d) {b ci idx : Nat} {fs : List Value} {C : String} {T : u_T} {N : Nat} (hm : ((b, .inr (ci, fs)) : Nat × va_E) ∈ ws) (hcl : y_cl[ci]? = some (C, T, N)) (hlk : Cond.classLink own idx C ∈ lw_all) (dd : dk cc pc (.checkcast idx) 3 pc') (kk : Vw K nL ws k n lv pc' (.ref b :: st)) : Vw K nL ws k n lv pc (.ref b :: st) := by
  intro H locs ls hP hD hS hl
  obtain ⟨h1, h3⟩ := dd; subst h3
  obtain ⟨q, he⟩ := List.getElem?_of_mem hm
  exact va_castS o.1 o.2.1 o.2.2.2.1 (o.2.2.2.2.1 _ hlk) (o.2.2.2.2.2.1.1 ci _ hcl).2 (va_recv o.2.2.2.2.2.1 hP hcl he) h1 (kk H locs ls hP hD hS hl)
theorem y_null (o : Y K cc own nL d) (dd : dk cc pc .aconst_null 1 pc') (kk : Vw K nL ws k n lv pc' (.null :: st)) : Vw K nL ws k n lv pc st := by
  intro H locs ls hP hD hS hl
  obtain ⟨h1, h3⟩ := dd; subst h3
  exact lv_null o.1 o.2.1 h1 (kk H locs ls hP hD hS hl)
theorem y_dupx1 (o : Y K cc own nL d) {v w : Value} (h : dk cc pc .dup_x1 1 pc') (hv : v.category = 1) (hw : w.category = 1) (kk : Vw K nL ws k n lv pc' (v :: w :: v :: st)) : Vw K nL ws k n lv pc (v :: w :: st) := by
  intro H locs ls hP hD hS hl
  obtain ⟨h1, h3⟩ := h; subst h3
  exact lv_dup_x1 o.1 o.2.1 h1 hv hw (kk H locs ls hP hD hS hl)
theorem y_ldc (o : Y K cc own nL d) {idx : Nat} {v : Int32} (hc : Cond.constant own idx v ∈ lw_all) (h : dk cc pc (.ldc idx) 2 pc') (kk : Vw K nL ws k n lv pc' (.int v :: st)) : Vw K nL ws k n lv pc st := by
  intro H locs ls hP hD hS hl
  obtain ⟨h1, h3⟩ := h; subst h3
  exact lv_ldc o.1 o.2.1 o.2.2.2.1 (o.2.2.2.2.1 _ hc) h1 (kk H locs ls hP hD hS hl)
theorem y_acmp_eq (o : Y K cc own nL d) {rx ry : Option Nat} (h : db cc pc (.if_acmp .eq off) off pc' tgt) (kt : rx = ry → Vw K nL ws k n lv tgt st) (kf : ¬ rx = ry → Vw K nL ws k n lv pc' st) : Vw K nL ws k n lv pc (va_rf ry :: va_rf rx :: st) := by
  intro H locs ls hP hD hS hl
  obtain ⟨h1, h2, h3⟩ := h; subst h2
  exact lv_acmp_eq o.1 o.2.1 h1 h3 (fun c => kt c H locs ls hP hD hS hl) (fun c => kf c H locs ls hP hD hS hl)
theorem y_acmp_ne (o : Y K cc own nL d) {rx ry : Option Nat} (h : db cc pc (.if_acmp .ne off) off pc' tgt) (kt : ¬ rx = ry → Vw K nL ws k n lv tgt st) (kf : rx = ry → Vw K nL ws k n lv pc' st) : Vw K nL ws k n lv pc (va_rf ry :: va_rf rx :: st) := by
  intro H locs ls hP hD hS hl
  obtain ⟨h1, h2, h3⟩ := h; subst h2
  exact lv_acmp_ne o.1 o.2.1 h1 h3 (fun c => kt c H locs ls hP hD hS hl) (fun c => kf c H locs ls hP hD hS hl)
/-- Math.max, Math.min -/
theorem y_mmax (o : Y K cc own nL d) {idx : Nat} {x y : Int32} (hlk : Cond.methodLink own idx Lib.Math.max.name ∈ lw_all) (h2 : Cond.static Lib.Math.max.name ∈ lw_all) (h3 : Cond.initialized "java/lang/Math" ∈ lw_all) (h4 : Cond.code Lib.Math.max.name Lib.Math.max.code 2 (some .int) ∈ lw_all) (hd : 1 ≤ d) (hk : k ≤ (kR K).cells ∧ n ≤ (kR K).slots) (hW : (st.map fun v => v.category).sum ≤ 8) (dd : dk cc pc (.invokestatic idx) 3 pc') (kk : Vw K nL ws k n lv pc' (.int (if x < y then y else x) :: st)) : Vw K nL ws k n lv pc (.int y :: .int x :: st) := by
  intro H locs ls hP hD hS hl
  obtain ⟨h1, h5⟩ := dd; subst h5
  have hr := o.2.2.2.2.2.2.2.2.2.1
  exact va_mmax o.1 o.2.1 (o.2.2.1.trans hl.1.symm) o.2.2.2.1 (o.2.2.2.2.1 _ hlk) (o.2.2.2.2.1 _ h2) (o.2.2.2.2.1 _ h3) (o.2.2.2.2.1 _ h4) (Nat.le_trans hd hr.1) (by have := hr.2; omega) hk.1 hk.2 h1 (kk H locs ls hP hD hS hl)
theorem y_mmin (o : Y K cc own nL d) {idx : Nat} {x y : Int32} (hlk : Cond.methodLink own idx Lib.Math.min.name ∈ lw_all) (h2 : Cond.static Lib.Math.min.name ∈ lw_all) (h3 : Cond.initialized "java/lang/Math" ∈ lw_all) (h4 : Cond.code Lib.Math.min.name Lib.Math.min.code 2 (some .int) ∈ lw_all) (hd : 1 ≤ d) (hk : k ≤ (kR K).cells ∧ n ≤ (kR K).slots) (hW : (st.map fun v => v.category).sum ≤ 8) (dd : dk cc pc (.invokestatic idx) 3 pc') (kk : Vw K nL ws k n lv pc' (.int (if y < x then y else x) :: st)) : Vw K nL ws k n lv pc (.int y :: .int x :: st) := by
  intro H locs ls hP hD hS hl
  obtain ⟨h1, h5⟩ := dd; subst h5
  have hr := o.2.2.2.2.2.2.2.2.2.1
  exact va_mmin o.1 o.2.1 (o.2.2.1.trans hl.1.symm) o.2.2.2.1 (o.2.2.2.2.1 _ hlk) (o.2.2.2.2.1 _ h2) (o.2.2.2.2.1 _ h3) (o.2.2.2.2.1 _ h4) (Nat.le_trans hd hr.1) (by have := hr.2; omega) hk.1 hk.2 h1 (kk H locs ls hP hD hS hl)
/-- the table of costs -/
theorem y_costs (o : Y K cc own nL d) {idx : Nat} (hlk : Cond.fieldLink own idx "ThriftNode$Instruction" "COSTS" "[I" ∈ lw_all) (dd : dk cc pc (.getstatic idx) 3 pc') (kk : ∀ t : Nat, va_T .int t 18 (fun j => .int (y_cost j)) (kA K) (ks K) (ks K).heap → Vw K nL ws k n lv pc' (.ref t :: st)) : Vw K nL ws k n lv pc st := by
  intro H locs ls hP hD hS hl
  obtain ⟨h1, h3⟩ := dd; subst h3
  obtain ⟨t, hZ, hT⟩ := o.2.2.2.2.2.2.2.2.2.2
  exact va_gets o.1 o.2.1 hZ hS o.2.2.2.1 (o.2.2.2.2.1 _ hlk) (fun _ h => h) h1 (kk t hT H locs ls hP hD hS hl)
theorem y_tald (o : Y K cc own nL d) {t : Nat} {i : Int32} (hT : va_T .int t 18 (fun j => .int (y_cost j)) (kA K) (ks K) (ks K).heap) (hin : vp_in i 18) (dd : dk cc pc .iaload 1 pc') (kk : Vw K nL ws k n lv pc' (.int (y_cost i.toNatClampNeg) :: st)) : Vw K nL ws k n lv pc (.int i :: .ref t :: st) := by
  intro H locs ls hP hD hS hl
  obtain ⟨h1, h3⟩ := dd; subst h3
  exact va_ti o.1 o.2.1 hT hS hin rfl h1 (kk H locs ls hP hD hS hl)
/-- new: an object, its fields at their defaults -/
def nM (own : String) (idx ci N : Nat) (fs : List Value) : Prop := ∃ (C : String) (T : u_T) (ty : Nat → FieldType), y_cl[ci]? = some (C, T, N) ∧ (∀ w ∈ u_ws C T N, w ∈ lw_all) ∧ (∀ k, k < N → parseFieldDescriptor (T k).2.2.1 = some (ty k)) ∧ Cond.classLink own idx C ∈ lw_all ∧ Cond.instantiable C N ∈ lw_all ∧ Cond.initialized C ∈ lw_all ∧ (∀ j, j < N → defaultValue (ty j) = vp_V fs j)
theorem y_new (o : Y K cc own nL d) {idx ci N : Nat} {fs : List Value} (F : nM own idx ci N fs) (hc : k + 1 ≤ (kR K).cells) (hs : n + N ≤ (kR K).slots) (dd : dk cc pc (.new idx) 3 pc') (kk : ∀ q : Nat, Vw K nL (ws ++ [(q, .inr (ci, fs))]) (k + 1) (n + N) lv pc' (.ref q :: st)) : Vw K nL ws k n lv pc st := by
  intro H locs ls hP hD hS hl
  obtain ⟨h1, h3⟩ := dd; subst h3
  obtain ⟨C, T, ty, g1, g2, g3, g4, g5, g6, g7⟩ := F
  exact va_new o.1 o.2.1 o.2.2.2.2.1 g2 ty g3 o.2.2.2.1 (o.2.2.2.2.1 _ g4) (o.2.2.2.2.1 _ g5) (o.2.2.2.2.1 _ g6) o.2.2.2.2.2.1 hP hD hS o.2.2.2.2.2.2.2.1 g1 g7 hc hs h1 (fun q H1 hP1 hD1 hS1 => kk q H1 locs ls hP1 hD1 hS1 hl)
/-- a new array of ints, of longs, of objects -/
theorem y_newi (o : Y K cc own nL d) {m : Int32} {N : Nat} (ha : Cond.arrayClass .int ∈ lw_all) (hm : ¬ m < 0) (hN : m.toNatClampNeg = N) (hB : N ≤ 1000) (hc : k + 1 ≤ (kR K).cells) (hs : n + N ≤ (kR K).slots) (dd : dk cc pc (.newarray .int) 2 pc') (kk : ∀ q : Nat, Vw K nL (ws ++ [(q, .inl ((kd K).1, N, .inl (fun _ => 0)))]) (k + 1) (n + N) lv pc' (.ref q :: st)) : Vw K nL ws k n lv pc (.int m :: st) := by
  intro H locs ls hP hD hS hl
  obtain ⟨h1, h3⟩ := dd; subst h3
  refine va_newa (atype := .int) (ty := .int) (a0 := (N, .inl (fun _ => 0))) o.1 o.2.1 (o.2.2.2.2.1 _ ha) rfl o.2.2.2.2.2.1 hP hD hS o.2.2.2.2.2.2.2.1 (fun cA => rfl) hm hN (by simp only [componentBytes]; omega) hc hs h1 (fun q cA H1 hK1 hP1 hD1 hS1 => ?_)
  have e1 := va_nm_int (hK1.2 3 (cA, .int) rfl).2
  have e2 := va_nm_int (o.2.2.2.2.2.1.2 0 ((kd K).1, .int) rfl).2
  cases e1.symm.trans e2
  exact kk q H1 locs ls hP1 hD1 hS1 hl
theorem y_newl (o : Y K cc own nL d) {m : Int32} {N : Nat} (ha : Cond.arrayClass .long ∈ lw_all) (hm : ¬ m < 0) (hN : m.toNatClampNeg = N) (hB : N ≤ 1000) (hc : k + 1 ≤ (kR K).cells) (hs : n + N ≤ (kR K).slots) (dd : dk cc pc (.newarray .long) 2 pc') (kk : ∀ q : Nat, Vw K nL (ws ++ [(q, .inl ((kd K).2.1, N, .inr (.inl (fun _ => 0))))]) (k + 1) (n + N) lv pc' (.ref q :: st)) : Vw K nL ws k n lv pc (.int m :: st) := by
  intro H locs ls hP hD hS hl
  obtain ⟨h1, h3⟩ := dd; subst h3
  refine va_newa (atype := .long) (ty := .long) (a0 := (N, .inr (.inl (fun _ => 0)))) o.1 o.2.1 (o.2.2.2.2.1 _ ha) rfl o.2.2.2.2.2.1 hP hD hS o.2.2.2.2.2.2.2.1 (fun cA => rfl) hm hN (by simp only [componentBytes]; omega) hc hs h1 (fun q cA H1 hK1 hP1 hD1 hS1 => ?_)
  have e1 := va_nm_long (hK1.2 3 (cA, .long) rfl).2
  have e2 := va_nm_long (o.2.2.2.2.2.1.2 1 ((kd K).2.1, .long) rfl).2
  cases e1.symm.trans e2
  exact kk q H1 locs ls hP1 hD1 hS1 hl
theorem y_newq (o : Y K cc own nL d) {idx : Nat} {m : Int32} {N : Nat} (hlk : Cond.classLink own idx "java/lang/Object" ∈ lw_all) (hm : ¬ m < 0) (hN : m.toNatClampNeg = N) (hB : N ≤ 1000) (hc : k + 1 ≤ (kR K).cells) (hs : n + N ≤ (kR K).slots) (dd : dk cc pc (.anewarray idx) 3 pc') (kk : ∀ q : Nat, Vw K nL (ws ++ [(q, rA (kd K).2.2 N (fun _ => none))]) (k + 1) (n + N) lv pc' (.ref q :: st)) : Vw K nL ws k n lv pc (.int m :: st) := by
  intro H locs ls hP hD hS hl
  obtain ⟨h1, h3⟩ := dd; subst h3
  refine va_newq o.1 o.2.1 o.2.2.2.1 (o.2.2.2.2.1 _ hlk) o.2.2.2.2.2.2.1.2.1 o.2.2.2.2.2.1 hP hD hS o.2.2.2.2.2.2.2.1 hm hN (by omega) hc hs h1 (fun q cA H1 hK1 hP1 hD1 hS1 => ?_)
  have e1 := va_nmO (hK1.2 3 (cA, .object "java/lang/Object") rfl).2 (nm := "[Ljava/lang/Object;") (by decide +kernel)
  have e2 := va_nmO (o.2.2.2.2.2.1.2 2 ((kd K).2.2, .object "java/lang/Object") rfl).2 (nm := "[Ljava/lang/Object;") (by decide +kernel)
  cases e1.symm.trans e2
  exact kk q H1 locs ls hP1 hD1 hS1 hl
/-- Object's constructor -/
theorem y_objI (o : Y K cc own nL d) {idx : Nat} {a : Nat} (hlk : Cond.methodLink own idx Lib.objectInit ∈ lw_all) (h2 : Cond.instanceMethod Lib.objectInit ∈ lw_all) (h3 : Cond.code Lib.objectInit ⟨#[0xb1]⟩ 1 none ∈ lw_all) (hd : 1 ≤ d) (hW : (st.map fun v => v.category).sum ≤ 8) (dd : dk cc pc (.invokespecial idx) 3 pc') (kk : Vw K nL ws k n lv pc' st) : Vw K nL ws k n lv pc (.ref a :: st) := by
  intro H locs ls hP hD hS hl
  obtain ⟨h1, h5⟩ := dd; subst h5
  have hr := o.2.2.2.2.2.2.2.2.2.1
  exact W.objInit o.1 o.2.1 o.2.2.2.1 (o.2.2.2.2.1 _ hlk) (o.2.2.2.2.1 _ h2) (o.2.2.2.2.1 _ h3) rfl (hl.1.trans o.2.2.1.symm) rfl h1 (Nat.le_trans hd hr.1) (Nat.le_trans (Nat.add_le_add_right (lv_room hW) 12) (by have := hr.2; omega)) (kk H locs ls hP hD hS hl)
end YM
section YU
variable {K : YK} {cc : ByteArray} {own : String} {nL d : Nat} {ws : va_W} {k n : Nat} {lv : List Value} {pc pc' tgt : Nat} {st : List Value} {off : Int} {post : Option Value → va_W → Prop} {mc ms : Nat} {y x : MethodName} {bytes : ByteArray} {nL' d' idx na : Nat} {ret : Option FieldType} {As rest : List Value} {b : Nat} {C : String}
/-- a call through an overridden method x: an object of class C has y -/
def kU (own : String) (idx : Nat) (C : String) (x y : MethodName) (bytes : ByteArray) (nL' : Nat) (ret : Option FieldType) (na : Nat) : Prop := Cond.code y bytes nL' ret ∈ lw_all ∧ Cond.initialized y.cls ∈ lw_all ∧ Cond.instanceMethod y ∈ lw_all ∧ Cond.methodLink own idx x ∈ lw_all ∧ Cond.sameMethod x.cls x.cls x.name x.desc ∈ lw_all ∧ Cond.selects C x y ∈ lw_all ∧ (Cond.declares x ∈ lw_tbl ∨ (Cond.instanceMethod x ∈ lw_all ∧ ∃ (b0 : ByteArray) (m0 : Nat) (r0 : Option FieldType), Cond.code x b0 m0 r0 ∈ lw_all)) ∧ (x.cls ≠ "java/lang/invoke/MethodHandle" ∧ x.cls ≠ "java/lang/invoke/VarHandle" ∧ (parseMethodDescriptor x.desc).map (fun d => d.parameters.length) = some na) ∧ nL' ≤ 40
theorem y_callU (o : Y K cc own nL d) (kf : kU own idx C x y bytes nL' ret na) (M : Cw (kd K) y bytes nL' ret d' mc ms (.ref b :: As) ws post) (hrc : y_rc ws C b) (hd : d' + 1 ≤ d) (hna : As.length = na) (hst : st = As.reverse ++ .ref b :: rest) (hW : (rest.map fun v => v.category).sum ≤ 8) (hf : k + mc ≤ (kR K).cells ∧ n + ms ≤ (kR K).slots) (h : dk cc pc (.invokevirtual idx) 3 pc')
    (kk : ∀ (v : Option Value) (w : va_W), post v w → Vw K nL w (k + mc) (n + ms) lv pc' (v.toList ++ rest)) : Vw K nL ws k n lv pc st := by
  intro H locs ls hP hD hS hl
  obtain ⟨h1, h3⟩ := h; subst h3; subst hst
  obtain ⟨q, ci, fs, T, N, e1, e2⟩ := hrc
  obtain ⟨f1, f2, f3, f4, f5, f6, f7, f8, f9⟩ := kf
  have hts := o.2.2.2.2.1
  have hrm := y_rm_ok (mc := mc) (ms := ms) hd o.2.2.2.2.2.2.2.2.2.1 f9
  have hdecl : va_Decl (ks K) ⟨x.cls, x.name, x.desc⟩ := by
    rcases f7 with f7 | ⟨f7, b0, m0, r0, f10⟩
    · exact va_Decl.abs (x := x) (o.2.2.2.2.2.2.1.1 _ f7 rfl)
    · exact va_Decl.of (x := x) (hts _ f7) (hts _ f10)
  have hG : GoodIn lw_all (ws_ y bytes nL' ret) := lw_meth f1
  have cw : va_CU (kR K) (ks K) (ka K) own C x.cls idx x y bytes nL' ret (ws_ y bytes nL' ret) (y_rm d' mc ms) mc ms na :=
    ⟨⟨rfl, rfl, hrm.1, hrm.2, pay_in hts hG, List.mem_cons_self⟩, hts _ f1, hts _ f2, ⟨f8.1, f8.2.1⟩, fun sig hs => by
      have h2 := f8.2.2
      rw [hs] at h2
      exact (Option.some.inj h2).symm, hts _ f4, hts _ f5, hdecl, hts _ f6, hts _ f3⟩
  exact y_cont (lv := lv) o hD hS hl (va_runU ⟨o.1, o.2.1, o.2.2.1, o.2.2.2.1, o.2.2.2.2.1⟩ (M (kL K) (kD K) H.size) cw ⟨y_blind, va_recv o.2.2.2.2.2.1 hP e1 e2, fun U hU hW => ⟨rfl, y_pre o hP hD hS U hU hW⟩⟩ rfl hna hl.1 rfl (lv_room hW) h1 hf) kk
variable {G : List GC} {h : Nat → Nat} {S S' : XS} {ex : va_W}
theorem y_callUi (o : Y K cc own nL d) (kf : kU own idx C x y bytes nL' ret na) {q : Nat} (r : rG G q C) (hk : k ≤ (kR K).cells ∧ n ≤ (kR K).slots) {z : Int32} (M : Cx (kd K) y bytes nL' ret d' G (.ref (h q) :: As) h ex S (some (.int z)) S') (hd : d' + 1 ≤ d) (hna : As.length = na) (hst : st = As.reverse ++ .ref (h q) :: rest) (hW : (rest.map fun v => v.category).sum ≤ 8) (hh : dk cc pc (.invokevirtual idx) 3 pc')
    (kk : Vw K nL (g_W (kd K).1 G h S' ++ ex) k n lv pc' (.int z :: rest)) : Vw K nL (g_W (kd K).1 G h S ++ ex) k n lv pc st :=
  y_callU o kf M r.rc hd hna hst hW hk hh (fun v w e => by obtain ⟨rfl, rfl⟩ := e; exact kk)
theorem y_callUv (o : Y K cc own nL d) (kf : kU own idx C x y bytes nL' none na) {q : Nat} (r : rG G q C) (hk : k ≤ (kR K).cells ∧ n ≤ (kR K).slots) (M : Cx (kd K) y bytes nL' none d' G (.ref (h q) :: As) h ex S none S') (hd : d' + 1 ≤ d) (hna : As.length = na) (hst : st = As.reverse ++ .ref (h q) :: rest) (hW : (rest.map fun v => v.category).sum ≤ 8) (hh : dk cc pc (.invokevirtual idx) 3 pc')
    (kk : Vw K nL (g_W (kd K).1 G h S' ++ ex) k n lv pc' rest) : Vw K nL (g_W (kd K).1 G h S ++ ex) k n lv pc st :=
  y_callU o kf M r.rc hd hna hst hW hk hh (fun v w e => by obtain ⟨rfl, rfl⟩ := e; exact kk)
/-- addresses of a graph's cells are apart -/
theorem g_inj {dA : ClassId} {A : Nat → Prop} (hD : va_D A (g_W dA G h S ++ ex)) {i j : Nat} (hi : i < G.length) (hj : j < G.length) (e : h i = h j) : i = j := by
  have a : ∀ q (hq : q < G.length), ∃ z, (g_W dA G h S ++ ex)[q]? = some (h q, z) := by
    intro q hq
    have := g_get (dA := dA) (h := h) (S := S) (List.getElem?_eq_getElem hq) ex
    rw [this]
    cases G[q] with
    | inl o => exact ⟨_, rfl⟩
    | inr o => exact ⟨_, rfl⟩
  obtain ⟨z1, h1⟩ := a i hi
  obtain ⟨z2, h2⟩ := a j hj
  exact hD.1 i j _ _ h1 h2 e
/-- the stage, as a scalar: 0 none, else its cell's number -/
def stOk (x : Int32) : Prop := x = 0 ∨ x = 6 ∨ x = 7 ∨ x = 8 ∨ x = 9
theorem g_dv_iff {dA : ClassId} {A : Nat → Prop} (hD : va_D A (g_W dA G h S ++ ex)) {x : Int32} (hs : stOk x) (hG : 10 ≤ G.length) {q : Nat} (hq : q = 6 ∨ q = 7 ∨ q = 8 ∨ q = 9) : g_dv h x = some (h q) ↔ x = nI q := by
  have a : ∀ j : Nat, (j = 6 ∨ j = 7 ∨ j = 8 ∨ j = 9) → (g_dv h (nI j) = some (h q) ↔ nI j = nI q) := by
    intro j hj
    have e0 : ¬ nI j = 0 := nI_ne0 (by omega) (by omega)
    have e1 : (nI j).toNatClampNeg = j := nI_clamp (by omega)
    unfold g_dv
    rw [if_neg e0, e1, nI_eq (by omega) (by omega)]
    constructor
    · intro e
      exact g_inj hD (by omega) (by omega) (Option.some.inj e)
    · intro e
      rw [e]
  rcases hs with e | e | e | e | e
  · subst e
    have : ¬ (0 : Int32) = nI q := fun z => nI_ne0 (n := q) (by omega) (by omega) z.symm
    simp [g_dv, this]
  · subst e; exact a 6 (by omega)
  · subst e; exact a 7 (by omega)
  · subst e; exact a 8 (by omega)
  · subst e; exact a 9 (by omega)
theorem y_sacmp_eq (o : Y K cc own nL d) {i q : Nat} (hs : stOk (S.1 i)) (hG : 10 ≤ G.length) (hq : q = 6 ∨ q = 7 ∨ q = 8 ∨ q = 9) (hh : db cc pc (.if_acmp .eq off) off pc' tgt) (kt : S.1 i = nI q → Vw K nL (g_W (kd K).1 G h S ++ ex) k n lv tgt st) (kf : ¬ S.1 i = nI q → Vw K nL (g_W (kd K).1 G h S ++ ex) k n lv pc' st) : Vw K nL (g_W (kd K).1 G h S ++ ex) k n lv pc (.ref (h q) :: va_rf (g_dv h (S.1 i)) :: st) := by
  intro H locs ls hP hD hS hl
  have hi := g_dv_iff hD hs hG hq
  obtain ⟨h1, h2, h3⟩ := hh; subst h2
  exact lv_acmp_eq (ry := some (h q)) o.1 o.2.1 h1 h3 (fun c => kt (hi.mp c) H locs ls hP hD hS hl) (fun c => kf (fun z => c (hi.mpr z)) H locs ls hP hD hS hl)
theorem y_sacmp_ne (o : Y K cc own nL d) {i q : Nat} (hs : stOk (S.1 i)) (hG : 10 ≤ G.length) (hq : q = 6 ∨ q = 7 ∨ q = 8 ∨ q = 9) (hh : db cc pc (.if_acmp .ne off) off pc' tgt) (kt : ¬ S.1 i = nI q → Vw K nL (g_W (kd K).1 G h S ++ ex) k n lv tgt st) (kf : S.1 i = nI q → Vw K nL (g_W (kd K).1 G h S ++ ex) k n lv pc' st) : Vw K nL (g_W (kd K).1 G h S ++ ex) k n lv pc (.ref (h q) :: va_rf (g_dv h (S.1 i)) :: st) := by
  intro H locs ls hP hD hS hl
  have hi := g_dv_iff hD hs hG hq
  obtain ⟨h1, h2, h3⟩ := hh; subst h2
  exact lv_acmp_ne (ry := some (h q)) o.1 o.2.1 h1 h3 (fun c => kt (fun z => c (hi.mpr z)) H locs ls hP hD hS hl) (fun c => kf (hi.mp c) H locs ls hP hD hS hl)
theorem y_snull (o : Y K cc own nL d) {i : Nat} (hh : db cc pc (.ifnull off) off pc' tgt) (kt : S.1 i = 0 → Vw K nL (g_W (kd K).1 G h S ++ ex) k n lv tgt st) (kf : ¬ S.1 i = 0 → Vw K nL (g_W (kd K).1 G h S ++ ex) k n lv pc' st) : Vw K nL (g_W (kd K).1 G h S ++ ex) k n lv pc (va_rf (g_dv h (S.1 i)) :: st) := by
  intro H locs ls hP hD hS hl
  obtain ⟨h1, h2, h3⟩ := hh; subst h2
  by_cases c : S.1 i = 0
  · have e : g_dv h (S.1 i) = none := if_pos c
    rw [e]
    exact lv_ifnullN o.1 o.2.1 h1 h3 (kt c H locs ls hP hD hS hl)
  · have e : g_dv h (S.1 i) = some (h (S.1 i).toNatClampNeg) := if_neg c
    rw [e]
    exact lv_ifnull o.1 o.2.1 h1 (kf c H locs ls hP hD hS hl)
theorem y_snonnull (o : Y K cc own nL d) {i : Nat} (hh : db cc pc (.ifnonnull off) off pc' tgt) (kt : ¬ S.1 i = 0 → Vw K nL (g_W (kd K).1 G h S ++ ex) k n lv tgt st) (kf : S.1 i = 0 → Vw K nL (g_W (kd K).1 G h S ++ ex) k n lv pc' st) : Vw K nL (g_W (kd K).1 G h S ++ ex) k n lv pc (va_rf (g_dv h (S.1 i)) :: st) := by
  intro H locs ls hP hD hS hl
  obtain ⟨h1, h2, h3⟩ := hh; subst h2
  by_cases c : S.1 i = 0
  · have e : g_dv h (S.1 i) = none := if_pos c
    rw [e]
    exact lv_ifnonnullN o.1 o.2.1 h1 (kf c H locs ls hP hD hS hl)
  · have e : g_dv h (S.1 i) = some (h (S.1 i).toNatClampNeg) := if_neg c
    rw [e]
    exact lv_ifnonnull o.1 o.2.1 h1 h3 (kt c H locs ls hP hD hS hl)
/-- the stage is known: the reference -/
theorem y_sref {x : Int32} {q : Nat} (e : x = nI q) (h0 : 0 < q) (hq : q < 100) (kk : Vw K nL ws k n lv pc (.ref (h q) :: st)) : Vw K nL ws k n lv pc (va_rf (g_dv h x) :: st) := by
  have e2 : g_dv h x = some (h q) := by
    unfold g_dv
    rw [e, if_neg (nI_ne0 h0 (by omega)), nI_clamp (by omega)]
  rw [e2]
  exact kk
/-- a stage is laid -/
theorem y_puts (o : Y K cc own nL d) {q k0 i idx q1 : Nat} {ty : FieldType} (F : fP G own idx q k0 i (.inr (.inr i)) ty) (hty : ∃ c, ty = .object c) (h0 : 0 < q1) (h1 : q1 < 100) (dd : dk cc pc (.putfield idx) 3 pc') (kk : Vw K nL (g_W (kd K).1 G h (xs S i (nI q1)) ++ ex) k n lv pc' st) : Vw K nL (g_W (kd K).1 G h S ++ ex) k n lv pc (.ref (h q1) :: .ref (h q) :: st) := by
  have e : g_fv h (xs S i (nI q1)) (.inr (.inr i)) = .ref (h q1) := by
    simp only [g_fv, y_xs, g_dv, if_neg (nI_ne0 h0 (show q1 < 2 ^ 31 by omega)), nI_clamp (show q1 < 2 ^ 31 by omega), va_rf]
  obtain ⟨c, rfl⟩ := hty
  have := y_putw (v := nI q1) (h := h) (S := S) (ex := ex) (k := k) (n := n) (lv := lv) (st := st) o F (by rw [e]; rfl) (by rw [e]; rfl) dd kk
  rwa [e] at this
theorem y_puts0 (o : Y K cc own nL d) {q k0 i idx : Nat} {ty : FieldType} (F : fP G own idx q k0 i (.inr (.inr i)) ty) (hty : ∃ c, ty = .object c) (dd : dk cc pc (.putfield idx) 3 pc') (kk : Vw K nL (g_W (kd K).1 G h (xs S i 0) ++ ex) k n lv pc' st) : Vw K nL (g_W (kd K).1 G h S ++ ex) k n lv pc (.null :: .ref (h q) :: st) := by
  have e : g_fv h (xs S i 0) (.inr (.inr i)) = .null := by simp [g_fv, y_xs, g_dv, va_rf]
  obtain ⟨c, rfl⟩ := hty
  have := y_putw (v := 0) (h := h) (S := S) (ex := ex) (k := k) (n := n) (lv := lv) (st := st) o F (by rw [e]; rfl) (by rw [e]; rfl) dd kk
  rwa [e] at this
end YU
