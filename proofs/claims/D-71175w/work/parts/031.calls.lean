/-! contracts and calls -/
abbrev tv_rm (f n : Nat) : Room := { frames := f, cells := 0, slots := 0, locals := n }
abbrev tv_Pc (G : tG) (C : va_W) (sz : Nat) (av : List Value) : Array Value → State → Prop := va_Pc av (fun U => U.heap.size = sz ∧ tv_E G U ∧ va_P G.1 tcl C U.heap ∧ va_D (fun q => G.2.2.1 ≤ q) C)
abbrev tv_B (G : tG) (A : Nat → Prop) (C' : va_W) : Unit → State → Prop := fun _ t => va_P G.1 tcl C' t.heap ∧ va_D A C'
abbrev tv_QI (G : tG) (A : Nat → Prop) (r : Int32) (C' : va_W) : Array Value → State → Outcome → State → Prop := va_Qi (fun x (_ : Unit) => x = r) (tv_B G A C') A
abbrev tv_QL (G : tG) (A : Nat → Prop) (r : Int64) (C' : va_W) : Array Value → State → Outcome → State → Prop := va_Ql (fun x (_ : Unit) => x = r) (tv_B G A C') A
abbrev tv_QV (G : tG) (A : Nat → Prop) (C' : va_W) : Array Value → State → Outcome → State → Prop := va_Qv (fun (_ : Unit) => True) (tv_B G A C') A
/-- y, from the world C with the arguments av: it returns r, and leaves the world C' -/
def tv_I (l : Launch) (y : MethodName) (cc : ByteArray) (nL : Nat) (ret : Option FieldType) (rm : Room) (G : tG) (av : List Value) (C : va_W) (r : Int32) (C' : va_W) : Prop := ∀ sz : Nat, Met l y (ws_ y cc nL ret) rm (tv_Pc G C sz av) (tv_QI G (va_A C sz) r C') rm.cells rm.slots (va_A C sz)
def tv_L (l : Launch) (y : MethodName) (cc : ByteArray) (nL : Nat) (rm : Room) (G : tG) (av : List Value) (C : va_W) (r : Int64) (C' : va_W) : Prop := ∀ sz : Nat, Met l y (ws_ y cc nL (some .long)) rm (tv_Pc G C sz av) (tv_QL G (va_A C sz) r C') rm.cells rm.slots (va_A C sz)
def tv_V (l : Launch) (y : MethodName) (cc : ByteArray) (nL : Nat) (rm : Room) (G : tG) (av : List Value) (C : va_W) (C' : va_W) : Prop := ∀ sz : Nat, Met l y (ws_ y cc nL none) rm (tv_Pc G C sz av) (tv_QV G (va_A C sz) C') rm.cells rm.slots (va_A C sz)
theorem tv_blind {G : tG} {C : va_W} {sz : Nat} {av : List Value} : FrameBlind (tv_Pc G C sz av) := fun a U g mk q => by
  obtain ⟨q0, q1, qE, qP, qD⟩ := q
  exact ⟨q0, q1, qE.calling g mk a, qP, qD⟩
theorem tv_below {G : tG} {C : va_W} {s : State} (hE : tv_E G s) (hD : va_D (fun q => G.2.2.1 ≤ q) C) : ∀ q, va_A C s.heap.size q → G.2.2.1 ≤ q := by
  intro q h
  rcases h with ⟨k, e, h⟩ | h
  · exact hD.2 k _ h
  · exact Nat.le_trans hE.2.2.1 h
/-- the start of a walk -/
theorem tv_I.start {l : Launch} {y : MethodName} {cc : ByteArray} {nL : Nat} {ret : Option FieldType} {rm : Room} {G : tG} {av : List Value} {S : List va_W} {r : Int32} {C' : va_W} (hy : plainName y.cls = true) (hav : (lg_sl av).length ≤ nL)
    (body : ∀ (p : Program) (e : Env) (s : State) (m : MethodId) (below : List Frame) (meth : Method) (c : Code) (A : Nat → Prop), tv_M G A p m c cc nL s av.toArray y.cls meth → meth.sig.returnType = ret → tv_W G A s S s.heap [] → ∀ ls : Array Slot, lv_has ls nL (lv_args 0 av) →
      W p l e rm s m av.toArray below meth c s.heap [] 0 0 (MQ below (tv_QI G A r C') av.toArray s rm.cells rm.slots A) (F0 m 0 ls [])) : tv_I l y cc nL ret rm G av S.flatten r C' := by
  intro sz
  refine Met.ofW (cc := cc) (maxL := nL) (ret := ret) hy rfl ?_
  intro p e s m args below meth c s₁ B hml hv
  obtain ⟨rfl, hsz, hE, hP, hD⟩ := hv
  subst hsz
  have hts := atoms_spec (ws := ws_ y cc nL ret) B.pre
  have hl := lv_entry av (n := nL) hav
  rw [lg_entry_eq]
  exact body p e s m below meth c (va_A S.flatten s.heap.size) ⟨⟨B.exec, B.bytes, hml, findClass_of_methodNamed B.named, fun w h => hts w (List.mem_cons_of_mem _ h)⟩, hE, fun q h => Or.inr h, tv_below hE hD, B.notSynchronized⟩ B.returns ⟨hP, hD.self, va_S.rf⟩ _ hl
theorem tv_L.start {l : Launch} {y : MethodName} {cc : ByteArray} {nL : Nat} {rm : Room} {G : tG} {av : List Value} {S : List va_W} {r : Int64} {C' : va_W} (hy : plainName y.cls = true) (hav : (lg_sl av).length ≤ nL)
    (body : ∀ (p : Program) (e : Env) (s : State) (m : MethodId) (below : List Frame) (meth : Method) (c : Code) (A : Nat → Prop), tv_M G A p m c cc nL s av.toArray y.cls meth → meth.sig.returnType = some .long → tv_W G A s S s.heap [] → ∀ ls : Array Slot, lv_has ls nL (lv_args 0 av) →
      W p l e rm s m av.toArray below meth c s.heap [] 0 0 (MQ below (tv_QL G A r C') av.toArray s rm.cells rm.slots A) (F0 m 0 ls [])) : tv_L l y cc nL rm G av S.flatten r C' := by
  intro sz
  refine Met.ofW (cc := cc) (maxL := nL) (ret := some .long) hy rfl ?_
  intro p e s m args below meth c s₁ B hml hv
  obtain ⟨rfl, hsz, hE, hP, hD⟩ := hv
  subst hsz
  have hts := atoms_spec (ws := ws_ y cc nL (some .long)) B.pre
  have hl := lv_entry av (n := nL) hav
  rw [lg_entry_eq]
  exact body p e s m below meth c (va_A S.flatten s.heap.size) ⟨⟨B.exec, B.bytes, hml, findClass_of_methodNamed B.named, fun w h => hts w (List.mem_cons_of_mem _ h)⟩, hE, fun q h => Or.inr h, tv_below hE hD, B.notSynchronized⟩ B.returns ⟨hP, hD.self, va_S.rf⟩ _ hl
theorem tv_V.start {l : Launch} {y : MethodName} {cc : ByteArray} {nL : Nat} {rm : Room} {G : tG} {av : List Value} {S : List va_W} {C' : va_W} (hy : plainName y.cls = true) (hav : (lg_sl av).length ≤ nL)
    (body : ∀ (p : Program) (e : Env) (s : State) (m : MethodId) (below : List Frame) (meth : Method) (c : Code) (A : Nat → Prop), tv_M G A p m c cc nL s av.toArray y.cls meth → meth.sig.returnType = none → tv_W G A s S s.heap [] → ∀ ls : Array Slot, lv_has ls nL (lv_args 0 av) →
      W p l e rm s m av.toArray below meth c s.heap [] 0 0 (MQ below (tv_QV G A C') av.toArray s rm.cells rm.slots A) (F0 m 0 ls [])) : tv_V l y cc nL rm G av S.flatten C' := by
  intro sz
  refine Met.ofW (cc := cc) (maxL := nL) (ret := none) hy rfl ?_
  intro p e s m args below meth c s₁ B hml hv
  obtain ⟨rfl, hsz, hE, hP, hD⟩ := hv
  subst hsz
  have hts := atoms_spec (ws := ws_ y cc nL none) B.pre
  have hl := lv_entry av (n := nL) hav
  rw [lg_entry_eq]
  exact body p e s m below meth c (va_A S.flatten s.heap.size) ⟨⟨B.exec, B.bytes, hml, findClass_of_methodNamed B.named, fun w h => hts w (List.mem_cons_of_mem _ h)⟩, hE, fun q h => Or.inr h, tv_below hE hD, B.notSynchronized⟩ B.returns ⟨hP, hD.self, va_S.rf⟩ _ hl
/-- where the callee's cells lie among the caller's, and what becomes of the caller's -/
def tv_in (S : List va_W) (C C' : va_W) (S' : List va_W) : Prop := ∃ Z : va_W, S.flatten.Perm (C ++ Z) ∧ S'.flatten.Perm (C' ++ Z)
theorem sg_perm {S : List va_W} {j : Nat} {w : va_W} (hj : S[j]? = some w) : S.flatten.Perm (w ++ (S.set j []).flatten) := by
  rw [sg_split hj, sg_splitS hj, List.nil_append]
  exact List.perm_append_comm_assoc _ _ _
theorem sg_setAt {S : List va_W} {j : Nat} {w w' : va_W} (hj : S[j]? = some w) : (S.set j w')[j]? = some w' := by
  have hlt : j < S.length := (List.getElem?_eq_some_iff.mp hj).1
  simp [hlt]
theorem tv_in.seg {S S' : List va_W} {C C' : va_W} (j : Nat) (hj : S[j]? = some C) (hS : S.set j C' = S') : tv_in S C C' S' := by
  refine ⟨(S.set j []).flatten, sg_perm hj, ?_⟩
  have h := sg_perm (sg_setAt (w' := C') hj)
  rw [List.set_set, hS] at h
  exact h
theorem tv_in.seg2 {S S' : List va_W} {w1 w2 w1' w2' : va_W} (i j : Nat) (hij : i ≠ j) (hi : S[i]? = some w1) (hj : S[j]? = some w2) (hS : (S.set i w1').set j w2' = S') : tv_in S (w1 ++ w2) (w1' ++ w2') S' := by
  have key : ∀ (T : List va_W) (u v : va_W), T[i]? = some u → T[j]? = some v → T.flatten.Perm ((u ++ v) ++ ((T.set i []).set j []).flatten) := by
    intro T u v hu hv
    have h2 : (T.set i [])[j]? = some v := by rw [List.getElem?_set_ne hij]; exact hv
    rw [List.append_assoc]
    exact (sg_perm hu).trans ((sg_perm h2).append_left u)
  refine ⟨((S.set i []).set j []).flatten, key S w1 w2 hi hj, ?_⟩
  have a1 : S'[i]? = some w1' := by rw [← hS, List.getElem?_set_ne (Ne.symm hij)]; exact sg_setAt hi
  have a2 : S'[j]? = some w2' := by
    rw [← hS]
    exact sg_setAt (w := w2) (by rw [List.getElem?_set_ne hij]; exact hj)
  have h := key S' w1' w2' a1 a2
  rw [← hS, List.set_comm w2' [] (Ne.symm hij), List.set_set, List.set_set] at h
  rw [← hS]
  exact h
theorem tv_in.all {S S' : List va_W} : tv_in S S.flatten S'.flatten S' := ⟨[], by simp, by simp⟩
theorem tv_in.pre {S1 S1' S2 : List va_W} : tv_in (S1 ++ S2) S1.flatten S1'.flatten (S1' ++ S2) := ⟨S2.flatten, by simp, by simp⟩
theorem tv_in.suf {S1 S2 S2' : List va_W} : tv_in (S1 ++ S2) S2.flatten S2'.flatten (S1 ++ S2') := ⟨S1.flatten, by simp only [List.flatten_append]; exact List.perm_append_comm, by simp only [List.flatten_append]; exact List.perm_append_comm⟩
theorem tv_in.nil {S : List va_W} : tv_in S [] [] S := ⟨S.flatten, by simp, by simp⟩
theorem va_P.perm {D : va_G} {cl : List vw_C} {w1 w2 : va_W} {H : Heap} (h : va_P D cl w1 H) (hp : w1.Perm w2) : va_P D cl w2 H := va_P.of_mem (fun x hx => h.mem (hp.mem_iff.mpr hx))
theorem va_D.perm {A : Nat → Prop} {w1 w2 : va_W} (h : va_D A w1) (hp : w1.Perm w2) : va_D A w2 := va_D.of_pair (hp.pairwise h.pair (fun e => Ne.symm e)) (fun x hx => h.mem (hp.mem_iff.mpr hx))
section TVC
variable {p : Program} {l : Launch} {e : Env} {R : Room} {s : State} {m : MethodId} {args : Array Value} {below : List Frame} {meth : Method} {c : Code} {H : Heap} {locs : List Loc} {cells slots : Nat} {Q : State → Prop}
variable {cc : ByteArray} {pc nL : Nat} {ls : Array Slot} {rest st0 : List Value} {A : Nat → Prop} {b : Nat} {G : tG} {S S' : List va_W} {own : String} {C C' : va_W} {av : Array Value}
theorem tv_iret {r v : Int32} (M : tv_M G A p m c cc nL s args own meth) (w : tv_W G A s S' H locs) (hr : meth.sig.returnType = some .int) (hv : v = r) (hdg : decode cc pc = .ok (.ireturn, 1)) : W p l e R s m args below meth c H locs cells slots (MQ below (tv_QI G A r S'.flatten) args s cells slots A) (F0 m pc ls [.int v]) := by
  have hlocks : meth.locks = false := M.2.2.2.2
  exact W.iret M.1.1 M.1.2.1 hr (fun t ht hW => ⟨⟨v, (), rfl, hv, by rw [ht]; exact w.1, w.2.1⟩, w.2.2.F ht⟩) w.2.2.2.2 hdg
theorem tv_zret {r v : Int32} {ty : FieldType} (M : tv_M G A p m c cc nL s args own meth) (w : tv_W G A s S' H locs) (hr : meth.sig.returnType = some ty) (hn : narrow ty (.int v) = .int v) (hv : v = r) (hdg : decode cc pc = .ok (.ireturn, 1)) : W p l e R s m args below meth c H locs cells slots (MQ below (tv_QI G A r S'.flatten) args s cells slots A) (F0 m pc ls [.int v]) := by
  have hlocks : meth.locks = false := M.2.2.2.2
  exact W.zret M.1.1 M.1.2.1 hr hn (fun t ht hW => ⟨⟨v, (), rfl, hv, by rw [ht]; exact w.1, w.2.1⟩, w.2.2.F ht⟩) w.2.2.2.2 hdg
theorem tv_lret {r v : Int64} (M : tv_M G A p m c cc nL s args own meth) (w : tv_W G A s S' H locs) (hr : meth.sig.returnType = some .long) (hv : v = r) (hdg : decode cc pc = .ok (.lreturn, 1)) : W p l e R s m args below meth c H locs cells slots (MQ below (tv_QL G A r S'.flatten) args s cells slots A) (F0 m pc ls [.long v]) := by
  have hlocks : meth.locks = false := M.2.2.2.2
  exact W.lret M.1.1 M.1.2.1 hr (fun t ht hW => ⟨⟨v, (), rfl, hv, by rw [ht]; exact w.1, w.2.1⟩, w.2.2.F ht⟩) w.2.2.2.2 hdg
theorem tv_vret (M : tv_M G A p m c cc nL s args own meth) (w : tv_W G A s S' H locs) (hr : meth.sig.returnType = none) (hdg : decode cc pc = .ok (.return_, 1)) : W p l e R s m args below meth c H locs cells slots (MQ below (tv_QV G A S'.flatten) args s cells slots A) (F0 m pc ls []) := by
  have hlocks : meth.locks = false := M.2.2.2.2
  exact W.vret M.1.1 M.1.2.1 hr (fun t ht hW => ⟨⟨(), rfl, trivial, by rw [ht]; exact w.1, w.2.1⟩, w.2.2.F ht⟩) w.2.2.2.2 hdg
theorem tv_ob {y : MethodName} {n : Nat} (h : (y.cls ≠ "java/lang/invoke/MethodHandle" ∧ y.cls ≠ "java/lang/invoke/VarHandle") ∧ (parseMethodDescriptor y.desc).map (fun d => d.parameters.length) = some n) : y.cls ≠ "java/lang/invoke/MethodHandle" ∧ y.cls ≠ "java/lang/invoke/VarHandle" ∧ (parseMethodDescriptor y.desc).map (fun d => d.parameters.length) = some n := ⟨h.1.1, h.1.2, h.2⟩
theorem tv_preU (M : tv_M G A p m c cc nL s args own meth) (w : tv_W G A s S H locs) (hin : tv_in S C C' S') {av : List Value} (U : State) (hU : U.heap = H) (hW : s.WarmedH U.vm) : tv_Pc G C H.size av av.toArray U := by
  obtain ⟨Z, h1, -⟩ := hin
  have hP := w.1.perm h1
  have hD := w.2.1.perm h1
  refine ⟨rfl, by rw [hU], M.2.1.go w.2.2 M.2.2.2.1 hU hW, by rw [hU]; exact va_P.of_mem (fun x hx => hP.mem (List.mem_append_left _ hx)), va_D.of_pair ?_ (fun x hx => M.2.2.2.1 _ (hD.mem (List.mem_append_left _ hx)))⟩
  have hp := hD.pair
  rw [List.pairwise_append] at hp
  exact hp.1
theorem tv_free (M : tv_M G A p m c cc nL s args own meth) (w : tv_W G A s S H locs) (hin : tv_in S C C' S') : ∀ q, va_A C H.size q → A q := by
  obtain ⟨Z, h1, -⟩ := hin
  have hD := w.2.1.perm h1
  intro q h
  rcases h with ⟨k, e, h⟩ | h
  · exact hD.mem (x := (q, e)) (List.mem_append_left _ (List.mem_of_getElem? h))
  · exact M.2.2.1 q (Nat.le_trans w.2.2.1 h)
theorem tv_back {H1 : Heap} {locs1 : List Loc} (M : tv_M G A p m c cc nL s args own meth) (w : tv_W G A s S H locs) (hin : tv_in S C C' S') (hk : ∀ q : Nat, q < H.size → ¬ va_A C H.size q → H1[q]? = H[q]?) (hP1 : va_P G.1 tcl C' H1) (hD1 : va_D (va_A C H.size) C') (hS1 : va_S A s.heap H1 locs1) : tv_W G A s S' H1 locs1 := by
  have hF := tv_free M w hin
  obtain ⟨Z, h1, h2⟩ := hin
  have hP := w.1.perm h1
  have hD := w.2.1.perm h1
  obtain ⟨a1, a2⟩ := fr_join (X := []) hP hD hk hF hP1 hD1
  exact ⟨a1.perm h2.symm, a2.perm h2.symm, hS1⟩
/-- behind a call that answers an int -/
theorem tv_coreI {r : Int32} (M : tv_M G A p m c cc nL s args own meth) (w : tv_W G A s S H locs) (hin : tv_in S C C' S') (hr : va_Run p l e R s m args below meth c H locs cells slots 0 0 (F0 m pc ls st0) rest (tv_QI G (va_A C H.size) r C' av) (va_A C H.size))
    (kk : ∀ (H1 : Heap) (locs1 : List Loc), tv_W G A s S' H1 locs1 → W p l e R s m args below meth c H1 locs1 cells slots Q (F0 m (pc + 3) ls (.int r :: rest))) : W p l e R s m args below meth c H locs cells slots Q (F0 m pc ls st0) := by
  have hF := tv_free M w hin
  refine va_calli hr w.2.2 (fun q _ h => hF q h) hF (fun x u t H1 locs1 ht hvm hx hB hz hk hS1 => ?_)
  obtain ⟨hP1, hD1⟩ := hB
  rw [ht] at hP1
  have hx : x = r := hx
  subst hx
  exact kk H1 locs1 (tv_back M w hin hk hP1 hD1 hS1)
theorem tv_coreL {r : Int64} (M : tv_M G A p m c cc nL s args own meth) (w : tv_W G A s S H locs) (hin : tv_in S C C' S') (hr : va_Run p l e R s m args below meth c H locs cells slots 0 0 (F0 m pc ls st0) rest (tv_QL G (va_A C H.size) r C' av) (va_A C H.size))
    (kk : ∀ (H1 : Heap) (locs1 : List Loc), tv_W G A s S' H1 locs1 → W p l e R s m args below meth c H1 locs1 cells slots Q (F0 m (pc + 3) ls (.long r :: rest))) : W p l e R s m args below meth c H locs cells slots Q (F0 m pc ls st0) := by
  have hF := tv_free M w hin
  refine va_calll hr w.2.2 (fun q _ h => hF q h) hF (fun x u t H1 locs1 ht hvm hx hB hz hk hS1 => ?_)
  obtain ⟨hP1, hD1⟩ := hB
  rw [ht] at hP1
  have hx : x = r := hx
  subst hx
  exact kk H1 locs1 (tv_back M w hin hk hP1 hD1 hS1)
theorem tv_coreV (M : tv_M G A p m c cc nL s args own meth) (w : tv_W G A s S H locs) (hin : tv_in S C C' S') (hr : va_Run p l e R s m args below meth c H locs cells slots 0 0 (F0 m pc ls st0) rest (tv_QV G (va_A C H.size) C' av) (va_A C H.size))
    (kk : ∀ (H1 : Heap) (locs1 : List Loc), tv_W G A s S' H1 locs1 → W p l e R s m args below meth c H1 locs1 cells slots Q (F0 m (pc + 3) ls rest)) : W p l e R s m args below meth c H locs cells slots Q (F0 m pc ls st0) := by
  have hF := tv_free M w hin
  refine va_callv hr w.2.2 (fun q _ h => hF q h) hF (fun u t H1 locs1 ht hvm hx hB hz hk hS1 => ?_)
  obtain ⟨hP1, hD1⟩ := hB
  rw [ht] at hP1
  exact kk H1 locs1 (tv_back M w hin hk hP1 hD1 hS1)
theorem tv_rcv (M : tv_M G A p m c cc nL s args own meth) (w : tv_W G A s S H locs) (hin : tv_in S C C' S') {q0 ci : Nat} {fs : List Value} {r : vw_C} (hc : tcl[ci]? = some r) (hq : C[q0]? = some (b, .inr (ci, fs))) : ∃ cell : Cell, H[b]? = some cell ∧ cell.vm.isStatics = false ∧ s.vm.findClass r.1 = some cell.cls := by
  obtain ⟨Z, h1, -⟩ := hin
  obtain ⟨k, hk⟩ := List.getElem?_of_mem (List.mem_append_left Z (List.mem_of_getElem? hq))
  exact va_recv M.2.1.1 (w.1.perm h1) hc hk
/-- a method's name and answer, for calls -/
abbrev tv_nm (y : MethodName) (n : Nat) : Prop := (y.cls ≠ "java/lang/invoke/MethodHandle" ∧ y.cls ≠ "java/lang/invoke/VarHandle") ∧ (parseMethodDescriptor y.desc).map (fun d => d.parameters.length) = some n
variable {y : MethodName} {bytes : ByteArray} {maxL index n : Nat} {ret : Option FieldType} {As : List Value} {f k : Nat}
/-- through an object, an int back: where its cells lie, the contract, the receiver's place, words, room -/
theorem c_iV {r : Int32} (M : tv_M G A p m c cc nL s args own meth) (w : tv_W G A s S H locs) (hin : tv_in S C C' S') (hct : tv_I l y bytes maxL ret (tv_rm f k) G (.ref b :: As) C r C') {q0 ci N : Nat} {fs : List Value} {T : u_T} {ty : Nat → FieldType} (hc : tv_C ci y.cls T N ty) (hq : C[q0]? = some (b, .inr (ci, fs)))
    (h1 : Cond.methodLink own index y ∈ lw_all) (h2 : Cond.instanceMethod y ∈ lw_all) (h3 : Cond.selects y.cls y y ∈ lw_all) (h4 : Cond.initialized y.cls ∈ lw_all) (h5 : Cond.code y bytes maxL ret ∈ lw_all) (hd : tv_nm y n) (hR : f + 1 ≤ R.frames ∧ 8 + (maxL + 11) + k ≤ R.locals) (hn : As.length = n) (hl : ls.size = nL)
    (hst : st0 = As.reverse ++ .ref b :: rest) (hW : (rest.map fun v => v.category).sum ≤ 8) (hdg : decode cc pc = .ok (.invokevirtual index, 3)) (hf : cells ≤ R.cells ∧ slots ≤ R.slots)
    (kk : ∀ (H1 : Heap) (locs1 : List Loc), tv_W G A s S' H1 locs1 → W p l e R s m args below meth c H1 locs1 cells slots Q (F0 m (pc + 3) ls (.int r :: rest))) : W p l e R s m args below meth c H locs cells slots Q (F0 m pc ls st0) := by
  subst hst
  exact tv_coreI M w hin (va_runV M.1 (hct H.size) (cwV n M.1.2.2.2.2 (lw_V h1 h2 h3 h4 h5) rfl rfl rfl ⟨rfl, hd.1.1, hd.1.2, hd.2⟩ hR) ⟨tv_blind, tv_rcv M w hin hc.1 hq, fun U hU hWm => tv_preU M w hin U hU hWm⟩ rfl hn hl rfl (lv_room hW) hdg hf) kk
theorem c_lV {r : Int64} (M : tv_M G A p m c cc nL s args own meth) (w : tv_W G A s S H locs) (hin : tv_in S C C' S') (hct : tv_L l y bytes maxL (tv_rm f k) G (.ref b :: As) C r C') {q0 ci N : Nat} {fs : List Value} {T : u_T} {ty : Nat → FieldType} (hc : tv_C ci y.cls T N ty) (hq : C[q0]? = some (b, .inr (ci, fs)))
    (h1 : Cond.methodLink own index y ∈ lw_all) (h2 : Cond.instanceMethod y ∈ lw_all) (h3 : Cond.selects y.cls y y ∈ lw_all) (h4 : Cond.initialized y.cls ∈ lw_all) (h5 : Cond.code y bytes maxL (some .long) ∈ lw_all) (hd : tv_nm y n) (hR : f + 1 ≤ R.frames ∧ 8 + (maxL + 11) + k ≤ R.locals) (hn : As.length = n) (hl : ls.size = nL)
    (hst : st0 = As.reverse ++ .ref b :: rest) (hW : (rest.map fun v => v.category).sum ≤ 8) (hdg : decode cc pc = .ok (.invokevirtual index, 3)) (hf : cells ≤ R.cells ∧ slots ≤ R.slots)
    (kk : ∀ (H1 : Heap) (locs1 : List Loc), tv_W G A s S' H1 locs1 → W p l e R s m args below meth c H1 locs1 cells slots Q (F0 m (pc + 3) ls (.long r :: rest))) : W p l e R s m args below meth c H locs cells slots Q (F0 m pc ls st0) := by
  subst hst
  exact tv_coreL M w hin (va_runV M.1 (hct H.size) (cwV n M.1.2.2.2.2 (lw_V h1 h2 h3 h4 h5) rfl rfl rfl ⟨rfl, hd.1.1, hd.1.2, hd.2⟩ hR) ⟨tv_blind, tv_rcv M w hin hc.1 hq, fun U hU hWm => tv_preU M w hin U hU hWm⟩ rfl hn hl rfl (lv_room hW) hdg hf) kk
theorem c_vV (M : tv_M G A p m c cc nL s args own meth) (w : tv_W G A s S H locs) (hin : tv_in S C C' S') (hct : tv_V l y bytes maxL (tv_rm f k) G (.ref b :: As) C C') {q0 ci N : Nat} {fs : List Value} {T : u_T} {ty : Nat → FieldType} (hc : tv_C ci y.cls T N ty) (hq : C[q0]? = some (b, .inr (ci, fs)))
    (h1 : Cond.methodLink own index y ∈ lw_all) (h2 : Cond.instanceMethod y ∈ lw_all) (h3 : Cond.selects y.cls y y ∈ lw_all) (h4 : Cond.initialized y.cls ∈ lw_all) (h5 : Cond.code y bytes maxL none ∈ lw_all) (hd : tv_nm y n) (hR : f + 1 ≤ R.frames ∧ 8 + (maxL + 11) + k ≤ R.locals) (hn : As.length = n) (hl : ls.size = nL)
    (hst : st0 = As.reverse ++ .ref b :: rest) (hW : (rest.map fun v => v.category).sum ≤ 8) (hdg : decode cc pc = .ok (.invokevirtual index, 3)) (hf : cells ≤ R.cells ∧ slots ≤ R.slots)
    (kk : ∀ (H1 : Heap) (locs1 : List Loc), tv_W G A s S' H1 locs1 → W p l e R s m args below meth c H1 locs1 cells slots Q (F0 m (pc + 3) ls rest)) : W p l e R s m args below meth c H locs cells slots Q (F0 m pc ls st0) := by
  subst hst
  exact tv_coreV M w hin (va_runV M.1 (hct H.size) (cwV n M.1.2.2.2.2 (lw_V h1 h2 h3 h4 h5) rfl rfl rfl ⟨rfl, hd.1.1, hd.1.2, hd.2⟩ hR) ⟨tv_blind, tv_rcv M w hin hc.1 hq, fun U hU hWm => tv_preU M w hin U hU hWm⟩ rfl hn hl rfl (lv_room hW) hdg hf) kk
/-- a static method -/
theorem c_iS {r : Int32} (M : tv_M G A p m c cc nL s args own meth) (w : tv_W G A s S H locs) (hin : tv_in S C C' S') (hct : tv_I l y bytes maxL ret (tv_rm f k) G As C r C')
    (h1 : Cond.methodLink own index y ∈ lw_all) (h2 : Cond.static y ∈ lw_all) (h4 : Cond.initialized y.cls ∈ lw_all) (h5 : Cond.code y bytes maxL ret ∈ lw_all) (hd : tv_nm y n) (hR : f + 1 ≤ R.frames ∧ 8 + (maxL + 11) + k ≤ R.locals) (hn : As.length = n) (hl : ls.size = nL)
    (hst : st0 = As.reverse ++ rest) (hW : (rest.map fun v => v.category).sum ≤ 8) (hdg : decode cc pc = .ok (.invokestatic index, 3)) (hf : cells ≤ R.cells ∧ slots ≤ R.slots)
    (kk : ∀ (H1 : Heap) (locs1 : List Loc), tv_W G A s S' H1 locs1 → W p l e R s m args below meth c H1 locs1 cells slots Q (F0 m (pc + 3) ls (.int r :: rest))) : W p l e R s m args below meth c H locs cells slots Q (F0 m pc ls st0) := by
  subst hst
  exact tv_coreI M w hin (va_runS M.1 (hct H.size) (va_cwS n M.1.2.2.2.2 (lw_S h1 h2 h4 h5) rfl rfl rfl ⟨hd.1.1, hd.1.2, hd.2⟩ hR) ⟨tv_blind, fun U hU hWm => tv_preU M w hin U hU hWm⟩ rfl hn hl rfl (lv_room hW) hdg hf) kk
theorem c_lS {r : Int64} (M : tv_M G A p m c cc nL s args own meth) (w : tv_W G A s S H locs) (hin : tv_in S C C' S') (hct : tv_L l y bytes maxL (tv_rm f k) G As C r C')
    (h1 : Cond.methodLink own index y ∈ lw_all) (h2 : Cond.static y ∈ lw_all) (h4 : Cond.initialized y.cls ∈ lw_all) (h5 : Cond.code y bytes maxL (some .long) ∈ lw_all) (hd : tv_nm y n) (hR : f + 1 ≤ R.frames ∧ 8 + (maxL + 11) + k ≤ R.locals) (hn : As.length = n) (hl : ls.size = nL)
    (hst : st0 = As.reverse ++ rest) (hW : (rest.map fun v => v.category).sum ≤ 8) (hdg : decode cc pc = .ok (.invokestatic index, 3)) (hf : cells ≤ R.cells ∧ slots ≤ R.slots)
    (kk : ∀ (H1 : Heap) (locs1 : List Loc), tv_W G A s S' H1 locs1 → W p l e R s m args below meth c H1 locs1 cells slots Q (F0 m (pc + 3) ls (.long r :: rest))) : W p l e R s m args below meth c H locs cells slots Q (F0 m pc ls st0) := by
  subst hst
  exact tv_coreL M w hin (va_runS M.1 (hct H.size) (va_cwS n M.1.2.2.2.2 (lw_S h1 h2 h4 h5) rfl rfl rfl ⟨hd.1.1, hd.1.2, hd.2⟩ hR) ⟨tv_blind, fun U hU hWm => tv_preU M w hin U hU hWm⟩ rfl hn hl rfl (lv_room hW) hdg hf) kk
theorem c_vS (M : tv_M G A p m c cc nL s args own meth) (w : tv_W G A s S H locs) (hin : tv_in S C C' S') (hct : tv_V l y bytes maxL (tv_rm f k) G As C C')
    (h1 : Cond.methodLink own index y ∈ lw_all) (h2 : Cond.static y ∈ lw_all) (h4 : Cond.initialized y.cls ∈ lw_all) (h5 : Cond.code y bytes maxL none ∈ lw_all) (hd : tv_nm y n) (hR : f + 1 ≤ R.frames ∧ 8 + (maxL + 11) + k ≤ R.locals) (hn : As.length = n) (hl : ls.size = nL)
    (hst : st0 = As.reverse ++ rest) (hW : (rest.map fun v => v.category).sum ≤ 8) (hdg : decode cc pc = .ok (.invokestatic index, 3)) (hf : cells ≤ R.cells ∧ slots ≤ R.slots)
    (kk : ∀ (H1 : Heap) (locs1 : List Loc), tv_W G A s S' H1 locs1 → W p l e R s m args below meth c H1 locs1 cells slots Q (F0 m (pc + 3) ls rest)) : W p l e R s m args below meth c H locs cells slots Q (F0 m pc ls st0) := by
  subst hst
  exact tv_coreV M w hin (va_runS M.1 (hct H.size) (va_cwS n M.1.2.2.2.2 (lw_S h1 h2 h4 h5) rfl rfl rfl ⟨hd.1.1, hd.1.2, hd.2⟩ hR) ⟨tv_blind, fun U hU hWm => tv_preU M w hin U hU hWm⟩ rfl hn hl rfl (lv_room hW) hdg hf) kk
/-- a nest mate's static method -/
theorem c_iSN {r : Int32} {host : String} (M : tv_M G A p m c cc nL s args own meth) (w : tv_W G A s S H locs) (hin : tv_in S C C' S') (hct : tv_I l y bytes maxL ret (tv_rm f k) G As C r C')
    (h1 : Cond.methodLinkNest own index y host ∈ lw_tbl) (h2 : Cond.static y ∈ lw_all) (h4 : Cond.initialized y.cls ∈ lw_all) (h5 : Cond.code y bytes maxL ret ∈ lw_all) (hd : tv_nm y n) (hR : f + 1 ≤ R.frames ∧ 8 + (maxL + 11) + k ≤ R.locals) (hn : As.length = n) (hl : ls.size = nL)
    (hst : st0 = As.reverse ++ rest) (hW : (rest.map fun v => v.category).sum ≤ 8) (hdg : decode cc pc = .ok (.invokestatic index, 3)) (hf : cells ≤ R.cells ∧ slots ≤ R.slots)
    (kk : ∀ (H1 : Heap) (locs1 : List Loc), tv_W G A s S' H1 locs1 → W p l e R s m args below meth c H1 locs1 cells slots Q (F0 m (pc + 3) ls (.int r :: rest))) : W p l e R s m args below meth c H locs cells slots Q (F0 m pc ls st0) := by
  subst hst
  exact tv_coreI M w hin (va_runSN M.1 (hct H.size) ⟨va_cnB n M.1.2.2.2.2 (lw_meth h5) rfl rfl rfl (M.2.1.2.1 _ h1 rfl) (M.1.2.2.2.2 _ h4) ⟨hd.1.1, hd.1.2, hd.2⟩ hR, M.1.2.2.2.2 _ h2, trivial⟩ ⟨tv_blind, fun U hU hWm => tv_preU M w hin U hU hWm⟩ rfl hn hl rfl (lv_room hW) hdg hf) kk
theorem c_vSN {host : String} (M : tv_M G A p m c cc nL s args own meth) (w : tv_W G A s S H locs) (hin : tv_in S C C' S') (hct : tv_V l y bytes maxL (tv_rm f k) G As C C')
    (h1 : Cond.methodLinkNest own index y host ∈ lw_tbl) (h2 : Cond.static y ∈ lw_all) (h4 : Cond.initialized y.cls ∈ lw_all) (h5 : Cond.code y bytes maxL none ∈ lw_all) (hd : tv_nm y n) (hR : f + 1 ≤ R.frames ∧ 8 + (maxL + 11) + k ≤ R.locals) (hn : As.length = n) (hl : ls.size = nL)
    (hst : st0 = As.reverse ++ rest) (hW : (rest.map fun v => v.category).sum ≤ 8) (hdg : decode cc pc = .ok (.invokestatic index, 3)) (hf : cells ≤ R.cells ∧ slots ≤ R.slots)
    (kk : ∀ (H1 : Heap) (locs1 : List Loc), tv_W G A s S' H1 locs1 → W p l e R s m args below meth c H1 locs1 cells slots Q (F0 m (pc + 3) ls rest)) : W p l e R s m args below meth c H locs cells slots Q (F0 m pc ls st0) := by
  subst hst
  exact tv_coreV M w hin (va_runSN M.1 (hct H.size) ⟨va_cnB n M.1.2.2.2.2 (lw_meth h5) rfl rfl rfl (M.2.1.2.1 _ h1 rfl) (M.1.2.2.2.2 _ h4) ⟨hd.1.1, hd.1.2, hd.2⟩ hR, M.1.2.2.2.2 _ h2, trivial⟩ ⟨tv_blind, fun U hU hWm => tv_preU M w hin U hU hWm⟩ rfl hn hl rfl (lv_room hW) hdg hf) kk
/-- Math.max, Math.min -/
theorem r_max (M : tv_M G A p m c cc nL s args own meth) (hl : ls.size = nL) (h1 : Cond.methodLink own index Lib.Math.max.name ∈ lw_all) (h2 : Cond.static Lib.Math.max.name ∈ lw_all) (h3 : Cond.initialized "java/lang/Math" ∈ lw_all) (h4 : Cond.code Lib.Math.max.name Lib.Math.max.code 2 (some .int) ∈ lw_all) (hR : 1 ≤ R.frames ∧ (rest.map fun v => v.category).sum + 13 ≤ R.locals) (hf : cells ≤ R.cells ∧ slots ≤ R.slots) {x z v : Int32} (hv : (if x < z then z else x) = v) (hdg : decode cc pc = .ok (.invokestatic index, 3))
    (kk : W p l e R s m args below meth c H locs cells slots Q (F0 m (pc + 3) ls (.int v :: rest))) : W p l e R s m args below meth c H locs cells slots Q (F0 m pc ls (.int z :: .int x :: rest)) := by
  subst hv
  have ht := M.1.2.2.2.2
  exact va_mmax M.1.1 M.1.2.1 (M.1.2.2.1.trans hl.symm) M.1.2.2.2.1 (ht _ h1) (ht _ h2) (ht _ h3) (ht _ h4) hR.1 hR.2 hf.1 hf.2 hdg kk
theorem r_min (M : tv_M G A p m c cc nL s args own meth) (hl : ls.size = nL) (h1 : Cond.methodLink own index Lib.Math.min.name ∈ lw_all) (h2 : Cond.static Lib.Math.min.name ∈ lw_all) (h3 : Cond.initialized "java/lang/Math" ∈ lw_all) (h4 : Cond.code Lib.Math.min.name Lib.Math.min.code 2 (some .int) ∈ lw_all) (hR : 1 ≤ R.frames ∧ (rest.map fun v => v.category).sum + 13 ≤ R.locals) (hf : cells ≤ R.cells ∧ slots ≤ R.slots) {x z v : Int32} (hv : (if z < x then z else x) = v) (hdg : decode cc pc = .ok (.invokestatic index, 3))
    (kk : W p l e R s m args below meth c H locs cells slots Q (F0 m (pc + 3) ls (.int v :: rest))) : W p l e R s m args below meth c H locs cells slots Q (F0 m pc ls (.int z :: .int x :: rest)) := by
  subst hv
  have ht := M.1.2.2.2.2
  exact va_mmin M.1.1 M.1.2.1 (M.1.2.2.1.trans hl.symm) M.1.2.2.2.1 (ht _ h1) (ht _ h2) (ht _ h3) (ht _ h4) hR.1 hR.2 hf.1 hf.2 hdg kk
end TVC
