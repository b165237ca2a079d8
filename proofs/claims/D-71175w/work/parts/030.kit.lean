/-! MY KIT: worlds by segments, what holds all through the run, rows, contracts, calls -/
abbrev tG : Type := va_G × (Nat → ClassId) × Nat × (Nat → Nat)
abbrev tcl : List vw_C := [(RX0, TX0, 17), (RX1, TX1, 7), (RX2, TX2, 5), (RX3, TX3, 2), (RX4, TX4, 32), (RX5, TX5, 8), (RX6, TX6, 8)]
abbrev ttys (K : Nat → ClassId) : List (ClassId × FieldType) := [(K 0, .int), (K 1, .byte), (K 2, .boolean), (K 3, .short), (K 4, .array .int), (K 5, .object RX2), (K 6, .object RX3)]
/-- words that don't ride in lw_all, but stay -/
def tv_nw : Cond → Bool
  | .fieldLinkNest _ _ _ _ _ _ => true
  | .methodLinkNest _ _ _ _ => true
  | .castable _ _ => true
  | .declares _ => true
  | _ => false
theorem tv_nw_warm {w : Cond} (h : tv_nw w = true) {s U : State} (hW : s.WarmedH U.vm) (hz : va_Nw w s) : va_Nw w U := by
  cases w <;> first | exact va_Nw.warmF hW hz | exact va_Nw.warmM hW hz | exact va_Nw.warmC hW hz | exact va_Nw.warmD hW hz | (simp [tv_nw] at h)
/-- the letters of the seven names -/
abbrev tv_len : List Nat := [5, 3, 5, 5, 5, 4, 5]
abbrev tv_byt : List (List Int32) := [[112, 108, 97, 105, 110], [115, 108, 121], [108, 111, 121, 97, 108], [109, 111, 117, 115, 101], [98, 111, 111, 116, 115], [114, 117, 115, 116], [110, 101, 101, 100, 115]]
/-- the statics: ad 0 the array of kinds, 1 .. 4 the kinds, 5 the array of names, 6 .. 12 the names, 13 .. 19 their bytes -/
def tv_st (G : tG) (U : State) (H : Heap) : Prop :=
  (va_Z "TrapdoorVotes" "KINDS" "[LTrapdoorVotes$Plain;" (.ref (G.2.2.2 0)) (fun q => G.2.2.1 ≤ q) U H ∧ va_T (.object "TrapdoorVotes$Plain") (G.2.2.2 0) 4 (fun k => .ref (G.2.2.2 (1 + k))) (fun q => G.2.2.1 ≤ q) U H ∧
    va_O "TrapdoorVotes$Plain" (G.2.2.2 1) (fun q => G.2.2.1 ≤ q) U H ∧ va_O "TrapdoorVotes$Sly" (G.2.2.2 2) (fun q => G.2.2.1 ≤ q) U H ∧ va_O "TrapdoorVotes$Loyal" (G.2.2.2 3) (fun q => G.2.2.1 ≤ q) U H ∧ va_O "TrapdoorVotes$Mouse" (G.2.2.2 4) (fun q => G.2.2.1 ≤ q) U H) ∧
  (va_Z "TrapdoorVotes" "NAMES" "[Ljava/lang/String;" (.ref (G.2.2.2 5)) (fun q => G.2.2.1 ≤ q) U H ∧ va_T (.object "java/lang/String") (G.2.2.2 5) 7 (fun k => .ref (G.2.2.2 (6 + k))) (fun q => G.2.2.1 ≤ q) U H ∧
    vk_S 7 tv_len tv_byt (fun k => G.2.2.2 (6 + k)) (fun k => G.2.2.2 (13 + k)) (fun q => G.2.2.1 ≤ q) U H ∧ va_Z "java/lang/String" "COMPACT_STRINGS" "Z" (.int 1) (fun q => G.2.2.1 ≤ q) U H) ∧
  (va_Zq "java/lang/Throwable" "UNASSIGNED_STACK" "[Ljava/lang/StackTraceElement;" (fun q => G.2.2.1 ≤ q) U H ∧ va_Zq "java/lang/Throwable" "SUPPRESSED_SENTINEL" "Ljava/util/List;" (fun q => G.2.2.1 ≤ q) U H ∧
    va_Zq "jdk/internal/util/Preconditions" "SIOOBE_FORMATTER" "Ljava/util/function/BiFunction;" (fun q => G.2.2.1 ≤ q) U H)
theorem tv_st.moved {G : tG} {u U : State} {H : Heap} (hvm : u.vm.Alike U.vm) (h : tv_st G u H) : tv_st G U H := by
  obtain ⟨⟨a1, a2, a3, a4, a5, a6⟩, ⟨b1, b2, b3, b4⟩, c1, c2, c3⟩ := h
  exact ⟨⟨a1.moved hvm, a2.moved hvm, a3.moved hvm, a4.moved hvm, a5.moved hvm, a6.moved hvm⟩, ⟨b1.moved hvm, b2.moved hvm, b3.moved hvm, b4.moved hvm⟩, c1.moved hvm, c2.moved hvm, c3.moved hvm⟩
theorem tv_st.kept {G : tG} {U : State} {H H1 : Heap} (h : tv_st G U H) (hq : ∀ a : Nat, a < H.size → ¬ (G.2.2.1 ≤ a) → H1[a]? = H[a]?) : tv_st G U H1 := by
  obtain ⟨⟨a1, a2, a3, a4, a5, a6⟩, ⟨b1, b2, b3, b4⟩, c1, c2, c3⟩ := h
  exact ⟨⟨a1.kept hq, a2.kept hq, a3.kept hq, a4.kept hq, a5.kept hq, a6.kept hq⟩, ⟨b1.kept hq, b2.kept hq, b3.kept hq, b4.kept hq⟩, c1.kept hq, c2.kept hq, c3.kept hq⟩
/-- what holds all through the run -/
def tv_E (G : tG) (U : State) : Prop := va_K G.1 tcl (ttys G.2.1) U ∧ (∀ w ∈ lw_tbl, tv_nw w = true → va_Nw w U) ∧ G.2.2.1 ≤ U.heap.size ∧ tv_st G U U.heap
theorem tv_E.go {G : tG} {A : Nat → Prop} {s U : State} {H : Heap} {locs : List Loc} (h : tv_E G s) (hS : va_S A s.heap H locs) (hA : ∀ q, A q → G.2.2.1 ≤ q) (hU : U.heap = H) (hW : s.WarmedH U.vm) : tv_E G U := by
  obtain ⟨h1, h2, h3, h4⟩ := h
  refine ⟨h1.moved hW.alike, fun w hw hn => tv_nw_warm hn hW (h2 w hw hn), by rw [hU]; exact Nat.le_trans h3 hS.1, ?_⟩
  rw [hU]
  exact (h4.kept (fun a ha hn => hS.2.1 a ha (fun z => hn (hA a z)))).moved hW.alike
theorem tv_E.calling {G : tG} {U : State} (h : tv_E G U) (g : JFrame) (mk : MethodId) (a : Array Value) : tv_E G (U.calling g mk a) := by
  obtain ⟨h1, h2, h3, h4⟩ := h
  have hv : (U.calling g mk a).vm = U.vm := rfl
  exact ⟨va_K.moved (u := U) (U := U.calling g mk a) (Vm.Alike.refl U.vm) h1, fun w hw hn => (show va_Nw w (U.calling g mk a) from by
    have := h2 w hw hn
    cases w <;> first | exact va_Nw.same rfl hv.symm this | (simp [tv_nw] at hn)), h3, tv_st.moved (u := U) (U := U.calling g mk a) (Vm.Alike.refl U.vm) h4⟩
/-! segments -/
theorem sg_split {S : List va_W} {j : Nat} {w : va_W} (hj : S[j]? = some w) : S.flatten = (S.take j).flatten ++ (w ++ (S.drop (j + 1)).flatten) := by
  induction S generalizing j with
  | nil => simp at hj
  | cons h t ih =>
    cases j with
    | zero =>
      simp at hj
      subst hj
      simp
    | succ j =>
      simp at hj
      simp [ih hj]
theorem sg_splitS {S : List va_W} {j : Nat} {w w' : va_W} (hj : S[j]? = some w) : (S.set j w').flatten = (S.take j).flatten ++ (w' ++ (S.drop (j + 1)).flatten) := by
  induction S generalizing j with
  | nil => simp at hj
  | cons h t ih =>
    cases j with
    | zero => simp
    | succ j =>
      simp at hj
      simp [ih hj]
theorem sg_at {S : List va_W} {j : Nat} {w : va_W} {q0 : Nat} {x : Nat × va_E} (hj : S[j]? = some w) (hq : w[q0]? = some x) : ∃ k : Nat, S.flatten[k]? = some x ∧ ∀ y, S.flatten.set k y = (S.set j (w.set q0 y)).flatten := by
  have hlt : q0 < w.length := (List.getElem?_eq_some_iff.mp hq).1
  refine ⟨(S.take j).flatten.length + q0, ?_, fun y => ?_⟩
  · rw [sg_split hj, List.getElem?_append_right (by omega)]
    rw [show (S.take j).flatten.length + q0 - (S.take j).flatten.length = q0 by omega, List.getElem?_append_left hlt]
    exact hq
  · rw [sg_splitS hj, sg_split hj, List.set_append_right _ _ (by omega)]
    rw [show (S.take j).flatten.length + q0 - (S.take j).flatten.length = q0 by omega, List.set_append_left _ _ hlt]
theorem va_P.mem {D : va_G} {cl : List vw_C} {ws : va_W} {H : Heap} (h : va_P D cl ws H) {x : Nat × va_E} (hx : x ∈ ws) : va_at D cl x H := by
  obtain ⟨k, hk⟩ := List.getElem?_of_mem hx
  exact h k x hk
theorem va_P.of_mem {D : va_G} {cl : List vw_C} {ws : va_W} {H : Heap} (h : ∀ x ∈ ws, va_at D cl x H) : va_P D cl ws H := fun k x hk => h x (List.mem_of_getElem? hk)
theorem va_D.pair {A : Nat → Prop} {ws : va_W} (h : va_D A ws) : ws.Pairwise (fun x y => x.1 ≠ y.1) := by
  refine List.pairwise_iff_getElem.mpr (fun i j hi hj hij e => ?_)
  exact absurd (h.1 i j _ _ (List.getElem?_eq_getElem hi) (List.getElem?_eq_getElem hj) e) (Nat.ne_of_lt hij)
theorem va_D.mem {A : Nat → Prop} {ws : va_W} (h : va_D A ws) {x : Nat × va_E} (hx : x ∈ ws) : A x.1 := by
  obtain ⟨k, hk⟩ := List.getElem?_of_mem hx
  exact h.2 k x hk
theorem va_D.of_pair {A : Nat → Prop} {ws : va_W} (h : ws.Pairwise (fun x y => x.1 ≠ y.1)) (hA : ∀ x ∈ ws, A x.1) : va_D A ws := by
  refine ⟨fun i j p q hp hq e => ?_, fun k q hk => hA q (List.mem_of_getElem? hk)⟩
  obtain ⟨hi, hpi⟩ := List.getElem?_eq_some_iff.mp hp
  obtain ⟨hj, hqj⟩ := List.getElem?_eq_some_iff.mp hq
  rcases Nat.lt_trichotomy i j with h1 | h1 | h1
  · exact absurd (by rw [hpi, hqj]; exact e) (List.pairwise_iff_getElem.mp h i j hi hj h1)
  · exact h1
  · exact absurd (by rw [hpi, hqj]; exact e.symm) (List.pairwise_iff_getElem.mp h j i hj hi h1)
/-- the frame rule on lists: C in the middle -/
theorem fr_join {D : va_G} {cl : List vw_C} {A : Nat → Prop} {X C Y C' : va_W} {H H1 : Heap} (hP : va_P D cl (X ++ (C ++ Y)) H) (hD : va_D A (X ++ (C ++ Y))) (hk : ∀ q : Nat, q < H.size → ¬ va_A C H.size q → H1[q]? = H[q]?) (hF : ∀ q, va_A C H.size q → A q)
    (hP1 : va_P D cl C' H1) (hD1 : va_D (va_A C H.size) C') : va_P D cl (X ++ (C' ++ Y)) H1 ∧ va_D A (X ++ (C' ++ Y)) := by
  have hp := hD.pair
  rw [List.pairwise_append, List.pairwise_append] at hp
  obtain ⟨pX, ⟨pC, pY, pCY⟩, pXR⟩ := hp
  have outX : ∀ x ∈ X, x.1 < H.size ∧ ¬ va_A C H.size x.1 := by
    intro x hx
    have hl := (hP.mem (List.mem_append_left _ hx)).lt
    refine ⟨hl, fun h => ?_⟩
    rcases h with ⟨k, e, h⟩ | h
    · exact pXR x hx (x.1, e) (List.mem_append_left _ (List.mem_of_getElem? h)) rfl
    · omega
  have outY : ∀ x ∈ Y, x.1 < H.size ∧ ¬ va_A C H.size x.1 := by
    intro x hx
    have hl := (hP.mem (List.mem_append_right _ (List.mem_append_right _ hx))).lt
    refine ⟨hl, fun h => ?_⟩
    rcases h with ⟨k, e, h⟩ | h
    · exact pCY (x.1, e) (List.mem_of_getElem? h) x hx rfl
    · omega
  refine ⟨va_P.of_mem (fun x hx => ?_), va_D.of_pair ?_ (fun x hx => ?_)⟩
  · rcases List.mem_append.mp hx with h | h
    · exact (hP.mem (List.mem_append_left _ h)).kept (hk _ (outX x h).1 (outX x h).2)
    · rcases List.mem_append.mp h with h | h
      · exact hP1.mem h
      · exact (hP.mem (List.mem_append_right _ (List.mem_append_right _ h))).kept (hk _ (outY x h).1 (outY x h).2)
  · rw [List.pairwise_append, List.pairwise_append]
    refine ⟨pX, ⟨hD1.pair, pY, fun x hx y hy e => ?_⟩, fun x hx y hy e => ?_⟩
    · exact (outY y hy).2 (by rw [← e]; exact hD1.mem hx)
    · rcases List.mem_append.mp hy with h | h
      · exact (outX x hx).2 (by rw [e]; exact hD1.mem h)
      · exact pXR x hx y (List.mem_append_right _ h) e
  · rcases List.mem_append.mp hx with h | h
    · exact hD.mem (List.mem_append_left _ h)
    · rcases List.mem_append.mp h with h | h
      · exact hF _ (hD1.mem h)
      · exact hD.mem (List.mem_append_right _ (List.mem_append_right _ h))
/-! the world in a walk, the method in a walk, the classes -/
def tv_W (G : tG) (A : Nat → Prop) (s : State) (S : List va_W) (H : Heap) (locs : List Loc) : Prop := va_P G.1 tcl S.flatten H ∧ va_D A S.flatten ∧ va_S A s.heap H locs
def tv_M (G : tG) (A : Nat → Prop) (p : Program) (m : MethodId) (c : Code) (cc : ByteArray) (nL : Nat) (s : State) (args : Array Value) (own : String) (meth : Method) : Prop :=
  CallFix p m c cc nL s args lw_all own ∧ tv_E G s ∧ (∀ q, s.heap.size ≤ q → A q) ∧ (∀ q, A q → G.2.2.1 ≤ q) ∧ meth.locks = false
def tv_C (ci : Nat) (C : String) (T : u_T) (N : Nat) (ty : Nat → FieldType) : Prop := tcl[ci]? = some (C, T, N) ∧ (∀ w ∈ u_ws C T N, w ∈ lw_all) ∧ (∀ k, k < N → parseFieldDescriptor (T k).2.2.1 = some (ty k)) ∧ ∀ a, a < N → ∀ b, b < N → a ≠ b → (T a).2.1 ≠ (T b).2.1
theorem tc0 : tv_C 0 RX0 TX0 17 tyX0 := ⟨rfl, in_X0, tyX0_ok, nmX0⟩
theorem tc1 : tv_C 1 RX1 TX1 7 tyX1 := ⟨rfl, in_X1, tyX1_ok, nmX1⟩
theorem tc2 : tv_C 2 RX2 TX2 5 tyX2 := ⟨rfl, in_X2, tyX2_ok, nmX2⟩
theorem tc3 : tv_C 3 RX3 TX3 2 tyX3 := ⟨rfl, in_X3, tyX3_ok, nmX3⟩
theorem tc4 : tv_C 4 RX4 TX4 32 tyX4 := ⟨rfl, in_X4, tyX4_ok, nmX4⟩
theorem tc5 : tv_C 5 RX5 TX5 8 tyX5 := ⟨rfl, in_X5, tyX5_ok, nmX5⟩
theorem tc6 : tv_C 6 RX6 TX6 8 tyX6 := ⟨rfl, in_X6, tyX6_ok, nmX6⟩
section TVR
variable {p : Program} {l : Launch} {e : Env} {R : Room} {s : State} {m : MethodId} {args : Array Value} {below : List Frame} {meth : Method} {c : Code} {H : Heap} {locs : List Loc} {cells slots : Nat} {Q : State → Prop}
variable {cc : ByteArray} {pc nL : Nat} {ls : Array Slot} {rest : List Value} {A : Nat → Prop} {a : Nat} {G : tG} {S : List va_W} {own : String}
theorem r_get (M : tv_M G A p m c cc nL s args own meth) (w : tv_W G A s S H locs) {ci N index : Nat} {C ref : String} {T : u_T} {ty : Nat → FieldType} (hc : tv_C ci C T N ty) (j q0 k : Nat) {sg : va_W} (hj : S[j]? = some sg) {fs : List Value} (hq : sg[q0]? = some (a, .inr (ci, fs))) (hk : k < N)
    (hl : Cond.fieldLink own index ref (T k).2.1 (T k).2.2.1 ∈ lw_all) (hr : (T k).1 = ref) {v : Value} (hv : fs[k]? = some v) (hdg : decode cc pc = .ok (.getfield index, 3))
    (kk : W p l e R s m args below meth c H locs cells slots Q (F0 m (pc + 3) ls (v :: rest))) : W p l e R s m args below meth c H locs cells slots Q (F0 m pc ls (.ref a :: rest)) := by
  obtain ⟨⟨hx, hb, hml, hown, hts⟩, hE, -⟩ := M
  obtain ⟨x, hx1, -⟩ := sg_at hj hq
  subst hr
  exact va_get hx hb hts hc.2.1 hown hE.1 w.1 x hx1 hc.1 k hk (hts _ hl) (fun _ h => h) hv hdg kk
theorem r_getN (M : tv_M G A p m c cc nL s args own meth) (w : tv_W G A s S H locs) {ci N index : Nat} {C ref host : String} {T : u_T} {ty : Nat → FieldType} (hc : tv_C ci C T N ty) (j q0 k : Nat) {sg : va_W} (hj : S[j]? = some sg) {fs : List Value} (hq : sg[q0]? = some (a, .inr (ci, fs))) (hk : k < N)
    (hl : Cond.fieldLinkNest own index ref (T k).2.1 (T k).2.2.1 host ∈ lw_tbl) (hr : (T k).1 = ref) {v : Value} (hv : fs[k]? = some v) (hdg : decode cc pc = .ok (.getfield index, 3))
    (kk : W p l e R s m args below meth c H locs cells slots Q (F0 m (pc + 3) ls (v :: rest))) : W p l e R s m args below meth c H locs cells slots Q (F0 m pc ls (.ref a :: rest)) := by
  obtain ⟨⟨hx, hb, hml, hown, hts⟩, hE, -⟩ := M
  obtain ⟨x, hx1, -⟩ := sg_at hj hq
  subst hr
  exact va_getN hx hb hts hc.2.1 hown hE.1 w.1 x hx1 hc.1 k hk (va_Nw.use rfl (hE.2.1 _ hl rfl)) (fun _ h => h) hv hdg kk
theorem r_put (M : tv_M G A p m c cc nL s args own meth) (w : tv_W G A s S H locs) {ci N index : Nat} {C ref : String} {T : u_T} {ty : Nat → FieldType} (hc : tv_C ci C T N ty) (j q0 k : Nat) {sg : va_W} (hj : S[j]? = some sg) {fs : List Value} (hq : sg[q0]? = some (a, .inr (ci, fs))) (hk : k < N)
    (hl : Cond.fieldLink own index ref (T k).2.1 (T k).2.2.1 ∈ lw_all) (hr : (T k).1 = ref) (hfin : (T k).2.2.2 = false) {v : Value} (hn : narrow (ty k) v = v) (hfit : fits (ty k) v = true) (hlen : k < fs.length) {S' : List va_W} (hS : S.set j (sg.set q0 (a, .inr (ci, fs.set k v))) = S') (hdg : decode cc pc = .ok (.putfield index, 3))
    (kk : ∀ (H1 : Heap) (locs1 : List Loc), tv_W G A s S' H1 locs1 → W p l e R s m args below meth c H1 locs1 cells slots Q (F0 m (pc + 3) ls rest)) : W p l e R s m args below meth c H locs cells slots Q (F0 m pc ls (v :: .ref a :: rest)) := by
  obtain ⟨⟨hx, hb, hml, hown, hts⟩, hE, -⟩ := M
  obtain ⟨x, hx1, hx2⟩ := sg_at hj hq
  subst hr
  refine va_put hx hb hts hc.2.1 ty hc.2.2.1 hc.2.2.2 hown hE.1 w.1 w.2.1 w.2.2 x hx1 hc.1 k hk (hts _ hl) (fun _ h => h) hfin (hc.2.2.1 k hk) hn hfit hlen hdg (fun H1 locs1 q1 q2 q3 => ?_)
  rw [hx2, hS] at q1 q2
  exact kk H1 locs1 ⟨q1, q2, q3⟩
theorem r_putN (M : tv_M G A p m c cc nL s args own meth) (w : tv_W G A s S H locs) {ci N index : Nat} {C ref host : String} {T : u_T} {ty : Nat → FieldType} (hc : tv_C ci C T N ty) (j q0 k : Nat) {sg : va_W} (hj : S[j]? = some sg) {fs : List Value} (hq : sg[q0]? = some (a, .inr (ci, fs))) (hk : k < N)
    (hl : Cond.fieldLinkNest own index ref (T k).2.1 (T k).2.2.1 host ∈ lw_tbl) (hr : (T k).1 = ref) (hfin : (T k).2.2.2 = false) {v : Value} (hn : narrow (ty k) v = v) (hfit : fits (ty k) v = true) (hlen : k < fs.length) {S' : List va_W} (hS : S.set j (sg.set q0 (a, .inr (ci, fs.set k v))) = S') (hdg : decode cc pc = .ok (.putfield index, 3))
    (kk : ∀ (H1 : Heap) (locs1 : List Loc), tv_W G A s S' H1 locs1 → W p l e R s m args below meth c H1 locs1 cells slots Q (F0 m (pc + 3) ls rest)) : W p l e R s m args below meth c H locs cells slots Q (F0 m pc ls (v :: .ref a :: rest)) := by
  obtain ⟨⟨hx, hb, hml, hown, hts⟩, hE, -⟩ := M
  obtain ⟨x, hx1, hx2⟩ := sg_at hj hq
  subst hr
  refine va_putN hx hb hts hc.2.1 ty hc.2.2.1 hc.2.2.2 hown hE.1 w.1 w.2.1 w.2.2 x hx1 hc.1 k hk (va_Nw.use rfl (hE.2.1 _ hl rfl)) (fun _ h => h) hfin (hc.2.2.1 k hk) hn hfit hlen hdg (fun H1 locs1 q1 q2 q3 => ?_)
  rw [hx2, hS] at q1 q2
  exact kk H1 locs1 ⟨q1, q2, q3⟩
/-- an int array's place -/
theorem r_iald (M : tv_M G A p m c cc nL s args own meth) (w : tv_W G A s S H locs) (j q0 : Nat) {sg : va_W} (hj : S[j]? = some sg) {n : Nat} {f : Nat → Int32} (hq : sg[q0]? = some (a, .inl (G.2.1 0, n, .inl f))) {i : Int32} (hin : vp_in i n) {v : Int32} (hv : f i.toNatClampNeg = v) (hdg : decode cc pc = .ok (.iaload, 1))
    (kk : W p l e R s m args below meth c H locs cells slots Q (F0 m (pc + 1) ls (.int v :: rest))) : W p l e R s m args below meth c H locs cells slots Q (F0 m pc ls (.int i :: .ref a :: rest)) := by
  obtain ⟨⟨hx, hb, hml, hown, hts⟩, hE, -⟩ := M
  obtain ⟨x, hx1, -⟩ := sg_at hj hq
  subst hv
  exact va_iald hx hb hE.1 w.1 x 0 hx1 rfl hin hdg kk
theorem r_iast (M : tv_M G A p m c cc nL s args own meth) (w : tv_W G A s S H locs) (j q0 : Nat) {sg : va_W} (hj : S[j]? = some sg) {n : Nat} {f : Nat → Int32} (hq : sg[q0]? = some (a, .inl (G.2.1 0, n, .inl f))) {i x : Int32} (hin : vp_in i n) {S' : List va_W} (hS : S.set j (sg.set q0 (a, .inl (G.2.1 0, n, .inl (upd f i.toNatClampNeg x)))) = S') (hdg : decode cc pc = .ok (.iastore, 1))
    (kk : ∀ (H1 : Heap) (locs1 : List Loc), tv_W G A s S' H1 locs1 → W p l e R s m args below meth c H1 locs1 cells slots Q (F0 m (pc + 1) ls rest)) : W p l e R s m args below meth c H locs cells slots Q (F0 m pc ls (.int x :: .int i :: .ref a :: rest)) := by
  obtain ⟨⟨hx, hb, hml, hown, hts⟩, hE, -⟩ := M
  obtain ⟨z, hx1, hx2⟩ := sg_at hj hq
  refine va_iast hx hb hE.1 w.1 w.2.1 w.2.2 z 0 hx1 rfl hin hdg (fun H1 locs1 q1 q2 q3 => ?_)
  rw [hx2, hS] at q1 q2
  exact kk H1 locs1 ⟨q1, q2, q3⟩
theorem r_bald (M : tv_M G A p m c cc nL s args own meth) (w : tv_W G A s S H locs) (j q0 : Nat) {sg : va_W} (hj : S[j]? = some sg) {n : Nat} {f : Nat → Int32} (hq : sg[q0]? = some (a, .inl (G.2.1 1, n, .inl f))) {i : Int32} (hin : vp_in i n) {v : Int32} (hv : f i.toNatClampNeg = v) (hdg : decode cc pc = .ok (.baload, 1))
    (kk : W p l e R s m args below meth c H locs cells slots Q (F0 m (pc + 1) ls (.int v :: rest))) : W p l e R s m args below meth c H locs cells slots Q (F0 m pc ls (.int i :: .ref a :: rest)) := by
  obtain ⟨⟨hx, hb, hml, hown, hts⟩, hE, -⟩ := M
  obtain ⟨x, hx1, -⟩ := sg_at hj hq
  subst hv
  exact va_bald hx hb hE.1 w.1 x 1 hx1 rfl hin hdg kk
theorem r_bast (M : tv_M G A p m c cc nL s args own meth) (w : tv_W G A s S H locs) (j q0 : Nat) {sg : va_W} (hj : S[j]? = some sg) {n : Nat} {f : Nat → Int32} (hq : sg[q0]? = some (a, .inl (G.2.1 1, n, .inl f))) {i x : Int32} (hin : vp_in i n) {S' : List va_W} (hS : S.set j (sg.set q0 (a, .inl (G.2.1 1, n, .inl (upd f i.toNatClampNeg (vp_nar .byte x))))) = S') (hdg : decode cc pc = .ok (.bastore, 1))
    (kk : ∀ (H1 : Heap) (locs1 : List Loc), tv_W G A s S' H1 locs1 → W p l e R s m args below meth c H1 locs1 cells slots Q (F0 m (pc + 1) ls rest)) : W p l e R s m args below meth c H locs cells slots Q (F0 m pc ls (.int x :: .int i :: .ref a :: rest)) := by
  obtain ⟨⟨hx, hb, hml, hown, hts⟩, hE, -⟩ := M
  obtain ⟨z, hx1, hx2⟩ := sg_at hj hq
  refine va_bast hx hb hE.1 w.1 w.2.1 w.2.2 z 1 hx1 rfl hin hdg (fun H1 locs1 q1 q2 q3 => ?_)
  rw [hx2, hS] at q1 q2
  exact kk H1 locs1 ⟨q1, q2, q3⟩
theorem r_zald (M : tv_M G A p m c cc nL s args own meth) (w : tv_W G A s S H locs) (j q0 : Nat) {sg : va_W} (hj : S[j]? = some sg) {n : Nat} {f : Nat → Int32} (hq : sg[q0]? = some (a, .inl (G.2.1 2, n, .inl f))) {i : Int32} (hin : vp_in i n) {v : Int32} (hv : f i.toNatClampNeg = v) (hdg : decode cc pc = .ok (.baload, 1))
    (kk : W p l e R s m args below meth c H locs cells slots Q (F0 m (pc + 1) ls (.int v :: rest))) : W p l e R s m args below meth c H locs cells slots Q (F0 m pc ls (.int i :: .ref a :: rest)) := by
  obtain ⟨⟨hx, hb, hml, hown, hts⟩, hE, -⟩ := M
  obtain ⟨x, hx1, -⟩ := sg_at hj hq
  subst hv
  exact va_zald hx hb hE.1 w.1 x 2 hx1 rfl hin hdg kk
theorem r_zast (M : tv_M G A p m c cc nL s args own meth) (w : tv_W G A s S H locs) (j q0 : Nat) {sg : va_W} (hj : S[j]? = some sg) {n : Nat} {f : Nat → Int32} (hq : sg[q0]? = some (a, .inl (G.2.1 2, n, .inl f))) {i x : Int32} (hin : vp_in i n) {S' : List va_W} (hS : S.set j (sg.set q0 (a, .inl (G.2.1 2, n, .inl (upd f i.toNatClampNeg (vp_nar .boolean x))))) = S') (hdg : decode cc pc = .ok (.bastore, 1))
    (kk : ∀ (H1 : Heap) (locs1 : List Loc), tv_W G A s S' H1 locs1 → W p l e R s m args below meth c H1 locs1 cells slots Q (F0 m (pc + 1) ls rest)) : W p l e R s m args below meth c H locs cells slots Q (F0 m pc ls (.int x :: .int i :: .ref a :: rest)) := by
  obtain ⟨⟨hx, hb, hml, hown, hts⟩, hE, -⟩ := M
  obtain ⟨z, hx1, hx2⟩ := sg_at hj hq
  refine va_zast hx hb hE.1 w.1 w.2.1 w.2.2 z 2 hx1 rfl hin hdg (fun H1 locs1 q1 q2 q3 => ?_)
  rw [hx2, hS] at q1 q2
  exact kk H1 locs1 ⟨q1, q2, q3⟩
/-- an array of references -/
theorem r_aald (M : tv_M G A p m c cc nL s args own meth) (w : tv_W G A s S H locs) (j q0 t0 : Nat) {sg : va_W} (hj : S[j]? = some sg) {n : Nat} {cA : ClassId} {ty : FieldType} {f : Nat → Option Nat} (hq : sg[q0]? = some (a, .inl (cA, n, .inr (.inr (.inr (.inr f)))))) (ht : (ttys G.2.1)[t0]? = some (cA, ty)) (hty : ty.isReference = true) {i : Int32} (hin : vp_in i n) {v : Nat} (hv : f i.toNatClampNeg = some v) (hdg : decode cc pc = .ok (.aaload, 1))
    (kk : W p l e R s m args below meth c H locs cells slots Q (F0 m (pc + 1) ls (.ref v :: rest))) : W p l e R s m args below meth c H locs cells slots Q (F0 m pc ls (.int i :: .ref a :: rest)) := by
  obtain ⟨⟨hx, hb, hml, hown, hts⟩, hE, -⟩ := M
  obtain ⟨x, hx1, -⟩ := sg_at hj hq
  have hlt : i.toNatClampNeg < n := Nat.not_le.mp fun q => hin (Or.inr q)
  exact W.aald (v := .ref v) (ty := ty) hx hb (w.1 x _ hx1) ((hE.1.2 t0 _ ht).1 n (fun j => va_rf (f j))) hty (fun q => by cases q) (by show ¬ (i < 0 ∨ (arrV _ _ _).slots.size ≤ _); rw [arrV_size]; exact hin) (by show (arrV _ _ _).slots[_]? = _; rw [arrV_read _ _ hlt, hv]; rfl) rfl rfl hdg kk
theorem r_alen (M : tv_M G A p m c cc nL s args own meth) (w : tv_W G A s S H locs) (j q0 t0 : Nat) {sg : va_W} (hj : S[j]? = some sg) {cA : ClassId} {x : vp_A} {ty : FieldType} (hq : sg[q0]? = some (a, .inl (cA, x))) (ht : (ttys G.2.1)[t0]? = some (cA, ty)) {v : Int32} (hv : Int32.ofNat x.1 = v) (hdg : decode cc pc = .ok (.arraylength, 1))
    (kk : W p l e R s m args below meth c H locs cells slots Q (F0 m (pc + 1) ls (.int v :: rest))) : W p l e R s m args below meth c H locs cells slots Q (F0 m pc ls (.ref a :: rest)) := by
  obtain ⟨⟨hx, hb, hml, hown, hts⟩, hE, -⟩ := M
  obtain ⟨z, hx1, -⟩ := sg_at hj hq
  exact va_alen hx hb hE.1 w.1 z t0 hx1 ht hv hdg kk
end TVR
