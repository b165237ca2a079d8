/-! loops, rows, the stage's cells -/
def lp {α : Type} (f : Nat → α → α) : Nat → α → α
  | 0, x => x
  | n + 1, x => f n (lp f n x)
def b2 (c : Prop) [Decidable c] : Int32 := if c then 1 else 0
/-- a row of n places of a flat memory, from o on -/
def row (g : Nat → Int32) (o n : Nat) : Nat → Int32 := fun i => if i < n then g (o + i) else 0
/-- an outer array: n addresses from a on -/
def oref (a n : Nat) : Nat → Option Nat := fun i => if i < n then some (a + i) else none
theorem row_out {g : Nat → Int32} {o n q : Nat} {x : Int32} (h : q < o ∨ o + n ≤ q) : row (upd g q x) o n = row g o n := by
  funext i
  unfold row upd
  by_cases hi : i < n
  · rw [if_pos hi, if_pos hi, if_neg (by omega)]
  · rw [if_neg hi, if_neg hi]
theorem row_in {g : Nat → Int32} {o n i : Nat} {x : Int32} (h : i < n) : upd (row g o n) i x = row (upd g (o + i) x) o n := by
  funext k
  unfold row upd
  by_cases hk : k = i
  · subst hk
    rw [if_pos rfl, if_pos h, if_pos rfl]
  · rw [if_neg hk]
    by_cases hn : k < n
    · show (if k < n then g (o + k) else 0) = _
      rw [if_pos hn, if_pos hn, if_neg (by omega)]
    · show (if k < n then g (o + k) else 0) = _
      rw [if_neg hn, if_neg hn]
theorem row_nI {g : Nat → Int32} {o n i : Nat} (h : i < n) (hn : n < 2 ^ 31) : row g o n (nI i).toNatClampNeg = g (o + i) := by
  rw [nI_clamp (by omega)]
  exact if_pos h
theorem oref_nI {a n i : Nat} (h : i < n) (hn : n < 2 ^ 31) : oref a n (nI i).toNatClampNeg = some (a + i) := by
  rw [nI_clamp (by omega)]
  exact if_pos h
theorem vp_cl {x : Int32} {n : Nat} (h : vp_in x n) : x.toNatClampNeg < n := Nat.not_le.mp fun q => h (Or.inr q)
theorem oref_in {a n : Nat} {x : Int32} (h : vp_in x n) : oref a n x.toNatClampNeg = some (a + x.toNatClampNeg) := if_pos (vp_cl h)
theorem row_inx {g : Nat → Int32} {o n : Nat} {x : Int32} (h : vp_in x n) : row g o n x.toNatClampNeg = g (o + x.toNatClampNeg) := if_pos (vp_cl h)
theorem upd_ne {g : Nat → Int32} {q k : Nat} {x : Int32} (h : k ≠ q) : upd g q x k = g k := if_neg h
theorem upd_eq {g : Nat → Int32} {q : Nat} {x : Int32} : upd g q x q = x := if_pos rfl
theorem nI_inc (i : Nat) : nI i + Int32.ofInt 1 = nI (i + 1) := (nI_succ i).symm
theorem lt2 {P : Nat → Prop} (h0 : P 0) (h1 : P 1) {i : Nat} (hi : i < 2) : P i := by
  match i, hi with
  | 0, _ => exact h0
  | 1, _ => exact h1
theorem lt3 {P : Nat → Prop} (h0 : P 0) (h1 : P 1) (h2 : P 2) {i : Nat} (hi : i < 3) : P i := by
  match i, hi with
  | 0, _ => exact h0
  | 1, _ => exact h1
  | 2, _ => exact h2
theorem lt4 {P : Nat → Prop} (h0 : P 0) (h1 : P 1) (h2 : P 2) (h3 : P 3) {i : Nat} (hi : i < 4) : P i := by
  match i, hi with
  | 0, _ => exact h0
  | 1, _ => exact h1
  | 2, _ => exact h2
  | 3, _ => exact h3
theorem lt6 {P : Nat → Prop} (h0 : P 0) (h1 : P 1) (h2 : P 2) (h3 : P 3) (h4 : P 4) (h5 : P 5) {i : Nat} (hi : i < 6) : P i := by
  match i, hi with
  | 0, _ => exact h0
  | 1, _ => exact h1
  | 2, _ => exact h2
  | 3, _ => exact h3
  | 4, _ => exact h4
  | 5, _ => exact h5
section TVW
variable {p : Program} {l : Launch} {e : Env} {R : Room} {s : State} {m : MethodId} {args : Array Value} {below : List Frame} {meth : Method} {c : Code} {H : Heap} {locs : List Loc} {cells slots : Nat} {Q : State → Prop}
variable {pc : Nat} {ls : Array Slot} {rest : List Value}
/-- two roads meet: what follows is walked once -/
theorem w_cut {g g2 : JFrame} (h : W p l e R s m args below meth c H locs cells slots Q g2 → W p l e R s m args below meth c H locs cells slots Q g) (k : W p l e R s m args below meth c H locs cells slots Q g2) : W p l e R s m args below meth c H locs cells slots Q g := h k
theorem w_topi {x y : Int32} (h : x = y) (k : W p l e R s m args below meth c H locs cells slots Q (F0 m pc ls (.int x :: rest))) : W p l e R s m args below meth c H locs cells slots Q (F0 m pc ls (.int y :: rest)) := h ▸ k
theorem w_topl {x y : Int64} (h : x = y) (k : W p l e R s m args below meth c H locs cells slots Q (F0 m pc ls (.long x :: rest))) : W p l e R s m args below meth c H locs cells slots Q (F0 m pc ls (.long y :: rest)) := h ▸ k
/-- roads that have turned the heap or the locals meet -/
theorem w_join {g : JFrame} {pc2 : Nat} {st : List Value} (I : Heap → List Loc → Array Slot → Prop) (k : ∀ (H1 : Heap) (locs1 : List Loc) (ls1 : Array Slot), I H1 locs1 ls1 → W p l e R s m args below meth c H1 locs1 cells slots Q (F0 m pc2 ls1 st)) (h : (∀ (H1 : Heap) (locs1 : List Loc) (ls1 : Array Slot), I H1 locs1 ls1 → W p l e R s m args below meth c H1 locs1 cells slots Q (F0 m pc2 ls1 st)) → W p l e R s m args below meth c H locs cells slots Q g) : W p l e R s m args below meth c H locs cells slots Q g := h k
/-- a loop that counts up: i its state's number, N its last -/
theorem w_for {pc : Nat} (I : Nat → Heap → List Loc → Array Slot → Prop) (N : Nat) (hx : ∀ (H : Heap) (locs : List Loc) (ls : Array Slot), I N H locs ls → W p l e R s m args below meth c H locs cells slots Q (F0 m pc ls []))
    (hs : ∀ i, i < N → ∀ (H : Heap) (locs : List Loc) (ls : Array Slot), I i H locs ls → (∀ (H1 : Heap) (locs1 : List Loc) (ls1 : Array Slot), I (i + 1) H1 locs1 ls1 → W p l e R s m args below meth c H1 locs1 cells slots Q (F0 m pc ls1 [])) → W p l e R s m args below meth c H locs cells slots Q (F0 m pc ls [])) :
    ∀ i, i ≤ N → ∀ (H : Heap) (locs : List Loc) (ls : Array Slot), I i H locs ls → W p l e R s m args below meth c H locs cells slots Q (F0 m pc ls []) := by
  have key : ∀ k i, i + k = N → ∀ (H : Heap) (locs : List Loc) (ls : Array Slot), I i H locs ls → W p l e R s m args below meth c H locs cells slots Q (F0 m pc ls []) := by
    intro k
    induction k with
    | zero =>
      intro i hi H locs ls hI
      have e : i = N := by omega
      subst e
      exact hx H locs ls hI
    | succ k ih =>
      intro i hi H locs ls hI
      exact hs i (by omega) H locs ls hI (fun H1 locs1 ls1 h1 => ih (i + 1) (by omega) H1 locs1 ls1 h1)
  intro i hi
  exact key (N - i) i (by omega)
/-- a loop by a measure -/
theorem w_while {pc : Nat} (I : Nat → Heap → List Loc → Array Slot → Prop)
    (hs : ∀ k, ∀ (H : Heap) (locs : List Loc) (ls : Array Slot), I k H locs ls → (∀ j, j < k → ∀ (H1 : Heap) (locs1 : List Loc) (ls1 : Array Slot), I j H1 locs1 ls1 → W p l e R s m args below meth c H1 locs1 cells slots Q (F0 m pc ls1 [])) → W p l e R s m args below meth c H locs cells slots Q (F0 m pc ls [])) :
    ∀ k, ∀ (H : Heap) (locs : List Loc) (ls : Array Slot), I k H locs ls → W p l e R s m args below meth c H locs cells slots Q (F0 m pc ls []) := by
  intro k
  induction k using Nat.strongRecOn with
  | _ k ih => intro H locs ls hI; exact hs k H locs ls hI (fun j hj => ih j hj)
end TVW
/-! a stage: its object and rows; nh, nm: how many hands, ministers; the flat memory g: squares 0 .. 11, hands 12 .. 29, ministers 30 .. 37, turn 38, falls 39 -/
def stg (G : tG) (a nh nm : Nat) (g : Nat → Int32) : va_W :=
  [(a, .inr (1, [.ref (a + 1), .ref (a + 8), .ref (a + 15), .int (nI nh), .int (nI nm), .int (g 38), .int (g 39)])),
   (a + 1, .inl (G.2.1 4, 6, .inr (.inr (.inr (.inr (oref (a + 2) 6)))))),
   (a + 2, .inl (G.2.1 0, 2, .inl (row g 0 2))), (a + 3, .inl (G.2.1 0, 2, .inl (row g 2 2))), (a + 4, .inl (G.2.1 0, 2, .inl (row g 4 2))), (a + 5, .inl (G.2.1 0, 2, .inl (row g 6 2))), (a + 6, .inl (G.2.1 0, 2, .inl (row g 8 2))), (a + 7, .inl (G.2.1 0, 2, .inl (row g 10 2))),
   (a + 8, .inl (G.2.1 4, 6, .inr (.inr (.inr (.inr (oref (a + 9) 6)))))),
   (a + 9, .inl (G.2.1 0, 3, .inl (row g 12 3))), (a + 10, .inl (G.2.1 0, 3, .inl (row g 15 3))), (a + 11, .inl (G.2.1 0, 3, .inl (row g 18 3))), (a + 12, .inl (G.2.1 0, 3, .inl (row g 21 3))), (a + 13, .inl (G.2.1 0, 3, .inl (row g 24 3))), (a + 14, .inl (G.2.1 0, 3, .inl (row g 27 3))),
   (a + 15, .inl (G.2.1 4, 4, .inr (.inr (.inr (.inr (oref (a + 16) 4)))))),
   (a + 16, .inl (G.2.1 0, 2, .inl (row g 30 2))), (a + 17, .inl (G.2.1 0, 2, .inl (row g 32 2))), (a + 18, .inl (G.2.1 0, 2, .inl (row g 34 2))), (a + 19, .inl (G.2.1 0, 2, .inl (row g 36 2)))]
theorem stg_sq (G : tG) (a nh nm : Nat) (g : Nat → Int32) {h : Nat} (hh : h < 6) : (stg G a nh nm g)[2 + h]? = some (a + 2 + h, .inl (G.2.1 0, 2, .inl (row g (2 * h) 2))) :=
  lt6 (P := fun h => (stg G a nh nm g)[2 + h]? = some (a + 2 + h, .inl (G.2.1 0, 2, .inl (row g (2 * h) 2)))) rfl rfl rfl rfl rfl rfl hh
theorem stg_sqS (G : tG) (a nh nm : Nat) (g : Nat → Int32) {h i : Nat} (hh : h < 6) (hi : i < 2) (x : Int32) : (stg G a nh nm g).set (2 + h) (a + 2 + h, .inl (G.2.1 0, 2, .inl (upd (row g (2 * h) 2) i x))) = stg G a nh nm (upd g (2 * h + i) x) := by
  rw [row_in hi]
  refine lt6 (P := fun h => (stg G a nh nm g).set (2 + h) (a + 2 + h, .inl (G.2.1 0, 2, .inl (row (upd g (2 * h + i) x) (2 * h) 2))) = stg G a nh nm (upd g (2 * h + i) x)) ?_ ?_ ?_ ?_ ?_ ?_ hh <;>
    simp (disch := omega) [stg, row_out, upd_ne]
theorem stg_hd (G : tG) (a nh nm : Nat) (g : Nat → Int32) {h : Nat} (hh : h < 6) : (stg G a nh nm g)[9 + h]? = some (a + 9 + h, .inl (G.2.1 0, 3, .inl (row g (12 + 3 * h) 3))) :=
  lt6 (P := fun h => (stg G a nh nm g)[9 + h]? = some (a + 9 + h, .inl (G.2.1 0, 3, .inl (row g (12 + 3 * h) 3)))) rfl rfl rfl rfl rfl rfl hh
theorem stg_hdS (G : tG) (a nh nm : Nat) (g : Nat → Int32) {h i : Nat} (hh : h < 6) (hi : i < 3) (x : Int32) : (stg G a nh nm g).set (9 + h) (a + 9 + h, .inl (G.2.1 0, 3, .inl (upd (row g (12 + 3 * h) 3) i x))) = stg G a nh nm (upd g (12 + 3 * h + i) x) := by
  rw [row_in hi]
  refine lt6 (P := fun h => (stg G a nh nm g).set (9 + h) (a + 9 + h, .inl (G.2.1 0, 3, .inl (row (upd g (12 + 3 * h + i) x) (12 + 3 * h) 3))) = stg G a nh nm (upd g (12 + 3 * h + i) x)) ?_ ?_ ?_ ?_ ?_ ?_ hh <;>
    simp (disch := omega) [stg, row_out, upd_ne]
theorem stg_mi (G : tG) (a nh nm : Nat) (g : Nat → Int32) {h : Nat} (hh : h < 4) : (stg G a nh nm g)[16 + h]? = some (a + 16 + h, .inl (G.2.1 0, 2, .inl (row g (30 + 2 * h) 2))) :=
  lt4 (P := fun h => (stg G a nh nm g)[16 + h]? = some (a + 16 + h, .inl (G.2.1 0, 2, .inl (row g (30 + 2 * h) 2)))) rfl rfl rfl rfl hh
theorem stg_miS (G : tG) (a nh nm : Nat) (g : Nat → Int32) {h i : Nat} (hh : h < 4) (hi : i < 2) (x : Int32) : (stg G a nh nm g).set (16 + h) (a + 16 + h, .inl (G.2.1 0, 2, .inl (upd (row g (30 + 2 * h) 2) i x))) = stg G a nh nm (upd g (30 + 2 * h + i) x) := by
  rw [row_in hi]
  refine lt4 (P := fun h => (stg G a nh nm g).set (16 + h) (a + 16 + h, .inl (G.2.1 0, 2, .inl (row (upd g (30 + 2 * h + i) x) (30 + 2 * h) 2))) = stg G a nh nm (upd g (30 + 2 * h + i) x)) ?_ ?_ ?_ ?_ hh <;>
    simp (disch := omega) [stg, row_out, upd_ne]
theorem stg_f5 (G : tG) (a nh nm : Nat) (g : Nat → Int32) (x : Int32) : (stg G a nh nm g).set 0 (a, .inr (1, [.ref (a + 1), .ref (a + 8), .ref (a + 15), .int (nI nh), .int (nI nm), .int x, .int (g 39)])) = stg G a nh nm (upd g 38 x) := by
  simp (disch := omega) [stg, row_out, upd_ne, upd_eq]
theorem stg_f6 (G : tG) (a nh nm : Nat) (g : Nat → Int32) (x : Int32) : (stg G a nh nm g).set 0 (a, .inr (1, [.ref (a + 1), .ref (a + 8), .ref (a + 15), .int (nI nh), .int (nI nm), .int (g 38), .int x])) = stg G a nh nm (upd g 39 x) := by
  simp (disch := omega) [stg, row_out, upd_ne, upd_eq]
theorem sg_one {w : va_W} : [w].flatten = w := by simp
theorem b2_nar {c : Prop} [Decidable c] : narrow .boolean (.int (b2 c)) = .int (b2 c) := by
  unfold b2
  split <;> rfl
/-- the start of a walk, its worlds under names -/
theorem tv_I.st {l : Launch} {y : MethodName} {cc : ByteArray} {nL : Nat} {ret : Option FieldType} {rm : Room} {G : tG} {av : List Value} {S S' : List va_W} {C C' : va_W} {r : Int32} (hC : S.flatten = C) (hC' : S'.flatten = C') (hy : plainName y.cls = true) (hav : (lg_sl av).length ≤ nL)
    (body : ∀ (p : Program) (e : Env) (s : State) (m : MethodId) (below : List Frame) (meth : Method) (c : Code) (A : Nat → Prop), tv_M G A p m c cc nL s av.toArray y.cls meth → meth.sig.returnType = ret → tv_W G A s S s.heap [] → ∀ ls : Array Slot, lv_has ls nL (lv_args 0 av) →
      W p l e rm s m av.toArray below meth c s.heap [] 0 0 (MQ below (tv_QI G A r S'.flatten) av.toArray s rm.cells rm.slots A) (F0 m 0 ls [])) : tv_I l y cc nL ret rm G av C r C' := by
  subst hC; subst hC'
  exact tv_I.start hy hav body
theorem tv_L.st {l : Launch} {y : MethodName} {cc : ByteArray} {nL : Nat} {rm : Room} {G : tG} {av : List Value} {S S' : List va_W} {C C' : va_W} {r : Int64} (hC : S.flatten = C) (hC' : S'.flatten = C') (hy : plainName y.cls = true) (hav : (lg_sl av).length ≤ nL)
    (body : ∀ (p : Program) (e : Env) (s : State) (m : MethodId) (below : List Frame) (meth : Method) (c : Code) (A : Nat → Prop), tv_M G A p m c cc nL s av.toArray y.cls meth → meth.sig.returnType = some .long → tv_W G A s S s.heap [] → ∀ ls : Array Slot, lv_has ls nL (lv_args 0 av) →
      W p l e rm s m av.toArray below meth c s.heap [] 0 0 (MQ below (tv_QL G A r S'.flatten) av.toArray s rm.cells rm.slots A) (F0 m 0 ls [])) : tv_L l y cc nL rm G av C r C' := by
  subst hC; subst hC'
  exact tv_L.start hy hav body
theorem tv_V.st {l : Launch} {y : MethodName} {cc : ByteArray} {nL : Nat} {rm : Room} {G : tG} {av : List Value} {S S' : List va_W} {C C' : va_W} (hC : S.flatten = C) (hC' : S'.flatten = C') (hy : plainName y.cls = true) (hav : (lg_sl av).length ≤ nL)
    (body : ∀ (p : Program) (e : Env) (s : State) (m : MethodId) (below : List Frame) (meth : Method) (c : Code) (A : Nat → Prop), tv_M G A p m c cc nL s av.toArray y.cls meth → meth.sig.returnType = none → tv_W G A s S s.heap [] → ∀ ls : Array Slot, lv_has ls nL (lv_args 0 av) →
      W p l e rm s m av.toArray below meth c s.heap [] 0 0 (MQ below (tv_QV G A S'.flatten) av.toArray s rm.cells rm.slots A) (F0 m 0 ls [])) : tv_V l y cc nL rm G av C C' := by
  subst hC; subst hC'
  exact tv_V.start hy hav body
theorem ite_nar {c : Prop} [Decidable c] {a b : Int32} (ha : narrow .boolean (.int a) = .int a) (hb : narrow .boolean (.int b) = .int b) : narrow .boolean (.int (if c then a else b)) = .int (if c then a else b) := by
  by_cases h : c
  · rw [if_pos h]; exact ha
  · rw [if_neg h]; exact hb
theorem vp_w {x : Int32} {n k : Nat} (h : vp_in x n) (hk : n ≤ k) : vp_in x k := fun q => h (by
  rcases q with q | q
  · exact Or.inl q
  · exact Or.inr (by omega))
