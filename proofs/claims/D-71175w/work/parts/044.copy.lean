/-! arraycopy of int rows; a stage taken over from another -/
section TVCP
variable {p : Program} {l : Launch} {e : Env} {R : Room} {s : State} {m : MethodId} {args : Array Value} {below : List Frame} {meth : Method} {c : Code} {H : Heap} {locs : List Loc} {cells slots : Nat} {Q : State → Prop}
variable {cc : ByteArray} {pc nL : Nat} {ls : Array Slot} {rest : List Value} {A : Nat → Prop} {a a0 : Nat} {G : tG} {S S' : List va_W} {own : String}
theorem r_copyi (M : tv_M G A p m c cc nL s args own meth) (w : tv_W G A s S H locs) (hl : ls.size = nL) {index : Nat} (h1 : Cond.methodLink own index arraycopyName ∈ lw_all) (h2 : Cond.native arraycopyName ∈ lw_all) (h3 : Cond.static arraycopyName ∈ lw_all) (h4 : Cond.initialized "java/lang/System" ∈ lw_all)
    (j0 q0 j1 q1 : Nat) {sg0 sg1 : va_W} {n0 n1 : Nat} {f g : Nat → Int32} (hj0 : S[j0]? = some sg0) (hq0 : sg0[q0]? = some (a0, .inl (G.2.1 0, n0, .inl f))) (hj1 : S[j1]? = some sg1) (hq1 : sg1[q1]? = some (a, .inl (G.2.1 0, n1, .inl g)))
    {sp dp n : Int32} (k1 : ¬ sp < 0) (k2 : ¬ dp < 0) (k3 : ¬ n < 0) (k4 : sp.toNatClampNeg + n.toNatClampNeg ≤ n0) (k5 : dp.toNatClampNeg + n.toNatClampNeg ≤ n1) (hR : 1 ≤ R.frames ∧ (rest.map fun v => v.category).sum + (nativeFrameWords "java/lang/System" "arraycopy" 5 + 11) ≤ R.locals)
    (hS : S.set j1 (sg1.set q1 (a, .inl (G.2.1 0, n1, .inl (va_cpy f g sp.toNatClampNeg dp.toNatClampNeg n.toNatClampNeg)))) = S') (hdg : decode cc pc = .ok (.invokestatic index, 3))
    (kk : ∀ (H1 : Heap) (locs1 : List Loc), tv_W G A s S' H1 locs1 → W p l e R s m args below meth c H1 locs1 cells slots Q (F0 m (pc + 3) ls rest)) : W p l e R s m args below meth c H locs cells slots Q (F0 m pc ls (.int n :: .int dp :: .ref a :: .int sp :: .ref a0 :: rest)) := by
  have ht := M.1.2.2.2.2
  obtain ⟨x0, hx0, -⟩ := sg_at hj0 hq0
  obtain ⟨x1, hx1, hx2⟩ := sg_at hj1 hq1
  refine va_copyi (ty := .int) M.1.1 M.1.2.1 (M.1.2.2.1.trans hl.symm) M.1.2.2.2.1 (ht _ h1) (ht _ h2) (ht _ h3) (ht _ h4) M.2.1.1 w.1 w.2.1 w.2.2 x0 x1 0 0 hx0 hx1 rfl rfl rfl k1 k2 k3 k4 k5 (fun i _ => rfl) hR.1 hR.2 hdg (fun H1 locs1 b1 b2 b3 => ?_)
  rw [hx2, hS] at b1 b2
  exact kk H1 locs1 ⟨b1, b2, b3⟩
end TVCP
theorem cpy_row {f g : Nat → Int32} {o q n : Nat} : va_cpy (row f o n) (row g q n) 0 0 n = row f o n := by
  funext i
  unfold va_cpy
  by_cases h : i < n
  · rw [if_pos ⟨Nat.zero_le _, by omega⟩]
    congr 1
    omega
  · rw [if_neg (by omega)]
    unfold row
    rw [if_neg h, if_neg h]
/-- the first n places from gs -/
def tk (n : Nat) (gs gd : Nat → Int32) : Nat → Int32 := fun q => if q < n then gs q else gd q
theorem row_tkL {n o k : Nat} {gs gd : Nat → Int32} (h : o + k ≤ n) : row (tk n gs gd) o k = row gs o k := by
  funext i
  unfold row tk
  by_cases hi : i < k
  · rw [if_pos hi, if_pos hi, if_pos (by omega)]
  · rw [if_neg hi, if_neg hi]
theorem row_tkR {n o k : Nat} {gs gd : Nat → Int32} (h : n ≤ o) : row (tk n gs gd) o k = row gd o k := by
  funext i
  unfold row tk
  by_cases hi : i < k
  · rw [if_pos hi, if_pos hi, if_neg (by omega)]
  · rw [if_neg hi, if_neg hi]
theorem tk_R {n q : Nat} {gs gd : Nat → Int32} (h : n ≤ q) : tk n gs gd q = gd q := if_neg (by omega)
theorem tk_L {n q : Nat} {gs gd : Nat → Int32} (h : q < n) : tk n gs gd q = gs q := if_pos h
theorem row_eq {f g : Nat → Int32} {o n : Nat} (h : ∀ i, o ≤ i → i < o + n → f i = g i) : row f o n = row g o n := by
  funext i
  unfold row
  by_cases hi : i < n
  · rw [if_pos hi, if_pos hi]; exact h _ (by omega) (by omega)
  · rw [if_neg hi, if_neg hi]
/-- a stage's cells look at 40 places -/
theorem stg_congr {G : tG} {a nh nm : Nat} {f g : Nat → Int32} (h : ∀ q, q < 40 → f q = g q) : stg G a nh nm f = stg G a nh nm g := by
  unfold stg
  rw [h 38 (by omega), h 39 (by omega)]
  rw [row_eq (f := f) (g := g) (o := 0) (n := 2) (fun i _ h2 => h i (by omega)), row_eq (f := f) (g := g) (o := 2) (n := 2) (fun i _ h2 => h i (by omega)), row_eq (f := f) (g := g) (o := 4) (n := 2) (fun i _ h2 => h i (by omega)), row_eq (f := f) (g := g) (o := 6) (n := 2) (fun i _ h2 => h i (by omega)), row_eq (f := f) (g := g) (o := 8) (n := 2) (fun i _ h2 => h i (by omega)), row_eq (f := f) (g := g) (o := 10) (n := 2) (fun i _ h2 => h i (by omega))]
  rw [row_eq (f := f) (g := g) (o := 12) (n := 3) (fun i _ h2 => h i (by omega)), row_eq (f := f) (g := g) (o := 15) (n := 3) (fun i _ h2 => h i (by omega)), row_eq (f := f) (g := g) (o := 18) (n := 3) (fun i _ h2 => h i (by omega)), row_eq (f := f) (g := g) (o := 21) (n := 3) (fun i _ h2 => h i (by omega)), row_eq (f := f) (g := g) (o := 24) (n := 3) (fun i _ h2 => h i (by omega)), row_eq (f := f) (g := g) (o := 27) (n := 3) (fun i _ h2 => h i (by omega))]
  rw [row_eq (f := f) (g := g) (o := 30) (n := 2) (fun i _ h2 => h i (by omega)), row_eq (f := f) (g := g) (o := 32) (n := 2) (fun i _ h2 => h i (by omega)), row_eq (f := f) (g := g) (o := 34) (n := 2) (fun i _ h2 => h i (by omega)), row_eq (f := f) (g := g) (o := 36) (n := 2) (fun i _ h2 => h i (by omega))]
theorem stg_tkQ (G : tG) (a nh nm : Nat) (gs gd : Nat → Int32) {h : Nat} (hh : h < 6) : (stg G a nh nm (tk (2 * h) gs gd)).set (2 + h) (a + 2 + h, .inl (G.2.1 0, 2, .inl (va_cpy (row gs (2 * h) 2) (row (tk (2 * h) gs gd) (2 * h) 2) 0 0 2))) = stg G a nh nm (tk (2 * (h + 1)) gs gd) := by
  rw [cpy_row]
  refine lt6 (P := fun h => (stg G a nh nm (tk (2 * h) gs gd)).set (2 + h) (a + 2 + h, .inl (G.2.1 0, 2, .inl (row gs (2 * h) 2))) = stg G a nh nm (tk (2 * (h + 1)) gs gd)) ?_ ?_ ?_ ?_ ?_ ?_ hh <;>
    simp (disch := omega) [stg, row_tkL, row_tkR, tk_R]
theorem stg_tkH (G : tG) (a nh nm : Nat) (gs gd : Nat → Int32) {h : Nat} (hh : h < 6) : (stg G a nh nm (tk (12 + 3 * h) gs gd)).set (9 + h) (a + 9 + h, .inl (G.2.1 0, 3, .inl (va_cpy (row gs (12 + 3 * h) 3) (row (tk (12 + 3 * h) gs gd) (12 + 3 * h) 3) 0 0 3))) = stg G a nh nm (tk (12 + 3 * (h + 1)) gs gd) := by
  rw [cpy_row]
  refine lt6 (P := fun h => (stg G a nh nm (tk (12 + 3 * h) gs gd)).set (9 + h) (a + 9 + h, .inl (G.2.1 0, 3, .inl (row gs (12 + 3 * h) 3))) = stg G a nh nm (tk (12 + 3 * (h + 1)) gs gd)) ?_ ?_ ?_ ?_ ?_ ?_ hh <;>
    simp (disch := omega) [stg, row_tkL, row_tkR, tk_R]
theorem stg_tkM (G : tG) (a nh nm : Nat) (gs gd : Nat → Int32) {h : Nat} (hh : h < 4) : (stg G a nh nm (tk (30 + 2 * h) gs gd)).set (16 + h) (a + 16 + h, .inl (G.2.1 0, 2, .inl (va_cpy (row gs (30 + 2 * h) 2) (row (tk (30 + 2 * h) gs gd) (30 + 2 * h) 2) 0 0 2))) = stg G a nh nm (tk (30 + 2 * (h + 1)) gs gd) := by
  rw [cpy_row]
  refine lt4 (P := fun h => (stg G a nh nm (tk (30 + 2 * h) gs gd)).set (16 + h) (a + 16 + h, .inl (G.2.1 0, 2, .inl (row gs (30 + 2 * h) 2))) = stg G a nh nm (tk (30 + 2 * (h + 1)) gs gd)) ?_ ?_ ?_ ?_ hh <;>
    simp (disch := omega) [stg, row_tkL, row_tkR, tk_R]
theorem sg_two {w v : va_W} : [w, v].flatten = w ++ v := by simp
