/-! the cells of a TrapdoorVotes, made at b: itself, tape, now, work, home, seen, bySquare, images (array, two objects with stage and seen), aside, the array of sheets; Z: the sheets and their rows -/
def grd (G : tG) (a k : Nat) (g : Nat → Int32) : va_W :=
  [(a, .inl (G.2.1 4, 6, .inr (.inr (.inr (.inr (oref (a + 1) 6)))))), (a + 1, .inl (G.2.1 0, k, .inl (row g (k * 0) k))), (a + 2, .inl (G.2.1 0, k, .inl (row g (k * 1) k))), (a + 3, .inl (G.2.1 0, k, .inl (row g (k * 2) k))),
   (a + 4, .inl (G.2.1 0, k, .inl (row g (k * 3) k))), (a + 5, .inl (G.2.1 0, k, .inl (row g (k * 4) k))), (a + 6, .inl (G.2.1 0, k, .inl (row g (k * 5) k)))]
theorem grd_r (G : tG) (a k : Nat) (g : Nat → Int32) {h : Nat} (hh : h < 6) : (grd G a k g)[1 + h]? = some (a + 1 + h, .inl (G.2.1 0, k, .inl (row g (k * h) k))) :=
  lt6 (P := fun h => (grd G a k g)[1 + h]? = some (a + 1 + h, .inl (G.2.1 0, k, .inl (row g (k * h) k)))) rfl rfl rfl rfl rfl rfl hh
theorem grd_S (G : tG) (a k : Nat) (g : Nat → Int32) {h i : Nat} (hh : h < 6) (hi : i < k) (x : Int32) : (grd G a k g).set (1 + h) (a + 1 + h, .inl (G.2.1 0, k, .inl (upd (row g (k * h) k) i x))) = grd G a k (upd g (k * h + i) x) := by
  rw [row_in hi]
  refine lt6 (P := fun h => (grd G a k g).set (1 + h) (a + 1 + h, .inl (G.2.1 0, k, .inl (row (upd g (k * h + i) x) (k * h) k))) = grd G a k (upd g (k * h + i) x)) ?_ ?_ ?_ ?_ ?_ ?_ hh <;>
    simp (disch := omega) [grd, row_out]
def tvo (b : Nat) (x : Nat → Int32) : va_W :=
  [(b, .inr (0, [.ref (b + 1), .int (x 1), .int (x 2), .ref (b + 2), .ref (b + 22), .ref (b + 42), .int (x 6), .int (x 7), .ref (b + 62), .int (x 9), .ref (b + 69), .ref (b + 76), .ref (b + 133), .ref (b + 153), .int (x 14), .int (x 15), .int (x 16)]))]
def tvt (G : tG) (b : Nat) (tp : Nat → Int32) : va_W := [(b + 1, .inl (G.2.1 1, 160, .inl tp))]
def imo (a b : Nat) (y : Nat → Int32) : va_W := [(a, .inr (2, [.ref (a + 1), .ref (a + 21), .int (y 2), .int (y 3), .ref b]))]
def imr (b : Nat) : Nat → Option Nat := fun i => if i = 0 then some (b + 77) else if i = 1 then some (b + 105) else none
def ima (G : tG) (b : Nat) : va_W := [(b + 76, .inl (G.2.1 5, 2, .inr (.inr (.inr (.inr (imr b))))))]
def sha (G : tG) (b : Nat) : va_W := [(b + 153, .inl (G.2.1 6, 4, .inr (.inr (.inr (.inr (oref (b + 154) 4))))))]
def tvs (G : tG) (b : Nat) (x tp : Nat → Int32) (n1 m1 : Nat) (g1 : Nat → Int32) (n2 m2 : Nat) (g2 : Nat → Int32) (n3 m3 : Nat) (g3 : Nat → Int32) (se bs : Nat → Int32) (y0 : Nat → Int32) (n4 m4 : Nat) (g4 e0 : Nat → Int32) (y1 : Nat → Int32) (n5 m5 : Nat) (g5 e1 : Nat → Int32) (n6 m6 : Nat) (g6 : Nat → Int32) (Z : List va_W) : List va_W :=
  [tvo b x, tvt G b tp, stg G (b + 2) n1 m1 g1, stg G (b + 22) n2 m2 g2, stg G (b + 42) n3 m3 g3, grd G (b + 62) 3 se, grd G (b + 69) 21 bs, ima G b, imo (b + 77) b y0, stg G (b + 78) n4 m4 g4, grd G (b + 98) 3 e0, imo (b + 105) b y1, stg G (b + 106) n5 m5 g5, grd G (b + 126) 3 e1, stg G (b + 133) n6 m6 g6, sha G b] ++ Z
/-! ranges -/
/-- is h one of n? as both programs ask it -/
def isI (h : Int32) (n : Nat) : Int32 := inL h.toInt64 (0 : Int64) (nI n - 1).toInt64
theorem tvl_lt {x y : Int64} : lg_cmp x y < 0 ↔ x < y := by
  unfold lg_cmp
  by_cases h : x > y
  · rw [if_pos h]
    constructor
    · intro q; exact absurd q (by decide)
    · intro q; exact absurd (Int64.lt_trans h q) (Int64.lt_irrefl)
  · rw [if_neg h]
    by_cases e : x = y
    · rw [if_pos e]
      constructor
      · intro q; exact absurd q (by decide)
      · intro q; subst e; exact absurd q Int64.lt_irrefl
    · rw [if_neg e]
      constructor
      · intro _
        have h1 : ¬ y < x := h
        rcases Int64.lt_or_le x y with q | q
        · exact q
        · exact absurd (Int64.le_antisymm q (Int64.not_lt.mp h1)) (fun z => e z.symm)
      · intro _; decide
theorem tvl_gt {x y : Int64} : 0 < lg_cmp x y ↔ y < x := by
  unfold lg_cmp
  by_cases h : x > y
  · rw [if_pos h]
    exact ⟨fun _ => h, fun _ => by decide⟩
  · rw [if_neg h]
    by_cases e : x = y
    · rw [if_pos e]
      exact ⟨fun q => absurd q (by decide), fun q => absurd q h⟩
    · rw [if_neg e]
      exact ⟨fun q => absurd q (by decide), fun q => absurd q h⟩
theorem inL_0 {x lo hi : Int64} : inL x lo hi = 0 ↔ (x < lo ∨ hi < x) := by
  unfold inL
  by_cases h1 : lg_cmp x lo < 0
  · rw [if_pos h1]
    exact ⟨fun _ => Or.inl (tvl_lt.mp h1), fun _ => rfl⟩
  · rw [if_neg h1]
    by_cases h2 : 0 < lg_cmp x hi
    · rw [if_pos h2]
      exact ⟨fun _ => Or.inr (tvl_gt.mp h2), fun _ => rfl⟩
    · rw [if_neg h2]
      refine ⟨fun q => absurd q (by decide), fun q => ?_⟩
      rcases q with q | q
      · exact absurd (tvl_lt.mpr q) h1
      · exact absurd (tvl_gt.mpr q) h2
theorem i64_lt {x y : Int32} : x.toInt64 < y.toInt64 ↔ x < y := by
  rw [Int64.lt_iff_toInt_lt, Int32.lt_iff_toInt_lt, Int32.toInt_toInt64, Int32.toInt_toInt64]
theorem isI_iff {h : Int32} {n : Nat} (hn : n < 2 ^ 30) : isI h n = 0 ↔ ¬ vp_in h n := by
  unfold isI
  rw [inL_0, show (0 : Int64) = (0 : Int32).toInt64 from rfl, i64_lt, i64_lt, vp_in_iff, Int32.lt_iff_toInt_lt, Int32.lt_iff_toInt_lt]
  have e1 : (nI n - 1).toInt = (n : Int) - 1 := pk_sub_toInt (b := 1) hn (by omega)
  rw [e1, show (0 : Int32).toInt = 0 from rfl]
  omega
theorem isI_1 {h : Int32} {n : Nat} (c : ¬ isI h n = 0) (hn : n < 2 ^ 30) : vp_in h n := Classical.byContradiction fun q => c ((isI_iff hn).mpr q)
theorem inL_iff {h : Int32} {k : Nat} (hk : k < 2 ^ 31) : inL h.toInt64 (0 : Int64) (lN k) = 0 ↔ ¬ vp_in h (k + 1) := by
  rw [inL_0, show (0 : Int64) = (0 : Int32).toInt64 from rfl, ← nI_l hk, i64_lt, i64_lt, vp_in_iff, Int32.lt_iff_toInt_lt, Int32.lt_iff_toInt_lt, nI_toInt hk, show (0 : Int32).toInt = 0 from rfl]
  omega
theorem inL_1 {h : Int32} {k : Nat} (hk : k < 2 ^ 31) (c : ¬ inL h.toInt64 (0 : Int64) (lN k) = 0) : vp_in h (k + 1) := Classical.byContradiction fun q => c ((inL_iff hk).mpr q)
theorem vp_cut {x : Int32} {n k : Nat} (h : vp_in x n) (c : ¬ nI k ≤ x) (hk : k < 2 ^ 31) : vp_in x k := by
  rw [vp_in_iff] at h ⊢
  rw [Int32.le_iff_toInt_le, nI_toInt hk] at c
  omega
theorem vp_eq {x : Int32} {k : Nat} (c : x = nI k) (hk : k < 2 ^ 30) : vp_in x (k + 1) := by
  rw [c]
  exact vp_in_nI (by omega) (by omega)
/-! contracts for an index that is an int in range -/
theorem st_isDownX (l : Launch) (G : tG) (a nh nm : Nat) (g : Nat → Int32) (u : Int32) (hu : vp_in u 4) : tv_I l yX1_isDown cX1_isDown 2 (some .boolean) (tv_rm 0 0) G [.ref a, .int u] (stg G a nh nm g) (b2 (g (30 + 2 * u.toNatClampNeg + 1) = -4)) (stg G a nh nm g) := by
  obtain ⟨k, hk, rfl⟩ := vp_in_of hu (by omega)
  rw [nI_clamp (by omega)]
  exact st_isDown l G a nh nm g k hk
theorem st_wantsX (l : Launch) (G : tG) (a nh nm : Nat) (g : Nat → Int32) (h : Int32) (hh : vp_in h 6) (hat : vp_in (g (12 + 3 * h.toNatClampNeg + 1)) 6) : tv_I l yX1_wants cX1_wants 2 (some .int) (tv_rm 1 21) G [.ref a, .int h] (stg G a nh nm g) (wt g h.toNatClampNeg) (stg G a nh nm g) := by
  obtain ⟨k, hk, rfl⟩ := vp_in_of hh (by omega)
  rw [nI_clamp (by omega)] at hat ⊢
  exact st_wants l G a nh nm g k hk hat
