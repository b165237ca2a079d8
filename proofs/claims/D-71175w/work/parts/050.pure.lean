/-! what the stage's methods compute, word for word -/
def Sok (g : Nat → Int32) : Prop := (∀ h, h < 6 → vp_in (g (12 + 3 * h)) 4 ∧ vp_in (g (12 + 3 * h + 1)) 6 ∧ vp_in (g (12 + 3 * h + 2)) 100) ∧ (∀ m, m < 4 → vp_in (g (30 + 2 * m)) 10 ∧ (g (30 + 2 * m + 1) = -4 ∨ vp_in (g (30 + 2 * m + 1)) 6)) ∧ ∀ q, q < 6 → vp_in (g (2 * q)) 21 ∧ vp_in (g (2 * q + 1)) 4
def wt (g : Nat → Int32) (h : Nat) : Int32 := if 0 < 10 + g (2 * (g (12 + 3 * h + 1)).toNatClampNeg) - g (12 + 3 * h + 2) then 10 + g (2 * (g (12 + 3 * h + 1)).toNatClampNeg) - g (12 + 3 * h + 2) else 0
def ang (k t : Int32) : Int32 := if k = 1 then 2 * t else if k = 2 then t / 2 else if k = 3 then t / 2 + 1 else t
def sUp (g : Nat → Int32) (nm : Nat) : Int32 := lp (fun m x => x ||| (if b2 (g (30 + 2 * m + 1) = -4) = 0 then 1 <<< (nI m &&& 31) else 0)) nm 0
def sHa (g : Nat → Int32) (nh : Nat) (s : Int32) : Int32 := lp (fun h x => x ||| (if g (12 + 3 * h + 1) = s then 1 <<< (nI h &&& 31) else 0)) nh 0
def sMa (g : Nat → Int32) (nm : Nat) (s : Int32) : Int32 := lp (fun m x => x ||| (if g (30 + 2 * m + 1) = s then 1 <<< (nI m &&& 31) else 0)) nm 0
def sDr (g : Nat → Int32) (nh : Nat) : Int32 := lp (fun h x => x ||| (if wt g h = 0 then 1 <<< (nI h &&& 31) else 0)) nh 0
def sTm (g : Nat → Int32) (nh : Nat) : Int32 := lp (fun h x => x + g (12 + 3 * h + 2)) nh 0
def sRu (g : Nat → Int32) : Int32 := lp (fun q x => x + g (2 * q)) 6 0
def sLo (g : Nat → Int32) (nm : Nat) : Int32 := lp (fun m x => x + g (30 + 2 * m)) nm 0
def hasB (some k : Int32) : Int32 := b2 ((some >>> (k &&& 31)) &&& 1 = 1)
/-- one hand trodden on -/
def trB (m : Nat) (s : Int32) (h : Nat) (x : (Nat → Int32) × Int32) : (Nat → Int32) × Int32 :=
  if x.1 (12 + 3 * h + 1) = s then
    (upd x.1 (12 + 3 * h + 2) (if x.1 (12 + 3 * h + 2) + ang (x.1 (12 + 3 * h)) (x.1 (30 + 2 * m)) < 99 then x.1 (12 + 3 * h + 2) + ang (x.1 (12 + 3 * h)) (x.1 (30 + 2 * m)) else 99),
     x.2 + (if wt (upd x.1 (12 + 3 * h + 2) (if x.1 (12 + 3 * h + 2) + ang (x.1 (12 + 3 * h)) (x.1 (30 + 2 * m)) < 99 then x.1 (12 + 3 * h + 2) + ang (x.1 (12 + 3 * h)) (x.1 (30 + 2 * m)) else 99)) h = 0 then 1 else 0))
  else x
def dpB (s : Int32) (h : Nat) (g : Nat → Int32) : Nat → Int32 := upd g (12 + 3 * h + 2) (if g (12 + 3 * h + 1) = s then 0 else g (12 + 3 * h + 2))
def dpF (nh m : Nat) (s : Int32) (g : Nat → Int32) : Nat → Int32 := lp (dpB s) nh (upd (upd g (30 + 2 * m + 1) (-4)) 39 ((upd g (30 + 2 * m + 1) (-4)) 39 + 1))
def trF (nh m : Nat) (g : Nat → Int32) : Nat → Int32 :=
  if (lp (trB m (g (30 + 2 * m + 1))) nh (g, 0)).2 < (lp (trB m (g (30 + 2 * m + 1))) nh (g, 0)).1 (2 * (g (30 + 2 * m + 1)).toNatClampNeg + 1) then (lp (trB m (g (30 + 2 * m + 1))) nh (g, 0)).1
  else dpF nh m (g (30 + 2 * m + 1)) (lp (trB m (g (30 + 2 * m + 1))) nh (g, 0)).1
/-- one minister's share of a turn: the stage, the squares trodden -/
def tnB (nh : Nat) (si : Int32) (m : Nat) (x : (Nat → Int32) × Int32) : (Nat → Int32) × Int32 :=
  if si = 0 then (if b2 (x.1 (30 + 2 * m + 1) = -4) = 0 then (trF nh m x.1, x.2 ||| (1 <<< (x.1 (30 + 2 * m + 1) &&& 31))) else x) else x
def cdB (tr : Int32) (h : Nat) (g : Nat → Int32) : Nat → Int32 := if hasB tr (g (12 + 3 * h + 1)) = 0 then upd g (12 + 3 * h + 2) (if 0 < g (12 + 3 * h + 2) - 1 then g (12 + 3 * h + 2) - 1 else 0) else g
def cdF (nh : Nat) (x : (Nat → Int32) × Int32) : Nat → Int32 := lp (cdB x.2) nh x.1
def tnF (nh nm : Nat) (si : Int32) (g : Nat → Int32) : Nat → Int32 := upd (cdF nh (lp (tnB nh si) nm (g, 0))) 38 (cdF nh (lp (tnB nh si) nm (g, 0)) 38 + 1)
/-! ranges stay -/
theorem Sok.kd {g : Nat → Int32} (h : Sok g) {i : Nat} (hi : i < 6) : vp_in (g (12 + 3 * i)) 4 := (h.1 i hi).1
theorem Sok.at {g : Nat → Int32} (h : Sok g) {i : Nat} (hi : i < 6) : vp_in (g (12 + 3 * i + 1)) 6 := (h.1 i hi).2.1
theorem Sok.tm {g : Nat → Int32} (h : Sok g) {i : Nat} (hi : i < 6) : vp_in (g (12 + 3 * i + 2)) 100 := (h.1 i hi).2.2
theorem Sok.td {g : Nat → Int32} (h : Sok g) {i : Nat} (hi : i < 4) : vp_in (g (30 + 2 * i)) 10 := (h.2.1 i hi).1
theorem Sok.up {g : Nat → Int32} (h : Sok g) {i : Nat} (hi : i < 4) (hd : ¬ g (30 + 2 * i + 1) = -4) : vp_in (g (30 + 2 * i + 1)) 6 := (h.2.1 i hi).2.resolve_left hd
theorem Sok.tmS {g : Nat → Int32} (h : Sok g) {i : Nat} (hi : i < 6) {x : Int32} (hx : vp_in x 100) : Sok (upd g (12 + 3 * i + 2) x) := by
  refine ⟨fun k hk => ⟨?_, ?_, ?_⟩, fun k hk => ⟨?_, ?_⟩, fun k hk => ⟨?_, ?_⟩⟩
  · rw [upd_ne (by omega)]; exact h.kd hk
  · rw [upd_ne (by omega)]; exact h.at hk
  · by_cases e : k = i
    · subst e; rw [upd_eq]; exact hx
    · rw [upd_ne (by omega)]; exact h.tm hk
  · rw [upd_ne (by omega)]; exact h.td hk
  · rw [upd_ne (by omega)]; exact (h.2.1 k hk).2
  · rw [upd_ne (by omega)]; exact (h.2.2 k hk).1
  · rw [upd_ne (by omega)]; exact (h.2.2 k hk).2
theorem Sok.upS {g : Nat → Int32} (h : Sok g) {i : Nat} {x : Int32} (hx : x = -4 ∨ vp_in x 6) : Sok (upd g (30 + 2 * i + 1) x) := by
  refine ⟨fun k hk => ⟨?_, ?_, ?_⟩, fun k hk => ⟨?_, ?_⟩, fun k hk => ⟨?_, ?_⟩⟩
  · rw [upd_ne (by omega)]; exact h.kd hk
  · rw [upd_ne (by omega)]; exact h.at hk
  · rw [upd_ne (by omega)]; exact h.tm hk
  · rw [upd_ne (by omega)]; exact h.td hk
  · by_cases e : k = i
    · subst e; rw [upd_eq]; exact hx
    · rw [upd_ne (by omega)]; exact (h.2.1 k hk).2
  · rw [upd_ne (by omega)]; exact (h.2.2 k hk).1
  · rw [upd_ne (by omega)]; exact (h.2.2 k hk).2
theorem Sok.oS {g : Nat → Int32} (h : Sok g) {q : Nat} (hq : 38 ≤ q) {x : Int32} : Sok (upd g q x) := by
  refine ⟨fun k hk => ⟨?_, ?_, ?_⟩, fun k hk => ⟨?_, ?_⟩, fun k hk => ⟨?_, ?_⟩⟩
  · rw [upd_ne (by omega)]; exact h.kd hk
  · rw [upd_ne (by omega)]; exact h.at hk
  · rw [upd_ne (by omega)]; exact h.tm hk
  · rw [upd_ne (by omega)]; exact h.td hk
  · rw [upd_ne (by omega)]; exact (h.2.1 k hk).2
  · rw [upd_ne (by omega)]; exact (h.2.2 k hk).1
  · rw [upd_ne (by omega)]; exact (h.2.2 k hk).2
theorem ang_nI {k t : Int32} (hk : vp_in k 4) (ht : vp_in t 10) : ∃ j : Nat, j < 20 ∧ ang k t = nI j := by
  obtain ⟨a, ha, rfl⟩ := vp_in_of hk (by omega)
  obtain ⟨b, hb, rfl⟩ := vp_in_of ht (by omega)
  have key : ∀ a, a < 4 → ∀ b, b < 10 → ang (nI a) (nI b) = nI (if a = 1 then 2 * b else if a = 2 then b / 2 else if a = 3 then b / 2 + 1 else b) := by decide +kernel
  rw [key a ha b hb]
  refine ⟨_, ?_, rfl⟩
  split
  · omega
  · split
    · omega
    · split <;> omega
theorem tm_min {t a : Int32} (ht : vp_in t 100) (ha : ∃ j : Nat, j < 20 ∧ a = nI j) : vp_in (if t + a < 99 then t + a else 99) 100 := by
  obtain ⟨i, hi, rfl⟩ := vp_in_of ht (by omega)
  obtain ⟨j, hj, rfl⟩ := ha
  rw [nI_add]
  have e99 : (99 : Int32) = nI 99 := rfl
  rw [e99]
  by_cases h : nI (i + j) < nI 99
  · rw [if_pos h]
    exact vp_in_nI (by have := (nI_ltI (by omega) (by omega)).mp h; omega) (by omega)
  · rw [if_neg h]
    exact vp_in_nI (by omega) (by omega)
theorem tm_dec {t : Int32} (ht : vp_in t 100) : vp_in (if 0 < t - 1 then t - 1 else 0) 100 := by
  obtain ⟨i, hi, rfl⟩ := vp_in_of ht (by omega)
  have key : ∀ i, i < 100 → (if 0 < nI i - 1 then nI i - 1 else 0) = nI (i - 1) := by decide +kernel
  rw [key i hi]
  exact vp_in_nI (by omega) (by omega)
theorem trB_ok {g : Nat → Int32} (h : Sok g) {m nh : Nat} (hm : m < 4) (hn : nh ≤ 6) (s d : Int32) : ∀ i, i ≤ nh → Sok (lp (trB m s) i (g, d)).1 := by
  intro i
  induction i with
  | zero => intro _; exact h
  | succ i ih =>
    intro hi
    have k := ih (by omega)
    show Sok (trB m s i (lp (trB m s) i (g, d))).1
    unfold trB
    split
    · exact k.tmS (by omega) (tm_min (k.tm (by omega)) (ang_nI (k.kd (by omega)) (k.td hm)))
    · exact k
theorem vp_0 {n : Nat} (h : 0 < n) (hn : n < 2 ^ 31) : vp_in 0 n := vp_in_nI (n := 0) h hn
theorem dpB_ok {g : Nat → Int32} (h : Sok g) {nh : Nat} (hn : nh ≤ 6) (s : Int32) : ∀ i, i ≤ nh → Sok (lp (dpB s) i g) := by
  intro i
  induction i with
  | zero => intro _; exact h
  | succ i ih =>
    intro hi
    have k := ih (by omega)
    refine k.tmS (by omega) ?_
    split
    · exact vp_0 (by omega) (by omega)
    · exact k.tm (by omega)
theorem dpF_ok {g : Nat → Int32} (h : Sok g) {nh m : Nat} (hn : nh ≤ 6) (s : Int32) : Sok (dpF nh m s g) := dpB_ok ((h.upS (Or.inl rfl)).oS (by omega)) hn s nh (Nat.le_refl _)
theorem trF_ok {g : Nat → Int32} (h : Sok g) {nh m : Nat} (hm : m < 4) (hn : nh ≤ 6) : Sok (trF nh m g) := by
  unfold trF
  split
  · exact trB_ok h hm hn _ _ nh (Nat.le_refl _)
  · exact dpF_ok (trB_ok h hm hn _ _ nh (Nat.le_refl _)) hn _
theorem tnB_ok {g : Nat → Int32} (h : Sok g) {nh nm : Nat} (hm : nm ≤ 4) (hn : nh ≤ 6) (si d : Int32) : ∀ i, i ≤ nm → Sok (lp (tnB nh si) i (g, d)).1 := by
  intro i
  induction i with
  | zero => intro _; exact h
  | succ i ih =>
    intro hi
    have k := ih (by omega)
    show Sok (tnB nh si i (lp (tnB nh si) i (g, d))).1
    generalize lp (tnB nh si) i (g, d) = x at k
    have k2 : Sok (trF nh i x.1) := trF_ok k (by omega) hn
    unfold tnB
    by_cases c1 : si = 0
    · rw [if_pos c1]
      by_cases c2 : b2 (x.1 (30 + 2 * i + 1) = -4) = 0
      · rw [if_pos c2]; exact k2
      · rw [if_neg c2]; exact k
    · rw [if_neg c1]; exact k
theorem cdB_ok {g : Nat → Int32} (h : Sok g) {nh : Nat} (hn : nh ≤ 6) (tr : Int32) : ∀ i, i ≤ nh → Sok (lp (cdB tr) i g) := by
  intro i
  induction i with
  | zero => intro _; exact h
  | succ i ih =>
    intro hi
    have k := ih (by omega)
    show Sok (cdB tr i (lp (cdB tr) i g))
    unfold cdB
    split
    · exact k.tmS (by omega) (tm_dec (k.tm (by omega)))
    · exact k
theorem tnF_ok {g : Nat → Int32} (h : Sok g) {nh nm : Nat} (hm : nm ≤ 4) (hn : nh ≤ 6) (si : Int32) : Sok (tnF nh nm si g) := (cdB_ok (tnB_ok h hm hn si 0 nm (Nat.le_refl _)) hn _ nh (Nat.le_refl _)).oS (by omega)
