/-! the reference: ranges stay -/
theorem lp_inv2 {α : Type} {f : Nat → α → α} (P : α → Prop) {x : α} (n : Nat) (h0 : P x) (hs : ∀ i y, i < n → P y → P (f i y)) : P (lp f n x) := by
  induction n with
  | zero => exact h0
  | succ n ih => exact hs n _ (Nat.lt_succ_self n) (ih (fun i y hi h => hs i y (Nat.lt_succ_of_lt hi) h))
theorem md_ang_eq (k t : Int32) : sp_md_angered k t = ang k t := rfl
theorem tm_min2 {t a : Int32} (ht : vp_in t 100) (ha : ∃ j : Nat, j < 20 ∧ a = nI j) : vp_in (sp_md_lesser 99 (t + a)) 100 := by
  obtain ⟨i, hi, rfl⟩ := vp_in_of ht (by omega)
  obtain ⟨j, hj, rfl⟩ := ha
  rw [nI_add]
  unfold sp_md_lesser
  by_cases h : nI (i + j) ≤ 99
  · rw [if_pos h]
    exact vp_in_nI (by have := (nI_leI (a := i + j) (b := 99) (by omega) (by omega)).mp h; omega) (by omega)
  · rw [if_neg h]
    exact vp_in_nI (n := 99) (by omega) (by omega)
theorem md_lb9_ok {y nw g : Nat → Int32} {u i : Nat} (hu : u < 4) (hi : i < 6) (h : Sok g) : Sok (lb_md_ministerTreads_9 y nw u i g) := by
  unfold lb_md_ministerTreads_9
  split
  · exact h
  · exact h.tmS hi (tm_min2 (h.tm hi) (ang_nI (h.kd hi) (h.td hu)))
theorem md_lb102_ok {y nw g : Nat → Int32} {u i : Nat} (hi : i < 6) (h : Sok g) : Sok (lb_md_ministerTreads_102 y nw u i g) := by
  unfold lb_md_ministerTreads_102
  split
  · exact h.tmS hi (h.tm hi)
  · exact h.tmS hi (vp_0 (by omega) (by omega))
theorem md_tr_ok {y nw : Nat → Int32} {nh u : Nat} (hn : nh ≤ 6) (hu : u < 4) (h : Sok nw) : Sok (sp_md_ministerTreads_nw nh y nw u) := by
  have k1 : Sok (lp (lb_md_ministerTreads_9 y nw u) nh nw) := lp_inv2 Sok nh h (fun i g hi hg => md_lb9_ok hu (by omega) hg)
  unfold sp_md_ministerTreads_nw
  split
  · exact k1
  · exact lp_inv2 Sok nh (k1.upS (Or.inl rfl)) (fun i g hi hg => md_lb102_ok (by omega) hg)
