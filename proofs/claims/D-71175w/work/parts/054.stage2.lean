/-! the stage: taken over, trodden, a turn -/
theorem tk_z {gs gd : Nat → Int32} : tk 0 gs gd = gd := by
  funext q
  exact if_neg (Nat.not_lt_zero q)
theorem tk_end {gs gd : Nat → Int32} {q : Nat} (hq : q < 40) : upd gs 39 0 q = upd (upd (tk 38 gs gd) 38 (gs 38)) 39 0 q := by
  by_cases h1 : q = 39
  · rw [h1, upd_eq, upd_eq]
  · rw [upd_ne h1, upd_ne h1]
    by_cases h2 : q = 38
    · rw [h2, upd_eq]
    · rw [upd_ne h2, tk_L (by omega)]
theorem b2_0 {c : Prop} [Decidable c] (h : b2 c = 0) : ¬ c := fun q => by
  unfold b2 at h
  rw [if_pos q] at h
  exact absurd h (by decide)
theorem b2_1 {c : Prop} [Decidable c] (h : ¬ b2 c = 0) : c := Decidable.byContradiction fun q => h (if_neg q)
set_option maxHeartbeats 4000000 in
set_option maxRecDepth 100000 in
theorem st_takes (l : Launch) (G : tG) (a nh nm b nh2 nm2 : Nat) (g g2 : Nat → Int32) : tv_V l yX1_takes cX1_takes 3 (tv_rm 1 64) G [.ref a, .ref b] (stg G a nh nm g ++ stg G b nh2 nm2 g2) (stg G a nh2 nm2 (upd g2 39 0) ++ stg G b nh2 nm2 g2) := by
  refine tv_V.st (S := [stg G a nh nm g, stg G b nh2 nm2 g2]) (S' := [stg G a nh2 nm2 (upd g2 39 0), stg G b nh2 nm2 g2]) sg_two sg_two (by decide) (Nat.le_of_ble_eq_true rfl) ?_
  intro p e s m below meth c A M hr w ls hl
  have hx := M.1.1
  have hb := M.1.2.1
  have hl : lv_has ls 3 [(0, .ref a), (1, .ref b)] := hl
  refine lv_iconst (v := 0) hx hb dX1_takes_0 (by decide) ?_
  refine lv_istore_n (lv' := [(2, .int 0), (0, .ref a), (1, .ref b)]) hx hb dX1_takes_1 rfl hl (by decide) rfl (fun ls hl => ?_)
  refine w_for (pc := 2) (fun i H locs ls => tv_W G A s [stg G a nh nm (tk (2 * i) g2 g), stg G b nh2 nm2 g2] H locs ∧ lv_has ls 3 [(0, .ref a), (1, .ref b), (2, .int (nI i))]) 6 (fun H locs ls hI => ?_) (fun i hi H locs ls hI ih => ?_) 0 (Nat.zero_le _) _ _ _ ⟨(by rw [show tk (2 * 0) g2 g = g from tk_z]; exact w), lv_sub hl [1, 2, 0] rfl⟩
  · skip
    obtain ⟨w, hl⟩ := hI
    refine lv_iload_n hx hb dX1_takes_2 rfl (lv_at hl 2 rfl) ?_
    refine lv_bipush (v := 6) hx hb dX1_takes_3 (by decide) ?_
    refine lv_icmp_ge (tgt := 32) hx hb dX1_takes_5 (by decide) (fun _ => ?_) (fun hc => absurd (nI_le (a := 6) (b := 6) (by omega) (by omega)) hc)
    refine lv_iconst (v := 0) hx hb dX1_takes_32 (by decide) ?_
    refine lv_istore_n (lv' := [(2, .int 0), (0, .ref a), (1, .ref b)]) hx hb dX1_takes_33 rfl hl (by decide) rfl (fun ls hl => ?_)
    refine w_for (pc := 34) (fun i H locs ls => tv_W G A s [stg G a nh nm (tk (12 + 3 * i) g2 g), stg G b nh2 nm2 g2] H locs ∧ lv_has ls 3 [(0, .ref a), (1, .ref b), (2, .int (nI i))]) 6 (fun H locs ls hI => ?_) (fun i hi H locs ls hI ih => ?_) 0 (Nat.zero_le _) _ _ _ ⟨w, lv_sub hl [1, 2, 0] rfl⟩
    · skip
      obtain ⟨w, hl⟩ := hI
      refine lv_iload_n hx hb dX1_takes_34 rfl (lv_at hl 2 rfl) ?_
      refine lv_bipush (v := 6) hx hb dX1_takes_35 (by decide) ?_
      refine lv_icmp_ge (tgt := 64) hx hb dX1_takes_37 (by decide) (fun _ => ?_) (fun hc => absurd (nI_le (a := 6) (b := 6) (by omega) (by omega)) hc)
      refine lv_iconst (v := 0) hx hb dX1_takes_64 (by decide) ?_
      refine lv_istore_n (lv' := [(2, .int 0), (0, .ref a), (1, .ref b)]) hx hb dX1_takes_65 rfl hl (by decide) rfl (fun ls hl => ?_)
      refine w_for (pc := 66) (fun i H locs ls => tv_W G A s [stg G a nh nm (tk (30 + 2 * i) g2 g), stg G b nh2 nm2 g2] H locs ∧ lv_has ls 3 [(0, .ref a), (1, .ref b), (2, .int (nI i))]) 4 (fun H locs ls hI => ?_) (fun i hi H locs ls hI ih => ?_) 0 (Nat.zero_le _) _ _ _ ⟨w, lv_sub hl [1, 2, 0] rfl⟩
      · skip
        obtain ⟨w, hl⟩ := hI
        refine lv_iload_n hx hb dX1_takes_66 rfl (lv_at hl 2 rfl) ?_
        refine lv_iconst (v := 4) hx hb dX1_takes_67 (by decide) ?_
        refine lv_icmp_ge (tgt := 95) hx hb dX1_takes_68 (by decide) (fun _ => ?_) (fun hc => absurd (nI_le (a := 4) (b := 4) (by omega) (by omega)) hc)
        refine lv_aload_n hx hb dX1_takes_95 rfl (lv_at hl 0 rfl) ?_
        refine lv_aload_n hx hb dX1_takes_96 rfl (lv_at hl 1 rfl) ?_
        refine r_get M w tc1 1 0 3 rfl rfl (by decide) q136 rfl rfl dX1_takes_97 ?_
        refine r_put M w tc1 0 0 3 rfl rfl (by decide) q136 rfl rfl rfl rfl (Nat.le_of_ble_eq_true rfl) (S' := [stg G a nh2 nm (tk (30 + 2 * 4) g2 g), stg G b nh2 nm2 g2]) rfl dX1_takes_100 (fun H locs w => ?_)
        refine lv_aload_n hx hb dX1_takes_103 rfl (lv_at hl 0 rfl) ?_
        refine lv_aload_n hx hb dX1_takes_104 rfl (lv_at hl 1 rfl) ?_
        refine r_get M w tc1 1 0 4 rfl rfl (by decide) q139 rfl rfl dX1_takes_105 ?_
        refine r_put M w tc1 0 0 4 rfl rfl (by decide) q139 rfl rfl rfl rfl (Nat.le_of_ble_eq_true rfl) (S' := [stg G a nh2 nm2 (tk (30 + 2 * 4) g2 g), stg G b nh2 nm2 g2]) rfl dX1_takes_108 (fun H locs w => ?_)
        refine lv_aload_n hx hb dX1_takes_111 rfl (lv_at hl 0 rfl) ?_
        refine lv_aload_n hx hb dX1_takes_112 rfl (lv_at hl 1 rfl) ?_
        refine r_get M w tc1 1 0 5 rfl rfl (by decide) q142 rfl rfl dX1_takes_113 ?_
        refine r_put M w tc1 0 0 5 rfl rfl (by decide) q142 rfl rfl rfl rfl (Nat.le_of_ble_eq_true rfl) (S' := [stg G a nh2 nm2 (upd (tk (30 + 2 * 4) g2 g) 38 (g2 38)), stg G b nh2 nm2 g2]) (congrArg (fun zz_ => List.set [stg G a nh2 nm2 (tk (30 + 2 * 4) g2 g), stg G b nh2 nm2 g2] 0 zz_) (stg_f5 G a nh2 nm2 (tk (30 + 2 * 4) g2 g) (g2 38))) dX1_takes_116 (fun H locs w => ?_)
        refine lv_aload_n hx hb dX1_takes_119 rfl (lv_at hl 0 rfl) ?_
        refine lv_iconst (v := 0) hx hb dX1_takes_120 (by decide) ?_
        refine r_put M w tc1 0 0 6 rfl rfl (by decide) q144 rfl rfl rfl rfl (Nat.le_of_ble_eq_true rfl) (S' := [stg G a nh2 nm2 (upd (upd (tk (30 + 2 * 4) g2 g) 38 (g2 38)) 39 0), stg G b nh2 nm2 g2]) (congrArg (fun zz_ => List.set [stg G a nh2 nm2 (upd (tk (30 + 2 * 4) g2 g) 38 (g2 38)), stg G b nh2 nm2 g2] 0 zz_) (stg_f6 G a nh2 nm2 (upd (tk (30 + 2 * 4) g2 g) 38 (g2 38)) 0)) dX1_takes_121 (fun H locs w => ?_)
        exact tv_vret M (by rw [show stg G a nh2 nm2 (upd g2 39 0) = stg G a nh2 nm2 (upd (upd (tk (30 + 2 * 4) g2 g) 38 (g2 38)) 39 0) from stg_congr (fun q hq => tk_end hq)]; exact w) hr dX1_takes_124
      · skip
        obtain ⟨w, hl⟩ := hI
        refine lv_iload_n hx hb dX1_takes_66 rfl (lv_at hl 2 rfl) ?_
        refine lv_iconst (v := 4) hx hb dX1_takes_67 (by decide) ?_
        refine lv_icmp_ge (tgt := 95) hx hb dX1_takes_68 (by decide) (fun hc => absurd hc (nI_ge (a := i) (b := 4) (by omega) (by omega))) (fun _ => ?_)
        refine lv_aload_n hx hb dX1_takes_71 rfl (lv_at hl 1 rfl) ?_
        refine r_get M w tc1 1 0 2 rfl rfl (by decide) q133 rfl rfl dX1_takes_72 ?_
        refine lv_iload_n hx hb dX1_takes_75 rfl (lv_at hl 2 rfl) ?_
        refine r_aald M w 1 15 4 rfl rfl rfl rfl (vp_in_nI (by omega) (by omega)) (v := b + 16 + i) (oref_nI (by omega) (by omega)) dX1_takes_76 ?_
        refine lv_iconst (v := 0) hx hb dX1_takes_77 (by decide) ?_
        refine lv_aload_n hx hb dX1_takes_78 rfl (lv_at hl 0 rfl) ?_
        refine r_get M w tc1 0 0 2 rfl rfl (by decide) q133 rfl rfl dX1_takes_79 ?_
        refine lv_iload_n hx hb dX1_takes_82 rfl (lv_at hl 2 rfl) ?_
        refine r_aald M w 0 15 4 rfl rfl rfl rfl (vp_in_nI (by omega) (by omega)) (v := a + 16 + i) (oref_nI (by omega) (by omega)) dX1_takes_83 ?_
        refine lv_iconst (v := 0) hx hb dX1_takes_84 (by decide) ?_
        refine lv_iconst (v := 2) hx hb dX1_takes_85 (by decide) ?_
        refine r_copyi M w hl.1 q389 q109 q108 q73 1 (16 + i) 0 (16 + i) rfl (stg_mi G b nh2 nm2 g2 (by omega)) rfl (stg_mi G a nh nm (tk (30 + 2 * i) g2 g) (by omega)) (by decide) (by decide) (by decide) (by decide) (by decide) ⟨Nat.le_of_ble_eq_true rfl, Nat.le_of_ble_eq_true rfl⟩ (S' := [stg G a nh nm (tk (30 + 2 * (i + 1)) g2 g), stg G b nh2 nm2 g2]) (congrArg (fun zz_ => List.set [stg G a nh nm (tk (30 + 2 * i) g2 g), stg G b nh2 nm2 g2] 0 zz_) (stg_tkM G a nh nm g2 g (by omega))) dX1_takes_86 (fun H locs w => ?_)
        refine lv_iinc (k := 2) (v := nI (i + 1)) (lv' := [(2, .int (nI (i + 1))), (0, .ref a), (1, .ref b)]) hx hb dX1_takes_89 hl rfl (nI_inc i) (by decide) rfl (fun ls hl => ?_)
        refine lv_goto (tgt := 66) hx hb dX1_takes_92 (by decide) ?_
        exact ih _ _ _ ⟨w, lv_sub hl [1, 2, 0] rfl⟩
    · skip
      obtain ⟨w, hl⟩ := hI
      refine lv_iload_n hx hb dX1_takes_34 rfl (lv_at hl 2 rfl) ?_
      refine lv_bipush (v := 6) hx hb dX1_takes_35 (by decide) ?_
      refine lv_icmp_ge (tgt := 64) hx hb dX1_takes_37 (by decide) (fun hc => absurd hc (nI_ge (a := i) (b := 6) (by omega) (by omega))) (fun _ => ?_)
      refine lv_aload_n hx hb dX1_takes_40 rfl (lv_at hl 1 rfl) ?_
      refine r_get M w tc1 1 0 1 rfl rfl (by decide) q130 rfl rfl dX1_takes_41 ?_
      refine lv_iload_n hx hb dX1_takes_44 rfl (lv_at hl 2 rfl) ?_
      refine r_aald M w 1 8 4 rfl rfl rfl rfl (vp_in_nI (by omega) (by omega)) (v := b + 9 + i) (oref_nI (by omega) (by omega)) dX1_takes_45 ?_
      refine lv_iconst (v := 0) hx hb dX1_takes_46 (by decide) ?_
      refine lv_aload_n hx hb dX1_takes_47 rfl (lv_at hl 0 rfl) ?_
      refine r_get M w tc1 0 0 1 rfl rfl (by decide) q130 rfl rfl dX1_takes_48 ?_
      refine lv_iload_n hx hb dX1_takes_51 rfl (lv_at hl 2 rfl) ?_
      refine r_aald M w 0 8 4 rfl rfl rfl rfl (vp_in_nI (by omega) (by omega)) (v := a + 9 + i) (oref_nI (by omega) (by omega)) dX1_takes_52 ?_
      refine lv_iconst (v := 0) hx hb dX1_takes_53 (by decide) ?_
      refine lv_iconst (v := 3) hx hb dX1_takes_54 (by decide) ?_
      refine r_copyi M w hl.1 q389 q109 q108 q73 1 (9 + i) 0 (9 + i) rfl (stg_hd G b nh2 nm2 g2 (by omega)) rfl (stg_hd G a nh nm (tk (12 + 3 * i) g2 g) (by omega)) (by decide) (by decide) (by decide) (by decide) (by decide) ⟨Nat.le_of_ble_eq_true rfl, Nat.le_of_ble_eq_true rfl⟩ (S' := [stg G a nh nm (tk (12 + 3 * (i + 1)) g2 g), stg G b nh2 nm2 g2]) (congrArg (fun zz_ => List.set [stg G a nh nm (tk (12 + 3 * i) g2 g), stg G b nh2 nm2 g2] 0 zz_) (stg_tkH G a nh nm g2 g (by omega))) dX1_takes_55 (fun H locs w => ?_)
      refine lv_iinc (k := 2) (v := nI (i + 1)) (lv' := [(2, .int (nI (i + 1))), (0, .ref a), (1, .ref b)]) hx hb dX1_takes_58 hl rfl (nI_inc i) (by decide) rfl (fun ls hl => ?_)
      refine lv_goto (tgt := 34) hx hb dX1_takes_61 (by decide) ?_
      exact ih _ _ _ ⟨w, lv_sub hl [1, 2, 0] rfl⟩
  · skip
    obtain ⟨w, hl⟩ := hI
    refine lv_iload_n hx hb dX1_takes_2 rfl (lv_at hl 2 rfl) ?_
    refine lv_bipush (v := 6) hx hb dX1_takes_3 (by decide) ?_
    refine lv_icmp_ge (tgt := 32) hx hb dX1_takes_5 (by decide) (fun hc => absurd hc (nI_ge (a := i) (b := 6) (by omega) (by omega))) (fun _ => ?_)
    refine lv_aload_n hx hb dX1_takes_8 rfl (lv_at hl 1 rfl) ?_
    refine r_get M w tc1 1 0 0 rfl rfl (by decide) q127 rfl rfl dX1_takes_9 ?_
    refine lv_iload_n hx hb dX1_takes_12 rfl (lv_at hl 2 rfl) ?_
    refine r_aald M w 1 1 4 rfl rfl rfl rfl (vp_in_nI (by omega) (by omega)) (v := b + 2 + i) (oref_nI (by omega) (by omega)) dX1_takes_13 ?_
    refine lv_iconst (v := 0) hx hb dX1_takes_14 (by decide) ?_
    refine lv_aload_n hx hb dX1_takes_15 rfl (lv_at hl 0 rfl) ?_
    refine r_get M w tc1 0 0 0 rfl rfl (by decide) q127 rfl rfl dX1_takes_16 ?_
    refine lv_iload_n hx hb dX1_takes_19 rfl (lv_at hl 2 rfl) ?_
    refine r_aald M w 0 1 4 rfl rfl rfl rfl (vp_in_nI (by omega) (by omega)) (v := a + 2 + i) (oref_nI (by omega) (by omega)) dX1_takes_20 ?_
    refine lv_iconst (v := 0) hx hb dX1_takes_21 (by decide) ?_
    refine lv_iconst (v := 2) hx hb dX1_takes_22 (by decide) ?_
    refine r_copyi M w hl.1 q389 q109 q108 q73 1 (2 + i) 0 (2 + i) rfl (stg_sq G b nh2 nm2 g2 (by omega)) rfl (stg_sq G a nh nm (tk (2 * i) g2 g) (by omega)) (by decide) (by decide) (by decide) (by decide) (by decide) ⟨Nat.le_of_ble_eq_true rfl, Nat.le_of_ble_eq_true rfl⟩ (S' := [stg G a nh nm (tk (2 * (i + 1)) g2 g), stg G b nh2 nm2 g2]) (congrArg (fun zz_ => List.set [stg G a nh nm (tk (2 * i) g2 g), stg G b nh2 nm2 g2] 0 zz_) (stg_tkQ G a nh nm g2 g (by omega))) dX1_takes_23 (fun H locs w => ?_)
    refine lv_iinc (k := 2) (v := nI (i + 1)) (lv' := [(2, .int (nI (i + 1))), (0, .ref a), (1, .ref b)]) hx hb dX1_takes_26 hl rfl (nI_inc i) (by decide) rfl (fun ls hl => ?_)
    refine lv_goto (tgt := 2) hx hb dX1_takes_29 (by decide) ?_
    exact ih _ _ _ ⟨w, lv_sub hl [1, 2, 0] rfl⟩
set_option maxHeartbeats 4000000 in
set_option maxRecDepth 100000 in
theorem st_drops (l : Launch) (G : tG) (a nh nm : Nat) (g : Nat → Int32) (u : Nat) (z : Int32) (hn : nh ≤ 6) (hm : nm ≤ 4) (hu : u < 4) : tv_V l yX1_drops cX1_drops 4 (tv_rm 0 0) G [.ref a, .int (nI u), .int z] (stg G a nh nm g) (stg G a nh nm (dpF nh u z g)) := by
  refine tv_V.st (S := [stg G a nh nm g]) (S' := [stg G a nh nm (dpF nh u z g)]) sg_one sg_one (by decide) (Nat.le_of_ble_eq_true rfl) ?_
  intro p e s m below meth c A M hr w ls hl
  have hx := M.1.1
  have hb := M.1.2.1
  have hl : lv_has ls 4 [(0, .ref a), (1, .int (nI u)), (2, .int z)] := hl
  refine lv_aload_n hx hb dX1_drops_0 rfl (lv_at hl 0 rfl) ?_
  refine r_get M w tc1 0 0 2 rfl rfl (by decide) q133 rfl rfl dX1_drops_1 ?_
  refine lv_iload_n hx hb dX1_drops_4 rfl (lv_at hl 1 rfl) ?_
  refine r_aald M w 0 15 4 rfl rfl rfl rfl (vp_in_nI (by omega) (by omega)) (v := a + 16 + u) (oref_nI (by omega) (by omega)) dX1_drops_5 ?_
  refine lv_iconst (v := 1) hx hb dX1_drops_6 (by decide) ?_
  refine lv_bipush (v := -4) hx hb dX1_drops_7 (by decide) ?_
  refine r_iast M w 0 (16 + u) rfl (stg_mi G a nh nm g (by omega)) (pk_in 1 2 (by decide)) (S' := [stg G a nh nm (upd g (30 + 2 * u + 1) (-4))]) (congrArg (fun zz_ => List.set [stg G a nh nm g] 0 zz_) (stg_miS G a nh nm g (i := 1) (by omega) (by decide) (-4))) dX1_drops_9 (fun H locs w => ?_)
  refine lv_aload_n hx hb dX1_drops_10 rfl (lv_at hl 0 rfl) ?_
  refine lv_dup hx hb dX1_drops_11 rfl ?_
  refine r_get M w tc1 0 0 6 rfl rfl (by decide) q144 rfl rfl dX1_drops_12 ?_
  refine lv_iconst (v := 1) hx hb dX1_drops_15 (by decide) ?_
  refine lv_iadd hx hb dX1_drops_16 ?_
  refine r_put M w tc1 0 0 6 rfl rfl (by decide) q144 rfl rfl rfl rfl (Nat.le_of_ble_eq_true rfl) (S' := [stg G a nh nm (upd (upd g (30 + 2 * u + 1) (-4)) 39 (((upd g (30 + 2 * u + 1) (-4)) 39) + 1))]) (congrArg (fun zz_ => List.set [stg G a nh nm (upd g (30 + 2 * u + 1) (-4))] 0 zz_) (stg_f6 G a nh nm (upd g (30 + 2 * u + 1) (-4)) (((upd g (30 + 2 * u + 1) (-4)) 39) + 1))) dX1_drops_17 (fun H locs w => ?_)
  refine lv_iconst (v := 0) hx hb dX1_drops_20 (by decide) ?_
  refine lv_istore_n (lv' := [(3, .int 0), (0, .ref a), (1, .int (nI u)), (2, .int z)]) hx hb dX1_drops_21 rfl hl (by decide) rfl (fun ls hl => ?_)
  refine w_for (pc := 22) (fun i H locs ls => tv_W G A s [stg G a nh nm (lp (dpB z) i (upd (upd g (30 + 2 * u + 1) (-4)) 39 ((upd g (30 + 2 * u + 1) (-4)) 39 + 1)))] H locs ∧ lv_has ls 4 [(0, .ref a), (2, .int z), (3, .int (nI i))]) nh (fun H locs ls hI => ?_) (fun i hi H locs ls hI ih => ?_) 0 (Nat.zero_le _) _ _ _ ⟨w, lv_sub hl [1, 3, 0] rfl⟩
  · skip
    obtain ⟨w, hl⟩ := hI
    refine lv_iload_n hx hb dX1_drops_22 rfl (lv_at hl 2 rfl) ?_
    refine lv_aload_n hx hb dX1_drops_23 rfl (lv_at hl 0 rfl) ?_
    refine r_get M w tc1 0 0 3 rfl rfl (by decide) q136 rfl rfl dX1_drops_24 ?_
    refine lv_icmp_ge (tgt := 68) hx hb dX1_drops_27 (by decide) (fun _ => ?_) (fun hc => absurd (nI_le (a := _) (b := nh) (by omega) (by omega)) hc)
    exact tv_vret M w hr dX1_drops_68
  · skip
    obtain ⟨w, hl⟩ := hI
    refine lv_iload_n hx hb dX1_drops_22 rfl (lv_at hl 2 rfl) ?_
    refine lv_aload_n hx hb dX1_drops_23 rfl (lv_at hl 0 rfl) ?_
    refine r_get M w tc1 0 0 3 rfl rfl (by decide) q136 rfl rfl dX1_drops_24 ?_
    refine lv_icmp_ge (tgt := 68) hx hb dX1_drops_27 (by decide) (fun hc => absurd hc (nI_ge (a := i) (b := _) (by omega) (by omega))) (fun _ => ?_)
    refine lv_aload_n hx hb dX1_drops_30 rfl (lv_at hl 0 rfl) ?_
    refine r_get M w tc1 0 0 1 rfl rfl (by decide) q130 rfl rfl dX1_drops_31 ?_
    refine lv_iload_n hx hb dX1_drops_34 rfl (lv_at hl 2 rfl) ?_
    refine r_aald M w 0 8 4 rfl rfl rfl rfl (vp_in_nI (by omega) (by omega)) (v := a + 9 + i) (oref_nI (by omega) (by omega)) dX1_drops_35 ?_
    refine lv_iconst (v := 2) hx hb dX1_drops_36 (by decide) ?_
    refine lv_aload_n hx hb dX1_drops_37 rfl (lv_at hl 0 rfl) ?_
    refine r_get M w tc1 0 0 1 rfl rfl (by decide) q130 rfl rfl dX1_drops_38 ?_
    refine lv_iload_n hx hb dX1_drops_41 rfl (lv_at hl 2 rfl) ?_
    refine r_aald M w 0 8 4 rfl rfl rfl rfl (vp_in_nI (by omega) (by omega)) (v := a + 9 + i) (oref_nI (by omega) (by omega)) dX1_drops_42 ?_
    refine lv_iconst (v := 1) hx hb dX1_drops_43 (by decide) ?_
    refine r_iald M w 0 (9 + i) rfl (stg_hd G a nh nm (lp (dpB z) i (upd (upd g (30 + 2 * u + 1) (-4)) 39 ((upd g (30 + 2 * u + 1) (-4)) 39 + 1))) (by omega)) (pk_in 1 3 (by decide)) (v := (lp (dpB z) i (upd (upd g (30 + 2 * u + 1) (-4)) 39 ((upd g (30 + 2 * u + 1) (-4)) 39 + 1))) (12 + 3 * i + 1)) rfl dX1_drops_44 ?_
    refine lv_iload_n hx hb dX1_drops_45 rfl (lv_at hl 1 rfl) ?_
    refine w_cut (g2 := F0 m 61 ls [.int (if ((lp (dpB z) i (upd (upd g (30 + 2 * u + 1) (-4)) 39 ((upd g (30 + 2 * u + 1) (-4)) 39 + 1))) (12 + 3 * i + 1)) = z then (0 : Int32) else ((lp (dpB z) i (upd (upd g (30 + 2 * u + 1) (-4)) 39 ((upd g (30 + 2 * u + 1) (-4)) 39 + 1))) (12 + 3 * i + 2))), .int 2, .ref (a + 9 + i)]) (fun jn => ?_) ?_
    · skip
      refine lv_icmp_ne (tgt := 53) hx hb dX1_drops_46 (by decide) (fun c1 => ?_) (fun c1 => ?_)
      · skip
        refine lv_aload_n hx hb dX1_drops_53 rfl (lv_at hl 0 rfl) ?_
        refine r_get M w tc1 0 0 1 rfl rfl (by decide) q130 rfl rfl dX1_drops_54 ?_
        refine lv_iload_n hx hb dX1_drops_57 rfl (lv_at hl 2 rfl) ?_
        refine r_aald M w 0 8 4 rfl rfl rfl rfl (vp_in_nI (by omega) (by omega)) (v := a + 9 + i) (oref_nI (by omega) (by omega)) dX1_drops_58 ?_
        refine lv_iconst (v := 2) hx hb dX1_drops_59 (by decide) ?_
        refine r_iald M w 0 (9 + i) rfl (stg_hd G a nh nm (lp (dpB z) i (upd (upd g (30 + 2 * u + 1) (-4)) 39 ((upd g (30 + 2 * u + 1) (-4)) 39 + 1))) (by omega)) (pk_in 2 3 (by decide)) (v := (lp (dpB z) i (upd (upd g (30 + 2 * u + 1) (-4)) 39 ((upd g (30 + 2 * u + 1) (-4)) 39 + 1))) (12 + 3 * i + 2)) rfl dX1_drops_60 ?_
        exact w_topi (if_neg c1) jn
      · skip
        refine lv_iconst (v := 0) hx hb dX1_drops_49 (by decide) ?_
        refine lv_goto (tgt := 61) hx hb dX1_drops_50 (by decide) ?_
        exact w_topi (if_pos c1) jn
    refine r_iast M w 0 (9 + i) rfl (stg_hd G a nh nm (lp (dpB z) i (upd (upd g (30 + 2 * u + 1) (-4)) 39 ((upd g (30 + 2 * u + 1) (-4)) 39 + 1))) (by omega)) (pk_in 2 3 (by decide)) (S' := [stg G a nh nm (upd (lp (dpB z) i (upd (upd g (30 + 2 * u + 1) (-4)) 39 ((upd g (30 + 2 * u + 1) (-4)) 39 + 1))) (12 + 3 * i + 2) (if ((lp (dpB z) i (upd (upd g (30 + 2 * u + 1) (-4)) 39 ((upd g (30 + 2 * u + 1) (-4)) 39 + 1))) (12 + 3 * i + 1)) = z then (0 : Int32) else ((lp (dpB z) i (upd (upd g (30 + 2 * u + 1) (-4)) 39 ((upd g (30 + 2 * u + 1) (-4)) 39 + 1))) (12 + 3 * i + 2))))]) (congrArg (fun zz_ => List.set [stg G a nh nm (lp (dpB z) i (upd (upd g (30 + 2 * u + 1) (-4)) 39 ((upd g (30 + 2 * u + 1) (-4)) 39 + 1)))] 0 zz_) (stg_hdS G a nh nm (lp (dpB z) i (upd (upd g (30 + 2 * u + 1) (-4)) 39 ((upd g (30 + 2 * u + 1) (-4)) 39 + 1))) (i := 2) (by omega) (by decide) (if ((lp (dpB z) i (upd (upd g (30 + 2 * u + 1) (-4)) 39 ((upd g (30 + 2 * u + 1) (-4)) 39 + 1))) (12 + 3 * i + 1)) = z then (0 : Int32) else ((lp (dpB z) i (upd (upd g (30 + 2 * u + 1) (-4)) 39 ((upd g (30 + 2 * u + 1) (-4)) 39 + 1))) (12 + 3 * i + 2))))) dX1_drops_61 (fun H locs w => ?_)
    refine lv_iinc (k := 2) (v := nI (i + 1)) (lv' := [(3, .int (nI (i + 1))), (0, .ref a), (2, .int z)]) hx hb dX1_drops_62 hl rfl (nI_inc i) (by decide) rfl (fun ls hl => ?_)
    refine lv_goto (tgt := 22) hx hb dX1_drops_65 (by decide) ?_
    exact ih _ _ _ ⟨w, lv_sub hl [1, 2, 0] rfl⟩
set_option maxHeartbeats 4000000 in
set_option maxRecDepth 100000 in
theorem st_treads (l : Launch) (G : tG) (a nh nm : Nat) (g : Nat → Int32) (u : Nat) (hn : nh ≤ 6) (hm : nm ≤ 4) (hu : u < 4) (hok : Sok g) (hup : vp_in (g (30 + 2 * u + 1)) 6) : tv_V l yX1_treads cX1_treads 5 (tv_rm 4 85) G [.ref a, .int (nI u)] (stg G a nh nm g) (stg G a nh nm (trF nh u g)) := by
  refine tv_V.st (S := [stg G a nh nm g]) (S' := [stg G a nh nm (trF nh u g)]) sg_one sg_one (by decide) (Nat.le_of_ble_eq_true rfl) ?_
  intro p e s m below meth c A M hr w ls hl
  have hx := M.1.1
  have hb := M.1.2.1
  have hl : lv_has ls 5 [(0, .ref a), (1, .int (nI u))] := hl
  refine lv_aload_n hx hb dX1_treads_0 rfl (lv_at hl 0 rfl) ?_
  refine r_get M w tc1 0 0 2 rfl rfl (by decide) q133 rfl rfl dX1_treads_1 ?_
  refine lv_iload_n hx hb dX1_treads_4 rfl (lv_at hl 1 rfl) ?_
  refine r_aald M w 0 15 4 rfl rfl rfl rfl (vp_in_nI (by omega) (by omega)) (v := a + 16 + u) (oref_nI (by omega) (by omega)) dX1_treads_5 ?_
  refine lv_iconst (v := 1) hx hb dX1_treads_6 (by decide) ?_
  refine r_iald M w 0 (16 + u) rfl (stg_mi G a nh nm g (by omega)) (pk_in 1 2 (by decide)) (v := g (30 + 2 * u + 1)) rfl dX1_treads_7 ?_
  refine lv_istore_n (lv' := [(2, .int (g (30 + 2 * u + 1))), (0, .ref a), (1, .int (nI u))]) hx hb dX1_treads_8 rfl hl (by decide) rfl (fun ls hl => ?_)
  refine lv_iconst (v := 0) hx hb dX1_treads_9 (by decide) ?_
  refine lv_istore_n (lv' := [(3, .int 0), (2, .int (g (30 + 2 * u + 1))), (0, .ref a), (1, .int (nI u))]) hx hb dX1_treads_10 rfl hl (by decide) rfl (fun ls hl => ?_)
  refine lv_iconst (v := 0) hx hb dX1_treads_11 (by decide) ?_
  refine lv_istore (lv' := [(4, .int 0), (3, .int 0), (2, .int (g (30 + 2 * u + 1))), (0, .ref a), (1, .int (nI u))]) hx hb dX1_treads_12 hl (by decide) rfl (fun ls hl => ?_)
  refine w_for (pc := 14) (fun i H locs ls => tv_W G A s [stg G a nh nm ((lp (trB u (g (30 + 2 * u + 1))) i (g, 0)).1)] H locs ∧ lv_has ls 5 [(0, .ref a), (1, .int (nI u)), (2, .int (g (30 + 2 * u + 1))), (3, .int ((lp (trB u (g (30 + 2 * u + 1))) i (g, 0)).2)), (4, .int (nI i))]) nh (fun H locs ls hI => ?_) (fun i hi H locs ls hI ih => ?_) 0 (Nat.zero_le _) _ _ _ ⟨w, lv_sub hl [3, 4, 2, 1, 0] rfl⟩
  · skip
    obtain ⟨w, hl⟩ := hI
    refine lv_iload hx hb dX1_treads_14 (lv_at hl 4 rfl) ?_
    refine lv_aload_n hx hb dX1_treads_16 rfl (lv_at hl 0 rfl) ?_
    refine r_get M w tc1 0 0 3 rfl rfl (by decide) q136 rfl rfl dX1_treads_17 ?_
    refine lv_icmp_ge (tgt := 97) hx hb dX1_treads_20 (by decide) (fun _ => ?_) (fun hc => absurd (nI_le (a := _) (b := nh) (by omega) (by omega)) hc)
    refine lv_iload_n hx hb dX1_treads_97 rfl (lv_at hl 3 rfl) ?_
    refine lv_aload_n hx hb dX1_treads_98 rfl (lv_at hl 0 rfl) ?_
    refine r_get M w tc1 0 0 0 rfl rfl (by decide) q127 rfl rfl dX1_treads_99 ?_
    refine lv_iload_n hx hb dX1_treads_102 rfl (lv_at hl 2 rfl) ?_
    refine r_aald M w 0 1 4 rfl rfl rfl rfl (vp_w hup (by omega)) (v := a + 2 + ((g (30 + 2 * u + 1)).toNatClampNeg)) (oref_in (vp_w hup (by omega))) dX1_treads_103 ?_
    refine lv_iconst (v := 1) hx hb dX1_treads_104 (by decide) ?_
    refine r_iald M w 0 (2 + ((g (30 + 2 * u + 1)).toNatClampNeg)) rfl (stg_sq G a nh nm ((lp (trB u (g (30 + 2 * u + 1))) nh (g, 0)).1) (vp_cl (vp_w hup (by omega)))) (pk_in 1 2 (by decide)) (v := ((lp (trB u (g (30 + 2 * u + 1))) nh (g, 0)).1) (2 * ((g (30 + 2 * u + 1)).toNatClampNeg) + 1)) rfl dX1_treads_105 ?_
    refine lv_icmp_lt (tgt := 115) hx hb dX1_treads_106 (by decide) (fun c1 => ?_) (fun c1 => ?_)
    · skip
      exact tv_vret M (by rw [show trF nh u g = _ from if_pos c1]; exact w) hr dX1_treads_115
    · skip
      refine lv_aload_n hx hb dX1_treads_109 rfl (lv_at hl 0 rfl) ?_
      refine lv_iload_n hx hb dX1_treads_110 rfl (lv_at hl 1 rfl) ?_
      refine lv_iload_n hx hb dX1_treads_111 rfl (lv_at hl 2 rfl) ?_
      refine c_vV M w (S' := [stg G a nh nm (dpF nh u (g (30 + 2 * u + 1)) ((lp (trB u (g (30 + 2 * u + 1))) nh (g, 0)).1))]) (tv_in.seg 0 rfl rfl) (st_drops l G a nh nm ((lp (trB u (g (30 + 2 * u + 1))) nh (g, 0)).1) u (g (30 + 2 * u + 1)) (by omega) (by omega) (by omega)) (q0 := 0) tc1 rfl q524 q526 qs16 q69 q527 nm_yX1_drops ⟨Nat.le_of_ble_eq_true rfl, Nat.le_of_ble_eq_true rfl⟩ rfl hl.1 (rest := []) rfl (Nat.le_of_ble_eq_true rfl) dX1_treads_112 ⟨Nat.zero_le _, Nat.zero_le _⟩ (fun H locs w => ?_)
      exact tv_vret M (by rw [show trF nh u g = _ from if_neg c1]; exact w) hr dX1_treads_115
  · skip
    obtain ⟨w, hl⟩ := hI
    refine lv_iload hx hb dX1_treads_14 (lv_at hl 4 rfl) ?_
    refine lv_aload_n hx hb dX1_treads_16 rfl (lv_at hl 0 rfl) ?_
    refine r_get M w tc1 0 0 3 rfl rfl (by decide) q136 rfl rfl dX1_treads_17 ?_
    refine lv_icmp_ge (tgt := 97) hx hb dX1_treads_20 (by decide) (fun hc => absurd hc (nI_ge (a := i) (b := _) (by omega) (by omega))) (fun _ => ?_)
    refine lv_aload_n hx hb dX1_treads_23 rfl (lv_at hl 0 rfl) ?_
    refine r_get M w tc1 0 0 1 rfl rfl (by decide) q130 rfl rfl dX1_treads_24 ?_
    refine lv_iload hx hb dX1_treads_27 (lv_at hl 4 rfl) ?_
    refine r_aald M w 0 8 4 rfl rfl rfl rfl (vp_in_nI (by omega) (by omega)) (v := a + 9 + i) (oref_nI (by omega) (by omega)) dX1_treads_29 ?_
    refine lv_iconst (v := 1) hx hb dX1_treads_30 (by decide) ?_
    refine r_iald M w 0 (9 + i) rfl (stg_hd G a nh nm ((lp (trB u (g (30 + 2 * u + 1))) i (g, 0)).1) (by omega)) (pk_in 1 3 (by decide)) (v := ((lp (trB u (g (30 + 2 * u + 1))) i (g, 0)).1) (12 + 3 * i + 1)) rfl dX1_treads_31 ?_
    refine lv_iload_n hx hb dX1_treads_32 rfl (lv_at hl 2 rfl) ?_
    refine lv_icmp_ne (tgt := 91) hx hb dX1_treads_33 (by decide) (fun c2 => ?_) (fun c2 => ?_)
    · skip
      refine lv_iinc (k := 4) (v := nI (i + 1)) (lv' := [(4, .int (nI (i + 1))), (0, .ref a), (1, .int (nI u)), (2, .int (g (30 + 2 * u + 1))), (3, .int ((lp (trB u (g (30 + 2 * u + 1))) i (g, 0)).2))]) hx hb dX1_treads_91 hl rfl (nI_inc i) (by decide) rfl (fun ls hl => ?_)
      refine lv_goto (tgt := 14) hx hb dX1_treads_94 (by decide) ?_
      refine ih _ _ _ ?_
      show tv_W G A s [stg G a nh nm ((lp (trB u (g (30 + 2 * u + 1))) (i + 1) (g, 0)).1)] H locs ∧ lv_has ls 5 [(0, .ref a), (1, .int (nI u)), (2, .int (g (30 + 2 * u + 1))), (3, .int ((lp (trB u (g (30 + 2 * u + 1))) (i + 1) (g, 0)).2)), (4, .int (nI (i + 1)))]
      rw [show lp (trB u (g (30 + 2 * u + 1))) (i + 1) (g, 0) = _ from if_neg c2]
      exact ⟨w, lv_sub hl [1, 2, 3, 4, 0] rfl⟩
    · skip
      refine lv_aload_n hx hb dX1_treads_36 rfl (lv_at hl 0 rfl) ?_
      refine r_get M w tc1 0 0 1 rfl rfl (by decide) q130 rfl rfl dX1_treads_37 ?_
      refine lv_iload hx hb dX1_treads_40 (lv_at hl 4 rfl) ?_
      refine r_aald M w 0 8 4 rfl rfl rfl rfl (vp_in_nI (by omega) (by omega)) (v := a + 9 + i) (oref_nI (by omega) (by omega)) dX1_treads_42 ?_
      refine lv_iconst (v := 2) hx hb dX1_treads_43 (by decide) ?_
      refine lv_bipush (v := 99) hx hb dX1_treads_44 (by decide) ?_
      refine lv_aload_n hx hb dX1_treads_46 rfl (lv_at hl 0 rfl) ?_
      refine r_get M w tc1 0 0 1 rfl rfl (by decide) q130 rfl rfl dX1_treads_47 ?_
      refine lv_iload hx hb dX1_treads_50 (lv_at hl 4 rfl) ?_
      refine r_aald M w 0 8 4 rfl rfl rfl rfl (vp_in_nI (by omega) (by omega)) (v := a + 9 + i) (oref_nI (by omega) (by omega)) dX1_treads_52 ?_
      refine lv_iconst (v := 2) hx hb dX1_treads_53 (by decide) ?_
      refine r_iald M w 0 (9 + i) rfl (stg_hd G a nh nm ((lp (trB u (g (30 + 2 * u + 1))) i (g, 0)).1) (by omega)) (pk_in 2 3 (by decide)) (v := ((lp (trB u (g (30 + 2 * u + 1))) i (g, 0)).1) (12 + 3 * i + 2)) rfl dX1_treads_54 ?_
      refine lv_aload_n hx hb dX1_treads_55 rfl (lv_at hl 0 rfl) ?_
      refine lv_iload hx hb dX1_treads_56 (lv_at hl 4 rfl) ?_
      refine lv_aload_n hx hb dX1_treads_58 rfl (lv_at hl 0 rfl) ?_
      refine r_get M w tc1 0 0 2 rfl rfl (by decide) q133 rfl rfl dX1_treads_59 ?_
      refine lv_iload_n hx hb dX1_treads_62 rfl (lv_at hl 1 rfl) ?_
      refine r_aald M w 0 15 4 rfl rfl rfl rfl (vp_in_nI (by omega) (by omega)) (v := a + 16 + u) (oref_nI (by omega) (by omega)) dX1_treads_63 ?_
      refine lv_iconst (v := 0) hx hb dX1_treads_64 (by decide) ?_
      refine r_iald M w 0 (16 + u) rfl (stg_mi G a nh nm ((lp (trB u (g (30 + 2 * u + 1))) i (g, 0)).1) (by omega)) (pk_in 0 2 (by decide)) (v := ((lp (trB u (g (30 + 2 * u + 1))) i (g, 0)).1) (30 + 2 * u)) rfl dX1_treads_65 ?_
      refine c_iV M w (S' := [stg G a nh nm ((lp (trB u (g (30 + 2 * u + 1))) i (g, 0)).1)]) (tv_in.seg 0 rfl rfl) (st_angered l G a nh nm ((lp (trB u (g (30 + 2 * u + 1))) i (g, 0)).1) i (((lp (trB u (g (30 + 2 * u + 1))) i (g, 0)).1) (30 + 2 * u)) (by omega) ((trB_ok hok hu hn (g (30 + 2 * u + 1)) 0 i (by omega)).kd (by omega))) (q0 := 0) tc1 rfl q520 q456 q457 q69 q458 nm_yX1_angered ⟨Nat.le_of_ble_eq_true rfl, Nat.le_of_ble_eq_true rfl⟩ rfl hl.1 (rest := [.int (((lp (trB u (g (30 + 2 * u + 1))) i (g, 0)).1) (12 + 3 * i + 2)), .int 99, .int 2, .ref (a + 9 + i)]) rfl (Nat.le_of_ble_eq_true rfl) dX1_treads_66 ⟨Nat.zero_le _, Nat.zero_le _⟩ (fun H locs w => ?_)
      refine lv_iadd hx hb dX1_treads_69 ?_
      refine r_min M hl.1 q521 q522 q83 q523 ⟨Nat.le_of_ble_eq_true rfl, Nat.le_of_ble_eq_true rfl⟩ ⟨Nat.zero_le _, Nat.zero_le _⟩ (v := if ((((lp (trB u (g (30 + 2 * u + 1))) i (g, 0)).1) (12 + 3 * i + 2)) + (ang (((lp (trB u (g (30 + 2 * u + 1))) i (g, 0)).1) (12 + 3 * i)) (((lp (trB u (g (30 + 2 * u + 1))) i (g, 0)).1) (30 + 2 * u)))) < 99 then (((lp (trB u (g (30 + 2 * u + 1))) i (g, 0)).1) (12 + 3 * i + 2)) + (ang (((lp (trB u (g (30 + 2 * u + 1))) i (g, 0)).1) (12 + 3 * i)) (((lp (trB u (g (30 + 2 * u + 1))) i (g, 0)).1) (30 + 2 * u))) else 99) rfl dX1_treads_70 ?_
      refine r_iast M w 0 (9 + i) rfl (stg_hd G a nh nm ((lp (trB u (g (30 + 2 * u + 1))) i (g, 0)).1) (by omega)) (pk_in 2 3 (by decide)) (S' := [stg G a nh nm (upd ((lp (trB u (g (30 + 2 * u + 1))) i (g, 0)).1) (12 + 3 * i + 2) (if ((((lp (trB u (g (30 + 2 * u + 1))) i (g, 0)).1) (12 + 3 * i + 2)) + (ang (((lp (trB u (g (30 + 2 * u + 1))) i (g, 0)).1) (12 + 3 * i)) (((lp (trB u (g (30 + 2 * u + 1))) i (g, 0)).1) (30 + 2 * u)))) < 99 then (((lp (trB u (g (30 + 2 * u + 1))) i (g, 0)).1) (12 + 3 * i + 2)) + (ang (((lp (trB u (g (30 + 2 * u + 1))) i (g, 0)).1) (12 + 3 * i)) (((lp (trB u (g (30 + 2 * u + 1))) i (g, 0)).1) (30 + 2 * u))) else 99))]) (congrArg (fun zz_ => List.set [stg G a nh nm ((lp (trB u (g (30 + 2 * u + 1))) i (g, 0)).1)] 0 zz_) (stg_hdS G a nh nm ((lp (trB u (g (30 + 2 * u + 1))) i (g, 0)).1) (i := 2) (by omega) (by decide) (if ((((lp (trB u (g (30 + 2 * u + 1))) i (g, 0)).1) (12 + 3 * i + 2)) + (ang (((lp (trB u (g (30 + 2 * u + 1))) i (g, 0)).1) (12 + 3 * i)) (((lp (trB u (g (30 + 2 * u + 1))) i (g, 0)).1) (30 + 2 * u)))) < 99 then (((lp (trB u (g (30 + 2 * u + 1))) i (g, 0)).1) (12 + 3 * i + 2)) + (ang (((lp (trB u (g (30 + 2 * u + 1))) i (g, 0)).1) (12 + 3 * i)) (((lp (trB u (g (30 + 2 * u + 1))) i (g, 0)).1) (30 + 2 * u))) else 99))) dX1_treads_73 (fun H locs w => ?_)
      refine lv_iload_n hx hb dX1_treads_74 rfl (lv_at hl 3 rfl) ?_
      refine lv_aload_n hx hb dX1_treads_75 rfl (lv_at hl 0 rfl) ?_
      refine lv_iload hx hb dX1_treads_76 (lv_at hl 4 rfl) ?_
      refine c_iV M w (S' := [stg G a nh nm (upd ((lp (trB u (g (30 + 2 * u + 1))) i (g, 0)).1) (12 + 3 * i + 2) (if ((((lp (trB u (g (30 + 2 * u + 1))) i (g, 0)).1) (12 + 3 * i + 2)) + (ang (((lp (trB u (g (30 + 2 * u + 1))) i (g, 0)).1) (12 + 3 * i)) (((lp (trB u (g (30 + 2 * u + 1))) i (g, 0)).1) (30 + 2 * u)))) < 99 then (((lp (trB u (g (30 + 2 * u + 1))) i (g, 0)).1) (12 + 3 * i + 2)) + (ang (((lp (trB u (g (30 + 2 * u + 1))) i (g, 0)).1) (12 + 3 * i)) (((lp (trB u (g (30 + 2 * u + 1))) i (g, 0)).1) (30 + 2 * u))) else 99))]) (tv_in.seg 0 rfl rfl) (st_wants l G a nh nm (upd ((lp (trB u (g (30 + 2 * u + 1))) i (g, 0)).1) (12 + 3 * i + 2) (if ((((lp (trB u (g (30 + 2 * u + 1))) i (g, 0)).1) (12 + 3 * i + 2)) + (ang (((lp (trB u (g (30 + 2 * u + 1))) i (g, 0)).1) (12 + 3 * i)) (((lp (trB u (g (30 + 2 * u + 1))) i (g, 0)).1) (30 + 2 * u)))) < 99 then (((lp (trB u (g (30 + 2 * u + 1))) i (g, 0)).1) (12 + 3 * i + 2)) + (ang (((lp (trB u (g (30 + 2 * u + 1))) i (g, 0)).1) (12 + 3 * i)) (((lp (trB u (g (30 + 2 * u + 1))) i (g, 0)).1) (30 + 2 * u))) else 99)) i (by omega) (by rw [upd_ne (by omega)]; exact (trB_ok hok hu hn (g (30 + 2 * u + 1)) 0 i (by omega)).at (by omega))) (q0 := 0) tc1 rfl q410 q411 q412 q69 q413 nm_yX1_wants ⟨Nat.le_of_ble_eq_true rfl, Nat.le_of_ble_eq_true rfl⟩ rfl hl.1 (rest := [.int ((lp (trB u (g (30 + 2 * u + 1))) i (g, 0)).2)]) rfl (Nat.le_of_ble_eq_true rfl) dX1_treads_78 ⟨Nat.zero_le _, Nat.zero_le _⟩ (fun H locs w => ?_)
      refine w_cut (g2 := F0 m 89 ls [.int (if (wt (upd ((lp (trB u (g (30 + 2 * u + 1))) i (g, 0)).1) (12 + 3 * i + 2) (if ((((lp (trB u (g (30 + 2 * u + 1))) i (g, 0)).1) (12 + 3 * i + 2)) + (ang (((lp (trB u (g (30 + 2 * u + 1))) i (g, 0)).1) (12 + 3 * i)) (((lp (trB u (g (30 + 2 * u + 1))) i (g, 0)).1) (30 + 2 * u)))) < 99 then (((lp (trB u (g (30 + 2 * u + 1))) i (g, 0)).1) (12 + 3 * i + 2)) + (ang (((lp (trB u (g (30 + 2 * u + 1))) i (g, 0)).1) (12 + 3 * i)) (((lp (trB u (g (30 + 2 * u + 1))) i (g, 0)).1) (30 + 2 * u))) else 99)) i) = 0 then (1 : Int32) else (0 : Int32)), .int ((lp (trB u (g (30 + 2 * u + 1))) i (g, 0)).2)]) (fun jn => ?_) ?_
      · skip
        refine lv_if_ne (tgt := 88) hx hb dX1_treads_81 (by decide) (fun c3 => ?_) (fun c3 => ?_)
        · skip
          refine lv_iconst (v := 0) hx hb dX1_treads_88 (by decide) ?_
          exact w_topi (if_neg c3) jn
        · skip
          refine lv_iconst (v := 1) hx hb dX1_treads_84 (by decide) ?_
          refine lv_goto (tgt := 89) hx hb dX1_treads_85 (by decide) ?_
          exact w_topi (if_pos c3) jn
      refine lv_iadd hx hb dX1_treads_89 ?_
      refine lv_istore_n (lv' := [(3, .int (((lp (trB u (g (30 + 2 * u + 1))) i (g, 0)).2) + (if (wt (upd ((lp (trB u (g (30 + 2 * u + 1))) i (g, 0)).1) (12 + 3 * i + 2) (if ((((lp (trB u (g (30 + 2 * u + 1))) i (g, 0)).1) (12 + 3 * i + 2)) + (ang (((lp (trB u (g (30 + 2 * u + 1))) i (g, 0)).1) (12 + 3 * i)) (((lp (trB u (g (30 + 2 * u + 1))) i (g, 0)).1) (30 + 2 * u)))) < 99 then (((lp (trB u (g (30 + 2 * u + 1))) i (g, 0)).1) (12 + 3 * i + 2)) + (ang (((lp (trB u (g (30 + 2 * u + 1))) i (g, 0)).1) (12 + 3 * i)) (((lp (trB u (g (30 + 2 * u + 1))) i (g, 0)).1) (30 + 2 * u))) else 99)) i) = 0 then (1 : Int32) else (0 : Int32)))), (0, .ref a), (1, .int (nI u)), (2, .int (g (30 + 2 * u + 1))), (4, .int (nI i))]) hx hb dX1_treads_90 rfl hl (by decide) rfl (fun ls hl => ?_)
      refine lv_iinc (k := 4) (v := nI (i + 1)) (lv' := [(4, .int (nI (i + 1))), (3, .int (((lp (trB u (g (30 + 2 * u + 1))) i (g, 0)).2) + (if (wt (upd ((lp (trB u (g (30 + 2 * u + 1))) i (g, 0)).1) (12 + 3 * i + 2) (if ((((lp (trB u (g (30 + 2 * u + 1))) i (g, 0)).1) (12 + 3 * i + 2)) + (ang (((lp (trB u (g (30 + 2 * u + 1))) i (g, 0)).1) (12 + 3 * i)) (((lp (trB u (g (30 + 2 * u + 1))) i (g, 0)).1) (30 + 2 * u)))) < 99 then (((lp (trB u (g (30 + 2 * u + 1))) i (g, 0)).1) (12 + 3 * i + 2)) + (ang (((lp (trB u (g (30 + 2 * u + 1))) i (g, 0)).1) (12 + 3 * i)) (((lp (trB u (g (30 + 2 * u + 1))) i (g, 0)).1) (30 + 2 * u))) else 99)) i) = 0 then (1 : Int32) else (0 : Int32)))), (0, .ref a), (1, .int (nI u)), (2, .int (g (30 + 2 * u + 1)))]) hx hb dX1_treads_91 hl rfl (nI_inc i) (by decide) rfl (fun ls hl => ?_)
      refine lv_goto (tgt := 14) hx hb dX1_treads_94 (by decide) ?_
      refine ih _ _ _ ?_
      show tv_W G A s [stg G a nh nm ((lp (trB u (g (30 + 2 * u + 1))) (i + 1) (g, 0)).1)] H locs ∧ lv_has ls 5 [(0, .ref a), (1, .int (nI u)), (2, .int (g (30 + 2 * u + 1))), (3, .int ((lp (trB u (g (30 + 2 * u + 1))) (i + 1) (g, 0)).2)), (4, .int (nI (i + 1)))]
      rw [show lp (trB u (g (30 + 2 * u + 1))) (i + 1) (g, 0) = _ from if_pos c2]
      exact ⟨w, lv_sub hl [2, 3, 4, 1, 0] rfl⟩
set_option maxHeartbeats 4000000 in
set_option maxRecDepth 100000 in
theorem st_turnGoes (l : Launch) (G : tG) (a nh nm : Nat) (g : Nat → Int32) (si : Int32) (hn : nh ≤ 6) (hm : nm ≤ 4) (hok : Sok g) : tv_V l yX1_turnGoes cX1_turnGoes 4 (tv_rm 5 109) G [.ref a, .int si] (stg G a nh nm g) (stg G a nh nm (tnF nh nm si g)) := by
  refine tv_V.st (S := [stg G a nh nm g]) (S' := [stg G a nh nm (tnF nh nm si g)]) sg_one sg_one (by decide) (Nat.le_of_ble_eq_true rfl) ?_
  intro p e s m below meth c A M hr w ls hl
  have hx := M.1.1
  have hb := M.1.2.1
  have hl : lv_has ls 4 [(0, .ref a), (1, .int si)] := hl
  refine lv_iconst (v := 0) hx hb dX1_turnGoes_0 (by decide) ?_
  refine lv_istore_n (lv' := [(2, .int 0), (0, .ref a), (1, .int si)]) hx hb dX1_turnGoes_1 rfl hl (by decide) rfl (fun ls hl => ?_)
  refine lv_iconst (v := 0) hx hb dX1_turnGoes_2 (by decide) ?_
  refine lv_istore_n (lv' := [(3, .int 0), (2, .int 0), (0, .ref a), (1, .int si)]) hx hb dX1_turnGoes_3 rfl hl (by decide) rfl (fun ls hl => ?_)
  refine w_for (pc := 4) (fun i H locs ls => tv_W G A s [stg G a nh nm ((lp (tnB nh si) i (g, 0)).1)] H locs ∧ lv_has ls 4 [(0, .ref a), (1, .int si), (2, .int ((lp (tnB nh si) i (g, 0)).2)), (3, .int (nI i))]) nm (fun H locs ls hI => ?_) (fun i hi H locs ls hI ih => ?_) 0 (Nat.zero_le _) _ _ _ ⟨w, lv_sub hl [2, 3, 1, 0] rfl⟩
  · skip
    obtain ⟨w, hl⟩ := hI
    refine lv_iload_n hx hb dX1_turnGoes_4 rfl (lv_at hl 3 rfl) ?_
    refine lv_aload_n hx hb dX1_turnGoes_5 rfl (lv_at hl 0 rfl) ?_
    refine r_get M w tc1 0 0 4 rfl rfl (by decide) q139 rfl rfl dX1_turnGoes_6 ?_
    refine lv_icmp_ge (tgt := 48) hx hb dX1_turnGoes_9 (by decide) (fun _ => ?_) (fun hc => absurd (nI_le (a := _) (b := nm) (by omega) (by omega)) hc)
    refine lv_iconst (v := 0) hx hb dX1_turnGoes_48 (by decide) ?_
    refine lv_istore_n (lv' := [(3, .int 0), (0, .ref a), (1, .int si), (2, .int ((lp (tnB nh si) nm (g, 0)).2))]) hx hb dX1_turnGoes_49 rfl hl (by decide) rfl (fun ls hl => ?_)
    refine w_for (pc := 50) (fun i H locs ls => tv_W G A s [stg G a nh nm (lp (cdB (lp (tnB nh si) nm (g, 0)).2) i (lp (tnB nh si) nm (g, 0)).1)] H locs ∧ lv_has ls 4 [(0, .ref a), (2, .int ((lp (tnB nh si) nm (g, 0)).2)), (3, .int (nI i))]) nh (fun H locs ls hI => ?_) (fun i hi H locs ls hI ih => ?_) 0 (Nat.zero_le _) _ _ _ ⟨w, lv_sub hl [1, 3, 0] rfl⟩
    · skip
      obtain ⟨w, hl⟩ := hI
      refine lv_iload_n hx hb dX1_turnGoes_50 rfl (lv_at hl 2 rfl) ?_
      refine lv_aload_n hx hb dX1_turnGoes_51 rfl (lv_at hl 0 rfl) ?_
      refine r_get M w tc1 0 0 3 rfl rfl (by decide) q136 rfl rfl dX1_turnGoes_52 ?_
      refine lv_icmp_ge (tgt := 101) hx hb dX1_turnGoes_55 (by decide) (fun _ => ?_) (fun hc => absurd (nI_le (a := _) (b := nh) (by omega) (by omega)) hc)
      refine lv_aload_n hx hb dX1_turnGoes_101 rfl (lv_at hl 0 rfl) ?_
      refine lv_dup hx hb dX1_turnGoes_102 rfl ?_
      refine r_get M w tc1 0 0 5 rfl rfl (by decide) q142 rfl rfl dX1_turnGoes_103 ?_
      refine lv_iconst (v := 1) hx hb dX1_turnGoes_106 (by decide) ?_
      refine lv_iadd hx hb dX1_turnGoes_107 ?_
      refine r_put M w tc1 0 0 5 rfl rfl (by decide) q142 rfl rfl rfl rfl (Nat.le_of_ble_eq_true rfl) (S' := [stg G a nh nm (upd (lp (cdB (lp (tnB nh si) nm (g, 0)).2) nh (lp (tnB nh si) nm (g, 0)).1) 38 (((lp (cdB (lp (tnB nh si) nm (g, 0)).2) nh (lp (tnB nh si) nm (g, 0)).1) 38) + 1))]) (congrArg (fun zz_ => List.set [stg G a nh nm (lp (cdB (lp (tnB nh si) nm (g, 0)).2) nh (lp (tnB nh si) nm (g, 0)).1)] 0 zz_) (stg_f5 G a nh nm (lp (cdB (lp (tnB nh si) nm (g, 0)).2) nh (lp (tnB nh si) nm (g, 0)).1) (((lp (cdB (lp (tnB nh si) nm (g, 0)).2) nh (lp (tnB nh si) nm (g, 0)).1) 38) + 1))) dX1_turnGoes_108 (fun H locs w => ?_)
      exact tv_vret M w hr dX1_turnGoes_111
    · skip
      obtain ⟨w, hl⟩ := hI
      refine lv_iload_n hx hb dX1_turnGoes_50 rfl (lv_at hl 2 rfl) ?_
      refine lv_aload_n hx hb dX1_turnGoes_51 rfl (lv_at hl 0 rfl) ?_
      refine r_get M w tc1 0 0 3 rfl rfl (by decide) q136 rfl rfl dX1_turnGoes_52 ?_
      refine lv_icmp_ge (tgt := 101) hx hb dX1_turnGoes_55 (by decide) (fun hc => absurd hc (nI_ge (a := i) (b := _) (by omega) (by omega))) (fun _ => ?_)
      refine lv_iload_n hx hb dX1_turnGoes_58 rfl (lv_at hl 1 rfl) ?_
      refine lv_aload_n hx hb dX1_turnGoes_59 rfl (lv_at hl 0 rfl) ?_
      refine r_get M w tc1 0 0 1 rfl rfl (by decide) q130 rfl rfl dX1_turnGoes_60 ?_
      refine lv_iload_n hx hb dX1_turnGoes_63 rfl (lv_at hl 2 rfl) ?_
      refine r_aald M w 0 8 4 rfl rfl rfl rfl (vp_in_nI (by omega) (by omega)) (v := a + 9 + i) (oref_nI (by omega) (by omega)) dX1_turnGoes_64 ?_
      refine lv_iconst (v := 1) hx hb dX1_turnGoes_65 (by decide) ?_
      refine r_iald M w 0 (9 + i) rfl (stg_hd G a nh nm (lp (cdB (lp (tnB nh si) nm (g, 0)).2) i (lp (tnB nh si) nm (g, 0)).1) (by omega)) (pk_in 1 3 (by decide)) (v := (lp (cdB (lp (tnB nh si) nm (g, 0)).2) i (lp (tnB nh si) nm (g, 0)).1) (12 + 3 * i + 1)) rfl dX1_turnGoes_66 ?_
      refine c_iSN M w (S' := [stg G a nh nm (lp (cdB (lp (tnB nh si) nm (g, 0)).2) i (lp (tnB nh si) nm (g, 0)).1)]) tv_in.nil (tv_has l G ((lp (tnB nh si) nm (g, 0)).2) ((lp (cdB (lp (tnB nh si) nm (g, 0)).2) i (lp (tnB nh si) nm (g, 0)).1) (12 + 3 * i + 1))) q528 q371 q68 q372 nm_yX0_has ⟨Nat.le_of_ble_eq_true rfl, Nat.le_of_ble_eq_true rfl⟩ rfl hl.1 (rest := []) rfl (Nat.le_of_ble_eq_true rfl) dX1_turnGoes_67 ⟨Nat.zero_le _, Nat.zero_le _⟩ (fun H locs w => ?_)
      refine lv_if_ne (tgt := 95) hx hb dX1_turnGoes_70 (by decide) (fun c1 => ?_) (fun c1 => ?_)
      · skip
        refine lv_iinc (k := 2) (v := nI (i + 1)) (lv' := [(3, .int (nI (i + 1))), (0, .ref a), (2, .int ((lp (tnB nh si) nm (g, 0)).2))]) hx hb dX1_turnGoes_95 hl rfl (nI_inc i) (by decide) rfl (fun ls hl => ?_)
        refine lv_goto (tgt := 50) hx hb dX1_turnGoes_98 (by decide) ?_
        refine ih _ _ _ ?_
        show tv_W G A s [stg G a nh nm (lp (cdB (lp (tnB nh si) nm (g, 0)).2) (i + 1) (lp (tnB nh si) nm (g, 0)).1)] H locs ∧ lv_has ls 4 [(0, .ref a), (2, .int ((lp (tnB nh si) nm (g, 0)).2)), (3, .int (nI (i + 1)))]
        rw [show lp (cdB (lp (tnB nh si) nm (g, 0)).2) (i + 1) (lp (tnB nh si) nm (g, 0)).1 = _ from if_neg c1]
        exact ⟨w, lv_sub hl [1, 2, 0] rfl⟩
      · skip
        refine lv_aload_n hx hb dX1_turnGoes_73 rfl (lv_at hl 0 rfl) ?_
        refine r_get M w tc1 0 0 1 rfl rfl (by decide) q130 rfl rfl dX1_turnGoes_74 ?_
        refine lv_iload_n hx hb dX1_turnGoes_77 rfl (lv_at hl 2 rfl) ?_
        refine r_aald M w 0 8 4 rfl rfl rfl rfl (vp_in_nI (by omega) (by omega)) (v := a + 9 + i) (oref_nI (by omega) (by omega)) dX1_turnGoes_78 ?_
        refine lv_iconst (v := 2) hx hb dX1_turnGoes_79 (by decide) ?_
        refine lv_iconst (v := 0) hx hb dX1_turnGoes_80 (by decide) ?_
        refine lv_aload_n hx hb dX1_turnGoes_81 rfl (lv_at hl 0 rfl) ?_
        refine r_get M w tc1 0 0 1 rfl rfl (by decide) q130 rfl rfl dX1_turnGoes_82 ?_
        refine lv_iload_n hx hb dX1_turnGoes_85 rfl (lv_at hl 2 rfl) ?_
        refine r_aald M w 0 8 4 rfl rfl rfl rfl (vp_in_nI (by omega) (by omega)) (v := a + 9 + i) (oref_nI (by omega) (by omega)) dX1_turnGoes_86 ?_
        refine lv_iconst (v := 2) hx hb dX1_turnGoes_87 (by decide) ?_
        refine r_iald M w 0 (9 + i) rfl (stg_hd G a nh nm (lp (cdB (lp (tnB nh si) nm (g, 0)).2) i (lp (tnB nh si) nm (g, 0)).1) (by omega)) (pk_in 2 3 (by decide)) (v := (lp (cdB (lp (tnB nh si) nm (g, 0)).2) i (lp (tnB nh si) nm (g, 0)).1) (12 + 3 * i + 2)) rfl dX1_turnGoes_88 ?_
        refine lv_iconst (v := 1) hx hb dX1_turnGoes_89 (by decide) ?_
        refine lv_isub hx hb dX1_turnGoes_90 ?_
        refine r_max M hl.1 q414 q415 q83 q416 ⟨Nat.le_of_ble_eq_true rfl, Nat.le_of_ble_eq_true rfl⟩ ⟨Nat.zero_le _, Nat.zero_le _⟩ (v := if 0 < (((lp (cdB (lp (tnB nh si) nm (g, 0)).2) i (lp (tnB nh si) nm (g, 0)).1) (12 + 3 * i + 2)) - 1) then ((lp (cdB (lp (tnB nh si) nm (g, 0)).2) i (lp (tnB nh si) nm (g, 0)).1) (12 + 3 * i + 2)) - 1 else 0) rfl dX1_turnGoes_91 ?_
        refine r_iast M w 0 (9 + i) rfl (stg_hd G a nh nm (lp (cdB (lp (tnB nh si) nm (g, 0)).2) i (lp (tnB nh si) nm (g, 0)).1) (by omega)) (pk_in 2 3 (by decide)) (S' := [stg G a nh nm (upd (lp (cdB (lp (tnB nh si) nm (g, 0)).2) i (lp (tnB nh si) nm (g, 0)).1) (12 + 3 * i + 2) (if 0 < (((lp (cdB (lp (tnB nh si) nm (g, 0)).2) i (lp (tnB nh si) nm (g, 0)).1) (12 + 3 * i + 2)) - 1) then ((lp (cdB (lp (tnB nh si) nm (g, 0)).2) i (lp (tnB nh si) nm (g, 0)).1) (12 + 3 * i + 2)) - 1 else 0))]) (congrArg (fun zz_ => List.set [stg G a nh nm (lp (cdB (lp (tnB nh si) nm (g, 0)).2) i (lp (tnB nh si) nm (g, 0)).1)] 0 zz_) (stg_hdS G a nh nm (lp (cdB (lp (tnB nh si) nm (g, 0)).2) i (lp (tnB nh si) nm (g, 0)).1) (i := 2) (by omega) (by decide) (if 0 < (((lp (cdB (lp (tnB nh si) nm (g, 0)).2) i (lp (tnB nh si) nm (g, 0)).1) (12 + 3 * i + 2)) - 1) then ((lp (cdB (lp (tnB nh si) nm (g, 0)).2) i (lp (tnB nh si) nm (g, 0)).1) (12 + 3 * i + 2)) - 1 else 0))) dX1_turnGoes_94 (fun H locs w => ?_)
        refine lv_iinc (k := 2) (v := nI (i + 1)) (lv' := [(3, .int (nI (i + 1))), (0, .ref a), (2, .int ((lp (tnB nh si) nm (g, 0)).2))]) hx hb dX1_turnGoes_95 hl rfl (nI_inc i) (by decide) rfl (fun ls hl => ?_)
        refine lv_goto (tgt := 50) hx hb dX1_turnGoes_98 (by decide) ?_
        refine ih _ _ _ ?_
        show tv_W G A s [stg G a nh nm (lp (cdB (lp (tnB nh si) nm (g, 0)).2) (i + 1) (lp (tnB nh si) nm (g, 0)).1)] H locs ∧ lv_has ls 4 [(0, .ref a), (2, .int ((lp (tnB nh si) nm (g, 0)).2)), (3, .int (nI (i + 1)))]
        rw [show lp (cdB (lp (tnB nh si) nm (g, 0)).2) (i + 1) (lp (tnB nh si) nm (g, 0)).1 = _ from if_pos c1]
        exact ⟨w, lv_sub hl [1, 2, 0] rfl⟩
  · skip
    obtain ⟨w, hl⟩ := hI
    refine lv_iload_n hx hb dX1_turnGoes_4 rfl (lv_at hl 3 rfl) ?_
    refine lv_aload_n hx hb dX1_turnGoes_5 rfl (lv_at hl 0 rfl) ?_
    refine r_get M w tc1 0 0 4 rfl rfl (by decide) q139 rfl rfl dX1_turnGoes_6 ?_
    refine lv_icmp_ge (tgt := 48) hx hb dX1_turnGoes_9 (by decide) (fun hc => absurd hc (nI_ge (a := i) (b := _) (by omega) (by omega))) (fun _ => ?_)
    refine lv_iload_n hx hb dX1_turnGoes_12 rfl (lv_at hl 1 rfl) ?_
    refine lv_if_ne (tgt := 42) hx hb dX1_turnGoes_13 (by decide) (fun c2 => ?_) (fun c2 => ?_)
    · skip
      refine lv_iinc (k := 3) (v := nI (i + 1)) (lv' := [(3, .int (nI (i + 1))), (0, .ref a), (1, .int si), (2, .int ((lp (tnB nh si) i (g, 0)).2))]) hx hb dX1_turnGoes_42 hl rfl (nI_inc i) (by decide) rfl (fun ls hl => ?_)
      refine lv_goto (tgt := 4) hx hb dX1_turnGoes_45 (by decide) ?_
      refine ih _ _ _ ?_
      show tv_W G A s [stg G a nh nm ((lp (tnB nh si) (i + 1) (g, 0)).1)] H locs ∧ lv_has ls 4 [(0, .ref a), (1, .int si), (2, .int ((lp (tnB nh si) (i + 1) (g, 0)).2)), (3, .int (nI (i + 1)))]
      rw [show lp (tnB nh si) (i + 1) (g, 0) = _ from if_neg c2]
      exact ⟨w, lv_sub hl [1, 2, 3, 0] rfl⟩
    · skip
      refine lv_aload_n hx hb dX1_turnGoes_16 rfl (lv_at hl 0 rfl) ?_
      refine lv_iload_n hx hb dX1_turnGoes_17 rfl (lv_at hl 3 rfl) ?_
      refine c_iV M w (S' := [stg G a nh nm ((lp (tnB nh si) i (g, 0)).1)]) (tv_in.seg 0 rfl rfl) (st_isDown l G a nh nm ((lp (tnB nh si) i (g, 0)).1) i (by omega)) (q0 := 0) tc1 rfl q402 q403 q404 q69 q405 nm_yX1_isDown ⟨Nat.le_of_ble_eq_true rfl, Nat.le_of_ble_eq_true rfl⟩ rfl hl.1 (rest := []) rfl (Nat.le_of_ble_eq_true rfl) dX1_turnGoes_18 ⟨Nat.zero_le _, Nat.zero_le _⟩ (fun H locs w => ?_)
      refine lv_if_ne (tgt := 42) hx hb dX1_turnGoes_21 (by decide) (fun c3 => ?_) (fun c3 => ?_)
      · skip
        refine lv_iinc (k := 3) (v := nI (i + 1)) (lv' := [(3, .int (nI (i + 1))), (0, .ref a), (1, .int si), (2, .int ((lp (tnB nh si) i (g, 0)).2))]) hx hb dX1_turnGoes_42 hl rfl (nI_inc i) (by decide) rfl (fun ls hl => ?_)
        refine lv_goto (tgt := 4) hx hb dX1_turnGoes_45 (by decide) ?_
        refine ih _ _ _ ?_
        show tv_W G A s [stg G a nh nm ((lp (tnB nh si) (i + 1) (g, 0)).1)] H locs ∧ lv_has ls 4 [(0, .ref a), (1, .int si), (2, .int ((lp (tnB nh si) (i + 1) (g, 0)).2)), (3, .int (nI (i + 1)))]
        rw [show lp (tnB nh si) (i + 1) (g, 0) = _ from (if_pos c2).trans (if_neg c3)]
        exact ⟨w, lv_sub hl [1, 2, 3, 0] rfl⟩
      · skip
        refine lv_iload_n hx hb dX1_turnGoes_24 rfl (lv_at hl 2 rfl) ?_
        refine lv_iconst (v := 1) hx hb dX1_turnGoes_25 (by decide) ?_
        refine lv_aload_n hx hb dX1_turnGoes_26 rfl (lv_at hl 0 rfl) ?_
        refine r_get M w tc1 0 0 2 rfl rfl (by decide) q133 rfl rfl dX1_turnGoes_27 ?_
        refine lv_iload_n hx hb dX1_turnGoes_30 rfl (lv_at hl 3 rfl) ?_
        refine r_aald M w 0 15 4 rfl rfl rfl rfl (vp_in_nI (by omega) (by omega)) (v := a + 16 + i) (oref_nI (by omega) (by omega)) dX1_turnGoes_31 ?_
        refine lv_iconst (v := 1) hx hb dX1_turnGoes_32 (by decide) ?_
        refine r_iald M w 0 (16 + i) rfl (stg_mi G a nh nm ((lp (tnB nh si) i (g, 0)).1) (by omega)) (pk_in 1 2 (by decide)) (v := ((lp (tnB nh si) i (g, 0)).1) (30 + 2 * i + 1)) rfl dX1_turnGoes_33 ?_
        refine lv_ishl hx hb dX1_turnGoes_34 ?_
        refine lv_ior hx hb dX1_turnGoes_35 ?_
        refine lv_istore_n (lv' := [(2, .int (((lp (tnB nh si) i (g, 0)).2) ||| (1 <<< (((lp (tnB nh si) i (g, 0)).1) (30 + 2 * i + 1) &&& 31)))), (0, .ref a), (1, .int si), (3, .int (nI i))]) hx hb dX1_turnGoes_36 rfl hl (by decide) rfl (fun ls hl => ?_)
        refine lv_aload_n hx hb dX1_turnGoes_37 rfl (lv_at hl 1 rfl) ?_
        refine lv_iload_n hx hb dX1_turnGoes_38 rfl (lv_at hl 3 rfl) ?_
        refine c_vV M w (S' := [stg G a nh nm (trF nh i ((lp (tnB nh si) i (g, 0)).1))]) (tv_in.seg 0 rfl rfl) (st_treads l G a nh nm ((lp (tnB nh si) i (g, 0)).1) i (by omega) (by omega) (by omega) (tnB_ok hok hm hn si 0 i (by omega)) ((tnB_ok hok hm hn si 0 i (by omega)).up (by omega) (b2_0 c3))) (q0 := 0) tc1 rfl q516 q518 qs15 q69 q519 nm_yX1_treads ⟨Nat.le_of_ble_eq_true rfl, Nat.le_of_ble_eq_true rfl⟩ rfl hl.1 (rest := []) rfl (Nat.le_of_ble_eq_true rfl) dX1_turnGoes_39 ⟨Nat.zero_le _, Nat.zero_le _⟩ (fun H locs w => ?_)
        refine lv_iinc (k := 3) (v := nI (i + 1)) (lv' := [(3, .int (nI (i + 1))), (2, .int (((lp (tnB nh si) i (g, 0)).2) ||| (1 <<< (((lp (tnB nh si) i (g, 0)).1) (30 + 2 * i + 1) &&& 31)))), (0, .ref a), (1, .int si)]) hx hb dX1_turnGoes_42 hl rfl (nI_inc i) (by decide) rfl (fun ls hl => ?_)
        refine lv_goto (tgt := 4) hx hb dX1_turnGoes_45 (by decide) ?_
        refine ih _ _ _ ?_
        show tv_W G A s [stg G a nh nm ((lp (tnB nh si) (i + 1) (g, 0)).1)] H locs ∧ lv_has ls 4 [(0, .ref a), (1, .int si), (2, .int ((lp (tnB nh si) (i + 1) (g, 0)).2)), (3, .int (nI (i + 1)))]
        rw [show lp (tnB nh si) (i + 1) (g, 0) = _ from (if_pos c2).trans (if_pos c3)]
        exact ⟨w, lv_sub hl [2, 3, 1, 0] rfl⟩
