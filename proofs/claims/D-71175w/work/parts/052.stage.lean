/-! the stage's small methods -/
def inL (x lo hi : Int64) : Int32 := if lg_cmp x lo < 0 then 0 else if 0 < lg_cmp x hi then 0 else 1
theorem inL_nar {x lo hi : Int64} : narrow .boolean (.int (inL x lo hi)) = .int (inL x lo hi) := by
  unfold inL
  split
  · rfl
  · split <;> rfl
set_option maxHeartbeats 4000000 in
set_option maxRecDepth 100000 in
theorem tv_isIn (l : Launch) (G : tG) (x lo hi : Int64) : tv_I l yX0_isIn cX0_isIn 6 (some .boolean) (tv_rm 0 0) G [.long x, .long lo, .long hi] [] (inL x lo hi) [] := by
  refine tv_I.st (S := []) (S' := []) rfl rfl (by decide) (Nat.le_of_ble_eq_true rfl) ?_
  intro p e s m below meth c A M hr w ls hl
  have hx := M.1.1
  have hb := M.1.2.1
  have hl : lv_has ls 6 [(0, .long x), (2, .long lo), (4, .long hi)] := hl
  refine lv_lload_n hx hb dX0_isIn_0 rfl (lv_at hl 0 rfl) ?_
  refine lv_lload_n hx hb dX0_isIn_1 rfl (lv_at hl 1 rfl) ?_
  refine W.lcmp hx hb dX0_isIn_2 ?_
  refine w_cut (g2 := F0 m 18 ls [.int (if (lg_cmp x lo) < 0 then (0 : Int32) else (if 0 < (lg_cmp x hi) then (0 : Int32) else (1 : Int32)))]) (fun jn => ?_) ?_
  · skip
    refine lv_if_lt (tgt := 17) hx hb dX0_isIn_3 (by decide) (fun c1 => ?_) (fun c1 => ?_)
    · skip
      refine lv_iconst (v := 0) hx hb dX0_isIn_17 (by decide) ?_
      exact w_topi (if_pos c1) jn
    · skip
      refine lv_lload_n hx hb dX0_isIn_6 rfl (lv_at hl 0 rfl) ?_
      refine lv_lload hx hb dX0_isIn_7 (lv_at hl 2 rfl) ?_
      refine W.lcmp hx hb dX0_isIn_9 ?_
      refine lv_if_gt (tgt := 17) hx hb dX0_isIn_10 (by decide) (fun c2 => ?_) (fun c2 => ?_)
      · skip
        refine lv_iconst (v := 0) hx hb dX0_isIn_17 (by decide) ?_
        exact w_topi ((if_neg c1).trans (if_pos c2)) jn
      · skip
        refine lv_iconst (v := 1) hx hb dX0_isIn_13 (by decide) ?_
        refine lv_goto (tgt := 18) hx hb dX0_isIn_14 (by decide) ?_
        exact w_topi ((if_neg c1).trans (if_neg c2)) jn
  exact tv_zret M w hr inL_nar rfl dX0_isIn_18
set_option maxHeartbeats 4000000 in
set_option maxRecDepth 100000 in
theorem tv_has (l : Launch) (G : tG) (x k : Int32) : tv_I l yX0_has cX0_has 2 (some .boolean) (tv_rm 0 0) G [.int x, .int k] [] (hasB x k) [] := by
  refine tv_I.st (S := []) (S' := []) rfl rfl (by decide) (Nat.le_of_ble_eq_true rfl) ?_
  intro p e s m below meth c A M hr w ls hl
  have hx := M.1.1
  have hb := M.1.2.1
  have hl : lv_has ls 2 [(0, .int x), (1, .int k)] := hl
  refine lv_iload_n hx hb dX0_has_0 rfl (lv_at hl 0 rfl) ?_
  refine lv_iload_n hx hb dX0_has_1 rfl (lv_at hl 1 rfl) ?_
  refine lv_ishr hx hb dX0_has_2 ?_
  refine lv_iconst (v := 1) hx hb dX0_has_3 (by decide) ?_
  refine lv_iand hx hb dX0_has_4 ?_
  refine lv_iconst (v := 1) hx hb dX0_has_5 (by decide) ?_
  refine w_cut (g2 := F0 m 14 ls [.int (if ((x >>> (k &&& 31)) &&& 1) = 1 then (1 : Int32) else (0 : Int32))]) (fun jn => ?_) ?_
  · skip
    refine lv_icmp_ne (tgt := 13) hx hb dX0_has_6 (by decide) (fun c1 => ?_) (fun c1 => ?_)
    · skip
      refine lv_iconst (v := 0) hx hb dX0_has_13 (by decide) ?_
      exact w_topi (if_neg c1) jn
    · skip
      refine lv_iconst (v := 1) hx hb dX0_has_9 (by decide) ?_
      refine lv_goto (tgt := 14) hx hb dX0_has_10 (by decide) ?_
      exact w_topi (if_pos c1) jn
  exact tv_zret M w hr (ite_nar rfl rfl) rfl dX0_has_14
set_option maxHeartbeats 4000000 in
set_option maxRecDepth 100000 in
theorem tv_isSquare (l : Launch) (G : tG) (x : Int32) : tv_I l yX0_isSquare cX0_isSquare 1 (some .boolean) (tv_rm 1 25) G [.int x] [] (inL x.toInt64 (0 : Int64) (5 : Int64)) [] := by
  refine tv_I.st (S := []) (S' := []) rfl rfl (by decide) (Nat.le_of_ble_eq_true rfl) ?_
  intro p e s m below meth c A M hr w ls hl
  have hx := M.1.1
  have hb := M.1.2.1
  have hl : lv_has ls 1 [(0, .int x)] := hl
  refine lv_iload_n hx hb dX0_isSquare_0 rfl (lv_at hl 0 rfl) ?_
  refine lv_i2l (v := x.toInt64) hx hb dX0_isSquare_1 rfl ?_
  refine lv_lconst (v := 0) hx hb dX0_isSquare_2 (by decide) ?_
  refine lv_ldc2 (v := 5) hx hb M.1.2.2.2.1 (M.1.2.2.2.2 _ q380) dX0_isSquare_3 ?_
  refine c_iS M w (S' := []) tv_in.nil (tv_isIn l G x.toInt64 (0 : Int64) (5 : Int64)) q95 q96 q68 q97 nm_yX0_isIn ⟨Nat.le_of_ble_eq_true rfl, Nat.le_of_ble_eq_true rfl⟩ rfl hl.1 (rest := []) rfl (Nat.le_of_ble_eq_true rfl) dX0_isSquare_6 ⟨Nat.zero_le _, Nat.zero_le _⟩ (fun H locs w => ?_)
  exact tv_zret M w hr inL_nar rfl dX0_isSquare_9
set_option maxHeartbeats 4000000 in
set_option maxRecDepth 100000 in
theorem tv_isLong (l : Launch) (G : tG) (x : Int32) : tv_I l yX0_isLong cX0_isLong 1 (some .boolean) (tv_rm 1 25) G [.int x] [] (inL x.toInt64 (0 : Int64) (60 : Int64)) [] := by
  refine tv_I.st (S := []) (S' := []) rfl rfl (by decide) (Nat.le_of_ble_eq_true rfl) ?_
  intro p e s m below meth c A M hr w ls hl
  have hx := M.1.1
  have hb := M.1.2.1
  have hl : lv_has ls 1 [(0, .int x)] := hl
  refine lv_iload_n hx hb dX0_isLong_0 rfl (lv_at hl 0 rfl) ?_
  refine lv_i2l (v := x.toInt64) hx hb dX0_isLong_1 rfl ?_
  refine lv_lconst (v := 0) hx hb dX0_isLong_2 (by decide) ?_
  refine lv_ldc2 (v := 60) hx hb M.1.2.2.2.1 (M.1.2.2.2.2 _ q536) dX0_isLong_3 ?_
  refine c_iS M w (S' := []) tv_in.nil (tv_isIn l G x.toInt64 (0 : Int64) (60 : Int64)) q95 q96 q68 q97 nm_yX0_isIn ⟨Nat.le_of_ble_eq_true rfl, Nat.le_of_ble_eq_true rfl⟩ rfl hl.1 (rest := []) rfl (Nat.le_of_ble_eq_true rfl) dX0_isLong_6 ⟨Nat.zero_le _, Nat.zero_le _⟩ (fun H locs w => ?_)
  exact tv_zret M w hr inL_nar rfl dX0_isLong_9
set_option maxHeartbeats 4000000 in
set_option maxRecDepth 100000 in
theorem tv_isPart (l : Launch) (G : tG) (x : Int32) : tv_I l yX0_isPart cX0_isPart 1 (some .boolean) (tv_rm 1 25) G [.int x] [] (inL x.toInt64 (0 : Int64) (1 : Int64)) [] := by
  refine tv_I.st (S := []) (S' := []) rfl rfl (by decide) (Nat.le_of_ble_eq_true rfl) ?_
  intro p e s m below meth c A M hr w ls hl
  have hx := M.1.1
  have hb := M.1.2.1
  have hl : lv_has ls 1 [(0, .int x)] := hl
  refine lv_iload_n hx hb dX0_isPart_0 rfl (lv_at hl 0 rfl) ?_
  refine lv_i2l (v := x.toInt64) hx hb dX0_isPart_1 rfl ?_
  refine lv_lconst (v := 0) hx hb dX0_isPart_2 (by decide) ?_
  refine lv_lconst (v := 1) hx hb dX0_isPart_3 (by decide) ?_
  refine c_iS M w (S' := []) tv_in.nil (tv_isIn l G x.toInt64 (0 : Int64) (1 : Int64)) q95 q96 q68 q97 nm_yX0_isIn ⟨Nat.le_of_ble_eq_true rfl, Nat.le_of_ble_eq_true rfl⟩ rfl hl.1 (rest := []) rfl (Nat.le_of_ble_eq_true rfl) dX0_isPart_4 ⟨Nat.zero_le _, Nat.zero_le _⟩ (fun H locs w => ?_)
  exact tv_zret M w hr inL_nar rfl dX0_isPart_7
set_option maxHeartbeats 4000000 in
set_option maxRecDepth 100000 in
theorem st_isDown (l : Launch) (G : tG) (a nh nm : Nat) (g : Nat → Int32) (u : Nat) (hu : u < 4) : tv_I l yX1_isDown cX1_isDown 2 (some .boolean) (tv_rm 0 0) G [.ref a, .int (nI u)] (stg G a nh nm g) (b2 (g (30 + 2 * u + 1) = -4)) (stg G a nh nm g) := by
  refine tv_I.st (S := [stg G a nh nm g]) (S' := [stg G a nh nm g]) sg_one sg_one (by decide) (Nat.le_of_ble_eq_true rfl) ?_
  intro p e s m below meth c A M hr w ls hl
  have hx := M.1.1
  have hb := M.1.2.1
  have hl : lv_has ls 2 [(0, .ref a), (1, .int (nI u))] := hl
  refine lv_aload_n hx hb dX1_isDown_0 rfl (lv_at hl 0 rfl) ?_
  refine r_get M w tc1 0 0 2 rfl rfl (by decide) q133 rfl rfl dX1_isDown_1 ?_
  refine lv_iload_n hx hb dX1_isDown_4 rfl (lv_at hl 1 rfl) ?_
  refine r_aald M w 0 15 4 rfl rfl rfl rfl (vp_in_nI (by omega) (by omega)) (v := a + 16 + u) (oref_nI (by omega) (by omega)) dX1_isDown_5 ?_
  refine lv_iconst (v := 1) hx hb dX1_isDown_6 (by decide) ?_
  refine r_iald M w 0 (16 + u) rfl (stg_mi G a nh nm g (by omega)) (pk_in 1 2 (by decide)) (v := g (30 + 2 * u + 1)) rfl dX1_isDown_7 ?_
  refine lv_bipush (v := -4) hx hb dX1_isDown_8 (by decide) ?_
  refine w_cut (g2 := F0 m 18 ls [.int (if (g (30 + 2 * u + 1)) = (-4) then (1 : Int32) else (0 : Int32))]) (fun jn => ?_) ?_
  · skip
    refine lv_icmp_ne (tgt := 17) hx hb dX1_isDown_10 (by decide) (fun c1 => ?_) (fun c1 => ?_)
    · skip
      refine lv_iconst (v := 0) hx hb dX1_isDown_17 (by decide) ?_
      exact w_topi (if_neg c1) jn
    · skip
      refine lv_iconst (v := 1) hx hb dX1_isDown_13 (by decide) ?_
      refine lv_goto (tgt := 18) hx hb dX1_isDown_14 (by decide) ?_
      exact w_topi (if_pos c1) jn
  exact tv_zret M w hr (ite_nar rfl rfl) rfl dX1_isDown_18
set_option maxHeartbeats 4000000 in
set_option maxRecDepth 100000 in
theorem st_standing (l : Launch) (G : tG) (a nh nm : Nat) (g : Nat → Int32) (hn : nh ≤ 6) (hm : nm ≤ 4) : tv_I l yX1_standing cX1_standing 3 (some .int) (tv_rm 1 21) G [.ref a] (stg G a nh nm g) (sUp g nm) (stg G a nh nm g) := by
  refine tv_I.st (S := [stg G a nh nm g]) (S' := [stg G a nh nm g]) sg_one sg_one (by decide) (Nat.le_of_ble_eq_true rfl) ?_
  intro p e s m below meth c A M hr w ls hl
  have hx := M.1.1
  have hb := M.1.2.1
  have hl : lv_has ls 3 [(0, .ref a)] := hl
  refine lv_iconst (v := 0) hx hb dX1_standing_0 (by decide) ?_
  refine lv_istore_n (lv' := [(1, .int 0), (0, .ref a)]) hx hb dX1_standing_1 rfl hl (by decide) rfl (fun ls hl => ?_)
  refine lv_iconst (v := 0) hx hb dX1_standing_2 (by decide) ?_
  refine lv_istore_n (lv' := [(2, .int 0), (1, .int 0), (0, .ref a)]) hx hb dX1_standing_3 rfl hl (by decide) rfl (fun ls hl => ?_)
  refine w_for (pc := 4) (fun i H locs ls => tv_W G A s [stg G a nh nm g] H locs ∧ lv_has ls 3 [(0, .ref a), (1, .int (lp (fun m x => x ||| (if b2 (g (30 + 2 * m + 1) = -4) = 0 then 1 <<< (nI m &&& 31) else 0)) i 0)), (2, .int (nI i))]) nm (fun H locs ls hI => ?_) (fun i hi H locs ls hI ih => ?_) 0 (Nat.zero_le _) _ _ _ ⟨w, lv_sub hl [2, 1, 0] rfl⟩
  · skip
    obtain ⟨w, hl⟩ := hI
    refine lv_iload_n hx hb dX1_standing_4 rfl (lv_at hl 2 rfl) ?_
    refine lv_aload_n hx hb dX1_standing_5 rfl (lv_at hl 0 rfl) ?_
    refine r_get M w tc1 0 0 4 rfl rfl (by decide) q139 rfl rfl dX1_standing_6 ?_
    refine lv_icmp_ge (tgt := 36) hx hb dX1_standing_9 (by decide) (fun _ => ?_) (fun hc => absurd (nI_le (a := _) (b := nm) (by omega) (by omega)) hc)
    refine lv_iload_n hx hb dX1_standing_36 rfl (lv_at hl 1 rfl) ?_
    exact tv_iret M w hr rfl dX1_standing_37
  · skip
    obtain ⟨w, hl⟩ := hI
    refine lv_iload_n hx hb dX1_standing_4 rfl (lv_at hl 2 rfl) ?_
    refine lv_aload_n hx hb dX1_standing_5 rfl (lv_at hl 0 rfl) ?_
    refine r_get M w tc1 0 0 4 rfl rfl (by decide) q139 rfl rfl dX1_standing_6 ?_
    refine lv_icmp_ge (tgt := 36) hx hb dX1_standing_9 (by decide) (fun hc => absurd hc (nI_ge (a := i) (b := _) (by omega) (by omega))) (fun _ => ?_)
    refine lv_iload_n hx hb dX1_standing_12 rfl (lv_at hl 1 rfl) ?_
    refine lv_aload_n hx hb dX1_standing_13 rfl (lv_at hl 0 rfl) ?_
    refine lv_iload_n hx hb dX1_standing_14 rfl (lv_at hl 2 rfl) ?_
    refine c_iV M w (S' := [stg G a nh nm g]) (tv_in.seg 0 rfl rfl) (st_isDown l G a nh nm g i (by omega)) (q0 := 0) tc1 rfl q402 q403 q404 q69 q405 nm_yX1_isDown ⟨Nat.le_of_ble_eq_true rfl, Nat.le_of_ble_eq_true rfl⟩ rfl hl.1 (rest := [.int (lp (fun m x => x ||| (if b2 (g (30 + 2 * m + 1) = -4) = 0 then 1 <<< (nI m &&& 31) else 0)) i 0)]) rfl (Nat.le_of_ble_eq_true rfl) dX1_standing_15 ⟨Nat.zero_le _, Nat.zero_le _⟩ (fun H locs w => ?_)
    refine w_cut (g2 := F0 m 28 ls [.int (if (b2 (g (30 + 2 * i + 1) = -4)) = 0 then (1 <<< (nI i &&& 31)) else (0 : Int32)), .int (lp (fun m x => x ||| (if b2 (g (30 + 2 * m + 1) = -4) = 0 then 1 <<< (nI m &&& 31) else 0)) i 0)]) (fun jn => ?_) ?_
    · skip
      refine lv_if_eq (tgt := 25) hx hb dX1_standing_18 (by decide) (fun c1 => ?_) (fun c1 => ?_)
      · skip
        refine lv_iconst (v := 1) hx hb dX1_standing_25 (by decide) ?_
        refine lv_iload_n hx hb dX1_standing_26 rfl (lv_at hl 2 rfl) ?_
        refine lv_ishl hx hb dX1_standing_27 ?_
        exact w_topi (if_pos c1) jn
      · skip
        refine lv_iconst (v := 0) hx hb dX1_standing_21 (by decide) ?_
        refine lv_goto (tgt := 28) hx hb dX1_standing_22 (by decide) ?_
        exact w_topi (if_neg c1) jn
    refine lv_ior hx hb dX1_standing_28 ?_
    refine lv_istore_n (lv' := [(1, .int ((lp (fun m x => x ||| (if b2 (g (30 + 2 * m + 1) = -4) = 0 then 1 <<< (nI m &&& 31) else 0)) i 0) ||| (if (b2 (g (30 + 2 * i + 1) = -4)) = 0 then (1 <<< (nI i &&& 31)) else (0 : Int32)))), (0, .ref a), (2, .int (nI i))]) hx hb dX1_standing_29 rfl hl (by decide) rfl (fun ls hl => ?_)
    refine lv_iinc (k := 2) (v := nI (i + 1)) (lv' := [(2, .int (nI (i + 1))), (1, .int ((lp (fun m x => x ||| (if b2 (g (30 + 2 * m + 1) = -4) = 0 then 1 <<< (nI m &&& 31) else 0)) i 0) ||| (if (b2 (g (30 + 2 * i + 1) = -4)) = 0 then (1 <<< (nI i &&& 31)) else (0 : Int32)))), (0, .ref a)]) hx hb dX1_standing_30 hl rfl (nI_inc i) (by decide) rfl (fun ls hl => ?_)
    refine lv_goto (tgt := 4) hx hb dX1_standing_33 (by decide) ?_
    exact ih _ _ _ ⟨w, lv_sub hl [2, 1, 0] rfl⟩
set_option maxHeartbeats 4000000 in
set_option maxRecDepth 100000 in
theorem st_handsAt (l : Launch) (G : tG) (a nh nm : Nat) (g : Nat → Int32) (z : Int32) (hn : nh ≤ 6) (hm : nm ≤ 4) : tv_I l yX1_handsAt cX1_handsAt 4 (some .int) (tv_rm 0 0) G [.ref a, .int z] (stg G a nh nm g) (sHa g nh z) (stg G a nh nm g) := by
  refine tv_I.st (S := [stg G a nh nm g]) (S' := [stg G a nh nm g]) sg_one sg_one (by decide) (Nat.le_of_ble_eq_true rfl) ?_
  intro p e s m below meth c A M hr w ls hl
  have hx := M.1.1
  have hb := M.1.2.1
  have hl : lv_has ls 4 [(0, .ref a), (1, .int z)] := hl
  refine lv_iconst (v := 0) hx hb dX1_handsAt_0 (by decide) ?_
  refine lv_istore_n (lv' := [(2, .int 0), (0, .ref a), (1, .int z)]) hx hb dX1_handsAt_1 rfl hl (by decide) rfl (fun ls hl => ?_)
  refine lv_iconst (v := 0) hx hb dX1_handsAt_2 (by decide) ?_
  refine lv_istore_n (lv' := [(3, .int 0), (2, .int 0), (0, .ref a), (1, .int z)]) hx hb dX1_handsAt_3 rfl hl (by decide) rfl (fun ls hl => ?_)
  refine w_for (pc := 4) (fun i H locs ls => tv_W G A s [stg G a nh nm g] H locs ∧ lv_has ls 4 [(0, .ref a), (1, .int z), (2, .int (lp (fun h x => x ||| (if g (12 + 3 * h + 1) = z then 1 <<< (nI h &&& 31) else 0)) i 0)), (3, .int (nI i))]) nh (fun H locs ls hI => ?_) (fun i hi H locs ls hI ih => ?_) 0 (Nat.zero_le _) _ _ _ ⟨w, lv_sub hl [2, 3, 1, 0] rfl⟩
  · skip
    obtain ⟨w, hl⟩ := hI
    refine lv_iload_n hx hb dX1_handsAt_4 rfl (lv_at hl 3 rfl) ?_
    refine lv_aload_n hx hb dX1_handsAt_5 rfl (lv_at hl 0 rfl) ?_
    refine r_get M w tc1 0 0 3 rfl rfl (by decide) q136 rfl rfl dX1_handsAt_6 ?_
    refine lv_icmp_ge (tgt := 40) hx hb dX1_handsAt_9 (by decide) (fun _ => ?_) (fun hc => absurd (nI_le (a := _) (b := nh) (by omega) (by omega)) hc)
    refine lv_iload_n hx hb dX1_handsAt_40 rfl (lv_at hl 2 rfl) ?_
    exact tv_iret M w hr rfl dX1_handsAt_41
  · skip
    obtain ⟨w, hl⟩ := hI
    refine lv_iload_n hx hb dX1_handsAt_4 rfl (lv_at hl 3 rfl) ?_
    refine lv_aload_n hx hb dX1_handsAt_5 rfl (lv_at hl 0 rfl) ?_
    refine r_get M w tc1 0 0 3 rfl rfl (by decide) q136 rfl rfl dX1_handsAt_6 ?_
    refine lv_icmp_ge (tgt := 40) hx hb dX1_handsAt_9 (by decide) (fun hc => absurd hc (nI_ge (a := i) (b := _) (by omega) (by omega))) (fun _ => ?_)
    refine lv_iload_n hx hb dX1_handsAt_12 rfl (lv_at hl 2 rfl) ?_
    refine lv_aload_n hx hb dX1_handsAt_13 rfl (lv_at hl 0 rfl) ?_
    refine r_get M w tc1 0 0 1 rfl rfl (by decide) q130 rfl rfl dX1_handsAt_14 ?_
    refine lv_iload_n hx hb dX1_handsAt_17 rfl (lv_at hl 3 rfl) ?_
    refine r_aald M w 0 8 4 rfl rfl rfl rfl (vp_in_nI (by omega) (by omega)) (v := a + 9 + i) (oref_nI (by omega) (by omega)) dX1_handsAt_18 ?_
    refine lv_iconst (v := 1) hx hb dX1_handsAt_19 (by decide) ?_
    refine r_iald M w 0 (9 + i) rfl (stg_hd G a nh nm g (by omega)) (pk_in 1 3 (by decide)) (v := g (12 + 3 * i + 1)) rfl dX1_handsAt_20 ?_
    refine lv_iload_n hx hb dX1_handsAt_21 rfl (lv_at hl 1 rfl) ?_
    refine w_cut (g2 := F0 m 32 ls [.int (if (g (12 + 3 * i + 1)) = z then (1 <<< (nI i &&& 31)) else (0 : Int32)), .int (lp (fun h x => x ||| (if g (12 + 3 * h + 1) = z then 1 <<< (nI h &&& 31) else 0)) i 0)]) (fun jn => ?_) ?_
    · skip
      refine lv_icmp_ne (tgt := 31) hx hb dX1_handsAt_22 (by decide) (fun c1 => ?_) (fun c1 => ?_)
      · skip
        refine lv_iconst (v := 0) hx hb dX1_handsAt_31 (by decide) ?_
        exact w_topi (if_neg c1) jn
      · skip
        refine lv_iconst (v := 1) hx hb dX1_handsAt_25 (by decide) ?_
        refine lv_iload_n hx hb dX1_handsAt_26 rfl (lv_at hl 3 rfl) ?_
        refine lv_ishl hx hb dX1_handsAt_27 ?_
        refine lv_goto (tgt := 32) hx hb dX1_handsAt_28 (by decide) ?_
        exact w_topi (if_pos c1) jn
    refine lv_ior hx hb dX1_handsAt_32 ?_
    refine lv_istore_n (lv' := [(2, .int ((lp (fun h x => x ||| (if g (12 + 3 * h + 1) = z then 1 <<< (nI h &&& 31) else 0)) i 0) ||| (if (g (12 + 3 * i + 1)) = z then (1 <<< (nI i &&& 31)) else (0 : Int32)))), (0, .ref a), (1, .int z), (3, .int (nI i))]) hx hb dX1_handsAt_33 rfl hl (by decide) rfl (fun ls hl => ?_)
    refine lv_iinc (k := 3) (v := nI (i + 1)) (lv' := [(3, .int (nI (i + 1))), (2, .int ((lp (fun h x => x ||| (if g (12 + 3 * h + 1) = z then 1 <<< (nI h &&& 31) else 0)) i 0) ||| (if (g (12 + 3 * i + 1)) = z then (1 <<< (nI i &&& 31)) else (0 : Int32)))), (0, .ref a), (1, .int z)]) hx hb dX1_handsAt_34 hl rfl (nI_inc i) (by decide) rfl (fun ls hl => ?_)
    refine lv_goto (tgt := 4) hx hb dX1_handsAt_37 (by decide) ?_
    exact ih _ _ _ ⟨w, lv_sub hl [2, 3, 1, 0] rfl⟩
set_option maxHeartbeats 4000000 in
set_option maxRecDepth 100000 in
theorem st_ministersAt (l : Launch) (G : tG) (a nh nm : Nat) (g : Nat → Int32) (z : Int32) (hn : nh ≤ 6) (hm : nm ≤ 4) : tv_I l yX1_ministersAt cX1_ministersAt 4 (some .int) (tv_rm 0 0) G [.ref a, .int z] (stg G a nh nm g) (sMa g nm z) (stg G a nh nm g) := by
  refine tv_I.st (S := [stg G a nh nm g]) (S' := [stg G a nh nm g]) sg_one sg_one (by decide) (Nat.le_of_ble_eq_true rfl) ?_
  intro p e s m below meth c A M hr w ls hl
  have hx := M.1.1
  have hb := M.1.2.1
  have hl : lv_has ls 4 [(0, .ref a), (1, .int z)] := hl
  refine lv_iconst (v := 0) hx hb dX1_ministersAt_0 (by decide) ?_
  refine lv_istore_n (lv' := [(2, .int 0), (0, .ref a), (1, .int z)]) hx hb dX1_ministersAt_1 rfl hl (by decide) rfl (fun ls hl => ?_)
  refine lv_iconst (v := 0) hx hb dX1_ministersAt_2 (by decide) ?_
  refine lv_istore_n (lv' := [(3, .int 0), (2, .int 0), (0, .ref a), (1, .int z)]) hx hb dX1_ministersAt_3 rfl hl (by decide) rfl (fun ls hl => ?_)
  refine w_for (pc := 4) (fun i H locs ls => tv_W G A s [stg G a nh nm g] H locs ∧ lv_has ls 4 [(0, .ref a), (1, .int z), (2, .int (lp (fun m x => x ||| (if g (30 + 2 * m + 1) = z then 1 <<< (nI m &&& 31) else 0)) i 0)), (3, .int (nI i))]) nm (fun H locs ls hI => ?_) (fun i hi H locs ls hI ih => ?_) 0 (Nat.zero_le _) _ _ _ ⟨w, lv_sub hl [2, 3, 1, 0] rfl⟩
  · skip
    obtain ⟨w, hl⟩ := hI
    refine lv_iload_n hx hb dX1_ministersAt_4 rfl (lv_at hl 3 rfl) ?_
    refine lv_aload_n hx hb dX1_ministersAt_5 rfl (lv_at hl 0 rfl) ?_
    refine r_get M w tc1 0 0 4 rfl rfl (by decide) q139 rfl rfl dX1_ministersAt_6 ?_
    refine lv_icmp_ge (tgt := 40) hx hb dX1_ministersAt_9 (by decide) (fun _ => ?_) (fun hc => absurd (nI_le (a := _) (b := nm) (by omega) (by omega)) hc)
    refine lv_iload_n hx hb dX1_ministersAt_40 rfl (lv_at hl 2 rfl) ?_
    exact tv_iret M w hr rfl dX1_ministersAt_41
  · skip
    obtain ⟨w, hl⟩ := hI
    refine lv_iload_n hx hb dX1_ministersAt_4 rfl (lv_at hl 3 rfl) ?_
    refine lv_aload_n hx hb dX1_ministersAt_5 rfl (lv_at hl 0 rfl) ?_
    refine r_get M w tc1 0 0 4 rfl rfl (by decide) q139 rfl rfl dX1_ministersAt_6 ?_
    refine lv_icmp_ge (tgt := 40) hx hb dX1_ministersAt_9 (by decide) (fun hc => absurd hc (nI_ge (a := i) (b := _) (by omega) (by omega))) (fun _ => ?_)
    refine lv_iload_n hx hb dX1_ministersAt_12 rfl (lv_at hl 2 rfl) ?_
    refine lv_aload_n hx hb dX1_ministersAt_13 rfl (lv_at hl 0 rfl) ?_
    refine r_get M w tc1 0 0 2 rfl rfl (by decide) q133 rfl rfl dX1_ministersAt_14 ?_
    refine lv_iload_n hx hb dX1_ministersAt_17 rfl (lv_at hl 3 rfl) ?_
    refine r_aald M w 0 15 4 rfl rfl rfl rfl (vp_in_nI (by omega) (by omega)) (v := a + 16 + i) (oref_nI (by omega) (by omega)) dX1_ministersAt_18 ?_
    refine lv_iconst (v := 1) hx hb dX1_ministersAt_19 (by decide) ?_
    refine r_iald M w 0 (16 + i) rfl (stg_mi G a nh nm g (by omega)) (pk_in 1 2 (by decide)) (v := g (30 + 2 * i + 1)) rfl dX1_ministersAt_20 ?_
    refine lv_iload_n hx hb dX1_ministersAt_21 rfl (lv_at hl 1 rfl) ?_
    refine w_cut (g2 := F0 m 32 ls [.int (if (g (30 + 2 * i + 1)) = z then (1 <<< (nI i &&& 31)) else (0 : Int32)), .int (lp (fun m x => x ||| (if g (30 + 2 * m + 1) = z then 1 <<< (nI m &&& 31) else 0)) i 0)]) (fun jn => ?_) ?_
    · skip
      refine lv_icmp_ne (tgt := 31) hx hb dX1_ministersAt_22 (by decide) (fun c1 => ?_) (fun c1 => ?_)
      · skip
        refine lv_iconst (v := 0) hx hb dX1_ministersAt_31 (by decide) ?_
        exact w_topi (if_neg c1) jn
      · skip
        refine lv_iconst (v := 1) hx hb dX1_ministersAt_25 (by decide) ?_
        refine lv_iload_n hx hb dX1_ministersAt_26 rfl (lv_at hl 3 rfl) ?_
        refine lv_ishl hx hb dX1_ministersAt_27 ?_
        refine lv_goto (tgt := 32) hx hb dX1_ministersAt_28 (by decide) ?_
        exact w_topi (if_pos c1) jn
    refine lv_ior hx hb dX1_ministersAt_32 ?_
    refine lv_istore_n (lv' := [(2, .int ((lp (fun m x => x ||| (if g (30 + 2 * m + 1) = z then 1 <<< (nI m &&& 31) else 0)) i 0) ||| (if (g (30 + 2 * i + 1)) = z then (1 <<< (nI i &&& 31)) else (0 : Int32)))), (0, .ref a), (1, .int z), (3, .int (nI i))]) hx hb dX1_ministersAt_33 rfl hl (by decide) rfl (fun ls hl => ?_)
    refine lv_iinc (k := 3) (v := nI (i + 1)) (lv' := [(3, .int (nI (i + 1))), (2, .int ((lp (fun m x => x ||| (if g (30 + 2 * m + 1) = z then 1 <<< (nI m &&& 31) else 0)) i 0) ||| (if (g (30 + 2 * i + 1)) = z then (1 <<< (nI i &&& 31)) else (0 : Int32)))), (0, .ref a), (1, .int z)]) hx hb dX1_ministersAt_34 hl rfl (nI_inc i) (by decide) rfl (fun ls hl => ?_)
    refine lv_goto (tgt := 4) hx hb dX1_ministersAt_37 (by decide) ?_
    exact ih _ _ _ ⟨w, lv_sub hl [2, 3, 1, 0] rfl⟩
set_option maxHeartbeats 4000000 in
set_option maxRecDepth 100000 in
theorem st_wants (l : Launch) (G : tG) (a nh nm : Nat) (g : Nat → Int32) (h : Nat) (hh : h < 6) (hat : vp_in (g (12 + 3 * h + 1)) 6) : tv_I l yX1_wants cX1_wants 2 (some .int) (tv_rm 1 21) G [.ref a, .int (nI h)] (stg G a nh nm g) (wt g h) (stg G a nh nm g) := by
  refine tv_I.st (S := [stg G a nh nm g]) (S' := [stg G a nh nm g]) sg_one sg_one (by decide) (Nat.le_of_ble_eq_true rfl) ?_
  intro p e s m below meth c A M hr w ls hl
  have hx := M.1.1
  have hb := M.1.2.1
  have hl : lv_has ls 2 [(0, .ref a), (1, .int (nI h))] := hl
  refine lv_iconst (v := 0) hx hb dX1_wants_0 (by decide) ?_
  refine lv_bipush (v := 10) hx hb dX1_wants_1 (by decide) ?_
  refine lv_aload_n hx hb dX1_wants_3 rfl (lv_at hl 0 rfl) ?_
  refine r_get M w tc1 0 0 0 rfl rfl (by decide) q127 rfl rfl dX1_wants_4 ?_
  refine lv_aload_n hx hb dX1_wants_7 rfl (lv_at hl 0 rfl) ?_
  refine r_get M w tc1 0 0 1 rfl rfl (by decide) q130 rfl rfl dX1_wants_8 ?_
  refine lv_iload_n hx hb dX1_wants_11 rfl (lv_at hl 1 rfl) ?_
  refine r_aald M w 0 8 4 rfl rfl rfl rfl (vp_in_nI (by omega) (by omega)) (v := a + 9 + h) (oref_nI (by omega) (by omega)) dX1_wants_12 ?_
  refine lv_iconst (v := 1) hx hb dX1_wants_13 (by decide) ?_
  refine r_iald M w 0 (9 + h) rfl (stg_hd G a nh nm g (by omega)) (pk_in 1 3 (by decide)) (v := g (12 + 3 * h + 1)) rfl dX1_wants_14 ?_
  refine r_aald M w 0 1 4 rfl rfl rfl rfl (vp_w hat (by omega)) (v := a + 2 + ((g (12 + 3 * h + 1)).toNatClampNeg)) (oref_in (vp_w hat (by omega))) dX1_wants_15 ?_
  refine lv_iconst (v := 0) hx hb dX1_wants_16 (by decide) ?_
  refine r_iald M w 0 (2 + ((g (12 + 3 * h + 1)).toNatClampNeg)) rfl (stg_sq G a nh nm g (vp_cl (vp_w hat (by omega)))) (pk_in 0 2 (by decide)) (v := g (2 * ((g (12 + 3 * h + 1)).toNatClampNeg))) rfl dX1_wants_17 ?_
  refine lv_iadd hx hb dX1_wants_18 ?_
  refine lv_aload_n hx hb dX1_wants_19 rfl (lv_at hl 0 rfl) ?_
  refine r_get M w tc1 0 0 1 rfl rfl (by decide) q130 rfl rfl dX1_wants_20 ?_
  refine lv_iload_n hx hb dX1_wants_23 rfl (lv_at hl 1 rfl) ?_
  refine r_aald M w 0 8 4 rfl rfl rfl rfl (vp_in_nI (by omega) (by omega)) (v := a + 9 + h) (oref_nI (by omega) (by omega)) dX1_wants_24 ?_
  refine lv_iconst (v := 2) hx hb dX1_wants_25 (by decide) ?_
  refine r_iald M w 0 (9 + h) rfl (stg_hd G a nh nm g (by omega)) (pk_in 2 3 (by decide)) (v := g (12 + 3 * h + 2)) rfl dX1_wants_26 ?_
  refine lv_isub hx hb dX1_wants_27 ?_
  refine r_max M hl.1 q414 q415 q83 q416 ⟨Nat.le_of_ble_eq_true rfl, Nat.le_of_ble_eq_true rfl⟩ ⟨Nat.zero_le _, Nat.zero_le _⟩ (v := if 0 < ((10 + (g (2 * ((g (12 + 3 * h + 1)).toNatClampNeg)))) - (g (12 + 3 * h + 2))) then (10 + (g (2 * ((g (12 + 3 * h + 1)).toNatClampNeg)))) - (g (12 + 3 * h + 2)) else 0) rfl dX1_wants_28 ?_
  exact tv_iret M w hr rfl dX1_wants_31
set_option maxHeartbeats 4000000 in
set_option maxRecDepth 100000 in
theorem st_drawn (l : Launch) (G : tG) (a nh nm : Nat) (g : Nat → Int32) (hn : nh ≤ 6) (hm : nm ≤ 4) (hok : Sok g) : tv_I l yX1_drawn cX1_drawn 3 (some .int) (tv_rm 2 42) G [.ref a] (stg G a nh nm g) (sDr g nh) (stg G a nh nm g) := by
  refine tv_I.st (S := [stg G a nh nm g]) (S' := [stg G a nh nm g]) sg_one sg_one (by decide) (Nat.le_of_ble_eq_true rfl) ?_
  intro p e s m below meth c A M hr w ls hl
  have hx := M.1.1
  have hb := M.1.2.1
  have hl : lv_has ls 3 [(0, .ref a)] := hl
  refine lv_iconst (v := 0) hx hb dX1_drawn_0 (by decide) ?_
  refine lv_istore_n (lv' := [(1, .int 0), (0, .ref a)]) hx hb dX1_drawn_1 rfl hl (by decide) rfl (fun ls hl => ?_)
  refine lv_iconst (v := 0) hx hb dX1_drawn_2 (by decide) ?_
  refine lv_istore_n (lv' := [(2, .int 0), (1, .int 0), (0, .ref a)]) hx hb dX1_drawn_3 rfl hl (by decide) rfl (fun ls hl => ?_)
  refine w_for (pc := 4) (fun i H locs ls => tv_W G A s [stg G a nh nm g] H locs ∧ lv_has ls 3 [(0, .ref a), (1, .int (lp (fun h x => x ||| (if wt g h = 0 then 1 <<< (nI h &&& 31) else 0)) i 0)), (2, .int (nI i))]) nh (fun H locs ls hI => ?_) (fun i hi H locs ls hI ih => ?_) 0 (Nat.zero_le _) _ _ _ ⟨w, lv_sub hl [2, 1, 0] rfl⟩
  · skip
    obtain ⟨w, hl⟩ := hI
    refine lv_iload_n hx hb dX1_drawn_4 rfl (lv_at hl 2 rfl) ?_
    refine lv_aload_n hx hb dX1_drawn_5 rfl (lv_at hl 0 rfl) ?_
    refine r_get M w tc1 0 0 3 rfl rfl (by decide) q136 rfl rfl dX1_drawn_6 ?_
    refine lv_icmp_ge (tgt := 36) hx hb dX1_drawn_9 (by decide) (fun _ => ?_) (fun hc => absurd (nI_le (a := _) (b := nh) (by omega) (by omega)) hc)
    refine lv_iload_n hx hb dX1_drawn_36 rfl (lv_at hl 1 rfl) ?_
    exact tv_iret M w hr rfl dX1_drawn_37
  · skip
    obtain ⟨w, hl⟩ := hI
    refine lv_iload_n hx hb dX1_drawn_4 rfl (lv_at hl 2 rfl) ?_
    refine lv_aload_n hx hb dX1_drawn_5 rfl (lv_at hl 0 rfl) ?_
    refine r_get M w tc1 0 0 3 rfl rfl (by decide) q136 rfl rfl dX1_drawn_6 ?_
    refine lv_icmp_ge (tgt := 36) hx hb dX1_drawn_9 (by decide) (fun hc => absurd hc (nI_ge (a := i) (b := _) (by omega) (by omega))) (fun _ => ?_)
    refine lv_iload_n hx hb dX1_drawn_12 rfl (lv_at hl 1 rfl) ?_
    refine lv_aload_n hx hb dX1_drawn_13 rfl (lv_at hl 0 rfl) ?_
    refine lv_iload_n hx hb dX1_drawn_14 rfl (lv_at hl 2 rfl) ?_
    refine c_iV M w (S' := [stg G a nh nm g]) (tv_in.seg 0 rfl rfl) (st_wants l G a nh nm g i (by omega) (hok.at (by omega))) (q0 := 0) tc1 rfl q410 q411 q412 q69 q413 nm_yX1_wants ⟨Nat.le_of_ble_eq_true rfl, Nat.le_of_ble_eq_true rfl⟩ rfl hl.1 (rest := [.int (lp (fun h x => x ||| (if wt g h = 0 then 1 <<< (nI h &&& 31) else 0)) i 0)]) rfl (Nat.le_of_ble_eq_true rfl) dX1_drawn_15 ⟨Nat.zero_le _, Nat.zero_le _⟩ (fun H locs w => ?_)
    refine w_cut (g2 := F0 m 28 ls [.int (if (wt g i) = 0 then (1 <<< (nI i &&& 31)) else (0 : Int32)), .int (lp (fun h x => x ||| (if wt g h = 0 then 1 <<< (nI h &&& 31) else 0)) i 0)]) (fun jn => ?_) ?_
    · skip
      refine lv_if_ne (tgt := 27) hx hb dX1_drawn_18 (by decide) (fun c1 => ?_) (fun c1 => ?_)
      · skip
        refine lv_iconst (v := 0) hx hb dX1_drawn_27 (by decide) ?_
        exact w_topi (if_neg c1) jn
      · skip
        refine lv_iconst (v := 1) hx hb dX1_drawn_21 (by decide) ?_
        refine lv_iload_n hx hb dX1_drawn_22 rfl (lv_at hl 2 rfl) ?_
        refine lv_ishl hx hb dX1_drawn_23 ?_
        refine lv_goto (tgt := 28) hx hb dX1_drawn_24 (by decide) ?_
        exact w_topi (if_pos c1) jn
    refine lv_ior hx hb dX1_drawn_28 ?_
    refine lv_istore_n (lv' := [(1, .int ((lp (fun h x => x ||| (if wt g h = 0 then 1 <<< (nI h &&& 31) else 0)) i 0) ||| (if (wt g i) = 0 then (1 <<< (nI i &&& 31)) else (0 : Int32)))), (0, .ref a), (2, .int (nI i))]) hx hb dX1_drawn_29 rfl hl (by decide) rfl (fun ls hl => ?_)
    refine lv_iinc (k := 2) (v := nI (i + 1)) (lv' := [(2, .int (nI (i + 1))), (1, .int ((lp (fun h x => x ||| (if wt g h = 0 then 1 <<< (nI h &&& 31) else 0)) i 0) ||| (if (wt g i) = 0 then (1 <<< (nI i &&& 31)) else (0 : Int32)))), (0, .ref a)]) hx hb dX1_drawn_30 hl rfl (nI_inc i) (by decide) rfl (fun ls hl => ?_)
    refine lv_goto (tgt := 4) hx hb dX1_drawn_33 (by decide) ?_
    exact ih _ _ _ ⟨w, lv_sub hl [2, 1, 0] rfl⟩
set_option maxHeartbeats 4000000 in
set_option maxRecDepth 100000 in
theorem st_temper (l : Launch) (G : tG) (a nh nm : Nat) (g : Nat → Int32) (hn : nh ≤ 6) (hm : nm ≤ 4) : tv_I l yX1_temper cX1_temper 3 (some .int) (tv_rm 0 0) G [.ref a] (stg G a nh nm g) (sTm g nh) (stg G a nh nm g) := by
  refine tv_I.st (S := [stg G a nh nm g]) (S' := [stg G a nh nm g]) sg_one sg_one (by decide) (Nat.le_of_ble_eq_true rfl) ?_
  intro p e s m below meth c A M hr w ls hl
  have hx := M.1.1
  have hb := M.1.2.1
  have hl : lv_has ls 3 [(0, .ref a)] := hl
  refine lv_iconst (v := 0) hx hb dX1_temper_0 (by decide) ?_
  refine lv_istore_n (lv' := [(1, .int 0), (0, .ref a)]) hx hb dX1_temper_1 rfl hl (by decide) rfl (fun ls hl => ?_)
  refine lv_iconst (v := 0) hx hb dX1_temper_2 (by decide) ?_
  refine lv_istore_n (lv' := [(2, .int 0), (1, .int 0), (0, .ref a)]) hx hb dX1_temper_3 rfl hl (by decide) rfl (fun ls hl => ?_)
  refine w_for (pc := 4) (fun i H locs ls => tv_W G A s [stg G a nh nm g] H locs ∧ lv_has ls 3 [(0, .ref a), (1, .int (lp (fun h x => x + g (12 + 3 * h + 2)) i 0)), (2, .int (nI i))]) nh (fun H locs ls hI => ?_) (fun i hi H locs ls hI ih => ?_) 0 (Nat.zero_le _) _ _ _ ⟨w, lv_sub hl [2, 1, 0] rfl⟩
  · skip
    obtain ⟨w, hl⟩ := hI
    refine lv_iload_n hx hb dX1_temper_4 rfl (lv_at hl 2 rfl) ?_
    refine lv_aload_n hx hb dX1_temper_5 rfl (lv_at hl 0 rfl) ?_
    refine r_get M w tc1 0 0 3 rfl rfl (by decide) q136 rfl rfl dX1_temper_6 ?_
    refine lv_icmp_ge (tgt := 29) hx hb dX1_temper_9 (by decide) (fun _ => ?_) (fun hc => absurd (nI_le (a := _) (b := nh) (by omega) (by omega)) hc)
    refine lv_iload_n hx hb dX1_temper_29 rfl (lv_at hl 1 rfl) ?_
    exact tv_iret M w hr rfl dX1_temper_30
  · skip
    obtain ⟨w, hl⟩ := hI
    refine lv_iload_n hx hb dX1_temper_4 rfl (lv_at hl 2 rfl) ?_
    refine lv_aload_n hx hb dX1_temper_5 rfl (lv_at hl 0 rfl) ?_
    refine r_get M w tc1 0 0 3 rfl rfl (by decide) q136 rfl rfl dX1_temper_6 ?_
    refine lv_icmp_ge (tgt := 29) hx hb dX1_temper_9 (by decide) (fun hc => absurd hc (nI_ge (a := i) (b := _) (by omega) (by omega))) (fun _ => ?_)
    refine lv_iload_n hx hb dX1_temper_12 rfl (lv_at hl 1 rfl) ?_
    refine lv_aload_n hx hb dX1_temper_13 rfl (lv_at hl 0 rfl) ?_
    refine r_get M w tc1 0 0 1 rfl rfl (by decide) q130 rfl rfl dX1_temper_14 ?_
    refine lv_iload_n hx hb dX1_temper_17 rfl (lv_at hl 2 rfl) ?_
    refine r_aald M w 0 8 4 rfl rfl rfl rfl (vp_in_nI (by omega) (by omega)) (v := a + 9 + i) (oref_nI (by omega) (by omega)) dX1_temper_18 ?_
    refine lv_iconst (v := 2) hx hb dX1_temper_19 (by decide) ?_
    refine r_iald M w 0 (9 + i) rfl (stg_hd G a nh nm g (by omega)) (pk_in 2 3 (by decide)) (v := g (12 + 3 * i + 2)) rfl dX1_temper_20 ?_
    refine lv_iadd hx hb dX1_temper_21 ?_
    refine lv_istore_n (lv' := [(1, .int ((lp (fun h x => x + g (12 + 3 * h + 2)) i 0) + (g (12 + 3 * i + 2)))), (0, .ref a), (2, .int (nI i))]) hx hb dX1_temper_22 rfl hl (by decide) rfl (fun ls hl => ?_)
    refine lv_iinc (k := 2) (v := nI (i + 1)) (lv' := [(2, .int (nI (i + 1))), (1, .int ((lp (fun h x => x + g (12 + 3 * h + 2)) i 0) + (g (12 + 3 * i + 2)))), (0, .ref a)]) hx hb dX1_temper_23 hl rfl (nI_inc i) (by decide) rfl (fun ls hl => ?_)
    refine lv_goto (tgt := 4) hx hb dX1_temper_26 (by decide) ?_
    exact ih _ _ _ ⟨w, lv_sub hl [2, 1, 0] rfl⟩
set_option maxHeartbeats 4000000 in
set_option maxRecDepth 100000 in
theorem st_rust (l : Launch) (G : tG) (a nh nm : Nat) (g : Nat → Int32) : tv_I l yX1_rust cX1_rust 3 (some .int) (tv_rm 0 0) G [.ref a] (stg G a nh nm g) (sRu g) (stg G a nh nm g) := by
  refine tv_I.st (S := [stg G a nh nm g]) (S' := [stg G a nh nm g]) sg_one sg_one (by decide) (Nat.le_of_ble_eq_true rfl) ?_
  intro p e s m below meth c A M hr w ls hl
  have hx := M.1.1
  have hb := M.1.2.1
  have hl : lv_has ls 3 [(0, .ref a)] := hl
  refine lv_iconst (v := 0) hx hb dX1_rust_0 (by decide) ?_
  refine lv_istore_n (lv' := [(1, .int 0), (0, .ref a)]) hx hb dX1_rust_1 rfl hl (by decide) rfl (fun ls hl => ?_)
  refine lv_iconst (v := 0) hx hb dX1_rust_2 (by decide) ?_
  refine lv_istore_n (lv' := [(2, .int 0), (1, .int 0), (0, .ref a)]) hx hb dX1_rust_3 rfl hl (by decide) rfl (fun ls hl => ?_)
  refine w_for (pc := 4) (fun i H locs ls => tv_W G A s [stg G a nh nm g] H locs ∧ lv_has ls 3 [(0, .ref a), (1, .int (lp (fun q x => x + g (2 * q)) i 0)), (2, .int (nI i))]) 6 (fun H locs ls hI => ?_) (fun i hi H locs ls hI ih => ?_) 0 (Nat.zero_le _) _ _ _ ⟨w, lv_sub hl [2, 1, 0] rfl⟩
  · skip
    obtain ⟨w, hl⟩ := hI
    refine lv_iload_n hx hb dX1_rust_4 rfl (lv_at hl 2 rfl) ?_
    refine lv_bipush (v := 6) hx hb dX1_rust_5 (by decide) ?_
    refine lv_icmp_ge (tgt := 27) hx hb dX1_rust_7 (by decide) (fun _ => ?_) (fun hc => absurd (nI_le (a := 6) (b := 6) (by omega) (by omega)) hc)
    refine lv_iload_n hx hb dX1_rust_27 rfl (lv_at hl 1 rfl) ?_
    exact tv_iret M w hr rfl dX1_rust_28
  · skip
    obtain ⟨w, hl⟩ := hI
    refine lv_iload_n hx hb dX1_rust_4 rfl (lv_at hl 2 rfl) ?_
    refine lv_bipush (v := 6) hx hb dX1_rust_5 (by decide) ?_
    refine lv_icmp_ge (tgt := 27) hx hb dX1_rust_7 (by decide) (fun hc => absurd hc (nI_ge (a := i) (b := 6) (by omega) (by omega))) (fun _ => ?_)
    refine lv_iload_n hx hb dX1_rust_10 rfl (lv_at hl 1 rfl) ?_
    refine lv_aload_n hx hb dX1_rust_11 rfl (lv_at hl 0 rfl) ?_
    refine r_get M w tc1 0 0 0 rfl rfl (by decide) q127 rfl rfl dX1_rust_12 ?_
    refine lv_iload_n hx hb dX1_rust_15 rfl (lv_at hl 2 rfl) ?_
    refine r_aald M w 0 1 4 rfl rfl rfl rfl (vp_in_nI (by omega) (by omega)) (v := a + 2 + i) (oref_nI (by omega) (by omega)) dX1_rust_16 ?_
    refine lv_iconst (v := 0) hx hb dX1_rust_17 (by decide) ?_
    refine r_iald M w 0 (2 + i) rfl (stg_sq G a nh nm g (by omega)) (pk_in 0 2 (by decide)) (v := g (2 * i)) rfl dX1_rust_18 ?_
    refine lv_iadd hx hb dX1_rust_19 ?_
    refine lv_istore_n (lv' := [(1, .int ((lp (fun q x => x + g (2 * q)) i 0) + (g (2 * i)))), (0, .ref a), (2, .int (nI i))]) hx hb dX1_rust_20 rfl hl (by decide) rfl (fun ls hl => ?_)
    refine lv_iinc (k := 2) (v := nI (i + 1)) (lv' := [(2, .int (nI (i + 1))), (1, .int ((lp (fun q x => x + g (2 * q)) i 0) + (g (2 * i)))), (0, .ref a)]) hx hb dX1_rust_21 hl rfl (nI_inc i) (by decide) rfl (fun ls hl => ?_)
    refine lv_goto (tgt := 4) hx hb dX1_rust_24 (by decide) ?_
    exact ih _ _ _ ⟨w, lv_sub hl [2, 1, 0] rfl⟩
set_option maxHeartbeats 4000000 in
set_option maxRecDepth 100000 in
theorem st_loudness (l : Launch) (G : tG) (a nh nm : Nat) (g : Nat → Int32) (hn : nh ≤ 6) (hm : nm ≤ 4) : tv_I l yX1_loudness cX1_loudness 3 (some .int) (tv_rm 0 0) G [.ref a] (stg G a nh nm g) (sLo g nm) (stg G a nh nm g) := by
  refine tv_I.st (S := [stg G a nh nm g]) (S' := [stg G a nh nm g]) sg_one sg_one (by decide) (Nat.le_of_ble_eq_true rfl) ?_
  intro p e s m below meth c A M hr w ls hl
  have hx := M.1.1
  have hb := M.1.2.1
  have hl : lv_has ls 3 [(0, .ref a)] := hl
  refine lv_iconst (v := 0) hx hb dX1_loudness_0 (by decide) ?_
  refine lv_istore_n (lv' := [(1, .int 0), (0, .ref a)]) hx hb dX1_loudness_1 rfl hl (by decide) rfl (fun ls hl => ?_)
  refine lv_iconst (v := 0) hx hb dX1_loudness_2 (by decide) ?_
  refine lv_istore_n (lv' := [(2, .int 0), (1, .int 0), (0, .ref a)]) hx hb dX1_loudness_3 rfl hl (by decide) rfl (fun ls hl => ?_)
  refine w_for (pc := 4) (fun i H locs ls => tv_W G A s [stg G a nh nm g] H locs ∧ lv_has ls 3 [(0, .ref a), (1, .int (lp (fun m x => x + g (30 + 2 * m)) i 0)), (2, .int (nI i))]) nm (fun H locs ls hI => ?_) (fun i hi H locs ls hI ih => ?_) 0 (Nat.zero_le _) _ _ _ ⟨w, lv_sub hl [2, 1, 0] rfl⟩
  · skip
    obtain ⟨w, hl⟩ := hI
    refine lv_iload_n hx hb dX1_loudness_4 rfl (lv_at hl 2 rfl) ?_
    refine lv_aload_n hx hb dX1_loudness_5 rfl (lv_at hl 0 rfl) ?_
    refine r_get M w tc1 0 0 4 rfl rfl (by decide) q139 rfl rfl dX1_loudness_6 ?_
    refine lv_icmp_ge (tgt := 29) hx hb dX1_loudness_9 (by decide) (fun _ => ?_) (fun hc => absurd (nI_le (a := _) (b := nm) (by omega) (by omega)) hc)
    refine lv_iload_n hx hb dX1_loudness_29 rfl (lv_at hl 1 rfl) ?_
    exact tv_iret M w hr rfl dX1_loudness_30
  · skip
    obtain ⟨w, hl⟩ := hI
    refine lv_iload_n hx hb dX1_loudness_4 rfl (lv_at hl 2 rfl) ?_
    refine lv_aload_n hx hb dX1_loudness_5 rfl (lv_at hl 0 rfl) ?_
    refine r_get M w tc1 0 0 4 rfl rfl (by decide) q139 rfl rfl dX1_loudness_6 ?_
    refine lv_icmp_ge (tgt := 29) hx hb dX1_loudness_9 (by decide) (fun hc => absurd hc (nI_ge (a := i) (b := _) (by omega) (by omega))) (fun _ => ?_)
    refine lv_iload_n hx hb dX1_loudness_12 rfl (lv_at hl 1 rfl) ?_
    refine lv_aload_n hx hb dX1_loudness_13 rfl (lv_at hl 0 rfl) ?_
    refine r_get M w tc1 0 0 2 rfl rfl (by decide) q133 rfl rfl dX1_loudness_14 ?_
    refine lv_iload_n hx hb dX1_loudness_17 rfl (lv_at hl 2 rfl) ?_
    refine r_aald M w 0 15 4 rfl rfl rfl rfl (vp_in_nI (by omega) (by omega)) (v := a + 16 + i) (oref_nI (by omega) (by omega)) dX1_loudness_18 ?_
    refine lv_iconst (v := 0) hx hb dX1_loudness_19 (by decide) ?_
    refine r_iald M w 0 (16 + i) rfl (stg_mi G a nh nm g (by omega)) (pk_in 0 2 (by decide)) (v := g (30 + 2 * i)) rfl dX1_loudness_20 ?_
    refine lv_iadd hx hb dX1_loudness_21 ?_
    refine lv_istore_n (lv' := [(1, .int ((lp (fun m x => x + g (30 + 2 * m)) i 0) + (g (30 + 2 * i)))), (0, .ref a), (2, .int (nI i))]) hx hb dX1_loudness_22 rfl hl (by decide) rfl (fun ls hl => ?_)
    refine lv_iinc (k := 2) (v := nI (i + 1)) (lv' := [(2, .int (nI (i + 1))), (1, .int ((lp (fun m x => x + g (30 + 2 * m)) i 0) + (g (30 + 2 * i)))), (0, .ref a)]) hx hb dX1_loudness_23 hl rfl (nI_inc i) (by decide) rfl (fun ls hl => ?_)
    refine lv_goto (tgt := 4) hx hb dX1_loudness_26 (by decide) ?_
    exact ih _ _ _ ⟨w, lv_sub hl [2, 1, 0] rfl⟩
