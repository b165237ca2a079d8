/-! the reference: small methods -/
set_option maxHeartbeats 4000000 in
set_option maxRecDepth 100000 in
theorem md_in (l : Launch) (G : tG) (x lo hi : Int64) : tv_I l yX4_in cX4_in 6 (some .boolean) (tv_rm 0 0) G [.long x, .long lo, .long hi] [] (inL x lo hi) [] := by
  refine tv_I.st (S := []) (S' := []) rfl rfl (by decide) (Nat.le_of_ble_eq_true rfl) ?_
  intro p e s m below meth c A M hr w ls hl
  have hx := M.1.1
  have hb := M.1.2.1
  have hl : lv_has ls 6 [(0, .long x), (2, .long lo), (4, .long hi)] := hl
  refine lv_lload_n hx hb dX4_in_0 rfl (lv_at hl 0 rfl) ?_
  refine lv_lload_n hx hb dX4_in_1 rfl (lv_at hl 1 rfl) ?_
  refine W.lcmp hx hb dX4_in_2 ?_
  refine w_cut (g2 := F0 m 18 ls [.int (if (lg_cmp x lo) < 0 then (0 : Int32) else (if 0 < (lg_cmp x hi) then (0 : Int32) else (1 : Int32)))]) (fun jn => ?_) ?_
  · skip
    refine lv_if_lt (tgt := 17) hx hb dX4_in_3 (by decide) (fun c1 => ?_) (fun c1 => ?_)
    · skip
      refine lv_iconst (v := 0) hx hb dX4_in_17 (by decide) ?_
      exact w_topi (if_pos c1) jn
    · skip
      refine lv_lload_n hx hb dX4_in_6 rfl (lv_at hl 0 rfl) ?_
      refine lv_lload hx hb dX4_in_7 (lv_at hl 2 rfl) ?_
      refine W.lcmp hx hb dX4_in_9 ?_
      refine lv_if_gt (tgt := 17) hx hb dX4_in_10 (by decide) (fun c2 => ?_) (fun c2 => ?_)
      · skip
        refine lv_iconst (v := 0) hx hb dX4_in_17 (by decide) ?_
        exact w_topi ((if_neg c1).trans (if_pos c2)) jn
      · skip
        refine lv_iconst (v := 1) hx hb dX4_in_13 (by decide) ?_
        refine lv_goto (tgt := 18) hx hb dX4_in_14 (by decide) ?_
        exact w_topi ((if_neg c1).trans (if_neg c2)) jn
  exact tv_zret M w hr inL_nar rfl dX4_in_18
def sp_md_flag (v : Int32) : Int32 := if v = 0 then (0 : Int32) else (1 : Int32)
set_option maxHeartbeats 4000000 in
set_option maxRecDepth 100000 in
theorem md_flag (l : Launch) (G : tG) (v : Int32) : tv_I l yX4_flag cX4_flag 1 (some .int) (tv_rm 0 0) G [.int v] [] (sp_md_flag v) [] := by
  refine tv_I.st (S := []) (S' := []) rfl rfl (by decide) (Nat.le_of_ble_eq_true rfl) ?_
  intro p e s m below meth c A M hr w ls hl
  have hx := M.1.1
  have hb := M.1.2.1
  have hl : lv_has ls 1 [(0, .int v)] := hl
  refine lv_iload_n hx hb dX4_flag_0 rfl (lv_at hl 0 rfl) ?_
  refine w_cut (g2 := F0 m 9 ls [.int (if v = 0 then (0 : Int32) else (1 : Int32))]) (fun jn => ?_) ?_
  · skip
    refine lv_if_eq (tgt := 8) hx hb dX4_flag_1 (by decide) (fun c1 => ?_) (fun c1 => ?_)
    · skip
      refine lv_iconst (v := 0) hx hb dX4_flag_8 (by decide) ?_
      exact w_topi (if_pos c1) jn
    · skip
      refine lv_iconst (v := 1) hx hb dX4_flag_4 (by decide) ?_
      refine lv_goto (tgt := 9) hx hb dX4_flag_5 (by decide) ?_
      exact w_topi (if_neg c1) jn
  exact tv_iret M w hr rfl dX4_flag_9
def sp_md_lesser (v : Int32) (w_ : Int32) : Int32 := if w_ ≤ v then w_ else v
set_option maxHeartbeats 4000000 in
set_option maxRecDepth 100000 in
theorem md_lesser (l : Launch) (G : tG) (v : Int32) (w_ : Int32) : tv_I l yX4_lesser cX4_lesser 2 (some .int) (tv_rm 0 0) G [.int v, .int w_] [] (sp_md_lesser v w_) [] := by
  refine tv_I.st (S := []) (S' := []) rfl rfl (by decide) (Nat.le_of_ble_eq_true rfl) ?_
  intro p e s m below meth c A M hr w ls hl
  have hx := M.1.1
  have hb := M.1.2.1
  have hl : lv_has ls 2 [(0, .int v), (1, .int w_)] := hl
  refine lv_iload_n hx hb dX4_lesser_0 rfl (lv_at hl 0 rfl) ?_
  refine lv_iload_n hx hb dX4_lesser_1 rfl (lv_at hl 1 rfl) ?_
  refine w_cut (g2 := F0 m 10 ls [.int (if w_ ≤ v then w_ else v)]) (fun jn => ?_) ?_
  · skip
    refine lv_icmp_ge (tgt := 9) hx hb dX4_lesser_2 (by decide) (fun c1 => ?_) (fun c1 => ?_)
    · skip
      refine lv_iload_n hx hb dX4_lesser_9 rfl (lv_at hl 1 rfl) ?_
      exact w_topi (if_pos c1) jn
    · skip
      refine lv_iload_n hx hb dX4_lesser_5 rfl (lv_at hl 0 rfl) ?_
      refine lv_goto (tgt := 10) hx hb dX4_lesser_6 (by decide) ?_
      exact w_topi (if_neg c1) jn
  exact tv_iret M w hr rfl dX4_lesser_10
def sp_md_angered (k : Int32) (t : Int32) : Int32 := if k = 1 then (2 * t) else (if k = 2 then (t / 2) else (if k = 3 then ((t / 2) + 1) else t))
set_option maxHeartbeats 4000000 in
set_option maxRecDepth 100000 in
theorem md_angered (l : Launch) (G : tG) (k : Int32) (t : Int32) : tv_I l yX4_angered cX4_angered 3 (some .int) (tv_rm 0 0) G [.int k, .int t] [] (sp_md_angered k t) [] := by
  refine tv_I.st (S := []) (S' := []) rfl rfl (by decide) (Nat.le_of_ble_eq_true rfl) ?_
  intro p e s m below meth c A M hr w ls hl
  have hx := M.1.1
  have hb := M.1.2.1
  have hl : lv_has ls 3 [(0, .int k), (1, .int t)] := hl
  refine lv_iload_n hx hb dX4_angered_0 rfl (lv_at hl 1 rfl) ?_
  refine lv_iconst (v := 2) hx hb dX4_angered_1 (by decide) ?_
  refine lv_idiv hx hb dX4_angered_2 (by decide) ?_
  refine lv_istore_n (lv' := [(2, .int (t / 2)), (0, .int k), (1, .int t)]) hx hb dX4_angered_3 rfl hl (by decide) rfl (fun ls hl => ?_)
  refine lv_iload_n hx hb dX4_angered_4 rfl (lv_at hl 1 rfl) ?_
  refine lv_iconst (v := 1) hx hb dX4_angered_5 (by decide) ?_
  refine w_cut (g2 := F0 m 36 ls [.int (if k = 1 then (2 * t) else (if k = 2 then (t / 2) else (if k = 3 then ((t / 2) + 1) else t)))]) (fun jn => ?_) ?_
  · skip
    refine lv_icmp_ne (tgt := 15) hx hb dX4_angered_6 (by decide) (fun c1 => ?_) (fun c1 => ?_)
    · skip
      refine lv_iload_n hx hb dX4_angered_15 rfl (lv_at hl 1 rfl) ?_
      refine lv_iconst (v := 2) hx hb dX4_angered_16 (by decide) ?_
      refine lv_icmp_ne (tgt := 24) hx hb dX4_angered_17 (by decide) (fun c2 => ?_) (fun c2 => ?_)
      · skip
        refine lv_iload_n hx hb dX4_angered_24 rfl (lv_at hl 1 rfl) ?_
        refine lv_iconst (v := 3) hx hb dX4_angered_25 (by decide) ?_
        refine lv_icmp_ne (tgt := 35) hx hb dX4_angered_26 (by decide) (fun c3 => ?_) (fun c3 => ?_)
        · skip
          refine lv_iload_n hx hb dX4_angered_35 rfl (lv_at hl 2 rfl) ?_
          exact w_topi ((if_neg c1).trans ((if_neg c2).trans (if_neg c3))) jn
        · skip
          refine lv_iload_n hx hb dX4_angered_29 rfl (lv_at hl 0 rfl) ?_
          refine lv_iconst (v := 1) hx hb dX4_angered_30 (by decide) ?_
          refine lv_iadd hx hb dX4_angered_31 ?_
          refine lv_goto (tgt := 36) hx hb dX4_angered_32 (by decide) ?_
          exact w_topi ((if_neg c1).trans ((if_neg c2).trans (if_pos c3))) jn
      · skip
        refine lv_iload_n hx hb dX4_angered_20 rfl (lv_at hl 0 rfl) ?_
        refine lv_goto (tgt := 36) hx hb dX4_angered_21 (by decide) ?_
        exact w_topi ((if_neg c1).trans (if_pos c2)) jn
    · skip
      refine lv_iconst (v := 2) hx hb dX4_angered_9 (by decide) ?_
      refine lv_iload_n hx hb dX4_angered_10 rfl (lv_at hl 2 rfl) ?_
      refine lv_imul hx hb dX4_angered_11 ?_
      refine lv_goto (tgt := 36) hx hb dX4_angered_12 (by decide) ?_
      exact w_topi (if_pos c1) jn
  exact tv_iret M w hr rfl dX4_angered_36
set_option maxHeartbeats 4000000 in
set_option maxRecDepth 100000 in
theorem md_isSquare (l : Launch) (G : tG) (x : Int32) : tv_I l yX4_isSquare cX4_isSquare 1 (some .boolean) (tv_rm 1 25) G [.int x] [] (inL x.toInt64 (0 : Int64) (5 : Int64)) [] := by
  refine tv_I.st (S := []) (S' := []) rfl rfl (by decide) (Nat.le_of_ble_eq_true rfl) ?_
  intro p e s m below meth c A M hr w ls hl
  have hx := M.1.1
  have hb := M.1.2.1
  have hl : lv_has ls 1 [(0, .int x)] := hl
  refine lv_iload_n hx hb dX4_isSquare_0 rfl (lv_at hl 0 rfl) ?_
  refine lv_i2l (v := x.toInt64) hx hb dX4_isSquare_1 rfl ?_
  refine lv_lconst (v := 0) hx hb dX4_isSquare_2 (by decide) ?_
  refine lv_ldc2 (v := 5) hx hb M.1.2.2.2.1 (M.1.2.2.2.2 _ q1128) dX4_isSquare_3 ?_
  refine c_iS M w (S' := []) tv_in.nil (md_in l G x.toInt64 (0 : Int64) (5 : Int64)) q1023 q1024 q72 q1025 nm_yX4_in ⟨Nat.le_of_ble_eq_true rfl, Nat.le_of_ble_eq_true rfl⟩ rfl hl.1 (rest := []) rfl (Nat.le_of_ble_eq_true rfl) dX4_isSquare_6 ⟨Nat.zero_le _, Nat.zero_le _⟩ (fun H locs w => ?_)
  exact tv_zret M w hr inL_nar rfl dX4_isSquare_9
set_option maxHeartbeats 4000000 in
set_option maxRecDepth 100000 in
theorem md_isFar (l : Launch) (G : tG) (x : Int32) : tv_I l yX4_isFar cX4_isFar 1 (some .boolean) (tv_rm 1 25) G [.int x] [] (inL x.toInt64 (0 : Int64) (60 : Int64)) [] := by
  refine tv_I.st (S := []) (S' := []) rfl rfl (by decide) (Nat.le_of_ble_eq_true rfl) ?_
  intro p e s m below meth c A M hr w ls hl
  have hx := M.1.1
  have hb := M.1.2.1
  have hl : lv_has ls 1 [(0, .int x)] := hl
  refine lv_iload_n hx hb dX4_isFar_0 rfl (lv_at hl 0 rfl) ?_
  refine lv_i2l (v := x.toInt64) hx hb dX4_isFar_1 rfl ?_
  refine lv_lconst (v := 0) hx hb dX4_isFar_2 (by decide) ?_
  refine lv_ldc2 (v := 60) hx hb M.1.2.2.2.1 (M.1.2.2.2.2 _ q1223) dX4_isFar_3 ?_
  refine c_iS M w (S' := []) tv_in.nil (md_in l G x.toInt64 (0 : Int64) (60 : Int64)) q1023 q1024 q72 q1025 nm_yX4_in ⟨Nat.le_of_ble_eq_true rfl, Nat.le_of_ble_eq_true rfl⟩ rfl hl.1 (rest := []) rfl (Nat.le_of_ble_eq_true rfl) dX4_isFar_6 ⟨Nat.zero_le _, Nat.zero_le _⟩ (fun H locs w => ?_)
  exact tv_zret M w hr inL_nar rfl dX4_isFar_9
set_option maxHeartbeats 4000000 in
set_option maxRecDepth 100000 in
theorem md_isPart (l : Launch) (G : tG) (x : Int32) : tv_I l yX4_isPart cX4_isPart 1 (some .boolean) (tv_rm 1 25) G [.int x] [] (inL x.toInt64 (0 : Int64) (1 : Int64)) [] := by
  refine tv_I.st (S := []) (S' := []) rfl rfl (by decide) (Nat.le_of_ble_eq_true rfl) ?_
  intro p e s m below meth c A M hr w ls hl
  have hx := M.1.1
  have hb := M.1.2.1
  have hl : lv_has ls 1 [(0, .int x)] := hl
  refine lv_iload_n hx hb dX4_isPart_0 rfl (lv_at hl 0 rfl) ?_
  refine lv_i2l (v := x.toInt64) hx hb dX4_isPart_1 rfl ?_
  refine lv_lconst (v := 0) hx hb dX4_isPart_2 (by decide) ?_
  refine lv_lconst (v := 1) hx hb dX4_isPart_3 (by decide) ?_
  refine c_iS M w (S' := []) tv_in.nil (md_in l G x.toInt64 (0 : Int64) (1 : Int64)) q1023 q1024 q72 q1025 nm_yX4_in ⟨Nat.le_of_ble_eq_true rfl, Nat.le_of_ble_eq_true rfl⟩ rfl hl.1 (rest := []) rfl (Nat.le_of_ble_eq_true rfl) dX4_isPart_4 ⟨Nat.zero_le _, Nat.zero_le _⟩ (fun H locs w => ?_)
  exact tv_zret M w hr inL_nar rfl dX4_isPart_7
def sp_md_isHand (nh : Nat) (h : Int32) : Int32 := inL h.toInt64 (0 : Int64) (((nI nh) - 1).toInt64)
set_option maxHeartbeats 4000000 in
set_option maxRecDepth 100000 in
theorem md_isHand (l : Launch) (G : tG) (d : Nat) (nh : Nat) (nm : Nat) (y : Nat → Int32) (z : Nat → Int64) (st : Nat → Int32) (nw : Nat → Int32) (ik : Nat → Int32) (dr : Nat → Int32) (tq : Nat → Int32) (dn : Nat → Int32) (db : Nat → Int32) (la : Nat → Int32) (si : Nat → Int32) (ce : Nat → Int32) (be : Nat → Int32) (h : Int32) (hn : nh ≤ 6) (hm : nm ≤ 4) : tv_I l yX4_isHand cX4_isHand 2 (some .boolean) (tv_rm 1 25) G [.ref d, .int h] (mds G d nh nm y z st nw ik dr tq dn db la si ce be).flatten (sp_md_isHand nh h) (mds G d nh nm y z st nw ik dr tq dn db la si ce be).flatten := by
  refine tv_I.st (S := (mds G d nh nm y z st nw ik dr tq dn db la si ce be)) (S' := (mds G d nh nm y z st nw ik dr tq dn db la si ce be)) rfl rfl (by decide) (Nat.le_of_ble_eq_true rfl) ?_
  intro p e s m below meth c A M hr w ls hl
  have hx := M.1.1
  have hb := M.1.2.1
  have hl : lv_has ls 2 [(0, .ref d), (1, .int h)] := hl
  refine lv_iload_n hx hb dX4_isHand_0 rfl (lv_at hl 1 rfl) ?_
  refine lv_i2l (v := h.toInt64) hx hb dX4_isHand_1 rfl ?_
  refine lv_lconst (v := 0) hx hb dX4_isHand_2 (by decide) ?_
  refine lv_aload_n hx hb dX4_isHand_3 rfl (lv_at hl 0 rfl) ?_
  refine r_get M w tc4 0 0 3 rfl rfl (by decide) q923 rfl rfl dX4_isHand_4 ?_
  refine lv_iconst (v := 1) hx hb dX4_isHand_7 (by decide) ?_
  refine lv_isub hx hb dX4_isHand_8 ?_
  refine lv_i2l (v := ((nI nh) - 1).toInt64) hx hb dX4_isHand_9 rfl ?_
  refine c_iS M w (S' := (mds G d nh nm y z st nw ik dr tq dn db la si ce be)) tv_in.nil (md_in l G h.toInt64 (0 : Int64) (((nI nh) - 1).toInt64)) q1023 q1024 q72 q1025 nm_yX4_in ⟨Nat.le_of_ble_eq_true rfl, Nat.le_of_ble_eq_true rfl⟩ rfl hl.1 (rest := []) rfl (Nat.le_of_ble_eq_true rfl) dX4_isHand_10 ⟨Nat.zero_le _, Nat.zero_le _⟩ (fun H locs w => ?_)
  exact tv_zret M w hr inL_nar rfl dX4_isHand_13
def sp_md_isMinister (nm : Nat) (h : Int32) : Int32 := inL h.toInt64 (0 : Int64) (((nI nm) - 1).toInt64)
set_option maxHeartbeats 4000000 in
set_option maxRecDepth 100000 in
theorem md_isMinister (l : Launch) (G : tG) (d : Nat) (nh : Nat) (nm : Nat) (y : Nat → Int32) (z : Nat → Int64) (st : Nat → Int32) (nw : Nat → Int32) (ik : Nat → Int32) (dr : Nat → Int32) (tq : Nat → Int32) (dn : Nat → Int32) (db : Nat → Int32) (la : Nat → Int32) (si : Nat → Int32) (ce : Nat → Int32) (be : Nat → Int32) (h : Int32) (hn : nh ≤ 6) (hm : nm ≤ 4) : tv_I l yX4_isMinister cX4_isMinister 2 (some .boolean) (tv_rm 1 25) G [.ref d, .int h] (mds G d nh nm y z st nw ik dr tq dn db la si ce be).flatten (sp_md_isMinister nm h) (mds G d nh nm y z st nw ik dr tq dn db la si ce be).flatten := by
  refine tv_I.st (S := (mds G d nh nm y z st nw ik dr tq dn db la si ce be)) (S' := (mds G d nh nm y z st nw ik dr tq dn db la si ce be)) rfl rfl (by decide) (Nat.le_of_ble_eq_true rfl) ?_
  intro p e s m below meth c A M hr w ls hl
  have hx := M.1.1
  have hb := M.1.2.1
  have hl : lv_has ls 2 [(0, .ref d), (1, .int h)] := hl
  refine lv_iload_n hx hb dX4_isMinister_0 rfl (lv_at hl 1 rfl) ?_
  refine lv_i2l (v := h.toInt64) hx hb dX4_isMinister_1 rfl ?_
  refine lv_lconst (v := 0) hx hb dX4_isMinister_2 (by decide) ?_
  refine lv_aload_n hx hb dX4_isMinister_3 rfl (lv_at hl 0 rfl) ?_
  refine r_get M w tc4 0 0 4 rfl rfl (by decide) q924 rfl rfl dX4_isMinister_4 ?_
  refine lv_iconst (v := 1) hx hb dX4_isMinister_7 (by decide) ?_
  refine lv_isub hx hb dX4_isMinister_8 ?_
  refine lv_i2l (v := ((nI nm) - 1).toInt64) hx hb dX4_isMinister_9 rfl ?_
  refine c_iS M w (S' := (mds G d nh nm y z st nw ik dr tq dn db la si ce be)) tv_in.nil (md_in l G h.toInt64 (0 : Int64) (((nI nm) - 1).toInt64)) q1023 q1024 q72 q1025 nm_yX4_in ⟨Nat.le_of_ble_eq_true rfl, Nat.le_of_ble_eq_true rfl⟩ rfl hl.1 (rest := []) rfl (Nat.le_of_ble_eq_true rfl) dX4_isMinister_10 ⟨Nat.zero_le _, Nat.zero_le _⟩ (fun H locs w => ?_)
  exact tv_zret M w hr inL_nar rfl dX4_isMinister_13
def sp_md_of (nw : Nat → Int32) (h : Nat) (k : Nat) : Int32 := nw ((12 + (3 * h)) + k)
set_option maxHeartbeats 4000000 in
set_option maxRecDepth 100000 in
theorem md_of (l : Launch) (G : tG) (d : Nat) (nh : Nat) (nm : Nat) (y : Nat → Int32) (z : Nat → Int64) (st : Nat → Int32) (nw : Nat → Int32) (ik : Nat → Int32) (dr : Nat → Int32) (tq : Nat → Int32) (dn : Nat → Int32) (db : Nat → Int32) (la : Nat → Int32) (si : Nat → Int32) (ce : Nat → Int32) (be : Nat → Int32) (h : Nat) (k : Nat) (hh : h < 6) (hk : k < 3) : tv_I l yX4_of cX4_of 3 (some .int) (tv_rm 0 0) G [.ref d, .int (nI h), .int (nI k)] (mds G d nh nm y z st nw ik dr tq dn db la si ce be).flatten (sp_md_of nw h k) (mds G d nh nm y z st nw ik dr tq dn db la si ce be).flatten := by
  refine tv_I.st (S := (mds G d nh nm y z st nw ik dr tq dn db la si ce be)) (S' := (mds G d nh nm y z st nw ik dr tq dn db la si ce be)) rfl rfl (by decide) (Nat.le_of_ble_eq_true rfl) ?_
  intro p e s m below meth c A M hr w ls hl
  have hx := M.1.1
  have hb := M.1.2.1
  have hl : lv_has ls 3 [(0, .ref d), (1, .int (nI h)), (2, .int (nI k))] := hl
  refine lv_aload_n hx hb dX4_of_0 rfl (lv_at hl 0 rfl) ?_
  refine r_get M w tc4 0 0 1 rfl rfl (by decide) q921 rfl rfl dX4_of_1 ?_
  refine lv_bipush (v := 12) hx hb dX4_of_4 (by decide) ?_
  refine lv_iconst (v := 3) hx hb dX4_of_6 (by decide) ?_
  refine lv_iload_n hx hb dX4_of_7 rfl (lv_at hl 1 rfl) ?_
  refine lv_imul hx hb dX4_of_8 ?_
  refine w_topi (pk_mul 3 h).symm ?_
  refine lv_iadd hx hb dX4_of_9 ?_
  refine w_topi (nI_add 12 (3 * h)).symm ?_
  refine lv_iload_n hx hb dX4_of_10 rfl (lv_at hl 2 rfl) ?_
  refine lv_iadd hx hb dX4_of_11 ?_
  refine w_topi (nI_add (12 + (3 * h)) k).symm ?_
  refine r_iald M w 2 0 rfl rfl (vp_in_nI (by omega) (by omega)) (v := nw ((12 + (3 * h)) + k)) (fn_nI (by omega)) dX4_of_12 ?_
  exact tv_iret M w hr rfl dX4_of_13
def sp_md_becomesOf_nw (nw : Nat → Int32) (h : Nat) (k : Nat) (v : Int32) : Nat → Int32 := upd nw ((12 + (3 * h)) + k) v
set_option maxHeartbeats 4000000 in
set_option maxRecDepth 100000 in
theorem md_becomesOf (l : Launch) (G : tG) (d : Nat) (nh : Nat) (nm : Nat) (y : Nat → Int32) (z : Nat → Int64) (st : Nat → Int32) (nw : Nat → Int32) (ik : Nat → Int32) (dr : Nat → Int32) (tq : Nat → Int32) (dn : Nat → Int32) (db : Nat → Int32) (la : Nat → Int32) (si : Nat → Int32) (ce : Nat → Int32) (be : Nat → Int32) (h : Nat) (k : Nat) (v : Int32) (hh : h < 6) (hk : k < 3) : tv_V l yX4_becomesOf cX4_becomesOf 4 (tv_rm 0 0) G [.ref d, .int (nI h), .int (nI k), .int v] (mds G d nh nm y z st nw ik dr tq dn db la si ce be).flatten (mds G d nh nm y z st (sp_md_becomesOf_nw nw h k v) ik dr tq dn db la si ce be).flatten := by
  refine tv_V.st (S := (mds G d nh nm y z st nw ik dr tq dn db la si ce be)) (S' := (mds G d nh nm y z st (sp_md_becomesOf_nw nw h k v) ik dr tq dn db la si ce be)) rfl rfl (by decide) (Nat.le_of_ble_eq_true rfl) ?_
  intro p e s m below meth c A M hr w ls hl
  have hx := M.1.1
  have hb := M.1.2.1
  have hl : lv_has ls 4 [(0, .ref d), (1, .int (nI h)), (2, .int (nI k)), (3, .int v)] := hl
  refine lv_aload_n hx hb dX4_becomesOf_0 rfl (lv_at hl 0 rfl) ?_
  refine r_get M w tc4 0 0 1 rfl rfl (by decide) q921 rfl rfl dX4_becomesOf_1 ?_
  refine lv_bipush (v := 12) hx hb dX4_becomesOf_4 (by decide) ?_
  refine lv_iconst (v := 3) hx hb dX4_becomesOf_6 (by decide) ?_
  refine lv_iload_n hx hb dX4_becomesOf_7 rfl (lv_at hl 1 rfl) ?_
  refine lv_imul hx hb dX4_becomesOf_8 ?_
  refine w_topi (pk_mul 3 h).symm ?_
  refine lv_iadd hx hb dX4_becomesOf_9 ?_
  refine w_topi (nI_add 12 (3 * h)).symm ?_
  refine lv_iload_n hx hb dX4_becomesOf_10 rfl (lv_at hl 2 rfl) ?_
  refine lv_iadd hx hb dX4_becomesOf_11 ?_
  refine w_topi (nI_add (12 + (3 * h)) k).symm ?_
  refine lv_iload_n hx hb dX4_becomesOf_12 rfl (lv_at hl 3 rfl) ?_
  refine r_iast M w 2 0 rfl rfl (vp_in_nI (by omega) (by omega)) (S' := (mds G d nh nm y z st (upd nw ((12 + (3 * h)) + k) v) ik dr tq dn db la si ce be)) (congrArg (fun zz_ => List.set (mds G d nh nm y z st nw ik dr tq dn db la si ce be) 2 zz_) (congrArg (mda (G.2.1 0) (d + 2) 58) (up_nI (f := nw) (i := ((12 + (3 * h)) + k)) (x := v) (by omega)))) dX4_becomesOf_13 (fun H locs w => ?_)
  exact tv_vret M w hr dX4_becomesOf_14
def sp_md_ofMinister (nw : Nat → Int32) (u : Nat) (k : Nat) : Int32 := nw ((30 + (2 * u)) + k)
set_option maxHeartbeats 4000000 in
set_option maxRecDepth 100000 in
theorem md_ofMinister (l : Launch) (G : tG) (d : Nat) (nh : Nat) (nm : Nat) (y : Nat → Int32) (z : Nat → Int64) (st : Nat → Int32) (nw : Nat → Int32) (ik : Nat → Int32) (dr : Nat → Int32) (tq : Nat → Int32) (dn : Nat → Int32) (db : Nat → Int32) (la : Nat → Int32) (si : Nat → Int32) (ce : Nat → Int32) (be : Nat → Int32) (u : Nat) (k : Nat) (hu : u < 4) (hk : k < 2) : tv_I l yX4_ofMinister cX4_ofMinister 3 (some .int) (tv_rm 0 0) G [.ref d, .int (nI u), .int (nI k)] (mds G d nh nm y z st nw ik dr tq dn db la si ce be).flatten (sp_md_ofMinister nw u k) (mds G d nh nm y z st nw ik dr tq dn db la si ce be).flatten := by
  refine tv_I.st (S := (mds G d nh nm y z st nw ik dr tq dn db la si ce be)) (S' := (mds G d nh nm y z st nw ik dr tq dn db la si ce be)) rfl rfl (by decide) (Nat.le_of_ble_eq_true rfl) ?_
  intro p e s m below meth c A M hr w ls hl
  have hx := M.1.1
  have hb := M.1.2.1
  have hl : lv_has ls 3 [(0, .ref d), (1, .int (nI u)), (2, .int (nI k))] := hl
  refine lv_aload_n hx hb dX4_ofMinister_0 rfl (lv_at hl 0 rfl) ?_
  refine r_get M w tc4 0 0 1 rfl rfl (by decide) q921 rfl rfl dX4_ofMinister_1 ?_
  refine lv_bipush (v := 30) hx hb dX4_ofMinister_4 (by decide) ?_
  refine lv_iconst (v := 2) hx hb dX4_ofMinister_6 (by decide) ?_
  refine lv_iload_n hx hb dX4_ofMinister_7 rfl (lv_at hl 1 rfl) ?_
  refine lv_imul hx hb dX4_ofMinister_8 ?_
  refine w_topi (pk_mul 2 u).symm ?_
  refine lv_iadd hx hb dX4_ofMinister_9 ?_
  refine w_topi (nI_add 30 (2 * u)).symm ?_
  refine lv_iload_n hx hb dX4_ofMinister_10 rfl (lv_at hl 2 rfl) ?_
  refine lv_iadd hx hb dX4_ofMinister_11 ?_
  refine w_topi (nI_add (30 + (2 * u)) k).symm ?_
  refine r_iald M w 2 0 rfl rfl (vp_in_nI (by omega) (by omega)) (v := nw ((30 + (2 * u)) + k)) (fn_nI (by omega)) dX4_ofMinister_12 ?_
  exact tv_iret M w hr rfl dX4_ofMinister_13
def sp_md_stepsTo_nw (nw : Nat → Int32) (u : Nat) (v : Int32) : Nat → Int32 := upd nw ((30 + (2 * u)) + 1) v
set_option maxHeartbeats 4000000 in
set_option maxRecDepth 100000 in
theorem md_stepsTo (l : Launch) (G : tG) (d : Nat) (nh : Nat) (nm : Nat) (y : Nat → Int32) (z : Nat → Int64) (st : Nat → Int32) (nw : Nat → Int32) (ik : Nat → Int32) (dr : Nat → Int32) (tq : Nat → Int32) (dn : Nat → Int32) (db : Nat → Int32) (la : Nat → Int32) (si : Nat → Int32) (ce : Nat → Int32) (be : Nat → Int32) (u : Nat) (v : Int32) (hu : u < 4) : tv_V l yX4_stepsTo cX4_stepsTo 3 (tv_rm 0 0) G [.ref d, .int (nI u), .int v] (mds G d nh nm y z st nw ik dr tq dn db la si ce be).flatten (mds G d nh nm y z st (sp_md_stepsTo_nw nw u v) ik dr tq dn db la si ce be).flatten := by
  refine tv_V.st (S := (mds G d nh nm y z st nw ik dr tq dn db la si ce be)) (S' := (mds G d nh nm y z st (sp_md_stepsTo_nw nw u v) ik dr tq dn db la si ce be)) rfl rfl (by decide) (Nat.le_of_ble_eq_true rfl) ?_
  intro p e s m below meth c A M hr w ls hl
  have hx := M.1.1
  have hb := M.1.2.1
  have hl : lv_has ls 3 [(0, .ref d), (1, .int (nI u)), (2, .int v)] := hl
  refine lv_aload_n hx hb dX4_stepsTo_0 rfl (lv_at hl 0 rfl) ?_
  refine r_get M w tc4 0 0 1 rfl rfl (by decide) q921 rfl rfl dX4_stepsTo_1 ?_
  refine lv_bipush (v := 30) hx hb dX4_stepsTo_4 (by decide) ?_
  refine lv_iconst (v := 2) hx hb dX4_stepsTo_6 (by decide) ?_
  refine lv_iload_n hx hb dX4_stepsTo_7 rfl (lv_at hl 1 rfl) ?_
  refine lv_imul hx hb dX4_stepsTo_8 ?_
  refine w_topi (pk_mul 2 u).symm ?_
  refine lv_iadd hx hb dX4_stepsTo_9 ?_
  refine w_topi (nI_add 30 (2 * u)).symm ?_
  refine lv_iconst (v := 1) hx hb dX4_stepsTo_10 (by decide) ?_
  refine lv_iadd hx hb dX4_stepsTo_11 ?_
  refine w_topi (nI_add (30 + (2 * u)) 1).symm ?_
  refine lv_iload_n hx hb dX4_stepsTo_12 rfl (lv_at hl 2 rfl) ?_
  refine r_iast M w 2 0 rfl rfl (vp_in_nI (by omega) (by omega)) (S' := (mds G d nh nm y z st (upd nw ((30 + (2 * u)) + 1) v) ik dr tq dn db la si ce be)) (congrArg (fun zz_ => List.set (mds G d nh nm y z st nw ik dr tq dn db la si ce be) 2 zz_) (congrArg (mda (G.2.1 0) (d + 2) 58) (up_nI (f := nw) (i := ((30 + (2 * u)) + 1)) (x := v) (by omega)))) dX4_stepsTo_13 (fun H locs w => ?_)
  exact tv_vret M w hr dX4_stepsTo_14
def sp_md_isDown (nw : Nat → Int32) (u : Nat) : Int32 := if (sp_md_ofMinister nw u 1) = (-4) then (1 : Int32) else (0 : Int32)
set_option maxHeartbeats 4000000 in
set_option maxRecDepth 100000 in
theorem md_isDown (l : Launch) (G : tG) (d : Nat) (nh : Nat) (nm : Nat) (y : Nat → Int32) (z : Nat → Int64) (st : Nat → Int32) (nw : Nat → Int32) (ik : Nat → Int32) (dr : Nat → Int32) (tq : Nat → Int32) (dn : Nat → Int32) (db : Nat → Int32) (la : Nat → Int32) (si : Nat → Int32) (ce : Nat → Int32) (be : Nat → Int32) (u : Nat) (hu : u < 4) : tv_I l yX4_isDown cX4_isDown 2 (some .boolean) (tv_rm 1 22) G [.ref d, .int (nI u)] (mds G d nh nm y z st nw ik dr tq dn db la si ce be).flatten (sp_md_isDown nw u) (mds G d nh nm y z st nw ik dr tq dn db la si ce be).flatten := by
  refine tv_I.st (S := (mds G d nh nm y z st nw ik dr tq dn db la si ce be)) (S' := (mds G d nh nm y z st nw ik dr tq dn db la si ce be)) rfl rfl (by decide) (Nat.le_of_ble_eq_true rfl) ?_
  intro p e s m below meth c A M hr w ls hl
  have hx := M.1.1
  have hb := M.1.2.1
  have hl : lv_has ls 2 [(0, .ref d), (1, .int (nI u))] := hl
  refine lv_aload_n hx hb dX4_isDown_0 rfl (lv_at hl 0 rfl) ?_
  refine lv_iload_n hx hb dX4_isDown_1 rfl (lv_at hl 1 rfl) ?_
  refine lv_iconst (v := 1) hx hb dX4_isDown_2 (by decide) ?_
  refine c_iV M w (S' := (mds G d nh nm y z st nw ik dr tq dn db la si ce be)) tv_in.all (md_ofMinister l G d nh nm y z st nw ik dr tq dn db la si ce be u 1 (by omega) (by omega)) (q0 := 0) tc4 rfl q1113 q1115 qs44 q72 q1116 nm_yX4_ofMinister ⟨Nat.le_of_ble_eq_true rfl, Nat.le_of_ble_eq_true rfl⟩ rfl hl.1 (rest := []) rfl (Nat.le_of_ble_eq_true rfl) dX4_isDown_3 ⟨Nat.zero_le _, Nat.zero_le _⟩ (fun H locs w => ?_)
  refine lv_bipush (v := -4) hx hb dX4_isDown_6 (by decide) ?_
  refine w_cut (g2 := F0 m 16 ls [.int (if (sp_md_ofMinister nw u 1) = (-4) then (1 : Int32) else (0 : Int32))]) (fun jn => ?_) ?_
  · skip
    refine lv_icmp_ne (tgt := 15) hx hb dX4_isDown_8 (by decide) (fun c1 => ?_) (fun c1 => ?_)
    · skip
      refine lv_iconst (v := 0) hx hb dX4_isDown_15 (by decide) ?_
      exact w_topi (if_neg c1) jn
    · skip
      refine lv_iconst (v := 1) hx hb dX4_isDown_11 (by decide) ?_
      refine lv_goto (tgt := 16) hx hb dX4_isDown_12 (by decide) ?_
      exact w_topi (if_pos c1) jn
  exact tv_zret M w hr (ite_nar rfl rfl) rfl dX4_isDown_16
