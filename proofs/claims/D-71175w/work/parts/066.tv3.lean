/-! TrapdoorVotes: tape, what was seen, the least -/
theorem vp_ne {x : Int32} {k : Nat} (h : vp_in x (k + 1)) (c : ¬ x = nI k) (hk : k < 2 ^ 30) : vp_in x k := by
  obtain ⟨j, hj, rfl⟩ := vp_in_of h (by omega)
  refine vp_in_nI (Nat.lt_of_le_of_ne (by omega) (fun e => c (by rw [e]))) (by omega)
def sp_tv_feed (x : Nat → Int32) (cc : Int32) : Int32 := if (inL cc.toInt64 (0 : Int64) (127 : Int64)) = 0 then (-1) else (if (x 1) = 160 then (-3) else ((x 1) + 1))
def sp_tv_feed_x (x : Nat → Int32) (cc : Int32) : Nat → Int32 := if (inL cc.toInt64 (0 : Int64) (127 : Int64)) = 0 then x else (if (x 1) = 160 then x else (upd x 1 ((x 1) + 1)))
def sp_tv_feed_tp (x : Nat → Int32) (tp : Nat → Int32) (cc : Int32) : Nat → Int32 := if (inL cc.toInt64 (0 : Int64) (127 : Int64)) = 0 then tp else (if (x 1) = 160 then tp else (upd tp ((x 1).toNatClampNeg) (vp_nar .byte cc.toInt8.toInt32)))
set_option maxHeartbeats 4000000 in
set_option maxRecDepth 100000 in
theorem tv_feed (l : Launch) (G : tG) (b : Nat) (x : Nat → Int32) (tp : Nat → Int32) (n1 : Nat) (m1 : Nat) (g1 : Nat → Int32) (n2 : Nat) (m2 : Nat) (g2 : Nat → Int32) (n3 : Nat) (m3 : Nat) (g3 : Nat → Int32) (se : Nat → Int32) (bs : Nat → Int32) (y0 : Nat → Int32) (n4 : Nat) (m4 : Nat) (g4 : Nat → Int32) (e0 : Nat → Int32) (y1 : Nat → Int32) (n5 : Nat) (m5 : Nat) (g5 : Nat → Int32) (e1 : Nat → Int32) (n6 : Nat) (m6 : Nat) (g6 : Nat → Int32) (Z : List va_W) (cc : Int32) (ht : vp_in (x 1) 161) : tv_I l yX0_feed cX0_feed 2 (some .int) (tv_rm 1 25) G [.ref b, .int cc] (tvs G b x tp n1 m1 g1 n2 m2 g2 n3 m3 g3 se bs y0 n4 m4 g4 e0 y1 n5 m5 g5 e1 n6 m6 g6 Z).flatten (sp_tv_feed x cc) (tvs G b (sp_tv_feed_x x cc) (sp_tv_feed_tp x tp cc) n1 m1 g1 n2 m2 g2 n3 m3 g3 se bs y0 n4 m4 g4 e0 y1 n5 m5 g5 e1 n6 m6 g6 Z).flatten := by
  refine tv_I.st (S := (tvs G b x tp n1 m1 g1 n2 m2 g2 n3 m3 g3 se bs y0 n4 m4 g4 e0 y1 n5 m5 g5 e1 n6 m6 g6 Z)) (S' := (tvs G b (sp_tv_feed_x x cc) (sp_tv_feed_tp x tp cc) n1 m1 g1 n2 m2 g2 n3 m3 g3 se bs y0 n4 m4 g4 e0 y1 n5 m5 g5 e1 n6 m6 g6 Z)) rfl rfl (by decide) (Nat.le_of_ble_eq_true rfl) ?_
  intro p e s m below meth c A M hr w ls hl
  have hx := M.1.1
  have hb := M.1.2.1
  have hl : lv_has ls 2 [(0, .ref b), (1, .int cc)] := hl
  refine lv_iload_n hx hb dX0_feed_0 rfl (lv_at hl 1 rfl) ?_
  refine lv_i2l (v := cc.toInt64) hx hb dX0_feed_1 rfl ?_
  refine lv_lconst (v := 0) hx hb dX0_feed_2 (by decide) ?_
  refine lv_ldc2 (v := 127) hx hb M.1.2.2.2.1 (M.1.2.2.2.2 _ q94) dX0_feed_3 ?_
  refine c_iS M w (S' := (tvs G b x tp n1 m1 g1 n2 m2 g2 n3 m3 g3 se bs y0 n4 m4 g4 e0 y1 n5 m5 g5 e1 n6 m6 g6 Z)) tv_in.nil (tv_isIn l G cc.toInt64 (0 : Int64) (127 : Int64)) q95 q96 q68 q97 nm_yX0_isIn ⟨Nat.le_of_ble_eq_true rfl, Nat.le_of_ble_eq_true rfl⟩ rfl hl.1 (rest := []) rfl (Nat.le_of_ble_eq_true rfl) dX0_feed_6 ⟨Nat.zero_le _, Nat.zero_le _⟩ (fun H locs w => ?_)
  refine lv_if_ne (tgt := 14) hx hb dX0_feed_9 (by decide) (fun c3 => ?_) (fun c3 => ?_)
  · skip
    refine lv_aload_n hx hb dX0_feed_14 rfl (lv_at hl 0 rfl) ?_
    refine r_get M w tc0 0 0 1 rfl rfl (by decide) q719 rfl rfl dX0_feed_15 ?_
    refine lv_sipush (v := 160) hx hb dX0_feed_18 (by decide) ?_
    refine lv_icmp_ne (tgt := 27) hx hb dX0_feed_21 (by decide) (fun c4 => ?_) (fun c4 => ?_)
    · skip
      refine lv_aload_n hx hb dX0_feed_27 rfl (lv_at hl 0 rfl) ?_
      refine r_get M w tc0 0 0 0 rfl rfl (by decide) q718 rfl rfl dX0_feed_28 ?_
      refine lv_aload_n hx hb dX0_feed_31 rfl (lv_at hl 0 rfl) ?_
      refine r_get M w tc0 0 0 1 rfl rfl (by decide) q719 rfl rfl dX0_feed_32 ?_
      refine lv_iload_n hx hb dX0_feed_35 rfl (lv_at hl 1 rfl) ?_
      refine lv_i2b (v := cc.toInt8.toInt32) hx hb dX0_feed_36 rfl ?_
      refine r_bast M w 1 0 rfl rfl (vp_w (vp_ne (k := 160) ht c4 (by omega)) (by omega)) (S' := (tvs G b x (upd tp ((x 1).toNatClampNeg) (vp_nar .byte cc.toInt8.toInt32)) n1 m1 g1 n2 m2 g2 n3 m3 g3 se bs y0 n4 m4 g4 e0 y1 n5 m5 g5 e1 n6 m6 g6 Z)) rfl dX0_feed_37 (fun H locs w => ?_)
      refine lv_aload_n hx hb dX0_feed_38 rfl (lv_at hl 0 rfl) ?_
      refine lv_dup hx hb dX0_feed_39 rfl ?_
      refine r_get M w tc0 0 0 1 rfl rfl (by decide) q719 rfl rfl dX0_feed_40 ?_
      refine lv_iconst (v := 1) hx hb dX0_feed_43 (by decide) ?_
      refine lv_iadd hx hb dX0_feed_44 ?_
      refine r_put M w tc0 0 0 1 rfl rfl (by decide) q719 rfl rfl rfl rfl (Nat.le_of_ble_eq_true rfl) (S' := (tvs G b (upd x 1 ((x 1) + 1)) (upd tp ((x 1).toNatClampNeg) (vp_nar .byte cc.toInt8.toInt32)) n1 m1 g1 n2 m2 g2 n3 m3 g3 se bs y0 n4 m4 g4 e0 y1 n5 m5 g5 e1 n6 m6 g6 Z)) rfl dX0_feed_45 (fun H locs w => ?_)
      refine lv_aload_n hx hb dX0_feed_48 rfl (lv_at hl 0 rfl) ?_
      refine r_get M w tc0 0 0 1 rfl rfl (by decide) q719 rfl rfl dX0_feed_49 ?_
      exact tv_iret M (by rw [show sp_tv_feed_x x cc = _ from (if_neg c3).trans (if_neg c4), show sp_tv_feed_tp x tp cc = _ from (if_neg c3).trans (if_neg c4)]; exact w) hr ((if_neg c3).trans (if_neg c4)).symm dX0_feed_52
    · skip
      refine lv_bipush (v := -3) hx hb dX0_feed_24 (by decide) ?_
      exact tv_iret M (by rw [show sp_tv_feed_x x cc = _ from (if_neg c3).trans (if_pos c4), show sp_tv_feed_tp x tp cc = _ from (if_neg c3).trans (if_pos c4)]; exact w) hr ((if_neg c3).trans (if_pos c4)).symm dX0_feed_26
  · skip
    refine lv_iconst (v := -1) hx hb dX0_feed_12 (by decide) ?_
    exact tv_iret M (by rw [show sp_tv_feed_x x cc = _ from if_pos c3, show sp_tv_feed_tp x tp cc = _ from if_pos c3]; exact w) hr (if_pos c3).symm dX0_feed_13
def sp_tv_see (x : Nat → Int32) (m1 : Nat) (n : Int32) (u : Int32) : Int32 := if (inL n.toInt64 (0 : Int64) (20 : Int64)) = 0 then (-1) else (if (isI u m1) = 0 then (-1) else (if (x 9) = 6 then (-3) else ((x 9) + 1)))
def sp_tv_see_x (x : Nat → Int32) (m1 : Nat) (n : Int32) (u : Int32) : Nat → Int32 := if (inL n.toInt64 (0 : Int64) (20 : Int64)) = 0 then x else (if (isI u m1) = 0 then x else (if (x 9) = 6 then x else (upd x 9 ((x 9) + 1))))
def sp_tv_see_se (x : Nat → Int32) (m1 : Nat) (se : Nat → Int32) (n : Int32) (u : Int32) (d : Int32) : Nat → Int32 := if (inL n.toInt64 (0 : Int64) (20 : Int64)) = 0 then se else (if (isI u m1) = 0 then se else (if (x 9) = 6 then se else (upd (upd (upd se (3 * ((x 9).toNatClampNeg)) n) (3 * ((x 9).toNatClampNeg) + 1) u) (3 * ((x 9).toNatClampNeg) + 2) (if d = 0 then (0 : Int32) else (1 : Int32)))))
set_option maxHeartbeats 4000000 in
set_option maxRecDepth 100000 in
theorem tv_see (l : Launch) (G : tG) (b : Nat) (x : Nat → Int32) (tp : Nat → Int32) (n1 : Nat) (m1 : Nat) (g1 : Nat → Int32) (n2 : Nat) (m2 : Nat) (g2 : Nat → Int32) (n3 : Nat) (m3 : Nat) (g3 : Nat → Int32) (se : Nat → Int32) (bs : Nat → Int32) (y0 : Nat → Int32) (n4 : Nat) (m4 : Nat) (g4 : Nat → Int32) (e0 : Nat → Int32) (y1 : Nat → Int32) (n5 : Nat) (m5 : Nat) (g5 : Nat → Int32) (e1 : Nat → Int32) (n6 : Nat) (m6 : Nat) (g6 : Nat → Int32) (Z : List va_W) (n : Int32) (u : Int32) (d : Int32) (hn : n1 ≤ 6) (hm : m1 ≤ 4) (hok : Sok g1) (hs : vp_in (x 9) 7) : tv_I l yX0_see cX0_see 4 (some .int) (tv_rm 2 46) G [.ref b, .int n, .int u, .int d] (tvs G b x tp n1 m1 g1 n2 m2 g2 n3 m3 g3 se bs y0 n4 m4 g4 e0 y1 n5 m5 g5 e1 n6 m6 g6 Z).flatten (sp_tv_see x m1 n u) (tvs G b (sp_tv_see_x x m1 n u) tp n1 m1 g1 n2 m2 g2 n3 m3 g3 (sp_tv_see_se x m1 se n u d) bs y0 n4 m4 g4 e0 y1 n5 m5 g5 e1 n6 m6 g6 Z).flatten := by
  refine tv_I.st (S := (tvs G b x tp n1 m1 g1 n2 m2 g2 n3 m3 g3 se bs y0 n4 m4 g4 e0 y1 n5 m5 g5 e1 n6 m6 g6 Z)) (S' := (tvs G b (sp_tv_see_x x m1 n u) tp n1 m1 g1 n2 m2 g2 n3 m3 g3 (sp_tv_see_se x m1 se n u d) bs y0 n4 m4 g4 e0 y1 n5 m5 g5 e1 n6 m6 g6 Z)) rfl rfl (by decide) (Nat.le_of_ble_eq_true rfl) ?_
  intro p e s m below meth c A M hr w ls hl
  have hx := M.1.1
  have hb := M.1.2.1
  have hl : lv_has ls 4 [(0, .ref b), (1, .int n), (2, .int u), (3, .int d)] := hl
  refine lv_iload_n hx hb dX0_see_0 rfl (lv_at hl 1 rfl) ?_
  refine lv_i2l (v := n.toInt64) hx hb dX0_see_1 rfl ?_
  refine lv_lconst (v := 0) hx hb dX0_see_2 (by decide) ?_
  refine lv_ldc2 (v := 20) hx hb M.1.2.2.2.1 (M.1.2.2.2.2 _ q506) dX0_see_3 ?_
  refine c_iS M w (S' := (tvs G b x tp n1 m1 g1 n2 m2 g2 n3 m3 g3 se bs y0 n4 m4 g4 e0 y1 n5 m5 g5 e1 n6 m6 g6 Z)) tv_in.nil (tv_isIn l G n.toInt64 (0 : Int64) (20 : Int64)) q95 q96 q68 q97 nm_yX0_isIn ⟨Nat.le_of_ble_eq_true rfl, Nat.le_of_ble_eq_true rfl⟩ rfl hl.1 (rest := []) rfl (Nat.le_of_ble_eq_true rfl) dX0_see_6 ⟨Nat.zero_le _, Nat.zero_le _⟩ (fun H locs w => ?_)
  refine lv_if_eq (tgt := 20) hx hb dX0_see_9 (by decide) (fun c4 => ?_) (fun c4 => ?_)
  · skip
    refine lv_iconst (v := -1) hx hb dX0_see_20 (by decide) ?_
    exact tv_iret M (by rw [show sp_tv_see_x x m1 n u = _ from if_pos c4, show sp_tv_see_se x m1 se n u d = _ from if_pos c4]; exact w) hr (if_pos c4).symm dX0_see_21
  · skip
    refine lv_aload_n hx hb dX0_see_12 rfl (lv_at hl 0 rfl) ?_
    refine lv_iload_n hx hb dX0_see_13 rfl (lv_at hl 2 rfl) ?_
    refine c_iV M w (S' := (tvs G b x tp n1 m1 g1 n2 m2 g2 n3 m3 g3 se bs y0 n4 m4 g4 e0 y1 n5 m5 g5 e1 n6 m6 g6 Z)) tv_in.all (tv_isMinister l G b x tp n1 m1 g1 n2 m2 g2 n3 m3 g3 se bs y0 n4 m4 g4 e0 y1 n5 m5 g5 e1 n6 m6 g6 Z u (by omega) (by omega)) (q0 := 0) tc0 rfl q449 q451 qs13 q68 q452 nm_yX0_isMinister ⟨Nat.le_of_ble_eq_true rfl, Nat.le_of_ble_eq_true rfl⟩ rfl hl.1 (rest := []) rfl (Nat.le_of_ble_eq_true rfl) dX0_see_14 ⟨Nat.zero_le _, Nat.zero_le _⟩ (fun H locs w => ?_)
    refine lv_if_ne (tgt := 22) hx hb dX0_see_17 (by decide) (fun c5 => ?_) (fun c5 => ?_)
    · skip
      refine lv_aload_n hx hb dX0_see_22 rfl (lv_at hl 0 rfl) ?_
      refine r_get M w tc0 0 0 9 rfl rfl (by decide) q730 rfl rfl dX0_see_23 ?_
      refine lv_bipush (v := 6) hx hb dX0_see_26 (by decide) ?_
      refine lv_icmp_ne (tgt := 34) hx hb dX0_see_28 (by decide) (fun c6 => ?_) (fun c6 => ?_)
      · skip
        refine lv_aload_n hx hb dX0_see_34 rfl (lv_at hl 0 rfl) ?_
        refine r_get M w tc0 0 0 8 rfl rfl (by decide) q728 rfl rfl dX0_see_35 ?_
        refine lv_aload_n hx hb dX0_see_38 rfl (lv_at hl 0 rfl) ?_
        refine r_get M w tc0 0 0 9 rfl rfl (by decide) q730 rfl rfl dX0_see_39 ?_
        refine r_aald M w 5 0 4 rfl rfl rfl rfl (vp_w (vp_ne (k := 6) hs c6 (by omega)) (by omega)) (v := b + 62 + 1 + ((x 9).toNatClampNeg)) (oref_in (vp_w (vp_ne (k := 6) hs c6 (by omega)) (by omega))) dX0_see_42 ?_
        refine lv_iconst (v := 0) hx hb dX0_see_43 (by decide) ?_
        refine lv_iload_n hx hb dX0_see_44 rfl (lv_at hl 1 rfl) ?_
        refine r_iast M w 5 (1 + ((x 9).toNatClampNeg)) rfl (grd_r G (b + 62) 3 se (vp_cl (vp_w (vp_ne (k := 6) hs c6 (by omega)) (by omega)))) (pk_in 0 3 (by decide)) (S' := (tvs G b x tp n1 m1 g1 n2 m2 g2 n3 m3 g3 (upd se (3 * ((x 9).toNatClampNeg)) n) bs y0 n4 m4 g4 e0 y1 n5 m5 g5 e1 n6 m6 g6 Z)) (congrArg (fun zz_ => List.set (tvs G b x tp n1 m1 g1 n2 m2 g2 n3 m3 g3 se bs y0 n4 m4 g4 e0 y1 n5 m5 g5 e1 n6 m6 g6 Z) 5 zz_) (grd_S G (b + 62) 3 se (i := 0) (vp_cl (vp_w (vp_ne (k := 6) hs c6 (by omega)) (by omega))) (by decide) n)) dX0_see_45 (fun H locs w => ?_)
        refine lv_aload_n hx hb dX0_see_46 rfl (lv_at hl 0 rfl) ?_
        refine r_get M w tc0 0 0 8 rfl rfl (by decide) q728 rfl rfl dX0_see_47 ?_
        refine lv_aload_n hx hb dX0_see_50 rfl (lv_at hl 0 rfl) ?_
        refine r_get M w tc0 0 0 9 rfl rfl (by decide) q730 rfl rfl dX0_see_51 ?_
        refine r_aald M w 5 0 4 rfl rfl rfl rfl (vp_w (vp_ne (k := 6) hs c6 (by omega)) (by omega)) (v := b + 62 + 1 + ((x 9).toNatClampNeg)) (oref_in (vp_w (vp_ne (k := 6) hs c6 (by omega)) (by omega))) dX0_see_54 ?_
        refine lv_iconst (v := 1) hx hb dX0_see_55 (by decide) ?_
        refine lv_iload_n hx hb dX0_see_56 rfl (lv_at hl 2 rfl) ?_
        refine r_iast M w 5 (1 + ((x 9).toNatClampNeg)) rfl (grd_r G (b + 62) 3 (upd se (3 * ((x 9).toNatClampNeg)) n) (vp_cl (vp_w (vp_ne (k := 6) hs c6 (by omega)) (by omega)))) (pk_in 1 3 (by decide)) (S' := (tvs G b x tp n1 m1 g1 n2 m2 g2 n3 m3 g3 (upd (upd se (3 * ((x 9).toNatClampNeg)) n) (3 * ((x 9).toNatClampNeg) + 1) u) bs y0 n4 m4 g4 e0 y1 n5 m5 g5 e1 n6 m6 g6 Z)) (congrArg (fun zz_ => List.set (tvs G b x tp n1 m1 g1 n2 m2 g2 n3 m3 g3 (upd se (3 * ((x 9).toNatClampNeg)) n) bs y0 n4 m4 g4 e0 y1 n5 m5 g5 e1 n6 m6 g6 Z) 5 zz_) (grd_S G (b + 62) 3 (upd se (3 * ((x 9).toNatClampNeg)) n) (i := 1) (vp_cl (vp_w (vp_ne (k := 6) hs c6 (by omega)) (by omega))) (by decide) u)) dX0_see_57 (fun H locs w => ?_)
        refine lv_aload_n hx hb dX0_see_58 rfl (lv_at hl 0 rfl) ?_
        refine r_get M w tc0 0 0 8 rfl rfl (by decide) q728 rfl rfl dX0_see_59 ?_
        refine lv_aload_n hx hb dX0_see_62 rfl (lv_at hl 0 rfl) ?_
        refine r_get M w tc0 0 0 9 rfl rfl (by decide) q730 rfl rfl dX0_see_63 ?_
        refine r_aald M w 5 0 4 rfl rfl rfl rfl (vp_w (vp_ne (k := 6) hs c6 (by omega)) (by omega)) (v := b + 62 + 1 + ((x 9).toNatClampNeg)) (oref_in (vp_w (vp_ne (k := 6) hs c6 (by omega)) (by omega))) dX0_see_66 ?_
        refine lv_iconst (v := 2) hx hb dX0_see_67 (by decide) ?_
        refine lv_iload_n hx hb dX0_see_68 rfl (lv_at hl 3 rfl) ?_
        refine w_cut (g2 := F0 m 77 ls [.int (if d = 0 then (0 : Int32) else (1 : Int32)), .int 2, .ref (b + 62 + 1 + ((x 9).toNatClampNeg))]) (fun jn => ?_) ?_
        · skip
          refine lv_if_eq (tgt := 76) hx hb dX0_see_69 (by decide) (fun c7 => ?_) (fun c7 => ?_)
          · skip
            refine lv_iconst (v := 0) hx hb dX0_see_76 (by decide) ?_
            exact w_topi (if_pos c7) jn
          · skip
            refine lv_iconst (v := 1) hx hb dX0_see_72 (by decide) ?_
            refine lv_goto (tgt := 77) hx hb dX0_see_73 (by decide) ?_
            exact w_topi (if_neg c7) jn
        refine r_iast M w 5 (1 + ((x 9).toNatClampNeg)) rfl (grd_r G (b + 62) 3 (upd (upd se (3 * ((x 9).toNatClampNeg)) n) (3 * ((x 9).toNatClampNeg) + 1) u) (vp_cl (vp_w (vp_ne (k := 6) hs c6 (by omega)) (by omega)))) (pk_in 2 3 (by decide)) (S' := (tvs G b x tp n1 m1 g1 n2 m2 g2 n3 m3 g3 (upd (upd (upd se (3 * ((x 9).toNatClampNeg)) n) (3 * ((x 9).toNatClampNeg) + 1) u) (3 * ((x 9).toNatClampNeg) + 2) (if d = 0 then (0 : Int32) else (1 : Int32))) bs y0 n4 m4 g4 e0 y1 n5 m5 g5 e1 n6 m6 g6 Z)) (congrArg (fun zz_ => List.set (tvs G b x tp n1 m1 g1 n2 m2 g2 n3 m3 g3 (upd (upd se (3 * ((x 9).toNatClampNeg)) n) (3 * ((x 9).toNatClampNeg) + 1) u) bs y0 n4 m4 g4 e0 y1 n5 m5 g5 e1 n6 m6 g6 Z) 5 zz_) (grd_S G (b + 62) 3 (upd (upd se (3 * ((x 9).toNatClampNeg)) n) (3 * ((x 9).toNatClampNeg) + 1) u) (i := 2) (vp_cl (vp_w (vp_ne (k := 6) hs c6 (by omega)) (by omega))) (by decide) (if d = 0 then (0 : Int32) else (1 : Int32)))) dX0_see_77 (fun H locs w => ?_)
        refine lv_aload_n hx hb dX0_see_78 rfl (lv_at hl 0 rfl) ?_
        refine lv_dup hx hb dX0_see_79 rfl ?_
        refine r_get M w tc0 0 0 9 rfl rfl (by decide) q730 rfl rfl dX0_see_80 ?_
        refine lv_iconst (v := 1) hx hb dX0_see_83 (by decide) ?_
        refine lv_iadd hx hb dX0_see_84 ?_
        refine r_put M w tc0 0 0 9 rfl rfl (by decide) q730 rfl rfl rfl rfl (Nat.le_of_ble_eq_true rfl) (S' := (tvs G b (upd x 9 ((x 9) + 1)) tp n1 m1 g1 n2 m2 g2 n3 m3 g3 (upd (upd (upd se (3 * ((x 9).toNatClampNeg)) n) (3 * ((x 9).toNatClampNeg) + 1) u) (3 * ((x 9).toNatClampNeg) + 2) (if d = 0 then (0 : Int32) else (1 : Int32))) bs y0 n4 m4 g4 e0 y1 n5 m5 g5 e1 n6 m6 g6 Z)) rfl dX0_see_85 (fun H locs w => ?_)
        refine lv_aload_n hx hb dX0_see_88 rfl (lv_at hl 0 rfl) ?_
        refine r_get M w tc0 0 0 9 rfl rfl (by decide) q730 rfl rfl dX0_see_89 ?_
        exact tv_iret M (by rw [show sp_tv_see_x x m1 n u = _ from (if_neg c4).trans ((if_neg c5).trans (if_neg c6)), show sp_tv_see_se x m1 se n u d = _ from (if_neg c4).trans ((if_neg c5).trans (if_neg c6))]; exact w) hr ((if_neg c4).trans ((if_neg c5).trans (if_neg c6))).symm dX0_see_92
      · skip
        refine lv_bipush (v := -3) hx hb dX0_see_31 (by decide) ?_
        exact tv_iret M (by rw [show sp_tv_see_x x m1 n u = _ from (if_neg c4).trans ((if_neg c5).trans (if_pos c6)), show sp_tv_see_se x m1 se n u d = _ from (if_neg c4).trans ((if_neg c5).trans (if_pos c6))]; exact w) hr ((if_neg c4).trans ((if_neg c5).trans (if_pos c6))).symm dX0_see_33
    · skip
      refine lv_iconst (v := -1) hx hb dX0_see_20 (by decide) ?_
      exact tv_iret M (by rw [show sp_tv_see_x x m1 n u = _ from (if_neg c4).trans (if_pos c5), show sp_tv_see_se x m1 se n u d = _ from (if_neg c4).trans (if_pos c5)]; exact w) hr ((if_neg c4).trans (if_pos c5)).symm dX0_see_21
def sp_tv_forget (x : Nat → Int32) (n : Int32) : Int32 := if (inL n.toInt64 (0 : Int64) ((x 9).toInt64)) = 0 then (-1) else (x 9)
def sp_tv_forget_x (x : Nat → Int32) (n : Int32) : Nat → Int32 := if (inL n.toInt64 (0 : Int64) ((x 9).toInt64)) = 0 then x else (upd x 9 n)
set_option maxHeartbeats 4000000 in
set_option maxRecDepth 100000 in
theorem tv_forget (l : Launch) (G : tG) (b : Nat) (x : Nat → Int32) (tp : Nat → Int32) (n1 : Nat) (m1 : Nat) (g1 : Nat → Int32) (n2 : Nat) (m2 : Nat) (g2 : Nat → Int32) (n3 : Nat) (m3 : Nat) (g3 : Nat → Int32) (se : Nat → Int32) (bs : Nat → Int32) (y0 : Nat → Int32) (n4 : Nat) (m4 : Nat) (g4 : Nat → Int32) (e0 : Nat → Int32) (y1 : Nat → Int32) (n5 : Nat) (m5 : Nat) (g5 : Nat → Int32) (e1 : Nat → Int32) (n6 : Nat) (m6 : Nat) (g6 : Nat → Int32) (Z : List va_W) (n : Int32) : tv_I l yX0_forget cX0_forget 3 (some .int) (tv_rm 1 25) G [.ref b, .int n] (tvs G b x tp n1 m1 g1 n2 m2 g2 n3 m3 g3 se bs y0 n4 m4 g4 e0 y1 n5 m5 g5 e1 n6 m6 g6 Z).flatten (sp_tv_forget x n) (tvs G b (sp_tv_forget_x x n) tp n1 m1 g1 n2 m2 g2 n3 m3 g3 se bs y0 n4 m4 g4 e0 y1 n5 m5 g5 e1 n6 m6 g6 Z).flatten := by
  refine tv_I.st (S := (tvs G b x tp n1 m1 g1 n2 m2 g2 n3 m3 g3 se bs y0 n4 m4 g4 e0 y1 n5 m5 g5 e1 n6 m6 g6 Z)) (S' := (tvs G b (sp_tv_forget_x x n) tp n1 m1 g1 n2 m2 g2 n3 m3 g3 se bs y0 n4 m4 g4 e0 y1 n5 m5 g5 e1 n6 m6 g6 Z)) rfl rfl (by decide) (Nat.le_of_ble_eq_true rfl) ?_
  intro p e s m below meth c A M hr w ls hl
  have hx := M.1.1
  have hb := M.1.2.1
  have hl : lv_has ls 3 [(0, .ref b), (1, .int n)] := hl
  refine lv_iload_n hx hb dX0_forget_0 rfl (lv_at hl 1 rfl) ?_
  refine lv_i2l (v := n.toInt64) hx hb dX0_forget_1 rfl ?_
  refine lv_lconst (v := 0) hx hb dX0_forget_2 (by decide) ?_
  refine lv_aload_n hx hb dX0_forget_3 rfl (lv_at hl 0 rfl) ?_
  refine r_get M w tc0 0 0 9 rfl rfl (by decide) q730 rfl rfl dX0_forget_4 ?_
  refine lv_i2l (v := (x 9).toInt64) hx hb dX0_forget_7 rfl ?_
  refine c_iS M w (S' := (tvs G b x tp n1 m1 g1 n2 m2 g2 n3 m3 g3 se bs y0 n4 m4 g4 e0 y1 n5 m5 g5 e1 n6 m6 g6 Z)) tv_in.nil (tv_isIn l G n.toInt64 (0 : Int64) ((x 9).toInt64)) q95 q96 q68 q97 nm_yX0_isIn ⟨Nat.le_of_ble_eq_true rfl, Nat.le_of_ble_eq_true rfl⟩ rfl hl.1 (rest := []) rfl (Nat.le_of_ble_eq_true rfl) dX0_forget_8 ⟨Nat.zero_le _, Nat.zero_le _⟩ (fun H locs w => ?_)
  refine lv_if_ne (tgt := 16) hx hb dX0_forget_11 (by decide) (fun c2 => ?_) (fun c2 => ?_)
  · skip
    refine lv_aload_n hx hb dX0_forget_16 rfl (lv_at hl 0 rfl) ?_
    refine r_get M w tc0 0 0 9 rfl rfl (by decide) q730 rfl rfl dX0_forget_17 ?_
    refine lv_istore_n (lv' := [(2, .int (x 9)), (0, .ref b), (1, .int n)]) hx hb dX0_forget_20 rfl hl (by decide) rfl (fun ls hl => ?_)
    refine lv_aload_n hx hb dX0_forget_21 rfl (lv_at hl 1 rfl) ?_
    refine lv_iload_n hx hb dX0_forget_22 rfl (lv_at hl 2 rfl) ?_
    refine r_put M w tc0 0 0 9 rfl rfl (by decide) q730 rfl rfl rfl rfl (Nat.le_of_ble_eq_true rfl) (S' := (tvs G b (upd x 9 n) tp n1 m1 g1 n2 m2 g2 n3 m3 g3 se bs y0 n4 m4 g4 e0 y1 n5 m5 g5 e1 n6 m6 g6 Z)) rfl dX0_forget_23 (fun H locs w => ?_)
    refine lv_iload_n hx hb dX0_forget_26 rfl (lv_at hl 0 rfl) ?_
    exact tv_iret M (by rw [show sp_tv_forget_x x n = _ from if_neg c2]; exact w) hr (if_neg c2).symm dX0_forget_27
  · skip
    refine lv_iconst (v := -1) hx hb dX0_forget_14 (by decide) ?_
    exact tv_iret M (by rw [show sp_tv_forget_x x n = _ from if_pos c2]; exact w) hr (if_pos c2).symm dX0_forget_15
def sp_tv_isLess (x : Nat → Int32) (v : Int32) : Int32 := if (x 7) ≤ v then (0 : Int32) else (1 : Int32)
def sp_tv_isLess_x (x : Nat → Int32) (v : Int32) : Nat → Int32 := upd x 7 (if v < (x 7) then v else x 7)
set_option maxHeartbeats 4000000 in
set_option maxRecDepth 100000 in
theorem tv_isLess (l : Launch) (G : tG) (b : Nat) (x : Nat → Int32) (tp : Nat → Int32) (n1 : Nat) (m1 : Nat) (g1 : Nat → Int32) (n2 : Nat) (m2 : Nat) (g2 : Nat → Int32) (n3 : Nat) (m3 : Nat) (g3 : Nat → Int32) (se : Nat → Int32) (bs : Nat → Int32) (y0 : Nat → Int32) (n4 : Nat) (m4 : Nat) (g4 : Nat → Int32) (e0 : Nat → Int32) (y1 : Nat → Int32) (n5 : Nat) (m5 : Nat) (g5 : Nat → Int32) (e1 : Nat → Int32) (n6 : Nat) (m6 : Nat) (g6 : Nat → Int32) (Z : List va_W) (v : Int32) : tv_I l yX0_isLess cX0_isLess 3 (some .boolean) (tv_rm 1 21) G [.ref b, .int v] (tvs G b x tp n1 m1 g1 n2 m2 g2 n3 m3 g3 se bs y0 n4 m4 g4 e0 y1 n5 m5 g5 e1 n6 m6 g6 Z).flatten (sp_tv_isLess x v) (tvs G b (sp_tv_isLess_x x v) tp n1 m1 g1 n2 m2 g2 n3 m3 g3 se bs y0 n4 m4 g4 e0 y1 n5 m5 g5 e1 n6 m6 g6 Z).flatten := by
  refine tv_I.st (S := (tvs G b x tp n1 m1 g1 n2 m2 g2 n3 m3 g3 se bs y0 n4 m4 g4 e0 y1 n5 m5 g5 e1 n6 m6 g6 Z)) (S' := (tvs G b (sp_tv_isLess_x x v) tp n1 m1 g1 n2 m2 g2 n3 m3 g3 se bs y0 n4 m4 g4 e0 y1 n5 m5 g5 e1 n6 m6 g6 Z)) rfl rfl (by decide) (Nat.le_of_ble_eq_true rfl) ?_
  intro p e s m below meth c A M hr w ls hl
  have hx := M.1.1
  have hb := M.1.2.1
  have hl : lv_has ls 3 [(0, .ref b), (1, .int v)] := hl
  refine lv_iload_n hx hb dX0_isLess_0 rfl (lv_at hl 1 rfl) ?_
  refine lv_aload_n hx hb dX0_isLess_1 rfl (lv_at hl 0 rfl) ?_
  refine r_get M w tc0 0 0 7 rfl rfl (by decide) q726 rfl rfl dX0_isLess_2 ?_
  refine w_cut (g2 := F0 m 13 ls [.int (if (x 7) ≤ v then (0 : Int32) else (1 : Int32))]) (fun jn => ?_) ?_
  · skip
    refine lv_icmp_ge (tgt := 12) hx hb dX0_isLess_5 (by decide) (fun c1 => ?_) (fun c1 => ?_)
    · skip
      refine lv_iconst (v := 0) hx hb dX0_isLess_12 (by decide) ?_
      exact w_topi (if_pos c1) jn
    · skip
      refine lv_iconst (v := 1) hx hb dX0_isLess_8 (by decide) ?_
      refine lv_goto (tgt := 13) hx hb dX0_isLess_9 (by decide) ?_
      exact w_topi (if_neg c1) jn
  refine lv_istore_n (lv' := [(2, .int (if (x 7) ≤ v then (0 : Int32) else (1 : Int32))), (0, .ref b), (1, .int v)]) hx hb dX0_isLess_13 rfl hl (by decide) rfl (fun ls hl => ?_)
  refine lv_aload_n hx hb dX0_isLess_14 rfl (lv_at hl 1 rfl) ?_
  refine lv_aload_n hx hb dX0_isLess_15 rfl (lv_at hl 1 rfl) ?_
  refine r_get M w tc0 0 0 7 rfl rfl (by decide) q726 rfl rfl dX0_isLess_16 ?_
  refine lv_iload_n hx hb dX0_isLess_19 rfl (lv_at hl 2 rfl) ?_
  refine r_min M hl.1 q581 q522 q83 q523 ⟨Nat.le_of_ble_eq_true rfl, Nat.le_of_ble_eq_true rfl⟩ ⟨Nat.zero_le _, Nat.zero_le _⟩ (v := if v < (x 7) then v else x 7) rfl dX0_isLess_20 ?_
  refine r_put M w tc0 0 0 7 rfl rfl (by decide) q726 rfl rfl rfl rfl (Nat.le_of_ble_eq_true rfl) (S' := (tvs G b (upd x 7 (if v < (x 7) then v else x 7)) tp n1 m1 g1 n2 m2 g2 n3 m3 g3 se bs y0 n4 m4 g4 e0 y1 n5 m5 g5 e1 n6 m6 g6 Z)) rfl dX0_isLess_23 (fun H locs w => ?_)
  refine lv_iload_n hx hb dX0_isLess_26 rfl (lv_at hl 0 rfl) ?_
  exact tv_zret M w hr (ite_nar rfl rfl) rfl dX0_isLess_27
