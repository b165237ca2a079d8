/-! TrapdoorVotes: small methods -/
def sp_tv_fault (x : Nat → Int32) : Int32 := x 2
set_option maxHeartbeats 4000000 in
set_option maxRecDepth 100000 in
theorem tv_fault (l : Launch) (G : tG) (b : Nat) (x : Nat → Int32) (tp : Nat → Int32) (n1 : Nat) (m1 : Nat) (g1 : Nat → Int32) (n2 : Nat) (m2 : Nat) (g2 : Nat → Int32) (n3 : Nat) (m3 : Nat) (g3 : Nat → Int32) (se : Nat → Int32) (bs : Nat → Int32) (y0 : Nat → Int32) (n4 : Nat) (m4 : Nat) (g4 : Nat → Int32) (e0 : Nat → Int32) (y1 : Nat → Int32) (n5 : Nat) (m5 : Nat) (g5 : Nat → Int32) (e1 : Nat → Int32) (n6 : Nat) (m6 : Nat) (g6 : Nat → Int32) (Z : List va_W) : tv_I l yX0_fault cX0_fault 1 (some .int) (tv_rm 0 0) G [.ref b] (tvs G b x tp n1 m1 g1 n2 m2 g2 n3 m3 g3 se bs y0 n4 m4 g4 e0 y1 n5 m5 g5 e1 n6 m6 g6 Z).flatten (sp_tv_fault x) (tvs G b x tp n1 m1 g1 n2 m2 g2 n3 m3 g3 se bs y0 n4 m4 g4 e0 y1 n5 m5 g5 e1 n6 m6 g6 Z).flatten := by
  refine tv_I.st (S := (tvs G b x tp n1 m1 g1 n2 m2 g2 n3 m3 g3 se bs y0 n4 m4 g4 e0 y1 n5 m5 g5 e1 n6 m6 g6 Z)) (S' := (tvs G b x tp n1 m1 g1 n2 m2 g2 n3 m3 g3 se bs y0 n4 m4 g4 e0 y1 n5 m5 g5 e1 n6 m6 g6 Z)) rfl rfl (by decide) (Nat.le_of_ble_eq_true rfl) ?_
  intro p e s m below meth c A M hr w ls hl
  have hx := M.1.1
  have hb := M.1.2.1
  have hl : lv_has ls 1 [(0, .ref b)] := hl
  refine lv_aload_n hx hb dX0_fault_0 rfl (lv_at hl 0 rfl) ?_
  refine r_get M w tc0 0 0 2 rfl rfl (by decide) q720 rfl rfl dX0_fault_1 ?_
  exact tv_iret M w hr rfl dX0_fault_4
def sp_tv_torn (x : Nat → Int32) : Int32 := x 14
set_option maxHeartbeats 4000000 in
set_option maxRecDepth 100000 in
theorem tv_torn (l : Launch) (G : tG) (b : Nat) (x : Nat → Int32) (tp : Nat → Int32) (n1 : Nat) (m1 : Nat) (g1 : Nat → Int32) (n2 : Nat) (m2 : Nat) (g2 : Nat → Int32) (n3 : Nat) (m3 : Nat) (g3 : Nat → Int32) (se : Nat → Int32) (bs : Nat → Int32) (y0 : Nat → Int32) (n4 : Nat) (m4 : Nat) (g4 : Nat → Int32) (e0 : Nat → Int32) (y1 : Nat → Int32) (n5 : Nat) (m5 : Nat) (g5 : Nat → Int32) (e1 : Nat → Int32) (n6 : Nat) (m6 : Nat) (g6 : Nat → Int32) (Z : List va_W) : tv_I l yX0_torn cX0_torn 1 (some .int) (tv_rm 0 0) G [.ref b] (tvs G b x tp n1 m1 g1 n2 m2 g2 n3 m3 g3 se bs y0 n4 m4 g4 e0 y1 n5 m5 g5 e1 n6 m6 g6 Z).flatten (sp_tv_torn x) (tvs G b x tp n1 m1 g1 n2 m2 g2 n3 m3 g3 se bs y0 n4 m4 g4 e0 y1 n5 m5 g5 e1 n6 m6 g6 Z).flatten := by
  refine tv_I.st (S := (tvs G b x tp n1 m1 g1 n2 m2 g2 n3 m3 g3 se bs y0 n4 m4 g4 e0 y1 n5 m5 g5 e1 n6 m6 g6 Z)) (S' := (tvs G b x tp n1 m1 g1 n2 m2 g2 n3 m3 g3 se bs y0 n4 m4 g4 e0 y1 n5 m5 g5 e1 n6 m6 g6 Z)) rfl rfl (by decide) (Nat.le_of_ble_eq_true rfl) ?_
  intro p e s m below meth c A M hr w ls hl
  have hx := M.1.1
  have hb := M.1.2.1
  have hl : lv_has ls 1 [(0, .ref b)] := hl
  refine lv_aload_n hx hb dX0_torn_0 rfl (lv_at hl 0 rfl) ?_
  refine r_get M w tc0 0 0 14 rfl rfl (by decide) q735 rfl rfl dX0_torn_1 ?_
  exact tv_iret M w hr rfl dX0_torn_4
def sp_tv_isHand (n1 : Nat) (h : Int32) : Int32 := inL h.toInt64 (0 : Int64) (((nI n1) - 1).toInt64)
set_option maxHeartbeats 4000000 in
set_option maxRecDepth 100000 in
theorem tv_isHand (l : Launch) (G : tG) (b : Nat) (x : Nat → Int32) (tp : Nat → Int32) (n1 : Nat) (m1 : Nat) (g1 : Nat → Int32) (n2 : Nat) (m2 : Nat) (g2 : Nat → Int32) (n3 : Nat) (m3 : Nat) (g3 : Nat → Int32) (se : Nat → Int32) (bs : Nat → Int32) (y0 : Nat → Int32) (n4 : Nat) (m4 : Nat) (g4 : Nat → Int32) (e0 : Nat → Int32) (y1 : Nat → Int32) (n5 : Nat) (m5 : Nat) (g5 : Nat → Int32) (e1 : Nat → Int32) (n6 : Nat) (m6 : Nat) (g6 : Nat → Int32) (Z : List va_W) (h : Int32) (hn : n1 ≤ 6) (hm : m1 ≤ 4) : tv_I l yX0_isHand cX0_isHand 2 (some .boolean) (tv_rm 1 25) G [.ref b, .int h] (tvs G b x tp n1 m1 g1 n2 m2 g2 n3 m3 g3 se bs y0 n4 m4 g4 e0 y1 n5 m5 g5 e1 n6 m6 g6 Z).flatten (sp_tv_isHand n1 h) (tvs G b x tp n1 m1 g1 n2 m2 g2 n3 m3 g3 se bs y0 n4 m4 g4 e0 y1 n5 m5 g5 e1 n6 m6 g6 Z).flatten := by
  refine tv_I.st (S := (tvs G b x tp n1 m1 g1 n2 m2 g2 n3 m3 g3 se bs y0 n4 m4 g4 e0 y1 n5 m5 g5 e1 n6 m6 g6 Z)) (S' := (tvs G b x tp n1 m1 g1 n2 m2 g2 n3 m3 g3 se bs y0 n4 m4 g4 e0 y1 n5 m5 g5 e1 n6 m6 g6 Z)) rfl rfl (by decide) (Nat.le_of_ble_eq_true rfl) ?_
  intro p e s m below meth c A M hr w ls hl
  have hx := M.1.1
  have hb := M.1.2.1
  have hl : lv_has ls 2 [(0, .ref b), (1, .int h)] := hl
  refine lv_iload_n hx hb dX0_isHand_0 rfl (lv_at hl 1 rfl) ?_
  refine lv_i2l (v := h.toInt64) hx hb dX0_isHand_1 rfl ?_
  refine lv_lconst (v := 0) hx hb dX0_isHand_2 (by decide) ?_
  refine lv_aload_n hx hb dX0_isHand_3 rfl (lv_at hl 0 rfl) ?_
  refine r_get M w tc0 0 0 3 rfl rfl (by decide) q722 rfl rfl dX0_isHand_4 ?_
  refine r_getN M w tc1 2 0 3 rfl rfl (by decide) q138 rfl rfl dX0_isHand_7 ?_
  refine lv_iconst (v := 1) hx hb dX0_isHand_10 (by decide) ?_
  refine lv_isub hx hb dX0_isHand_11 ?_
  refine lv_i2l (v := ((nI n1) - 1).toInt64) hx hb dX0_isHand_12 rfl ?_
  refine c_iS M w (S' := (tvs G b x tp n1 m1 g1 n2 m2 g2 n3 m3 g3 se bs y0 n4 m4 g4 e0 y1 n5 m5 g5 e1 n6 m6 g6 Z)) tv_in.nil (tv_isIn l G h.toInt64 (0 : Int64) (((nI n1) - 1).toInt64)) q95 q96 q68 q97 nm_yX0_isIn ⟨Nat.le_of_ble_eq_true rfl, Nat.le_of_ble_eq_true rfl⟩ rfl hl.1 (rest := []) rfl (Nat.le_of_ble_eq_true rfl) dX0_isHand_13 ⟨Nat.zero_le _, Nat.zero_le _⟩ (fun H locs w => ?_)
  exact tv_zret M w hr inL_nar rfl dX0_isHand_16
def sp_tv_isMinister (m1 : Nat) (u : Int32) : Int32 := inL u.toInt64 (0 : Int64) (((nI m1) - 1).toInt64)
set_option maxHeartbeats 4000000 in
set_option maxRecDepth 100000 in
theorem tv_isMinister (l : Launch) (G : tG) (b : Nat) (x : Nat → Int32) (tp : Nat → Int32) (n1 : Nat) (m1 : Nat) (g1 : Nat → Int32) (n2 : Nat) (m2 : Nat) (g2 : Nat → Int32) (n3 : Nat) (m3 : Nat) (g3 : Nat → Int32) (se : Nat → Int32) (bs : Nat → Int32) (y0 : Nat → Int32) (n4 : Nat) (m4 : Nat) (g4 : Nat → Int32) (e0 : Nat → Int32) (y1 : Nat → Int32) (n5 : Nat) (m5 : Nat) (g5 : Nat → Int32) (e1 : Nat → Int32) (n6 : Nat) (m6 : Nat) (g6 : Nat → Int32) (Z : List va_W) (u : Int32) (hn : n1 ≤ 6) (hm : m1 ≤ 4) : tv_I l yX0_isMinister cX0_isMinister 2 (some .boolean) (tv_rm 1 25) G [.ref b, .int u] (tvs G b x tp n1 m1 g1 n2 m2 g2 n3 m3 g3 se bs y0 n4 m4 g4 e0 y1 n5 m5 g5 e1 n6 m6 g6 Z).flatten (sp_tv_isMinister m1 u) (tvs G b x tp n1 m1 g1 n2 m2 g2 n3 m3 g3 se bs y0 n4 m4 g4 e0 y1 n5 m5 g5 e1 n6 m6 g6 Z).flatten := by
  refine tv_I.st (S := (tvs G b x tp n1 m1 g1 n2 m2 g2 n3 m3 g3 se bs y0 n4 m4 g4 e0 y1 n5 m5 g5 e1 n6 m6 g6 Z)) (S' := (tvs G b x tp n1 m1 g1 n2 m2 g2 n3 m3 g3 se bs y0 n4 m4 g4 e0 y1 n5 m5 g5 e1 n6 m6 g6 Z)) rfl rfl (by decide) (Nat.le_of_ble_eq_true rfl) ?_
  intro p e s m below meth c A M hr w ls hl
  have hx := M.1.1
  have hb := M.1.2.1
  have hl : lv_has ls 2 [(0, .ref b), (1, .int u)] := hl
  refine lv_iload_n hx hb dX0_isMinister_0 rfl (lv_at hl 1 rfl) ?_
  refine lv_i2l (v := u.toInt64) hx hb dX0_isMinister_1 rfl ?_
  refine lv_lconst (v := 0) hx hb dX0_isMinister_2 (by decide) ?_
  refine lv_aload_n hx hb dX0_isMinister_3 rfl (lv_at hl 0 rfl) ?_
  refine r_get M w tc0 0 0 3 rfl rfl (by decide) q722 rfl rfl dX0_isMinister_4 ?_
  refine r_getN M w tc1 2 0 4 rfl rfl (by decide) q141 rfl rfl dX0_isMinister_7 ?_
  refine lv_iconst (v := 1) hx hb dX0_isMinister_10 (by decide) ?_
  refine lv_isub hx hb dX0_isMinister_11 ?_
  refine lv_i2l (v := ((nI m1) - 1).toInt64) hx hb dX0_isMinister_12 rfl ?_
  refine c_iS M w (S' := (tvs G b x tp n1 m1 g1 n2 m2 g2 n3 m3 g3 se bs y0 n4 m4 g4 e0 y1 n5 m5 g5 e1 n6 m6 g6 Z)) tv_in.nil (tv_isIn l G u.toInt64 (0 : Int64) (((nI m1) - 1).toInt64)) q95 q96 q68 q97 nm_yX0_isIn ⟨Nat.le_of_ble_eq_true rfl, Nat.le_of_ble_eq_true rfl⟩ rfl hl.1 (rest := []) rfl (Nat.le_of_ble_eq_true rfl) dX0_isMinister_13 ⟨Nat.zero_le _, Nat.zero_le _⟩ (fun H locs w => ?_)
  exact tv_zret M w hr inL_nar rfl dX0_isMinister_16
def sp_tv_rule (n1 : Nat) (m1 : Nat) (g1 : Nat → Int32) (wh : Int32) : Int32 := if wh = 0 then (nI n1) else (if wh = 1 then (nI m1) else (if wh = 2 then (g1 38) else (if wh = 3 then (sUp g1 m1) else (if wh = 4 then (sDr g1 n1) else (if wh = 5 then (sTm g1 n1) else (-1))))))
set_option maxHeartbeats 4000000 in
set_option maxRecDepth 100000 in
theorem tv_rule (l : Launch) (G : tG) (b : Nat) (x : Nat → Int32) (tp : Nat → Int32) (n1 : Nat) (m1 : Nat) (g1 : Nat → Int32) (n2 : Nat) (m2 : Nat) (g2 : Nat → Int32) (n3 : Nat) (m3 : Nat) (g3 : Nat → Int32) (se : Nat → Int32) (bs : Nat → Int32) (y0 : Nat → Int32) (n4 : Nat) (m4 : Nat) (g4 : Nat → Int32) (e0 : Nat → Int32) (y1 : Nat → Int32) (n5 : Nat) (m5 : Nat) (g5 : Nat → Int32) (e1 : Nat → Int32) (n6 : Nat) (m6 : Nat) (g6 : Nat → Int32) (Z : List va_W) (wh : Int32) (hn : n1 ≤ 6) (hm : m1 ≤ 4) (hok : Sok g1) : tv_I l yX0_rule cX0_rule 2 (some .int) (tv_rm 3 64) G [.ref b, .int wh] (tvs G b x tp n1 m1 g1 n2 m2 g2 n3 m3 g3 se bs y0 n4 m4 g4 e0 y1 n5 m5 g5 e1 n6 m6 g6 Z).flatten (sp_tv_rule n1 m1 g1 wh) (tvs G b x tp n1 m1 g1 n2 m2 g2 n3 m3 g3 se bs y0 n4 m4 g4 e0 y1 n5 m5 g5 e1 n6 m6 g6 Z).flatten := by
  refine tv_I.st (S := (tvs G b x tp n1 m1 g1 n2 m2 g2 n3 m3 g3 se bs y0 n4 m4 g4 e0 y1 n5 m5 g5 e1 n6 m6 g6 Z)) (S' := (tvs G b x tp n1 m1 g1 n2 m2 g2 n3 m3 g3 se bs y0 n4 m4 g4 e0 y1 n5 m5 g5 e1 n6 m6 g6 Z)) rfl rfl (by decide) (Nat.le_of_ble_eq_true rfl) ?_
  intro p e s m below meth c A M hr w ls hl
  have hx := M.1.1
  have hb := M.1.2.1
  have hl : lv_has ls 2 [(0, .ref b), (1, .int wh)] := hl
  refine lv_iload_n hx hb dX0_rule_0 rfl (lv_at hl 1 rfl) ?_
  by_cases t2_0 : wh = 0
  · skip
    refine lv_tableIn (tgt := 40) hx hb dX0_rule_1 (by rw [t2_0]; decide) (by rw [t2_0]; decide) (by rw [t2_0]; rfl) (by decide) ?_
    refine lv_aload_n hx hb dX0_rule_40 rfl (lv_at hl 0 rfl) ?_
    refine r_get M w tc0 0 0 3 rfl rfl (by decide) q722 rfl rfl dX0_rule_41 ?_
    refine r_getN M w tc1 2 0 3 rfl rfl (by decide) q138 rfl rfl dX0_rule_44 ?_
    exact tv_iret M w hr (if_pos t2_0).symm dX0_rule_47
  by_cases t2_1 : wh = 1
  · skip
    refine lv_tableIn (tgt := 48) hx hb dX0_rule_1 (by rw [t2_1]; decide) (by rw [t2_1]; decide) (by rw [t2_1]; rfl) (by decide) ?_
    refine lv_aload_n hx hb dX0_rule_48 rfl (lv_at hl 0 rfl) ?_
    refine r_get M w tc0 0 0 3 rfl rfl (by decide) q722 rfl rfl dX0_rule_49 ?_
    refine r_getN M w tc1 2 0 4 rfl rfl (by decide) q141 rfl rfl dX0_rule_52 ?_
    exact tv_iret M w hr ((if_neg t2_0).trans (if_pos t2_1)).symm dX0_rule_55
  by_cases t2_2 : wh = 2
  · skip
    refine lv_tableIn (tgt := 56) hx hb dX0_rule_1 (by rw [t2_2]; decide) (by rw [t2_2]; decide) (by rw [t2_2]; rfl) (by decide) ?_
    refine lv_aload_n hx hb dX0_rule_56 rfl (lv_at hl 0 rfl) ?_
    refine r_get M w tc0 0 0 3 rfl rfl (by decide) q722 rfl rfl dX0_rule_57 ?_
    refine r_getN M w tc1 2 0 5 rfl rfl (by decide) q143 rfl rfl dX0_rule_60 ?_
    exact tv_iret M w hr ((if_neg t2_0).trans ((if_neg t2_1).trans (if_pos t2_2))).symm dX0_rule_63
  by_cases t2_3 : wh = 3
  · skip
    refine lv_tableIn (tgt := 64) hx hb dX0_rule_1 (by rw [t2_3]; decide) (by rw [t2_3]; decide) (by rw [t2_3]; rfl) (by decide) ?_
    refine lv_aload_n hx hb dX0_rule_64 rfl (lv_at hl 0 rfl) ?_
    refine r_get M w tc0 0 0 3 rfl rfl (by decide) q722 rfl rfl dX0_rule_65 ?_
    refine c_iV M w (S' := (tvs G b x tp n1 m1 g1 n2 m2 g2 n3 m3 g3 se bs y0 n4 m4 g4 e0 y1 n5 m5 g5 e1 n6 m6 g6 Z)) (tv_in.seg 2 rfl rfl) (st_standing l G (b + 2) n1 m1 g1  (by omega) (by omega)) (q0 := 0) tc1 rfl q398 q399 q400 q69 q401 nm_yX1_standing ⟨Nat.le_of_ble_eq_true rfl, Nat.le_of_ble_eq_true rfl⟩ rfl hl.1 (rest := []) rfl (Nat.le_of_ble_eq_true rfl) dX0_rule_68 ⟨Nat.zero_le _, Nat.zero_le _⟩ (fun H locs w => ?_)
    exact tv_iret M w hr ((if_neg t2_0).trans ((if_neg t2_1).trans ((if_neg t2_2).trans (if_pos t2_3)))).symm dX0_rule_71
  by_cases t2_4 : wh = 4
  · skip
    refine lv_tableIn (tgt := 72) hx hb dX0_rule_1 (by rw [t2_4]; decide) (by rw [t2_4]; decide) (by rw [t2_4]; rfl) (by decide) ?_
    refine lv_aload_n hx hb dX0_rule_72 rfl (lv_at hl 0 rfl) ?_
    refine r_get M w tc0 0 0 3 rfl rfl (by decide) q722 rfl rfl dX0_rule_73 ?_
    refine c_iV M w (S' := (tvs G b x tp n1 m1 g1 n2 m2 g2 n3 m3 g3 se bs y0 n4 m4 g4 e0 y1 n5 m5 g5 e1 n6 m6 g6 Z)) (tv_in.seg 2 rfl rfl) (st_drawn l G (b + 2) n1 m1 g1  (by omega) (by omega) hok) (q0 := 0) tc1 rfl q406 q407 q408 q69 q409 nm_yX1_drawn ⟨Nat.le_of_ble_eq_true rfl, Nat.le_of_ble_eq_true rfl⟩ rfl hl.1 (rest := []) rfl (Nat.le_of_ble_eq_true rfl) dX0_rule_76 ⟨Nat.zero_le _, Nat.zero_le _⟩ (fun H locs w => ?_)
    exact tv_iret M w hr ((if_neg t2_0).trans ((if_neg t2_1).trans ((if_neg t2_2).trans ((if_neg t2_3).trans (if_pos t2_4))))).symm dX0_rule_79
  by_cases t2_5 : wh = 5
  · skip
    refine lv_tableIn (tgt := 80) hx hb dX0_rule_1 (by rw [t2_5]; decide) (by rw [t2_5]; decide) (by rw [t2_5]; rfl) (by decide) ?_
    refine lv_aload_n hx hb dX0_rule_80 rfl (lv_at hl 0 rfl) ?_
    refine r_get M w tc0 0 0 3 rfl rfl (by decide) q722 rfl rfl dX0_rule_81 ?_
    refine c_iV M w (S' := (tvs G b x tp n1 m1 g1 n2 m2 g2 n3 m3 g3 se bs y0 n4 m4 g4 e0 y1 n5 m5 g5 e1 n6 m6 g6 Z)) (tv_in.seg 2 rfl rfl) (st_temper l G (b + 2) n1 m1 g1  (by omega) (by omega)) (q0 := 0) tc1 rfl q417 q418 q419 q69 q420 nm_yX1_temper ⟨Nat.le_of_ble_eq_true rfl, Nat.le_of_ble_eq_true rfl⟩ rfl hl.1 (rest := []) rfl (Nat.le_of_ble_eq_true rfl) dX0_rule_84 ⟨Nat.zero_le _, Nat.zero_le _⟩ (fun H locs w => ?_)
    exact tv_iret M w hr ((if_neg t2_0).trans ((if_neg t2_1).trans ((if_neg t2_2).trans ((if_neg t2_3).trans ((if_neg t2_4).trans (if_pos t2_5)))))).symm dX0_rule_87
  refine lv_tableOut (tgt := 88) hx hb dX0_rule_1 (by have e : ∀ k : Int32, ¬ wh = k → ¬ (wh).toInt = k.toInt := fun k h q => h (Int32.toInt_inj.mp q); have := e _ t2_0; rw [show (0 : Int32).toInt = 0 from rfl] at this; have := e _ t2_1; rw [show (1 : Int32).toInt = 1 from rfl] at this; have := e _ t2_2; rw [show (2 : Int32).toInt = 2 from rfl] at this; have := e _ t2_3; rw [show (3 : Int32).toInt = 3 from rfl] at this; have := e _ t2_4; rw [show (4 : Int32).toInt = 4 from rfl] at this; have := e _ t2_5; rw [show (5 : Int32).toInt = 5 from rfl] at this; omega) (by decide) ?_
  refine lv_iconst (v := -1) hx hb dX0_rule_88 (by decide) ?_
  exact tv_iret M w hr ((if_neg t2_0).trans ((if_neg t2_1).trans ((if_neg t2_2).trans ((if_neg t2_3).trans ((if_neg t2_4).trans (if_neg t2_5)))))).symm dX0_rule_89
def sp_tv_square (n1 : Nat) (m1 : Nat) (g1 : Nat → Int32) (q : Int32) (wh : Int32) : Int32 := if (inL q.toInt64 (0 : Int64) (5 : Int64)) = 0 then (-1) else (if (inL wh.toInt64 (0 : Int64) (3 : Int64)) = 0 then (-1) else (if 2 ≤ wh then (if wh = 2 then (sHa g1 n1 q) else (sMa g1 m1 q)) else (g1 (2 * q.toNatClampNeg + wh.toNatClampNeg))))
set_option maxHeartbeats 4000000 in
set_option maxRecDepth 100000 in
theorem tv_square (l : Launch) (G : tG) (b : Nat) (x : Nat → Int32) (tp : Nat → Int32) (n1 : Nat) (m1 : Nat) (g1 : Nat → Int32) (n2 : Nat) (m2 : Nat) (g2 : Nat → Int32) (n3 : Nat) (m3 : Nat) (g3 : Nat → Int32) (se : Nat → Int32) (bs : Nat → Int32) (y0 : Nat → Int32) (n4 : Nat) (m4 : Nat) (g4 : Nat → Int32) (e0 : Nat → Int32) (y1 : Nat → Int32) (n5 : Nat) (m5 : Nat) (g5 : Nat → Int32) (e1 : Nat → Int32) (n6 : Nat) (m6 : Nat) (g6 : Nat → Int32) (Z : List va_W) (q : Int32) (wh : Int32) (hn : n1 ≤ 6) (hm : m1 ≤ 4) (hok : Sok g1) : tv_I l yX0_square cX0_square 3 (some .int) (tv_rm 2 45) G [.ref b, .int q, .int wh] (tvs G b x tp n1 m1 g1 n2 m2 g2 n3 m3 g3 se bs y0 n4 m4 g4 e0 y1 n5 m5 g5 e1 n6 m6 g6 Z).flatten (sp_tv_square n1 m1 g1 q wh) (tvs G b x tp n1 m1 g1 n2 m2 g2 n3 m3 g3 se bs y0 n4 m4 g4 e0 y1 n5 m5 g5 e1 n6 m6 g6 Z).flatten := by
  refine tv_I.st (S := (tvs G b x tp n1 m1 g1 n2 m2 g2 n3 m3 g3 se bs y0 n4 m4 g4 e0 y1 n5 m5 g5 e1 n6 m6 g6 Z)) (S' := (tvs G b x tp n1 m1 g1 n2 m2 g2 n3 m3 g3 se bs y0 n4 m4 g4 e0 y1 n5 m5 g5 e1 n6 m6 g6 Z)) rfl rfl (by decide) (Nat.le_of_ble_eq_true rfl) ?_
  intro p e s m below meth c A M hr w ls hl
  have hx := M.1.1
  have hb := M.1.2.1
  have hl : lv_has ls 3 [(0, .ref b), (1, .int q), (2, .int wh)] := hl
  refine lv_iload_n hx hb dX0_square_0 rfl (lv_at hl 1 rfl) ?_
  refine c_iS M w (S' := (tvs G b x tp n1 m1 g1 n2 m2 g2 n3 m3 g3 se bs y0 n4 m4 g4 e0 y1 n5 m5 g5 e1 n6 m6 g6 Z)) tv_in.nil (tv_isSquare l G q) q425 q378 q68 q379 nm_yX0_isSquare ⟨Nat.le_of_ble_eq_true rfl, Nat.le_of_ble_eq_true rfl⟩ rfl hl.1 (rest := []) rfl (Nat.le_of_ble_eq_true rfl) dX0_square_1 ⟨Nat.zero_le _, Nat.zero_le _⟩ (fun H locs w => ?_)
  refine lv_if_eq (tgt := 19) hx hb dX0_square_4 (by decide) (fun c5 => ?_) (fun c5 => ?_)
  · skip
    refine lv_iconst (v := -1) hx hb dX0_square_19 (by decide) ?_
    exact tv_iret M w hr (if_pos c5).symm dX0_square_20
  · skip
    refine lv_iload_n hx hb dX0_square_7 rfl (lv_at hl 2 rfl) ?_
    refine lv_i2l (v := wh.toInt64) hx hb dX0_square_8 rfl ?_
    refine lv_lconst (v := 0) hx hb dX0_square_9 (by decide) ?_
    refine lv_ldc2 (v := 3) hx hb M.1.2.2.2.1 (M.1.2.2.2.2 _ q426) dX0_square_10 ?_
    refine c_iS M w (S' := (tvs G b x tp n1 m1 g1 n2 m2 g2 n3 m3 g3 se bs y0 n4 m4 g4 e0 y1 n5 m5 g5 e1 n6 m6 g6 Z)) tv_in.nil (tv_isIn l G wh.toInt64 (0 : Int64) (3 : Int64)) q95 q96 q68 q97 nm_yX0_isIn ⟨Nat.le_of_ble_eq_true rfl, Nat.le_of_ble_eq_true rfl⟩ rfl hl.1 (rest := []) rfl (Nat.le_of_ble_eq_true rfl) dX0_square_13 ⟨Nat.zero_le _, Nat.zero_le _⟩ (fun H locs w => ?_)
    refine lv_if_ne (tgt := 21) hx hb dX0_square_16 (by decide) (fun c6 => ?_) (fun c6 => ?_)
    · skip
      refine lv_iload_n hx hb dX0_square_21 rfl (lv_at hl 2 rfl) ?_
      refine lv_iconst (v := 2) hx hb dX0_square_22 (by decide) ?_
      refine lv_icmp_ge (tgt := 40) hx hb dX0_square_23 (by decide) (fun c7 => ?_) (fun c7 => ?_)
      · skip
        refine lv_iload_n hx hb dX0_square_40 rfl (lv_at hl 2 rfl) ?_
        refine lv_iconst (v := 2) hx hb dX0_square_41 (by decide) ?_
        refine lv_icmp_ne (tgt := 56) hx hb dX0_square_42 (by decide) (fun c8 => ?_) (fun c8 => ?_)
        · skip
          refine lv_aload_n hx hb dX0_square_56 rfl (lv_at hl 0 rfl) ?_
          refine r_get M w tc0 0 0 3 rfl rfl (by decide) q722 rfl rfl dX0_square_57 ?_
          refine lv_iload_n hx hb dX0_square_60 rfl (lv_at hl 1 rfl) ?_
          refine c_iV M w (S' := (tvs G b x tp n1 m1 g1 n2 m2 g2 n3 m3 g3 se bs y0 n4 m4 g4 e0 y1 n5 m5 g5 e1 n6 m6 g6 Z)) (tv_in.seg 2 rfl rfl) (st_ministersAt l G (b + 2) n1 m1 g1 q (by omega) (by omega)) (q0 := 0) tc1 rfl q431 q432 q433 q69 q434 nm_yX1_ministersAt ⟨Nat.le_of_ble_eq_true rfl, Nat.le_of_ble_eq_true rfl⟩ rfl hl.1 (rest := []) rfl (Nat.le_of_ble_eq_true rfl) dX0_square_61 ⟨Nat.zero_le _, Nat.zero_le _⟩ (fun H locs w => ?_)
          exact tv_iret M w hr ((if_neg c5).trans ((if_neg c6).trans ((if_pos c7).trans (if_neg c8)))).symm dX0_square_64
        · skip
          refine lv_aload_n hx hb dX0_square_45 rfl (lv_at hl 0 rfl) ?_
          refine r_get M w tc0 0 0 3 rfl rfl (by decide) q722 rfl rfl dX0_square_46 ?_
          refine lv_iload_n hx hb dX0_square_49 rfl (lv_at hl 1 rfl) ?_
          refine c_iV M w (S' := (tvs G b x tp n1 m1 g1 n2 m2 g2 n3 m3 g3 se bs y0 n4 m4 g4 e0 y1 n5 m5 g5 e1 n6 m6 g6 Z)) (tv_in.seg 2 rfl rfl) (st_handsAt l G (b + 2) n1 m1 g1 q (by omega) (by omega)) (q0 := 0) tc1 rfl q427 q428 q429 q69 q430 nm_yX1_handsAt ⟨Nat.le_of_ble_eq_true rfl, Nat.le_of_ble_eq_true rfl⟩ rfl hl.1 (rest := []) rfl (Nat.le_of_ble_eq_true rfl) dX0_square_50 ⟨Nat.zero_le _, Nat.zero_le _⟩ (fun H locs w => ?_)
          refine lv_goto (tgt := 64) hx hb dX0_square_53 (by decide) ?_
          exact tv_iret M w hr ((if_neg c5).trans ((if_neg c6).trans ((if_pos c7).trans (if_pos c8)))).symm dX0_square_64
      · skip
        refine lv_aload_n hx hb dX0_square_26 rfl (lv_at hl 0 rfl) ?_
        refine r_get M w tc0 0 0 3 rfl rfl (by decide) q722 rfl rfl dX0_square_27 ?_
        refine r_getN M w tc1 2 0 0 rfl rfl (by decide) q129 rfl rfl dX0_square_30 ?_
        refine lv_iload_n hx hb dX0_square_33 rfl (lv_at hl 1 rfl) ?_
        refine r_aald M w 2 1 4 rfl rfl rfl rfl (vp_w (inL_1 (k := 5) (by omega) c5) (by omega)) (v := (b + 2) + 2 + q.toNatClampNeg) (oref_in (vp_w (inL_1 (k := 5) (by omega) c5) (by omega))) dX0_square_34 ?_
        refine lv_iload_n hx hb dX0_square_35 rfl (lv_at hl 2 rfl) ?_
        refine r_iald M w 2 (2 + q.toNatClampNeg) rfl (stg_sq G (b + 2) n1 m1 g1 (vp_cl (vp_w (inL_1 (k := 5) (by omega) c5) (by omega)))) (vp_w (vp_cut (k := 2) (inL_1 (k := 3) (by omega) c6) c7 (by omega)) (by omega)) (v := g1 (2 * q.toNatClampNeg + wh.toNatClampNeg)) (row_inx (vp_w (vp_cut (k := 2) (inL_1 (k := 3) (by omega) c6) c7 (by omega)) (by omega))) dX0_square_36 ?_
        refine lv_goto (tgt := 64) hx hb dX0_square_37 (by decide) ?_
        exact tv_iret M w hr ((if_neg c5).trans ((if_neg c6).trans (if_neg c7))).symm dX0_square_64
    · skip
      refine lv_iconst (v := -1) hx hb dX0_square_19 (by decide) ?_
      exact tv_iret M w hr ((if_neg c5).trans (if_pos c6)).symm dX0_square_20
def sp_tv_hand (n1 : Nat) (g1 : Nat → Int32) (h : Int32) (wh : Int32) : Int32 := if (isI h n1) = 0 then (-1) else (if (inL wh.toInt64 (0 : Int64) (3 : Int64)) = 0 then (-1) else (if 3 ≤ wh then (wt g1 h.toNatClampNeg) else (g1 (12 + 3 * h.toNatClampNeg + wh.toNatClampNeg))))
set_option maxHeartbeats 4000000 in
set_option maxRecDepth 100000 in
theorem tv_hand (l : Launch) (G : tG) (b : Nat) (x : Nat → Int32) (tp : Nat → Int32) (n1 : Nat) (m1 : Nat) (g1 : Nat → Int32) (n2 : Nat) (m2 : Nat) (g2 : Nat → Int32) (n3 : Nat) (m3 : Nat) (g3 : Nat → Int32) (se : Nat → Int32) (bs : Nat → Int32) (y0 : Nat → Int32) (n4 : Nat) (m4 : Nat) (g4 : Nat → Int32) (e0 : Nat → Int32) (y1 : Nat → Int32) (n5 : Nat) (m5 : Nat) (g5 : Nat → Int32) (e1 : Nat → Int32) (n6 : Nat) (m6 : Nat) (g6 : Nat → Int32) (Z : List va_W) (h : Int32) (wh : Int32) (hn : n1 ≤ 6) (hm : m1 ≤ 4) (hok : Sok g1) : tv_I l yX0_hand cX0_hand 3 (some .int) (tv_rm 2 46) G [.ref b, .int h, .int wh] (tvs G b x tp n1 m1 g1 n2 m2 g2 n3 m3 g3 se bs y0 n4 m4 g4 e0 y1 n5 m5 g5 e1 n6 m6 g6 Z).flatten (sp_tv_hand n1 g1 h wh) (tvs G b x tp n1 m1 g1 n2 m2 g2 n3 m3 g3 se bs y0 n4 m4 g4 e0 y1 n5 m5 g5 e1 n6 m6 g6 Z).flatten := by
  refine tv_I.st (S := (tvs G b x tp n1 m1 g1 n2 m2 g2 n3 m3 g3 se bs y0 n4 m4 g4 e0 y1 n5 m5 g5 e1 n6 m6 g6 Z)) (S' := (tvs G b x tp n1 m1 g1 n2 m2 g2 n3 m3 g3 se bs y0 n4 m4 g4 e0 y1 n5 m5 g5 e1 n6 m6 g6 Z)) rfl rfl (by decide) (Nat.le_of_ble_eq_true rfl) ?_
  intro p e s m below meth c A M hr w ls hl
  have hx := M.1.1
  have hb := M.1.2.1
  have hl : lv_has ls 3 [(0, .ref b), (1, .int h), (2, .int wh)] := hl
  refine lv_aload_n hx hb dX0_hand_0 rfl (lv_at hl 0 rfl) ?_
  refine lv_iload_n hx hb dX0_hand_1 rfl (lv_at hl 1 rfl) ?_
  refine c_iV M w (S' := (tvs G b x tp n1 m1 g1 n2 m2 g2 n3 m3 g3 se bs y0 n4 m4 g4 e0 y1 n5 m5 g5 e1 n6 m6 g6 Z)) tv_in.all (tv_isHand l G b x tp n1 m1 g1 n2 m2 g2 n3 m3 g3 se bs y0 n4 m4 g4 e0 y1 n5 m5 g5 e1 n6 m6 g6 Z h (by omega) (by omega)) (q0 := 0) tc0 rfl q439 q441 qs12 q68 q443 nm_yX0_isHand ⟨Nat.le_of_ble_eq_true rfl, Nat.le_of_ble_eq_true rfl⟩ rfl hl.1 (rest := []) rfl (Nat.le_of_ble_eq_true rfl) dX0_hand_2 ⟨Nat.zero_le _, Nat.zero_le _⟩ (fun H locs w => ?_)
  refine lv_if_eq (tgt := 20) hx hb dX0_hand_5 (by decide) (fun c4 => ?_) (fun c4 => ?_)
  · skip
    refine lv_iconst (v := -1) hx hb dX0_hand_20 (by decide) ?_
    exact tv_iret M w hr (if_pos c4).symm dX0_hand_21
  · skip
    refine lv_iload_n hx hb dX0_hand_8 rfl (lv_at hl 2 rfl) ?_
    refine lv_i2l (v := wh.toInt64) hx hb dX0_hand_9 rfl ?_
    refine lv_lconst (v := 0) hx hb dX0_hand_10 (by decide) ?_
    refine lv_ldc2 (v := 3) hx hb M.1.2.2.2.1 (M.1.2.2.2.2 _ q426) dX0_hand_11 ?_
    refine c_iS M w (S' := (tvs G b x tp n1 m1 g1 n2 m2 g2 n3 m3 g3 se bs y0 n4 m4 g4 e0 y1 n5 m5 g5 e1 n6 m6 g6 Z)) tv_in.nil (tv_isIn l G wh.toInt64 (0 : Int64) (3 : Int64)) q95 q96 q68 q97 nm_yX0_isIn ⟨Nat.le_of_ble_eq_true rfl, Nat.le_of_ble_eq_true rfl⟩ rfl hl.1 (rest := []) rfl (Nat.le_of_ble_eq_true rfl) dX0_hand_14 ⟨Nat.zero_le _, Nat.zero_le _⟩ (fun H locs w => ?_)
    refine lv_if_ne (tgt := 22) hx hb dX0_hand_17 (by decide) (fun c5 => ?_) (fun c5 => ?_)
    · skip
      refine lv_iload_n hx hb dX0_hand_22 rfl (lv_at hl 2 rfl) ?_
      refine lv_iconst (v := 3) hx hb dX0_hand_23 (by decide) ?_
      refine lv_icmp_ge (tgt := 41) hx hb dX0_hand_24 (by decide) (fun c6 => ?_) (fun c6 => ?_)
      · skip
        refine lv_aload_n hx hb dX0_hand_41 rfl (lv_at hl 0 rfl) ?_
        refine r_get M w tc0 0 0 3 rfl rfl (by decide) q722 rfl rfl dX0_hand_42 ?_
        refine lv_iload_n hx hb dX0_hand_45 rfl (lv_at hl 1 rfl) ?_
        refine c_iV M w (S' := (tvs G b x tp n1 m1 g1 n2 m2 g2 n3 m3 g3 se bs y0 n4 m4 g4 e0 y1 n5 m5 g5 e1 n6 m6 g6 Z)) (tv_in.seg 2 rfl rfl) (st_wantsX l G (b + 2) n1 m1 g1 h (vp_w (isI_1 c4 (by omega)) (by omega)) (hok.at (vp_cl (vp_w (isI_1 c4 (by omega)) (by omega))))) (q0 := 0) tc1 rfl q444 q411 q412 q69 q413 nm_yX1_wants ⟨Nat.le_of_ble_eq_true rfl, Nat.le_of_ble_eq_true rfl⟩ rfl hl.1 (rest := []) rfl (Nat.le_of_ble_eq_true rfl) dX0_hand_46 ⟨Nat.zero_le _, Nat.zero_le _⟩ (fun H locs w => ?_)
        exact tv_iret M w hr ((if_neg c4).trans ((if_neg c5).trans (if_pos c6))).symm dX0_hand_49
      · skip
        refine lv_aload_n hx hb dX0_hand_27 rfl (lv_at hl 0 rfl) ?_
        refine r_get M w tc0 0 0 3 rfl rfl (by decide) q722 rfl rfl dX0_hand_28 ?_
        refine r_getN M w tc1 2 0 1 rfl rfl (by decide) q132 rfl rfl dX0_hand_31 ?_
        refine lv_iload_n hx hb dX0_hand_34 rfl (lv_at hl 1 rfl) ?_
        refine r_aald M w 2 8 4 rfl rfl rfl rfl (vp_w (isI_1 c4 (by omega)) (by omega)) (v := (b + 2) + 9 + h.toNatClampNeg) (oref_in (vp_w (isI_1 c4 (by omega)) (by omega))) dX0_hand_35 ?_
        refine lv_iload_n hx hb dX0_hand_36 rfl (lv_at hl 2 rfl) ?_
        refine r_iald M w 2 (9 + h.toNatClampNeg) rfl (stg_hd G (b + 2) n1 m1 g1 (vp_cl (vp_w (isI_1 c4 (by omega)) (by omega)))) (vp_w (vp_cut (k := 3) (inL_1 (k := 3) (by omega) c5) c6 (by omega)) (by omega)) (v := g1 (12 + 3 * h.toNatClampNeg + wh.toNatClampNeg)) (row_inx (vp_w (vp_cut (k := 3) (inL_1 (k := 3) (by omega) c5) c6 (by omega)) (by omega))) dX0_hand_37 ?_
        refine lv_goto (tgt := 49) hx hb dX0_hand_38 (by decide) ?_
        exact tv_iret M w hr ((if_neg c4).trans ((if_neg c5).trans (if_neg c6))).symm dX0_hand_49
    · skip
      refine lv_iconst (v := -1) hx hb dX0_hand_20 (by decide) ?_
      exact tv_iret M w hr ((if_neg c4).trans (if_pos c5)).symm dX0_hand_21
def sp_tv_isGood (wh : Int32) (v : Int32) : Int32 := if wh = 0 then (inL v.toInt64 (0 : Int64) (3 : Int64)) else (if wh = 1 then (inL v.toInt64 (0 : Int64) (5 : Int64)) else (if wh = 2 then (inL v.toInt64 (0 : Int64) (99 : Int64)) else 0))
set_option maxHeartbeats 4000000 in
set_option maxRecDepth 100000 in
theorem tv_isGood (l : Launch) (G : tG) (wh : Int32) (v : Int32) : tv_I l yX0_isGood cX0_isGood 2 (some .boolean) (tv_rm 2 45) G [.int wh, .int v] [] (sp_tv_isGood wh v) [] := by
  refine tv_I.st (S := []) (S' := []) rfl rfl (by decide) (Nat.le_of_ble_eq_true rfl) ?_
  intro p e s m below meth c A M hr w ls hl
  have hx := M.1.1
  have hb := M.1.2.1
  have hl : lv_has ls 2 [(0, .int wh), (1, .int v)] := hl
  refine lv_iload_n hx hb dX0_isGood_0 rfl (lv_at hl 0 rfl) ?_
  by_cases t2_0 : wh = 0
  · skip
    refine lv_tableIn (tgt := 28) hx hb dX0_isGood_1 (by rw [t2_0]; decide) (by rw [t2_0]; decide) (by rw [t2_0]; rfl) (by decide) ?_
    refine lv_iload_n hx hb dX0_isGood_28 rfl (lv_at hl 1 rfl) ?_
    refine lv_i2l (v := v.toInt64) hx hb dX0_isGood_29 rfl ?_
    refine lv_lconst (v := 0) hx hb dX0_isGood_30 (by decide) ?_
    refine lv_ldc2 (v := 3) hx hb M.1.2.2.2.1 (M.1.2.2.2.2 _ q426) dX0_isGood_31 ?_
    refine c_iS M w (S' := []) tv_in.nil (tv_isIn l G v.toInt64 (0 : Int64) (3 : Int64)) q95 q96 q68 q97 nm_yX0_isIn ⟨Nat.le_of_ble_eq_true rfl, Nat.le_of_ble_eq_true rfl⟩ rfl hl.1 (rest := []) rfl (Nat.le_of_ble_eq_true rfl) dX0_isGood_34 ⟨Nat.zero_le _, Nat.zero_le _⟩ (fun H locs w => ?_)
    exact tv_zret M w hr inL_nar (if_pos t2_0).symm dX0_isGood_37
  by_cases t2_1 : wh = 1
  · skip
    refine lv_tableIn (tgt := 38) hx hb dX0_isGood_1 (by rw [t2_1]; decide) (by rw [t2_1]; decide) (by rw [t2_1]; rfl) (by decide) ?_
    refine lv_iload_n hx hb dX0_isGood_38 rfl (lv_at hl 1 rfl) ?_
    refine c_iS M w (S' := []) tv_in.nil (tv_isSquare l G v) q425 q378 q68 q379 nm_yX0_isSquare ⟨Nat.le_of_ble_eq_true rfl, Nat.le_of_ble_eq_true rfl⟩ rfl hl.1 (rest := []) rfl (Nat.le_of_ble_eq_true rfl) dX0_isGood_39 ⟨Nat.zero_le _, Nat.zero_le _⟩ (fun H locs w => ?_)
    exact tv_zret M w hr inL_nar ((if_neg t2_0).trans (if_pos t2_1)).symm dX0_isGood_42
  by_cases t2_2 : wh = 2
  · skip
    refine lv_tableIn (tgt := 43) hx hb dX0_isGood_1 (by rw [t2_2]; decide) (by rw [t2_2]; decide) (by rw [t2_2]; rfl) (by decide) ?_
    refine lv_iload_n hx hb dX0_isGood_43 rfl (lv_at hl 1 rfl) ?_
    refine lv_i2l (v := v.toInt64) hx hb dX0_isGood_44 rfl ?_
    refine lv_lconst (v := 0) hx hb dX0_isGood_45 (by decide) ?_
    refine lv_ldc2 (v := 99) hx hb M.1.2.2.2.1 (M.1.2.2.2.2 _ q492) dX0_isGood_46 ?_
    refine c_iS M w (S' := []) tv_in.nil (tv_isIn l G v.toInt64 (0 : Int64) (99 : Int64)) q95 q96 q68 q97 nm_yX0_isIn ⟨Nat.le_of_ble_eq_true rfl, Nat.le_of_ble_eq_true rfl⟩ rfl hl.1 (rest := []) rfl (Nat.le_of_ble_eq_true rfl) dX0_isGood_49 ⟨Nat.zero_le _, Nat.zero_le _⟩ (fun H locs w => ?_)
    exact tv_zret M w hr inL_nar ((if_neg t2_0).trans ((if_neg t2_1).trans (if_pos t2_2))).symm dX0_isGood_52
  refine lv_tableOut (tgt := 53) hx hb dX0_isGood_1 (by have e : ∀ k : Int32, ¬ wh = k → ¬ (wh).toInt = k.toInt := fun k h q => h (Int32.toInt_inj.mp q); have := e _ t2_0; rw [show (0 : Int32).toInt = 0 from rfl] at this; have := e _ t2_1; rw [show (1 : Int32).toInt = 1 from rfl] at this; have := e _ t2_2; rw [show (2 : Int32).toInt = 2 from rfl] at this; omega) (by decide) ?_
  refine lv_iconst (v := 0) hx hb dX0_isGood_53 (by decide) ?_
  exact tv_zret M w hr rfl ((if_neg t2_0).trans ((if_neg t2_1).trans (if_neg t2_2))).symm dX0_isGood_54
theorem good_in {wh v : Int32} (c : ¬ sp_tv_isGood wh v = 0) : vp_in wh 3 := by
  unfold sp_tv_isGood at c
  by_cases h0 : wh = 0
  · rw [h0]; exact vp_in_nI (n := 0) (by omega) (by omega)
  · rw [if_neg h0] at c
    by_cases h1 : wh = 1
    · rw [h1]; exact vp_in_nI (n := 1) (by omega) (by omega)
    · rw [if_neg h1] at c
      by_cases h2 : wh = 2
      · rw [h2]; exact vp_in_nI (n := 2) (by omega) (by omega)
      · rw [if_neg h2] at c; exact absurd rfl c
def sp_tv_altered (n1 : Nat) (g1 : Nat → Int32) (h : Int32) (wh : Int32) (v : Int32) : Int32 := if (isI h n1) = 0 then (-1) else (if (sp_tv_isGood wh v) = 0 then (-1) else (g1 (12 + 3 * h.toNatClampNeg + wh.toNatClampNeg)))
def sp_tv_altered_g1 (n1 : Nat) (g1 : Nat → Int32) (h : Int32) (wh : Int32) (v : Int32) : Nat → Int32 := if (isI h n1) = 0 then g1 else (if (sp_tv_isGood wh v) = 0 then g1 else (upd g1 (12 + 3 * h.toNatClampNeg + wh.toNatClampNeg) v))
set_option maxHeartbeats 4000000 in
set_option maxRecDepth 100000 in
theorem tv_altered (l : Launch) (G : tG) (b : Nat) (x : Nat → Int32) (tp : Nat → Int32) (n1 : Nat) (m1 : Nat) (g1 : Nat → Int32) (n2 : Nat) (m2 : Nat) (g2 : Nat → Int32) (n3 : Nat) (m3 : Nat) (g3 : Nat → Int32) (se : Nat → Int32) (bs : Nat → Int32) (y0 : Nat → Int32) (n4 : Nat) (m4 : Nat) (g4 : Nat → Int32) (e0 : Nat → Int32) (y1 : Nat → Int32) (n5 : Nat) (m5 : Nat) (g5 : Nat → Int32) (e1 : Nat → Int32) (n6 : Nat) (m6 : Nat) (g6 : Nat → Int32) (Z : List va_W) (h : Int32) (wh : Int32) (v : Int32) (hn : n1 ≤ 6) (hm : m1 ≤ 4) (hok : Sok g1) : tv_I l yX0_altered cX0_altered 5 (some .int) (tv_rm 3 66) G [.ref b, .int h, .int wh, .int v] (tvs G b x tp n1 m1 g1 n2 m2 g2 n3 m3 g3 se bs y0 n4 m4 g4 e0 y1 n5 m5 g5 e1 n6 m6 g6 Z).flatten (sp_tv_altered n1 g1 h wh v) (tvs G b x tp n1 m1 (sp_tv_altered_g1 n1 g1 h wh v) n2 m2 g2 n3 m3 g3 se bs y0 n4 m4 g4 e0 y1 n5 m5 g5 e1 n6 m6 g6 Z).flatten := by
  refine tv_I.st (S := (tvs G b x tp n1 m1 g1 n2 m2 g2 n3 m3 g3 se bs y0 n4 m4 g4 e0 y1 n5 m5 g5 e1 n6 m6 g6 Z)) (S' := (tvs G b x tp n1 m1 (sp_tv_altered_g1 n1 g1 h wh v) n2 m2 g2 n3 m3 g3 se bs y0 n4 m4 g4 e0 y1 n5 m5 g5 e1 n6 m6 g6 Z)) rfl rfl (by decide) (Nat.le_of_ble_eq_true rfl) ?_
  intro p e s m below meth c A M hr w ls hl
  have hx := M.1.1
  have hb := M.1.2.1
  have hl : lv_has ls 5 [(0, .ref b), (1, .int h), (2, .int wh), (3, .int v)] := hl
  refine lv_aload_n hx hb dX0_altered_0 rfl (lv_at hl 0 rfl) ?_
  refine lv_iload_n hx hb dX0_altered_1 rfl (lv_at hl 1 rfl) ?_
  refine c_iV M w (S' := (tvs G b x tp n1 m1 g1 n2 m2 g2 n3 m3 g3 se bs y0 n4 m4 g4 e0 y1 n5 m5 g5 e1 n6 m6 g6 Z)) tv_in.all (tv_isHand l G b x tp n1 m1 g1 n2 m2 g2 n3 m3 g3 se bs y0 n4 m4 g4 e0 y1 n5 m5 g5 e1 n6 m6 g6 Z h (by omega) (by omega)) (q0 := 0) tc0 rfl q439 q441 qs12 q68 q443 nm_yX0_isHand ⟨Nat.le_of_ble_eq_true rfl, Nat.le_of_ble_eq_true rfl⟩ rfl hl.1 (rest := []) rfl (Nat.le_of_ble_eq_true rfl) dX0_altered_2 ⟨Nat.zero_le _, Nat.zero_le _⟩ (fun H locs w => ?_)
  refine lv_if_eq (tgt := 16) hx hb dX0_altered_5 (by decide) (fun c3 => ?_) (fun c3 => ?_)
  · skip
    refine lv_iconst (v := -1) hx hb dX0_altered_16 (by decide) ?_
    exact tv_iret M (by rw [show sp_tv_altered_g1 n1 g1 h wh v = _ from if_pos c3]; exact w) hr (if_pos c3).symm dX0_altered_17
  · skip
    refine lv_iload_n hx hb dX0_altered_8 rfl (lv_at hl 2 rfl) ?_
    refine lv_iload_n hx hb dX0_altered_9 rfl (lv_at hl 3 rfl) ?_
    refine c_iS M w (S' := (tvs G b x tp n1 m1 g1 n2 m2 g2 n3 m3 g3 se bs y0 n4 m4 g4 e0 y1 n5 m5 g5 e1 n6 m6 g6 Z)) tv_in.nil (tv_isGood l G wh v) q489 q490 q68 q491 nm_yX0_isGood ⟨Nat.le_of_ble_eq_true rfl, Nat.le_of_ble_eq_true rfl⟩ rfl hl.1 (rest := []) rfl (Nat.le_of_ble_eq_true rfl) dX0_altered_10 ⟨Nat.zero_le _, Nat.zero_le _⟩ (fun H locs w => ?_)
    refine lv_if_ne (tgt := 18) hx hb dX0_altered_13 (by decide) (fun c4 => ?_) (fun c4 => ?_)
    · skip
      refine lv_aload_n hx hb dX0_altered_18 rfl (lv_at hl 0 rfl) ?_
      refine r_get M w tc0 0 0 3 rfl rfl (by decide) q722 rfl rfl dX0_altered_19 ?_
      refine r_getN M w tc1 2 0 1 rfl rfl (by decide) q132 rfl rfl dX0_altered_22 ?_
      refine lv_iload_n hx hb dX0_altered_25 rfl (lv_at hl 1 rfl) ?_
      refine r_aald M w 2 8 4 rfl rfl rfl rfl (vp_w (isI_1 c3 (by omega)) (by omega)) (v := (b + 2) + 9 + h.toNatClampNeg) (oref_in (vp_w (isI_1 c3 (by omega)) (by omega))) dX0_altered_26 ?_
      refine lv_iload_n hx hb dX0_altered_27 rfl (lv_at hl 2 rfl) ?_
      refine r_iald M w 2 (9 + h.toNatClampNeg) rfl (stg_hd G (b + 2) n1 m1 g1 (vp_cl (vp_w (isI_1 c3 (by omega)) (by omega)))) (vp_w (good_in c4) (by omega)) (v := g1 (12 + 3 * h.toNatClampNeg + wh.toNatClampNeg)) (row_inx (vp_w (good_in c4) (by omega))) dX0_altered_28 ?_
      refine lv_istore (lv' := [(4, .int (g1 (12 + 3 * h.toNatClampNeg + wh.toNatClampNeg))), (0, .ref b), (1, .int h), (2, .int wh), (3, .int v)]) hx hb dX0_altered_29 hl (by decide) rfl (fun ls hl => ?_)
      refine lv_aload_n hx hb dX0_altered_31 rfl (lv_at hl 1 rfl) ?_
      refine r_get M w tc0 0 0 3 rfl rfl (by decide) q722 rfl rfl dX0_altered_32 ?_
      refine r_getN M w tc1 2 0 1 rfl rfl (by decide) q132 rfl rfl dX0_altered_35 ?_
      refine lv_iload_n hx hb dX0_altered_38 rfl (lv_at hl 2 rfl) ?_
      refine r_aald M w 2 8 4 rfl rfl rfl rfl (vp_w (isI_1 c3 (by omega)) (by omega)) (v := (b + 2) + 9 + h.toNatClampNeg) (oref_in (vp_w (isI_1 c3 (by omega)) (by omega))) dX0_altered_39 ?_
      refine lv_iload_n hx hb dX0_altered_40 rfl (lv_at hl 3 rfl) ?_
      refine lv_iload_n hx hb dX0_altered_41 rfl (lv_at hl 4 rfl) ?_
      refine r_iast M w 2 (9 + h.toNatClampNeg) rfl (stg_hd G (b + 2) n1 m1 g1 (vp_cl (vp_w (isI_1 c3 (by omega)) (by omega)))) (vp_w (good_in c4) (by omega)) (S' := (tvs G b x tp n1 m1 (upd g1 (12 + 3 * h.toNatClampNeg + wh.toNatClampNeg) v) n2 m2 g2 n3 m3 g3 se bs y0 n4 m4 g4 e0 y1 n5 m5 g5 e1 n6 m6 g6 Z)) (congrArg (fun zz_ => List.set (tvs G b x tp n1 m1 g1 n2 m2 g2 n3 m3 g3 se bs y0 n4 m4 g4 e0 y1 n5 m5 g5 e1 n6 m6 g6 Z) 2 zz_) (stg_hdS G (b + 2) n1 m1 g1 (i := wh.toNatClampNeg) (vp_cl (vp_w (isI_1 c3 (by omega)) (by omega))) (vp_cl (vp_w (good_in c4) (by omega))) v)) dX0_altered_42 (fun H locs w => ?_)
      refine lv_iload hx hb dX0_altered_43 (lv_at hl 0 rfl) ?_
      exact tv_iret M (by rw [show sp_tv_altered_g1 n1 g1 h wh v = _ from (if_neg c3).trans (if_neg c4)]; exact w) hr ((if_neg c3).trans (if_neg c4)).symm dX0_altered_45
    · skip
      refine lv_iconst (v := -1) hx hb dX0_altered_16 (by decide) ?_
      exact tv_iret M (by rw [show sp_tv_altered_g1 n1 g1 h wh v = _ from (if_neg c3).trans (if_pos c4)]; exact w) hr ((if_neg c3).trans (if_pos c4)).symm dX0_altered_17
def sp_tv_alter (n1 : Nat) (g1 : Nat → Int32) (h : Int32) (wh : Int32) (v : Int32) : Int32 := sp_tv_altered n1 g1 h wh v
def sp_tv_alter_g1 (n1 : Nat) (g1 : Nat → Int32) (h : Int32) (wh : Int32) (v : Int32) : Nat → Int32 := sp_tv_altered_g1 n1 g1 h wh v
set_option maxHeartbeats 4000000 in
set_option maxRecDepth 100000 in
theorem tv_alter (l : Launch) (G : tG) (b : Nat) (x : Nat → Int32) (tp : Nat → Int32) (n1 : Nat) (m1 : Nat) (g1 : Nat → Int32) (n2 : Nat) (m2 : Nat) (g2 : Nat → Int32) (n3 : Nat) (m3 : Nat) (g3 : Nat → Int32) (se : Nat → Int32) (bs : Nat → Int32) (y0 : Nat → Int32) (n4 : Nat) (m4 : Nat) (g4 : Nat → Int32) (e0 : Nat → Int32) (y1 : Nat → Int32) (n5 : Nat) (m5 : Nat) (g5 : Nat → Int32) (e1 : Nat → Int32) (n6 : Nat) (m6 : Nat) (g6 : Nat → Int32) (Z : List va_W) (h : Int32) (wh : Int32) (v : Int32) (hn : n1 ≤ 6) (hm : m1 ≤ 4) (hok : Sok g1) : tv_I l yX0_alter cX0_alter 4 (some .int) (tv_rm 4 90) G [.ref b, .int h, .int wh, .int v] (tvs G b x tp n1 m1 g1 n2 m2 g2 n3 m3 g3 se bs y0 n4 m4 g4 e0 y1 n5 m5 g5 e1 n6 m6 g6 Z).flatten (sp_tv_alter n1 g1 h wh v) (tvs G b x tp n1 m1 (sp_tv_alter_g1 n1 g1 h wh v) n2 m2 g2 n3 m3 g3 se bs y0 n4 m4 g4 e0 y1 n5 m5 g5 e1 n6 m6 g6 Z).flatten := by
  refine tv_I.st (S := (tvs G b x tp n1 m1 g1 n2 m2 g2 n3 m3 g3 se bs y0 n4 m4 g4 e0 y1 n5 m5 g5 e1 n6 m6 g6 Z)) (S' := (tvs G b x tp n1 m1 (sp_tv_alter_g1 n1 g1 h wh v) n2 m2 g2 n3 m3 g3 se bs y0 n4 m4 g4 e0 y1 n5 m5 g5 e1 n6 m6 g6 Z)) rfl rfl (by decide) (Nat.le_of_ble_eq_true rfl) ?_
  intro p e s m below meth c A M hr w ls hl
  have hx := M.1.1
  have hb := M.1.2.1
  have hl : lv_has ls 4 [(0, .ref b), (1, .int h), (2, .int wh), (3, .int v)] := hl
  refine lv_aload_n hx hb dX0_alter_0 rfl (lv_at hl 0 rfl) ?_
  refine lv_iload_n hx hb dX0_alter_1 rfl (lv_at hl 1 rfl) ?_
  refine lv_iload_n hx hb dX0_alter_2 rfl (lv_at hl 2 rfl) ?_
  refine lv_iload_n hx hb dX0_alter_3 rfl (lv_at hl 3 rfl) ?_
  refine c_iV M w (S' := (tvs G b x tp n1 m1 (sp_tv_altered_g1 n1 g1 h wh v) n2 m2 g2 n3 m3 g3 se bs y0 n4 m4 g4 e0 y1 n5 m5 g5 e1 n6 m6 g6 Z)) tv_in.all (tv_altered l G b x tp n1 m1 g1 n2 m2 g2 n3 m3 g3 se bs y0 n4 m4 g4 e0 y1 n5 m5 g5 e1 n6 m6 g6 Z h wh v (by omega) (by omega) hok) (q0 := 0) tc0 rfl q485 q487 qs14 q68 q488 nm_yX0_altered ⟨Nat.le_of_ble_eq_true rfl, Nat.le_of_ble_eq_true rfl⟩ rfl hl.1 (rest := []) rfl (Nat.le_of_ble_eq_true rfl) dX0_alter_4 ⟨Nat.zero_le _, Nat.zero_le _⟩ (fun H locs w => ?_)
  exact tv_iret M w hr rfl dX0_alter_7
def sp_tv_tread (m1 : Nat) (g1 : Nat → Int32) (u : Int32) (v : Int32) : Int32 := if (isI u m1) = 0 then (-1) else (if (inL v.toInt64 (0 : Int64) (9 : Int64)) = 0 then (-1) else (g1 (30 + 2 * u.toNatClampNeg)))
def sp_tv_tread_g1 (m1 : Nat) (g1 : Nat → Int32) (u : Int32) (v : Int32) : Nat → Int32 := if (isI u m1) = 0 then g1 else (if (inL v.toInt64 (0 : Int64) (9 : Int64)) = 0 then g1 else (upd g1 (30 + 2 * u.toNatClampNeg) v))
set_option maxHeartbeats 4000000 in
set_option maxRecDepth 100000 in
theorem tv_tread (l : Launch) (G : tG) (b : Nat) (x : Nat → Int32) (tp : Nat → Int32) (n1 : Nat) (m1 : Nat) (g1 : Nat → Int32) (n2 : Nat) (m2 : Nat) (g2 : Nat → Int32) (n3 : Nat) (m3 : Nat) (g3 : Nat → Int32) (se : Nat → Int32) (bs : Nat → Int32) (y0 : Nat → Int32) (n4 : Nat) (m4 : Nat) (g4 : Nat → Int32) (e0 : Nat → Int32) (y1 : Nat → Int32) (n5 : Nat) (m5 : Nat) (g5 : Nat → Int32) (e1 : Nat → Int32) (n6 : Nat) (m6 : Nat) (g6 : Nat → Int32) (Z : List va_W) (u : Int32) (v : Int32) (hn : n1 ≤ 6) (hm : m1 ≤ 4) (hok : Sok g1) : tv_I l yX0_tread cX0_tread 4 (some .int) (tv_rm 2 46) G [.ref b, .int u, .int v] (tvs G b x tp n1 m1 g1 n2 m2 g2 n3 m3 g3 se bs y0 n4 m4 g4 e0 y1 n5 m5 g5 e1 n6 m6 g6 Z).flatten (sp_tv_tread m1 g1 u v) (tvs G b x tp n1 m1 (sp_tv_tread_g1 m1 g1 u v) n2 m2 g2 n3 m3 g3 se bs y0 n4 m4 g4 e0 y1 n5 m5 g5 e1 n6 m6 g6 Z).flatten := by
  refine tv_I.st (S := (tvs G b x tp n1 m1 g1 n2 m2 g2 n3 m3 g3 se bs y0 n4 m4 g4 e0 y1 n5 m5 g5 e1 n6 m6 g6 Z)) (S' := (tvs G b x tp n1 m1 (sp_tv_tread_g1 m1 g1 u v) n2 m2 g2 n3 m3 g3 se bs y0 n4 m4 g4 e0 y1 n5 m5 g5 e1 n6 m6 g6 Z)) rfl rfl (by decide) (Nat.le_of_ble_eq_true rfl) ?_
  intro p e s m below meth c A M hr w ls hl
  have hx := M.1.1
  have hb := M.1.2.1
  have hl : lv_has ls 4 [(0, .ref b), (1, .int u), (2, .int v)] := hl
  refine lv_aload_n hx hb dX0_tread_0 rfl (lv_at hl 0 rfl) ?_
  refine lv_iload_n hx hb dX0_tread_1 rfl (lv_at hl 1 rfl) ?_
  refine c_iV M w (S' := (tvs G b x tp n1 m1 g1 n2 m2 g2 n3 m3 g3 se bs y0 n4 m4 g4 e0 y1 n5 m5 g5 e1 n6 m6 g6 Z)) tv_in.all (tv_isMinister l G b x tp n1 m1 g1 n2 m2 g2 n3 m3 g3 se bs y0 n4 m4 g4 e0 y1 n5 m5 g5 e1 n6 m6 g6 Z u (by omega) (by omega)) (q0 := 0) tc0 rfl q449 q451 qs13 q68 q452 nm_yX0_isMinister ⟨Nat.le_of_ble_eq_true rfl, Nat.le_of_ble_eq_true rfl⟩ rfl hl.1 (rest := []) rfl (Nat.le_of_ble_eq_true rfl) dX0_tread_2 ⟨Nat.zero_le _, Nat.zero_le _⟩ (fun H locs w => ?_)
  refine lv_if_eq (tgt := 20) hx hb dX0_tread_5 (by decide) (fun c3 => ?_) (fun c3 => ?_)
  · skip
    refine lv_iconst (v := -1) hx hb dX0_tread_20 (by decide) ?_
    exact tv_iret M (by rw [show sp_tv_tread_g1 m1 g1 u v = _ from if_pos c3]; exact w) hr (if_pos c3).symm dX0_tread_21
  · skip
    refine lv_iload_n hx hb dX0_tread_8 rfl (lv_at hl 2 rfl) ?_
    refine lv_i2l (v := v.toInt64) hx hb dX0_tread_9 rfl ?_
    refine lv_lconst (v := 0) hx hb dX0_tread_10 (by decide) ?_
    refine lv_ldc2 (v := 9) hx hb M.1.2.2.2.1 (M.1.2.2.2.2 _ q497) dX0_tread_11 ?_
    refine c_iS M w (S' := (tvs G b x tp n1 m1 g1 n2 m2 g2 n3 m3 g3 se bs y0 n4 m4 g4 e0 y1 n5 m5 g5 e1 n6 m6 g6 Z)) tv_in.nil (tv_isIn l G v.toInt64 (0 : Int64) (9 : Int64)) q95 q96 q68 q97 nm_yX0_isIn ⟨Nat.le_of_ble_eq_true rfl, Nat.le_of_ble_eq_true rfl⟩ rfl hl.1 (rest := []) rfl (Nat.le_of_ble_eq_true rfl) dX0_tread_14 ⟨Nat.zero_le _, Nat.zero_le _⟩ (fun H locs w => ?_)
    refine lv_if_ne (tgt := 22) hx hb dX0_tread_17 (by decide) (fun c4 => ?_) (fun c4 => ?_)
    · skip
      refine lv_aload_n hx hb dX0_tread_22 rfl (lv_at hl 0 rfl) ?_
      refine r_get M w tc0 0 0 3 rfl rfl (by decide) q722 rfl rfl dX0_tread_23 ?_
      refine r_getN M w tc1 2 0 2 rfl rfl (by decide) q135 rfl rfl dX0_tread_26 ?_
      refine lv_iload_n hx hb dX0_tread_29 rfl (lv_at hl 1 rfl) ?_
      refine r_aald M w 2 15 4 rfl rfl rfl rfl (vp_w (isI_1 c3 (by omega)) (by omega)) (v := (b + 2) + 16 + u.toNatClampNeg) (oref_in (vp_w (isI_1 c3 (by omega)) (by omega))) dX0_tread_30 ?_
      refine lv_iconst (v := 0) hx hb dX0_tread_31 (by decide) ?_
      refine r_iald M w 2 (16 + u.toNatClampNeg) rfl (stg_mi G (b + 2) n1 m1 g1 (vp_cl (vp_w (isI_1 c3 (by omega)) (by omega)))) (pk_in 0 2 (by decide)) (v := g1 (30 + 2 * u.toNatClampNeg)) rfl dX0_tread_32 ?_
      refine lv_istore_n (lv' := [(3, .int (g1 (30 + 2 * u.toNatClampNeg))), (0, .ref b), (1, .int u), (2, .int v)]) hx hb dX0_tread_33 rfl hl (by decide) rfl (fun ls hl => ?_)
      refine lv_aload_n hx hb dX0_tread_34 rfl (lv_at hl 1 rfl) ?_
      refine r_get M w tc0 0 0 3 rfl rfl (by decide) q722 rfl rfl dX0_tread_35 ?_
      refine r_getN M w tc1 2 0 2 rfl rfl (by decide) q135 rfl rfl dX0_tread_38 ?_
      refine lv_iload_n hx hb dX0_tread_41 rfl (lv_at hl 2 rfl) ?_
      refine r_aald M w 2 15 4 rfl rfl rfl rfl (vp_w (isI_1 c3 (by omega)) (by omega)) (v := (b + 2) + 16 + u.toNatClampNeg) (oref_in (vp_w (isI_1 c3 (by omega)) (by omega))) dX0_tread_42 ?_
      refine lv_iconst (v := 0) hx hb dX0_tread_43 (by decide) ?_
      refine lv_iload_n hx hb dX0_tread_44 rfl (lv_at hl 3 rfl) ?_
      refine r_iast M w 2 (16 + u.toNatClampNeg) rfl (stg_mi G (b + 2) n1 m1 g1 (vp_cl (vp_w (isI_1 c3 (by omega)) (by omega)))) (pk_in 0 2 (by decide)) (S' := (tvs G b x tp n1 m1 (upd g1 (30 + 2 * u.toNatClampNeg) v) n2 m2 g2 n3 m3 g3 se bs y0 n4 m4 g4 e0 y1 n5 m5 g5 e1 n6 m6 g6 Z)) (congrArg (fun zz_ => List.set (tvs G b x tp n1 m1 g1 n2 m2 g2 n3 m3 g3 se bs y0 n4 m4 g4 e0 y1 n5 m5 g5 e1 n6 m6 g6 Z) 2 zz_) (stg_miS G (b + 2) n1 m1 g1 (i := 0) (vp_cl (vp_w (isI_1 c3 (by omega)) (by omega))) (by decide) v)) dX0_tread_45 (fun H locs w => ?_)
      refine lv_iload_n hx hb dX0_tread_46 rfl (lv_at hl 0 rfl) ?_
      exact tv_iret M (by rw [show sp_tv_tread_g1 m1 g1 u v = _ from (if_neg c3).trans (if_neg c4)]; exact w) hr ((if_neg c3).trans (if_neg c4)).symm dX0_tread_47
    · skip
      refine lv_iconst (v := -1) hx hb dX0_tread_20 (by decide) ?_
      exact tv_iret M (by rw [show sp_tv_tread_g1 m1 g1 u v = _ from (if_neg c3).trans (if_pos c4)]; exact w) hr ((if_neg c3).trans (if_pos c4)).symm dX0_tread_21
def sp_tv_step (m1 : Nat) (g1 : Nat → Int32) (u : Int32) (q : Int32) : Int32 := if (isI u m1) = 0 then (-1) else (if (inL q.toInt64 (0 : Int64) (5 : Int64)) = 0 then (if q = 9 then (g1 (30 + 2 * u.toNatClampNeg + 1)) else (-1)) else (g1 (30 + 2 * u.toNatClampNeg + 1)))
def sp_tv_step_g1 (m1 : Nat) (g1 : Nat → Int32) (u : Int32) (q : Int32) : Nat → Int32 := if (isI u m1) = 0 then g1 else (if (inL q.toInt64 (0 : Int64) (5 : Int64)) = 0 then (if q = 9 then (upd g1 (30 + 2 * u.toNatClampNeg + 1) (if q = 9 then (-4 : Int32) else q)) else g1) else (upd g1 (30 + 2 * u.toNatClampNeg + 1) (if q = 9 then (-4 : Int32) else q)))
set_option maxHeartbeats 4000000 in
set_option maxRecDepth 100000 in
theorem tv_step (l : Launch) (G : tG) (b : Nat) (x : Nat → Int32) (tp : Nat → Int32) (n1 : Nat) (m1 : Nat) (g1 : Nat → Int32) (n2 : Nat) (m2 : Nat) (g2 : Nat → Int32) (n3 : Nat) (m3 : Nat) (g3 : Nat → Int32) (se : Nat → Int32) (bs : Nat → Int32) (y0 : Nat → Int32) (n4 : Nat) (m4 : Nat) (g4 : Nat → Int32) (e0 : Nat → Int32) (y1 : Nat → Int32) (n5 : Nat) (m5 : Nat) (g5 : Nat → Int32) (e1 : Nat → Int32) (n6 : Nat) (m6 : Nat) (g6 : Nat → Int32) (Z : List va_W) (u : Int32) (q : Int32) (hn : n1 ≤ 6) (hm : m1 ≤ 4) (hok : Sok g1) : tv_I l yX0_step cX0_step 4 (some .int) (tv_rm 2 46) G [.ref b, .int u, .int q] (tvs G b x tp n1 m1 g1 n2 m2 g2 n3 m3 g3 se bs y0 n4 m4 g4 e0 y1 n5 m5 g5 e1 n6 m6 g6 Z).flatten (sp_tv_step m1 g1 u q) (tvs G b x tp n1 m1 (sp_tv_step_g1 m1 g1 u q) n2 m2 g2 n3 m3 g3 se bs y0 n4 m4 g4 e0 y1 n5 m5 g5 e1 n6 m6 g6 Z).flatten := by
  refine tv_I.st (S := (tvs G b x tp n1 m1 g1 n2 m2 g2 n3 m3 g3 se bs y0 n4 m4 g4 e0 y1 n5 m5 g5 e1 n6 m6 g6 Z)) (S' := (tvs G b x tp n1 m1 (sp_tv_step_g1 m1 g1 u q) n2 m2 g2 n3 m3 g3 se bs y0 n4 m4 g4 e0 y1 n5 m5 g5 e1 n6 m6 g6 Z)) rfl rfl (by decide) (Nat.le_of_ble_eq_true rfl) ?_
  intro p e s m below meth c A M hr w ls hl
  have hx := M.1.1
  have hb := M.1.2.1
  have hl : lv_has ls 4 [(0, .ref b), (1, .int u), (2, .int q)] := hl
  refine lv_aload_n hx hb dX0_step_0 rfl (lv_at hl 0 rfl) ?_
  refine lv_iload_n hx hb dX0_step_1 rfl (lv_at hl 1 rfl) ?_
  refine c_iV M w (S' := (tvs G b x tp n1 m1 g1 n2 m2 g2 n3 m3 g3 se bs y0 n4 m4 g4 e0 y1 n5 m5 g5 e1 n6 m6 g6 Z)) tv_in.all (tv_isMinister l G b x tp n1 m1 g1 n2 m2 g2 n3 m3 g3 se bs y0 n4 m4 g4 e0 y1 n5 m5 g5 e1 n6 m6 g6 Z u (by omega) (by omega)) (q0 := 0) tc0 rfl q449 q451 qs13 q68 q452 nm_yX0_isMinister ⟨Nat.le_of_ble_eq_true rfl, Nat.le_of_ble_eq_true rfl⟩ rfl hl.1 (rest := []) rfl (Nat.le_of_ble_eq_true rfl) dX0_step_2 ⟨Nat.zero_le _, Nat.zero_le _⟩ (fun H locs w => ?_)
  refine lv_if_eq (tgt := 21) hx hb dX0_step_5 (by decide) (fun c4 => ?_) (fun c4 => ?_)
  · skip
    refine lv_iconst (v := -1) hx hb dX0_step_21 (by decide) ?_
    exact tv_iret M (by rw [show sp_tv_step_g1 m1 g1 u q = _ from if_pos c4]; exact w) hr (if_pos c4).symm dX0_step_22
  · skip
    refine lv_iload_n hx hb dX0_step_8 rfl (lv_at hl 2 rfl) ?_
    refine c_iS M w (S' := (tvs G b x tp n1 m1 g1 n2 m2 g2 n3 m3 g3 se bs y0 n4 m4 g4 e0 y1 n5 m5 g5 e1 n6 m6 g6 Z)) tv_in.nil (tv_isSquare l G q) q425 q378 q68 q379 nm_yX0_isSquare ⟨Nat.le_of_ble_eq_true rfl, Nat.le_of_ble_eq_true rfl⟩ rfl hl.1 (rest := []) rfl (Nat.le_of_ble_eq_true rfl) dX0_step_9 ⟨Nat.zero_le _, Nat.zero_le _⟩ (fun H locs w => ?_)
    refine lv_if_ne (tgt := 23) hx hb dX0_step_12 (by decide) (fun c5 => ?_) (fun c5 => ?_)
    · skip
      refine lv_aload_n hx hb dX0_step_23 rfl (lv_at hl 0 rfl) ?_
      refine r_get M w tc0 0 0 3 rfl rfl (by decide) q722 rfl rfl dX0_step_24 ?_
      refine r_getN M w tc1 2 0 2 rfl rfl (by decide) q135 rfl rfl dX0_step_27 ?_
      refine lv_iload_n hx hb dX0_step_30 rfl (lv_at hl 1 rfl) ?_
      refine r_aald M w 2 15 4 rfl rfl rfl rfl (vp_w (isI_1 c4 (by omega)) (by omega)) (v := (b + 2) + 16 + u.toNatClampNeg) (oref_in (vp_w (isI_1 c4 (by omega)) (by omega))) dX0_step_31 ?_
      refine lv_iconst (v := 1) hx hb dX0_step_32 (by decide) ?_
      refine r_iald M w 2 (16 + u.toNatClampNeg) rfl (stg_mi G (b + 2) n1 m1 g1 (vp_cl (vp_w (isI_1 c4 (by omega)) (by omega)))) (pk_in 1 2 (by decide)) (v := g1 (30 + 2 * u.toNatClampNeg + 1)) rfl dX0_step_33 ?_
      refine lv_istore_n (lv' := [(3, .int (g1 (30 + 2 * u.toNatClampNeg + 1))), (0, .ref b), (1, .int u), (2, .int q)]) hx hb dX0_step_34 rfl hl (by decide) rfl (fun ls hl => ?_)
      refine lv_aload_n hx hb dX0_step_35 rfl (lv_at hl 1 rfl) ?_
      refine r_get M w tc0 0 0 3 rfl rfl (by decide) q722 rfl rfl dX0_step_36 ?_
      refine r_getN M w tc1 2 0 2 rfl rfl (by decide) q135 rfl rfl dX0_step_39 ?_
      refine lv_iload_n hx hb dX0_step_42 rfl (lv_at hl 2 rfl) ?_
      refine r_aald M w 2 15 4 rfl rfl rfl rfl (vp_w (isI_1 c4 (by omega)) (by omega)) (v := (b + 2) + 16 + u.toNatClampNeg) (oref_in (vp_w (isI_1 c4 (by omega)) (by omega))) dX0_step_43 ?_
      refine lv_iconst (v := 1) hx hb dX0_step_44 (by decide) ?_
      refine lv_iload_n hx hb dX0_step_45 rfl (lv_at hl 3 rfl) ?_
      refine lv_bipush (v := 9) hx hb dX0_step_46 (by decide) ?_
      refine w_cut (g2 := F0 m 57 ls [.int (if q = 9 then (-4 : Int32) else q), .int 1, .ref ((b + 2) + 16 + u.toNatClampNeg)]) (fun jn => ?_) ?_
      · skip
        refine lv_icmp_ne (tgt := 56) hx hb dX0_step_48 (by decide) (fun c6 => ?_) (fun c6 => ?_)
        · skip
          refine lv_iload_n hx hb dX0_step_56 rfl (lv_at hl 3 rfl) ?_
          exact w_topi (if_neg c6) jn
        · skip
          refine lv_bipush (v := -4) hx hb dX0_step_51 (by decide) ?_
          refine lv_goto (tgt := 57) hx hb dX0_step_53 (by decide) ?_
          exact w_topi (if_pos c6) jn
      refine r_iast M w 2 (16 + u.toNatClampNeg) rfl (stg_mi G (b + 2) n1 m1 g1 (vp_cl (vp_w (isI_1 c4 (by omega)) (by omega)))) (pk_in 1 2 (by decide)) (S' := (tvs G b x tp n1 m1 (upd g1 (30 + 2 * u.toNatClampNeg + 1) (if q = 9 then (-4 : Int32) else q)) n2 m2 g2 n3 m3 g3 se bs y0 n4 m4 g4 e0 y1 n5 m5 g5 e1 n6 m6 g6 Z)) (congrArg (fun zz_ => List.set (tvs G b x tp n1 m1 g1 n2 m2 g2 n3 m3 g3 se bs y0 n4 m4 g4 e0 y1 n5 m5 g5 e1 n6 m6 g6 Z) 2 zz_) (stg_miS G (b + 2) n1 m1 g1 (i := 1) (vp_cl (vp_w (isI_1 c4 (by omega)) (by omega))) (by decide) (if q = 9 then (-4 : Int32) else q))) dX0_step_57 (fun H locs w => ?_)
      refine lv_iload_n hx hb dX0_step_58 rfl (lv_at hl 0 rfl) ?_
      exact tv_iret M (by rw [show sp_tv_step_g1 m1 g1 u q = _ from (if_neg c4).trans (if_neg c5)]; exact w) hr ((if_neg c4).trans (if_neg c5)).symm dX0_step_59
    · skip
      refine lv_iload_n hx hb dX0_step_15 rfl (lv_at hl 2 rfl) ?_
      refine lv_bipush (v := 9) hx hb dX0_step_16 (by decide) ?_
      refine lv_icmp_eq (tgt := 23) hx hb dX0_step_18 (by decide) (fun c7 => ?_) (fun c7 => ?_)
      · skip
        refine lv_aload_n hx hb dX0_step_23 rfl (lv_at hl 0 rfl) ?_
        refine r_get M w tc0 0 0 3 rfl rfl (by decide) q722 rfl rfl dX0_step_24 ?_
        refine r_getN M w tc1 2 0 2 rfl rfl (by decide) q135 rfl rfl dX0_step_27 ?_
        refine lv_iload_n hx hb dX0_step_30 rfl (lv_at hl 1 rfl) ?_
        refine r_aald M w 2 15 4 rfl rfl rfl rfl (vp_w (isI_1 c4 (by omega)) (by omega)) (v := (b + 2) + 16 + u.toNatClampNeg) (oref_in (vp_w (isI_1 c4 (by omega)) (by omega))) dX0_step_31 ?_
        refine lv_iconst (v := 1) hx hb dX0_step_32 (by decide) ?_
        refine r_iald M w 2 (16 + u.toNatClampNeg) rfl (stg_mi G (b + 2) n1 m1 g1 (vp_cl (vp_w (isI_1 c4 (by omega)) (by omega)))) (pk_in 1 2 (by decide)) (v := g1 (30 + 2 * u.toNatClampNeg + 1)) rfl dX0_step_33 ?_
        refine lv_istore_n (lv' := [(3, .int (g1 (30 + 2 * u.toNatClampNeg + 1))), (0, .ref b), (1, .int u), (2, .int q)]) hx hb dX0_step_34 rfl hl (by decide) rfl (fun ls hl => ?_)
        refine lv_aload_n hx hb dX0_step_35 rfl (lv_at hl 1 rfl) ?_
        refine r_get M w tc0 0 0 3 rfl rfl (by decide) q722 rfl rfl dX0_step_36 ?_
        refine r_getN M w tc1 2 0 2 rfl rfl (by decide) q135 rfl rfl dX0_step_39 ?_
        refine lv_iload_n hx hb dX0_step_42 rfl (lv_at hl 2 rfl) ?_
        refine r_aald M w 2 15 4 rfl rfl rfl rfl (vp_w (isI_1 c4 (by omega)) (by omega)) (v := (b + 2) + 16 + u.toNatClampNeg) (oref_in (vp_w (isI_1 c4 (by omega)) (by omega))) dX0_step_43 ?_
        refine lv_iconst (v := 1) hx hb dX0_step_44 (by decide) ?_
        refine lv_iload_n hx hb dX0_step_45 rfl (lv_at hl 3 rfl) ?_
        refine lv_bipush (v := 9) hx hb dX0_step_46 (by decide) ?_
        refine w_cut (g2 := F0 m 57 ls [.int (if q = 9 then (-4 : Int32) else q), .int 1, .ref ((b + 2) + 16 + u.toNatClampNeg)]) (fun jn => ?_) ?_
        · skip
          refine lv_icmp_ne (tgt := 56) hx hb dX0_step_48 (by decide) (fun c8 => ?_) (fun c8 => ?_)
          · skip
            refine lv_iload_n hx hb dX0_step_56 rfl (lv_at hl 3 rfl) ?_
            exact w_topi (if_neg c8) jn
          · skip
            refine lv_bipush (v := -4) hx hb dX0_step_51 (by decide) ?_
            refine lv_goto (tgt := 57) hx hb dX0_step_53 (by decide) ?_
            exact w_topi (if_pos c8) jn
        refine r_iast M w 2 (16 + u.toNatClampNeg) rfl (stg_mi G (b + 2) n1 m1 g1 (vp_cl (vp_w (isI_1 c4 (by omega)) (by omega)))) (pk_in 1 2 (by decide)) (S' := (tvs G b x tp n1 m1 (upd g1 (30 + 2 * u.toNatClampNeg + 1) (if q = 9 then (-4 : Int32) else q)) n2 m2 g2 n3 m3 g3 se bs y0 n4 m4 g4 e0 y1 n5 m5 g5 e1 n6 m6 g6 Z)) (congrArg (fun zz_ => List.set (tvs G b x tp n1 m1 g1 n2 m2 g2 n3 m3 g3 se bs y0 n4 m4 g4 e0 y1 n5 m5 g5 e1 n6 m6 g6 Z) 2 zz_) (stg_miS G (b + 2) n1 m1 g1 (i := 1) (vp_cl (vp_w (isI_1 c4 (by omega)) (by omega))) (by decide) (if q = 9 then (-4 : Int32) else q))) dX0_step_57 (fun H locs w => ?_)
        refine lv_iload_n hx hb dX0_step_58 rfl (lv_at hl 0 rfl) ?_
        exact tv_iret M (by rw [show sp_tv_step_g1 m1 g1 u q = _ from (if_neg c4).trans ((if_pos c5).trans (if_pos c7))]; exact w) hr ((if_neg c4).trans ((if_pos c5).trans (if_pos c7))).symm dX0_step_59
      · skip
        refine lv_iconst (v := -1) hx hb dX0_step_21 (by decide) ?_
        exact tv_iret M (by rw [show sp_tv_step_g1 m1 g1 u q = _ from (if_neg c4).trans ((if_pos c5).trans (if_neg c7))]; exact w) hr ((if_neg c4).trans ((if_pos c5).trans (if_neg c7))).symm dX0_step_22
def sp_tv_bolt (g1 : Nat → Int32) (q : Int32) (wh : Int32) (v : Int32) : Int32 := if wh = 0 then (if (inL q.toInt64 (0 : Int64) (5 : Int64)) = 0 then (-1) else (if (inL v.toInt64 (0 : Int64) (20 : Int64)) = 0 then (-1) else (g1 (2 * q.toNatClampNeg + wh.toNatClampNeg)))) else (if wh = 1 then (if (inL q.toInt64 (0 : Int64) (5 : Int64)) = 0 then (-1) else (if (if (inL v.toInt64 (1 : Int64) (3 : Int64)) = 0 then (0 : Int32) else (1 : Int32)) = 0 then (-1) else (g1 (2 * q.toNatClampNeg + wh.toNatClampNeg)))) else (if (inL q.toInt64 (0 : Int64) (5 : Int64)) = 0 then (-1) else (-1)))
def sp_tv_bolt_g1 (g1 : Nat → Int32) (q : Int32) (wh : Int32) (v : Int32) : Nat → Int32 := if wh = 0 then (if (inL q.toInt64 (0 : Int64) (5 : Int64)) = 0 then g1 else (if (inL v.toInt64 (0 : Int64) (20 : Int64)) = 0 then g1 else (upd g1 (2 * q.toNatClampNeg + wh.toNatClampNeg) v))) else (if wh = 1 then (if (inL q.toInt64 (0 : Int64) (5 : Int64)) = 0 then g1 else (if (if (inL v.toInt64 (1 : Int64) (3 : Int64)) = 0 then (0 : Int32) else (1 : Int32)) = 0 then g1 else (upd g1 (2 * q.toNatClampNeg + wh.toNatClampNeg) v))) else (if (inL q.toInt64 (0 : Int64) (5 : Int64)) = 0 then g1 else g1))
set_option maxHeartbeats 4000000 in
set_option maxRecDepth 100000 in
theorem tv_bolt (l : Launch) (G : tG) (b : Nat) (x : Nat → Int32) (tp : Nat → Int32) (n1 : Nat) (m1 : Nat) (g1 : Nat → Int32) (n2 : Nat) (m2 : Nat) (g2 : Nat → Int32) (n3 : Nat) (m3 : Nat) (g3 : Nat → Int32) (se : Nat → Int32) (bs : Nat → Int32) (y0 : Nat → Int32) (n4 : Nat) (m4 : Nat) (g4 : Nat → Int32) (e0 : Nat → Int32) (y1 : Nat → Int32) (n5 : Nat) (m5 : Nat) (g5 : Nat → Int32) (e1 : Nat → Int32) (n6 : Nat) (m6 : Nat) (g6 : Nat → Int32) (Z : List va_W) (q : Int32) (wh : Int32) (v : Int32) (hn : n1 ≤ 6) (hm : m1 ≤ 4) (hok : Sok g1) : tv_I l yX0_bolt cX0_bolt 6 (some .int) (tv_rm 2 45) G [.ref b, .int q, .int wh, .int v] (tvs G b x tp n1 m1 g1 n2 m2 g2 n3 m3 g3 se bs y0 n4 m4 g4 e0 y1 n5 m5 g5 e1 n6 m6 g6 Z).flatten (sp_tv_bolt g1 q wh v) (tvs G b x tp n1 m1 (sp_tv_bolt_g1 g1 q wh v) n2 m2 g2 n3 m3 g3 se bs y0 n4 m4 g4 e0 y1 n5 m5 g5 e1 n6 m6 g6 Z).flatten := by
  refine tv_I.st (S := (tvs G b x tp n1 m1 g1 n2 m2 g2 n3 m3 g3 se bs y0 n4 m4 g4 e0 y1 n5 m5 g5 e1 n6 m6 g6 Z)) (S' := (tvs G b x tp n1 m1 (sp_tv_bolt_g1 g1 q wh v) n2 m2 g2 n3 m3 g3 se bs y0 n4 m4 g4 e0 y1 n5 m5 g5 e1 n6 m6 g6 Z)) rfl rfl (by decide) (Nat.le_of_ble_eq_true rfl) ?_
  intro p e s m below meth c A M hr w ls hl
  have hx := M.1.1
  have hb := M.1.2.1
  have hl : lv_has ls 6 [(0, .ref b), (1, .int q), (2, .int wh), (3, .int v)] := hl
  refine lv_iload_n hx hb dX0_bolt_0 rfl (lv_at hl 2 rfl) ?_
  refine lv_if_ne (tgt := 16) hx hb dX0_bolt_1 (by decide) (fun c8 => ?_) (fun c8 => ?_)
  · skip
    refine lv_iload_n hx hb dX0_bolt_16 rfl (lv_at hl 2 rfl) ?_
    refine lv_iconst (v := 1) hx hb dX0_bolt_17 (by decide) ?_
    refine lv_icmp_ne (tgt := 37) hx hb dX0_bolt_18 (by decide) (fun c9 => ?_) (fun c9 => ?_)
    · skip
      refine lv_iconst (v := 0) hx hb dX0_bolt_37 (by decide) ?_
      refine lv_istore (lv' := [(4, .int 0), (0, .ref b), (1, .int q), (2, .int wh), (3, .int v)]) hx hb dX0_bolt_38 hl (by decide) rfl (fun ls hl => ?_)
      refine lv_iload_n hx hb dX0_bolt_40 rfl (lv_at hl 2 rfl) ?_
      refine c_iS M w (S' := (tvs G b x tp n1 m1 g1 n2 m2 g2 n3 m3 g3 se bs y0 n4 m4 g4 e0 y1 n5 m5 g5 e1 n6 m6 g6 Z)) tv_in.nil (tv_isSquare l G q) q425 q378 q68 q379 nm_yX0_isSquare ⟨Nat.le_of_ble_eq_true rfl, Nat.le_of_ble_eq_true rfl⟩ rfl hl.1 (rest := []) rfl (Nat.le_of_ble_eq_true rfl) dX0_bolt_41 ⟨Nat.zero_le _, Nat.zero_le _⟩ (fun H locs w => ?_)
      refine lv_if_eq (tgt := 52) hx hb dX0_bolt_44 (by decide) (fun c10 => ?_) (fun c10 => ?_)
      · skip
        refine lv_iconst (v := -1) hx hb dX0_bolt_52 (by decide) ?_
        exact tv_iret M (by rw [show sp_tv_bolt_g1 g1 q wh v = _ from (if_neg c8).trans ((if_neg c9).trans (if_pos c10))]; exact w) hr ((if_neg c8).trans ((if_neg c9).trans (if_pos c10))).symm dX0_bolt_53
      · skip
        refine lv_iload hx hb dX0_bolt_47 (lv_at hl 0 rfl) ?_
        refine lv_if_ne (tgt := 54) hx hb dX0_bolt_49 (by decide) (fun hc => absurd (by decide) hc) (fun _ => ?_)
        refine lv_iconst (v := -1) hx hb dX0_bolt_52 (by decide) ?_
        exact tv_iret M (by rw [show sp_tv_bolt_g1 g1 q wh v = _ from (if_neg c8).trans ((if_neg c9).trans (if_neg c10))]; exact w) hr ((if_neg c8).trans ((if_neg c9).trans (if_neg c10))).symm dX0_bolt_53
    · skip
      refine lv_iload_n hx hb dX0_bolt_21 rfl (lv_at hl 3 rfl) ?_
      refine lv_i2l (v := v.toInt64) hx hb dX0_bolt_22 rfl ?_
      refine lv_lconst (v := 1) hx hb dX0_bolt_23 (by decide) ?_
      refine lv_ldc2 (v := 3) hx hb M.1.2.2.2.1 (M.1.2.2.2.2 _ q426) dX0_bolt_24 ?_
      refine c_iS M w (S' := (tvs G b x tp n1 m1 g1 n2 m2 g2 n3 m3 g3 se bs y0 n4 m4 g4 e0 y1 n5 m5 g5 e1 n6 m6 g6 Z)) tv_in.nil (tv_isIn l G v.toInt64 (1 : Int64) (3 : Int64)) q95 q96 q68 q97 nm_yX0_isIn ⟨Nat.le_of_ble_eq_true rfl, Nat.le_of_ble_eq_true rfl⟩ rfl hl.1 (rest := []) rfl (Nat.le_of_ble_eq_true rfl) dX0_bolt_27 ⟨Nat.zero_le _, Nat.zero_le _⟩ (fun H locs w => ?_)
      refine w_cut (g2 := F0 m 38 ls [.int (if (inL v.toInt64 (1 : Int64) (3 : Int64)) = 0 then (0 : Int32) else (1 : Int32))]) (fun jn => ?_) ?_
      · skip
        refine lv_if_eq (tgt := 37) hx hb dX0_bolt_30 (by decide) (fun c11 => ?_) (fun c11 => ?_)
        · skip
          refine lv_iconst (v := 0) hx hb dX0_bolt_37 (by decide) ?_
          exact w_topi (if_pos c11) jn
        · skip
          refine lv_iconst (v := 1) hx hb dX0_bolt_33 (by decide) ?_
          refine lv_goto (tgt := 38) hx hb dX0_bolt_34 (by decide) ?_
          exact w_topi (if_neg c11) jn
      refine lv_istore (lv' := [(4, .int (if (inL v.toInt64 (1 : Int64) (3 : Int64)) = 0 then (0 : Int32) else (1 : Int32))), (0, .ref b), (1, .int q), (2, .int wh), (3, .int v)]) hx hb dX0_bolt_38 hl (by decide) rfl (fun ls hl => ?_)
      refine lv_iload_n hx hb dX0_bolt_40 rfl (lv_at hl 2 rfl) ?_
      refine c_iS M w (S' := (tvs G b x tp n1 m1 g1 n2 m2 g2 n3 m3 g3 se bs y0 n4 m4 g4 e0 y1 n5 m5 g5 e1 n6 m6 g6 Z)) tv_in.nil (tv_isSquare l G q) q425 q378 q68 q379 nm_yX0_isSquare ⟨Nat.le_of_ble_eq_true rfl, Nat.le_of_ble_eq_true rfl⟩ rfl hl.1 (rest := []) rfl (Nat.le_of_ble_eq_true rfl) dX0_bolt_41 ⟨Nat.zero_le _, Nat.zero_le _⟩ (fun H locs w => ?_)
      refine lv_if_eq (tgt := 52) hx hb dX0_bolt_44 (by decide) (fun c12 => ?_) (fun c12 => ?_)
      · skip
        refine lv_iconst (v := -1) hx hb dX0_bolt_52 (by decide) ?_
        exact tv_iret M (by rw [show sp_tv_bolt_g1 g1 q wh v = _ from (if_neg c8).trans ((if_pos c9).trans (if_pos c12))]; exact w) hr ((if_neg c8).trans ((if_pos c9).trans (if_pos c12))).symm dX0_bolt_53
      · skip
        refine lv_iload hx hb dX0_bolt_47 (lv_at hl 0 rfl) ?_
        refine lv_if_ne (tgt := 54) hx hb dX0_bolt_49 (by decide) (fun c13 => ?_) (fun c13 => ?_)
        · skip
          refine lv_aload_n hx hb dX0_bolt_54 rfl (lv_at hl 1 rfl) ?_
          refine r_get M w tc0 0 0 3 rfl rfl (by decide) q722 rfl rfl dX0_bolt_55 ?_
          refine r_getN M w tc1 2 0 0 rfl rfl (by decide) q129 rfl rfl dX0_bolt_58 ?_
          refine lv_iload_n hx hb dX0_bolt_61 rfl (lv_at hl 2 rfl) ?_
          refine r_aald M w 2 1 4 rfl rfl rfl rfl (vp_w (inL_1 (k := 5) (by omega) c12) (by omega)) (v := (b + 2) + 2 + q.toNatClampNeg) (oref_in (vp_w (inL_1 (k := 5) (by omega) c12) (by omega))) dX0_bolt_62 ?_
          refine lv_iload_n hx hb dX0_bolt_63 rfl (lv_at hl 3 rfl) ?_
          refine r_iald M w 2 (2 + q.toNatClampNeg) rfl (stg_sq G (b + 2) n1 m1 g1 (vp_cl (vp_w (inL_1 (k := 5) (by omega) c12) (by omega)))) (vp_w (vp_eq (k := 1) c9 (by omega)) (by omega)) (v := g1 (2 * q.toNatClampNeg + wh.toNatClampNeg)) (row_inx (vp_w (vp_eq (k := 1) c9 (by omega)) (by omega))) dX0_bolt_64 ?_
          refine lv_istore (lv' := [(5, .int (g1 (2 * q.toNatClampNeg + wh.toNatClampNeg))), (4, .int (if (inL v.toInt64 (1 : Int64) (3 : Int64)) = 0 then (0 : Int32) else (1 : Int32))), (0, .ref b), (1, .int q), (2, .int wh), (3, .int v)]) hx hb dX0_bolt_65 hl (by decide) rfl (fun ls hl => ?_)
          refine lv_aload_n hx hb dX0_bolt_67 rfl (lv_at hl 2 rfl) ?_
          refine r_get M w tc0 0 0 3 rfl rfl (by decide) q722 rfl rfl dX0_bolt_68 ?_
          refine r_getN M w tc1 2 0 0 rfl rfl (by decide) q129 rfl rfl dX0_bolt_71 ?_
          refine lv_iload_n hx hb dX0_bolt_74 rfl (lv_at hl 3 rfl) ?_
          refine r_aald M w 2 1 4 rfl rfl rfl rfl (vp_w (inL_1 (k := 5) (by omega) c12) (by omega)) (v := (b + 2) + 2 + q.toNatClampNeg) (oref_in (vp_w (inL_1 (k := 5) (by omega) c12) (by omega))) dX0_bolt_75 ?_
          refine lv_iload_n hx hb dX0_bolt_76 rfl (lv_at hl 4 rfl) ?_
          refine lv_iload_n hx hb dX0_bolt_77 rfl (lv_at hl 5 rfl) ?_
          refine r_iast M w 2 (2 + q.toNatClampNeg) rfl (stg_sq G (b + 2) n1 m1 g1 (vp_cl (vp_w (inL_1 (k := 5) (by omega) c12) (by omega)))) (vp_w (vp_eq (k := 1) c9 (by omega)) (by omega)) (S' := (tvs G b x tp n1 m1 (upd g1 (2 * q.toNatClampNeg + wh.toNatClampNeg) v) n2 m2 g2 n3 m3 g3 se bs y0 n4 m4 g4 e0 y1 n5 m5 g5 e1 n6 m6 g6 Z)) (congrArg (fun zz_ => List.set (tvs G b x tp n1 m1 g1 n2 m2 g2 n3 m3 g3 se bs y0 n4 m4 g4 e0 y1 n5 m5 g5 e1 n6 m6 g6 Z) 2 zz_) (stg_sqS G (b + 2) n1 m1 g1 (i := wh.toNatClampNeg) (vp_cl (vp_w (inL_1 (k := 5) (by omega) c12) (by omega))) (vp_cl (vp_w (vp_eq (k := 1) c9 (by omega)) (by omega))) v)) dX0_bolt_78 (fun H locs w => ?_)
          refine lv_iload hx hb dX0_bolt_79 (lv_at hl 0 rfl) ?_
          exact tv_iret M (by rw [show sp_tv_bolt_g1 g1 q wh v = _ from (if_neg c8).trans ((if_pos c9).trans ((if_neg c12).trans (if_neg c13)))]; exact w) hr ((if_neg c8).trans ((if_pos c9).trans ((if_neg c12).trans (if_neg c13)))).symm dX0_bolt_81
        · skip
          refine lv_iconst (v := -1) hx hb dX0_bolt_52 (by decide) ?_
          exact tv_iret M (by rw [show sp_tv_bolt_g1 g1 q wh v = _ from (if_neg c8).trans ((if_pos c9).trans ((if_neg c12).trans (if_pos c13)))]; exact w) hr ((if_neg c8).trans ((if_pos c9).trans ((if_neg c12).trans (if_pos c13)))).symm dX0_bolt_53
  · skip
    refine lv_iload_n hx hb dX0_bolt_4 rfl (lv_at hl 3 rfl) ?_
    refine lv_i2l (v := v.toInt64) hx hb dX0_bolt_5 rfl ?_
    refine lv_lconst (v := 0) hx hb dX0_bolt_6 (by decide) ?_
    refine lv_ldc2 (v := 20) hx hb M.1.2.2.2.1 (M.1.2.2.2.2 _ q506) dX0_bolt_7 ?_
    refine c_iS M w (S' := (tvs G b x tp n1 m1 g1 n2 m2 g2 n3 m3 g3 se bs y0 n4 m4 g4 e0 y1 n5 m5 g5 e1 n6 m6 g6 Z)) tv_in.nil (tv_isIn l G v.toInt64 (0 : Int64) (20 : Int64)) q95 q96 q68 q97 nm_yX0_isIn ⟨Nat.le_of_ble_eq_true rfl, Nat.le_of_ble_eq_true rfl⟩ rfl hl.1 (rest := []) rfl (Nat.le_of_ble_eq_true rfl) dX0_bolt_10 ⟨Nat.zero_le _, Nat.zero_le _⟩ (fun H locs w => ?_)
    refine lv_goto (tgt := 38) hx hb dX0_bolt_13 (by decide) ?_
    refine lv_istore (lv' := [(4, .int (inL v.toInt64 (0 : Int64) (20 : Int64))), (0, .ref b), (1, .int q), (2, .int wh), (3, .int v)]) hx hb dX0_bolt_38 hl (by decide) rfl (fun ls hl => ?_)
    refine lv_iload_n hx hb dX0_bolt_40 rfl (lv_at hl 2 rfl) ?_
    refine c_iS M w (S' := (tvs G b x tp n1 m1 g1 n2 m2 g2 n3 m3 g3 se bs y0 n4 m4 g4 e0 y1 n5 m5 g5 e1 n6 m6 g6 Z)) tv_in.nil (tv_isSquare l G q) q425 q378 q68 q379 nm_yX0_isSquare ⟨Nat.le_of_ble_eq_true rfl, Nat.le_of_ble_eq_true rfl⟩ rfl hl.1 (rest := []) rfl (Nat.le_of_ble_eq_true rfl) dX0_bolt_41 ⟨Nat.zero_le _, Nat.zero_le _⟩ (fun H locs w => ?_)
    refine lv_if_eq (tgt := 52) hx hb dX0_bolt_44 (by decide) (fun c14 => ?_) (fun c14 => ?_)
    · skip
      refine lv_iconst (v := -1) hx hb dX0_bolt_52 (by decide) ?_
      exact tv_iret M (by rw [show sp_tv_bolt_g1 g1 q wh v = _ from (if_pos c8).trans (if_pos c14)]; exact w) hr ((if_pos c8).trans (if_pos c14)).symm dX0_bolt_53
    · skip
      refine lv_iload hx hb dX0_bolt_47 (lv_at hl 0 rfl) ?_
      refine lv_if_ne (tgt := 54) hx hb dX0_bolt_49 (by decide) (fun c15 => ?_) (fun c15 => ?_)
      · skip
        refine lv_aload_n hx hb dX0_bolt_54 rfl (lv_at hl 1 rfl) ?_
        refine r_get M w tc0 0 0 3 rfl rfl (by decide) q722 rfl rfl dX0_bolt_55 ?_
        refine r_getN M w tc1 2 0 0 rfl rfl (by decide) q129 rfl rfl dX0_bolt_58 ?_
        refine lv_iload_n hx hb dX0_bolt_61 rfl (lv_at hl 2 rfl) ?_
        refine r_aald M w 2 1 4 rfl rfl rfl rfl (vp_w (inL_1 (k := 5) (by omega) c14) (by omega)) (v := (b + 2) + 2 + q.toNatClampNeg) (oref_in (vp_w (inL_1 (k := 5) (by omega) c14) (by omega))) dX0_bolt_62 ?_
        refine lv_iload_n hx hb dX0_bolt_63 rfl (lv_at hl 3 rfl) ?_
        refine r_iald M w 2 (2 + q.toNatClampNeg) rfl (stg_sq G (b + 2) n1 m1 g1 (vp_cl (vp_w (inL_1 (k := 5) (by omega) c14) (by omega)))) (vp_w (vp_eq (k := 0) c8 (by omega)) (by omega)) (v := g1 (2 * q.toNatClampNeg + wh.toNatClampNeg)) (row_inx (vp_w (vp_eq (k := 0) c8 (by omega)) (by omega))) dX0_bolt_64 ?_
        refine lv_istore (lv' := [(5, .int (g1 (2 * q.toNatClampNeg + wh.toNatClampNeg))), (4, .int (inL v.toInt64 (0 : Int64) (20 : Int64))), (0, .ref b), (1, .int q), (2, .int wh), (3, .int v)]) hx hb dX0_bolt_65 hl (by decide) rfl (fun ls hl => ?_)
        refine lv_aload_n hx hb dX0_bolt_67 rfl (lv_at hl 2 rfl) ?_
        refine r_get M w tc0 0 0 3 rfl rfl (by decide) q722 rfl rfl dX0_bolt_68 ?_
        refine r_getN M w tc1 2 0 0 rfl rfl (by decide) q129 rfl rfl dX0_bolt_71 ?_
        refine lv_iload_n hx hb dX0_bolt_74 rfl (lv_at hl 3 rfl) ?_
        refine r_aald M w 2 1 4 rfl rfl rfl rfl (vp_w (inL_1 (k := 5) (by omega) c14) (by omega)) (v := (b + 2) + 2 + q.toNatClampNeg) (oref_in (vp_w (inL_1 (k := 5) (by omega) c14) (by omega))) dX0_bolt_75 ?_
        refine lv_iload_n hx hb dX0_bolt_76 rfl (lv_at hl 4 rfl) ?_
        refine lv_iload_n hx hb dX0_bolt_77 rfl (lv_at hl 5 rfl) ?_
        refine r_iast M w 2 (2 + q.toNatClampNeg) rfl (stg_sq G (b + 2) n1 m1 g1 (vp_cl (vp_w (inL_1 (k := 5) (by omega) c14) (by omega)))) (vp_w (vp_eq (k := 0) c8 (by omega)) (by omega)) (S' := (tvs G b x tp n1 m1 (upd g1 (2 * q.toNatClampNeg + wh.toNatClampNeg) v) n2 m2 g2 n3 m3 g3 se bs y0 n4 m4 g4 e0 y1 n5 m5 g5 e1 n6 m6 g6 Z)) (congrArg (fun zz_ => List.set (tvs G b x tp n1 m1 g1 n2 m2 g2 n3 m3 g3 se bs y0 n4 m4 g4 e0 y1 n5 m5 g5 e1 n6 m6 g6 Z) 2 zz_) (stg_sqS G (b + 2) n1 m1 g1 (i := wh.toNatClampNeg) (vp_cl (vp_w (inL_1 (k := 5) (by omega) c14) (by omega))) (vp_cl (vp_w (vp_eq (k := 0) c8 (by omega)) (by omega))) v)) dX0_bolt_78 (fun H locs w => ?_)
        refine lv_iload hx hb dX0_bolt_79 (lv_at hl 0 rfl) ?_
        exact tv_iret M (by rw [show sp_tv_bolt_g1 g1 q wh v = _ from (if_pos c8).trans ((if_neg c14).trans (if_neg c15))]; exact w) hr ((if_pos c8).trans ((if_neg c14).trans (if_neg c15))).symm dX0_bolt_81
      · skip
        refine lv_iconst (v := -1) hx hb dX0_bolt_52 (by decide) ?_
        exact tv_iret M (by rw [show sp_tv_bolt_g1 g1 q wh v = _ from (if_pos c8).trans ((if_neg c14).trans (if_pos c15))]; exact w) hr ((if_pos c8).trans ((if_neg c14).trans (if_pos c15))).symm dX0_bolt_53
def sp_tv_end (x : Nat → Int32) (n : Int32) : Int32 := if (inL n.toInt64 (0 : Int64) ((x 1).toInt64)) = 0 then (-1) else (x 1)
def sp_tv_end_x (x : Nat → Int32) (n : Int32) : Nat → Int32 := if (inL n.toInt64 (0 : Int64) ((x 1).toInt64)) = 0 then x else (upd x 1 n)
set_option maxHeartbeats 4000000 in
set_option maxRecDepth 100000 in
theorem tv_end (l : Launch) (G : tG) (b : Nat) (x : Nat → Int32) (tp : Nat → Int32) (n1 : Nat) (m1 : Nat) (g1 : Nat → Int32) (n2 : Nat) (m2 : Nat) (g2 : Nat → Int32) (n3 : Nat) (m3 : Nat) (g3 : Nat → Int32) (se : Nat → Int32) (bs : Nat → Int32) (y0 : Nat → Int32) (n4 : Nat) (m4 : Nat) (g4 : Nat → Int32) (e0 : Nat → Int32) (y1 : Nat → Int32) (n5 : Nat) (m5 : Nat) (g5 : Nat → Int32) (e1 : Nat → Int32) (n6 : Nat) (m6 : Nat) (g6 : Nat → Int32) (Z : List va_W) (n : Int32) : tv_I l yX0_end cX0_end 3 (some .int) (tv_rm 1 25) G [.ref b, .int n] (tvs G b x tp n1 m1 g1 n2 m2 g2 n3 m3 g3 se bs y0 n4 m4 g4 e0 y1 n5 m5 g5 e1 n6 m6 g6 Z).flatten (sp_tv_end x n) (tvs G b (sp_tv_end_x x n) tp n1 m1 g1 n2 m2 g2 n3 m3 g3 se bs y0 n4 m4 g4 e0 y1 n5 m5 g5 e1 n6 m6 g6 Z).flatten := by
  refine tv_I.st (S := (tvs G b x tp n1 m1 g1 n2 m2 g2 n3 m3 g3 se bs y0 n4 m4 g4 e0 y1 n5 m5 g5 e1 n6 m6 g6 Z)) (S' := (tvs G b (sp_tv_end_x x n) tp n1 m1 g1 n2 m2 g2 n3 m3 g3 se bs y0 n4 m4 g4 e0 y1 n5 m5 g5 e1 n6 m6 g6 Z)) rfl rfl (by decide) (Nat.le_of_ble_eq_true rfl) ?_
  intro p e s m below meth c A M hr w ls hl
  have hx := M.1.1
  have hb := M.1.2.1
  have hl : lv_has ls 3 [(0, .ref b), (1, .int n)] := hl
  refine lv_iload_n hx hb dX0_end_0 rfl (lv_at hl 1 rfl) ?_
  refine lv_i2l (v := n.toInt64) hx hb dX0_end_1 rfl ?_
  refine lv_lconst (v := 0) hx hb dX0_end_2 (by decide) ?_
  refine lv_aload_n hx hb dX0_end_3 rfl (lv_at hl 0 rfl) ?_
  refine r_get M w tc0 0 0 1 rfl rfl (by decide) q719 rfl rfl dX0_end_4 ?_
  refine lv_i2l (v := (x 1).toInt64) hx hb dX0_end_7 rfl ?_
  refine c_iS M w (S' := (tvs G b x tp n1 m1 g1 n2 m2 g2 n3 m3 g3 se bs y0 n4 m4 g4 e0 y1 n5 m5 g5 e1 n6 m6 g6 Z)) tv_in.nil (tv_isIn l G n.toInt64 (0 : Int64) ((x 1).toInt64)) q95 q96 q68 q97 nm_yX0_isIn ⟨Nat.le_of_ble_eq_true rfl, Nat.le_of_ble_eq_true rfl⟩ rfl hl.1 (rest := []) rfl (Nat.le_of_ble_eq_true rfl) dX0_end_8 ⟨Nat.zero_le _, Nat.zero_le _⟩ (fun H locs w => ?_)
  refine lv_if_ne (tgt := 16) hx hb dX0_end_11 (by decide) (fun c2 => ?_) (fun c2 => ?_)
  · skip
    refine lv_aload_n hx hb dX0_end_16 rfl (lv_at hl 0 rfl) ?_
    refine r_get M w tc0 0 0 1 rfl rfl (by decide) q719 rfl rfl dX0_end_17 ?_
    refine lv_istore_n (lv' := [(2, .int (x 1)), (0, .ref b), (1, .int n)]) hx hb dX0_end_20 rfl hl (by decide) rfl (fun ls hl => ?_)
    refine lv_aload_n hx hb dX0_end_21 rfl (lv_at hl 1 rfl) ?_
    refine lv_iload_n hx hb dX0_end_22 rfl (lv_at hl 2 rfl) ?_
    refine r_put M w tc0 0 0 1 rfl rfl (by decide) q719 rfl rfl rfl rfl (Nat.le_of_ble_eq_true rfl) (S' := (tvs G b (upd x 1 n) tp n1 m1 g1 n2 m2 g2 n3 m3 g3 se bs y0 n4 m4 g4 e0 y1 n5 m5 g5 e1 n6 m6 g6 Z)) rfl dX0_end_23 (fun H locs w => ?_)
    refine lv_iload_n hx hb dX0_end_26 rfl (lv_at hl 0 rfl) ?_
    exact tv_iret M (by rw [show sp_tv_end_x x n = _ from if_neg c2]; exact w) hr (if_neg c2).symm dX0_end_27
  · skip
    refine lv_iconst (v := -1) hx hb dX0_end_14 (by decide) ?_
    exact tv_iret M (by rw [show sp_tv_end_x x n = _ from if_pos c2]; exact w) hr (if_pos c2).symm dX0_end_15
def lb_tv_minister_62 (n1 : Nat) (g1 : Nat → Int32) (u : Int32) (i62 : Nat) (st62 : Int32) : Int32 := if (hasB (sHa g1 n1 (g1 (30 + 2 * u.toNatClampNeg + 1))) (nI i62)) = 0 then (st62 + 0) else (st62 + (ang (g1 (12 + 3 * i62)) (g1 (30 + 2 * u.toNatClampNeg))))
def lb_tv_minister_62_1 (g1 : Nat → Int32) (u : Int32) (i62 : Nat) (st62 : Int32) : Int32 := if (hasB 0 (nI i62)) = 0 then (st62 + 0) else (st62 + (ang (g1 (12 + 3 * i62)) (g1 (30 + 2 * u.toNatClampNeg))))
def sp_tv_minister (n1 : Nat) (m1 : Nat) (g1 : Nat → Int32) (u : Int32) (wh : Int32) : Int32 := if (isI u m1) = 0 then (-1) else (if (inL wh.toInt64 (0 : Int64) (3 : Int64)) = 0 then (-1) else (if (b2 (g1 (30 + 2 * u.toNatClampNeg + 1) = -4)) = 0 then (if 2 ≤ wh then (if wh = 2 then (sHa g1 n1 (g1 (30 + 2 * u.toNatClampNeg + 1))) else (lp (lb_tv_minister_62 n1 g1 u) n1 0)) else (g1 (30 + 2 * u.toNatClampNeg + wh.toNatClampNeg))) else (if 2 ≤ wh then (if wh = 2 then (0 : Int32) else (lp (lb_tv_minister_62_1 g1 u) n1 0)) else (g1 (30 + 2 * u.toNatClampNeg + wh.toNatClampNeg)))))
set_option maxHeartbeats 4000000 in
set_option maxRecDepth 100000 in
theorem tv_minister (l : Launch) (G : tG) (b : Nat) (x : Nat → Int32) (tp : Nat → Int32) (n1 : Nat) (m1 : Nat) (g1 : Nat → Int32) (n2 : Nat) (m2 : Nat) (g2 : Nat → Int32) (n3 : Nat) (m3 : Nat) (g3 : Nat → Int32) (se : Nat → Int32) (bs : Nat → Int32) (y0 : Nat → Int32) (n4 : Nat) (m4 : Nat) (g4 : Nat → Int32) (e0 : Nat → Int32) (y1 : Nat → Int32) (n5 : Nat) (m5 : Nat) (g5 : Nat → Int32) (e1 : Nat → Int32) (n6 : Nat) (m6 : Nat) (g6 : Nat → Int32) (Z : List va_W) (u : Int32) (wh : Int32) (hn : n1 ≤ 6) (hm : m1 ≤ 4) (hok : Sok g1) : tv_I l yX0_minister cX0_minister 6 (some .int) (tv_rm 4 85) G [.ref b, .int u, .int wh] (tvs G b x tp n1 m1 g1 n2 m2 g2 n3 m3 g3 se bs y0 n4 m4 g4 e0 y1 n5 m5 g5 e1 n6 m6 g6 Z).flatten (sp_tv_minister n1 m1 g1 u wh) (tvs G b x tp n1 m1 g1 n2 m2 g2 n3 m3 g3 se bs y0 n4 m4 g4 e0 y1 n5 m5 g5 e1 n6 m6 g6 Z).flatten := by
  refine tv_I.st (S := (tvs G b x tp n1 m1 g1 n2 m2 g2 n3 m3 g3 se bs y0 n4 m4 g4 e0 y1 n5 m5 g5 e1 n6 m6 g6 Z)) (S' := (tvs G b x tp n1 m1 g1 n2 m2 g2 n3 m3 g3 se bs y0 n4 m4 g4 e0 y1 n5 m5 g5 e1 n6 m6 g6 Z)) rfl rfl (by decide) (Nat.le_of_ble_eq_true rfl) ?_
  intro p e s m below meth c A M hr w ls hl
  have hx := M.1.1
  have hb := M.1.2.1
  have hl : lv_has ls 6 [(0, .ref b), (1, .int u), (2, .int wh)] := hl
  refine lv_aload_n hx hb dX0_minister_0 rfl (lv_at hl 0 rfl) ?_
  refine lv_iload_n hx hb dX0_minister_1 rfl (lv_at hl 1 rfl) ?_
  refine c_iV M w (S' := (tvs G b x tp n1 m1 g1 n2 m2 g2 n3 m3 g3 se bs y0 n4 m4 g4 e0 y1 n5 m5 g5 e1 n6 m6 g6 Z)) tv_in.all (tv_isMinister l G b x tp n1 m1 g1 n2 m2 g2 n3 m3 g3 se bs y0 n4 m4 g4 e0 y1 n5 m5 g5 e1 n6 m6 g6 Z u (by omega) (by omega)) (q0 := 0) tc0 rfl q449 q451 qs13 q68 q452 nm_yX0_isMinister ⟨Nat.le_of_ble_eq_true rfl, Nat.le_of_ble_eq_true rfl⟩ rfl hl.1 (rest := []) rfl (Nat.le_of_ble_eq_true rfl) dX0_minister_2 ⟨Nat.zero_le _, Nat.zero_le _⟩ (fun H locs w => ?_)
  refine lv_if_eq (tgt := 20) hx hb dX0_minister_5 (by decide) (fun c6 => ?_) (fun c6 => ?_)
  · skip
    refine lv_iconst (v := -1) hx hb dX0_minister_20 (by decide) ?_
    exact tv_iret M w hr (if_pos c6).symm dX0_minister_21
  · skip
    refine lv_iload_n hx hb dX0_minister_8 rfl (lv_at hl 2 rfl) ?_
    refine lv_i2l (v := wh.toInt64) hx hb dX0_minister_9 rfl ?_
    refine lv_lconst (v := 0) hx hb dX0_minister_10 (by decide) ?_
    refine lv_ldc2 (v := 3) hx hb M.1.2.2.2.1 (M.1.2.2.2.2 _ q426) dX0_minister_11 ?_
    refine c_iS M w (S' := (tvs G b x tp n1 m1 g1 n2 m2 g2 n3 m3 g3 se bs y0 n4 m4 g4 e0 y1 n5 m5 g5 e1 n6 m6 g6 Z)) tv_in.nil (tv_isIn l G wh.toInt64 (0 : Int64) (3 : Int64)) q95 q96 q68 q97 nm_yX0_isIn ⟨Nat.le_of_ble_eq_true rfl, Nat.le_of_ble_eq_true rfl⟩ rfl hl.1 (rest := []) rfl (Nat.le_of_ble_eq_true rfl) dX0_minister_14 ⟨Nat.zero_le _, Nat.zero_le _⟩ (fun H locs w => ?_)
    refine lv_if_ne (tgt := 22) hx hb dX0_minister_17 (by decide) (fun c7 => ?_) (fun c7 => ?_)
    · skip
      refine lv_aload_n hx hb dX0_minister_22 rfl (lv_at hl 0 rfl) ?_
      refine r_get M w tc0 0 0 3 rfl rfl (by decide) q722 rfl rfl dX0_minister_23 ?_
      refine lv_iload_n hx hb dX0_minister_26 rfl (lv_at hl 1 rfl) ?_
      refine c_iV M w (S' := (tvs G b x tp n1 m1 g1 n2 m2 g2 n3 m3 g3 se bs y0 n4 m4 g4 e0 y1 n5 m5 g5 e1 n6 m6 g6 Z)) (tv_in.seg 2 rfl rfl) (st_isDownX l G (b + 2) n1 m1 g1 u (vp_w (isI_1 c6 (by omega)) (by omega))) (q0 := 0) tc1 rfl q453 q403 q404 q69 q405 nm_yX1_isDown ⟨Nat.le_of_ble_eq_true rfl, Nat.le_of_ble_eq_true rfl⟩ rfl hl.1 (rest := []) rfl (Nat.le_of_ble_eq_true rfl) dX0_minister_27 ⟨Nat.zero_le _, Nat.zero_le _⟩ (fun H locs w => ?_)
      refine lv_if_eq (tgt := 37) hx hb dX0_minister_30 (by decide) (fun c8 => ?_) (fun c8 => ?_)
      · skip
        refine lv_aload_n hx hb dX0_minister_37 rfl (lv_at hl 0 rfl) ?_
        refine r_get M w tc0 0 0 3 rfl rfl (by decide) q722 rfl rfl dX0_minister_38 ?_
        refine lv_aload_n hx hb dX0_minister_41 rfl (lv_at hl 0 rfl) ?_
        refine r_get M w tc0 0 0 3 rfl rfl (by decide) q722 rfl rfl dX0_minister_42 ?_
        refine r_getN M w tc1 2 0 2 rfl rfl (by decide) q135 rfl rfl dX0_minister_45 ?_
        refine lv_iload_n hx hb dX0_minister_48 rfl (lv_at hl 1 rfl) ?_
        refine r_aald M w 2 15 4 rfl rfl rfl rfl (vp_w (isI_1 c6 (by omega)) (by omega)) (v := (b + 2) + 16 + u.toNatClampNeg) (oref_in (vp_w (isI_1 c6 (by omega)) (by omega))) dX0_minister_49 ?_
        refine lv_iconst (v := 1) hx hb dX0_minister_50 (by decide) ?_
        refine r_iald M w 2 (16 + u.toNatClampNeg) rfl (stg_mi G (b + 2) n1 m1 g1 (vp_cl (vp_w (isI_1 c6 (by omega)) (by omega)))) (pk_in 1 2 (by decide)) (v := g1 (30 + 2 * u.toNatClampNeg + 1)) rfl dX0_minister_51 ?_
        refine c_iV M w (S' := (tvs G b x tp n1 m1 g1 n2 m2 g2 n3 m3 g3 se bs y0 n4 m4 g4 e0 y1 n5 m5 g5 e1 n6 m6 g6 Z)) (tv_in.seg 2 rfl rfl) (st_handsAt l G (b + 2) n1 m1 g1 (g1 (30 + 2 * u.toNatClampNeg + 1)) (by omega) (by omega)) (q0 := 0) tc1 rfl q427 q428 q429 q69 q430 nm_yX1_handsAt ⟨Nat.le_of_ble_eq_true rfl, Nat.le_of_ble_eq_true rfl⟩ rfl hl.1 (rest := []) rfl (Nat.le_of_ble_eq_true rfl) dX0_minister_52 ⟨Nat.zero_le _, Nat.zero_le _⟩ (fun H locs w => ?_)
        refine lv_istore_n (lv' := [(3, .int (sHa g1 n1 (g1 (30 + 2 * u.toNatClampNeg + 1)))), (0, .ref b), (1, .int u), (2, .int wh)]) hx hb dX0_minister_55 rfl hl (by decide) rfl (fun ls hl => ?_)
        refine lv_iconst (v := 0) hx hb dX0_minister_56 (by decide) ?_
        refine lv_istore (lv' := [(4, .int 0), (3, .int (sHa g1 n1 (g1 (30 + 2 * u.toNatClampNeg + 1)))), (0, .ref b), (1, .int u), (2, .int wh)]) hx hb dX0_minister_57 hl (by decide) rfl (fun ls hl => ?_)
        refine lv_iconst (v := 0) hx hb dX0_minister_59 (by decide) ?_
        refine lv_istore (lv' := [(5, .int 0), (4, .int 0), (3, .int (sHa g1 n1 (g1 (30 + 2 * u.toNatClampNeg + 1)))), (0, .ref b), (1, .int u), (2, .int wh)]) hx hb dX0_minister_60 hl (by decide) rfl (fun ls hl => ?_)
        refine w_for (pc := 62) (fun i62 H locs ls => tv_W G A s (tvs G b x tp n1 m1 g1 n2 m2 g2 n3 m3 g3 se bs y0 n4 m4 g4 e0 y1 n5 m5 g5 e1 n6 m6 g6 Z) H locs ∧ lv_has ls 6 [(5, .int (nI i62)), (4, .int (lp (lb_tv_minister_62 n1 g1 u) i62 0)), (3, .int (sHa g1 n1 (g1 (30 + 2 * u.toNatClampNeg + 1)))), (0, .ref b), (1, .int u), (2, .int wh)]) n1 (fun H locs ls hI => ?_) (fun i62 hi62 H locs ls hI ih62 => ?_) 0 (Nat.zero_le _) _ _ _ ⟨w, hl⟩
        · skip
          obtain ⟨w, hl⟩ := hI
          refine lv_iload hx hb dX0_minister_62 (lv_at hl 0 rfl) ?_
          refine lv_aload_n hx hb dX0_minister_64 rfl (lv_at hl 3 rfl) ?_
          refine r_get M w tc0 0 0 3 rfl rfl (by decide) q722 rfl rfl dX0_minister_65 ?_
          refine r_getN M w tc1 2 0 3 rfl rfl (by decide) q138 rfl rfl dX0_minister_68 ?_
          refine lv_icmp_ge (tgt := 118) hx hb dX0_minister_71 (by decide) (fun _ => ?_) (fun hc => absurd (nI_le (a := n1) (b := n1) (by omega) (by omega)) hc)
          refine lv_iload_n hx hb dX0_minister_118 rfl (lv_at hl 5 rfl) ?_
          refine lv_iconst (v := 2) hx hb dX0_minister_119 (by decide) ?_
          refine w_cut (g2 := F0 m 148 ls [.int (if 2 ≤ wh then (if wh = 2 then (sHa g1 n1 (g1 (30 + 2 * u.toNatClampNeg + 1))) else (lp (lb_tv_minister_62 n1 g1 u) n1 0)) else (g1 (30 + 2 * u.toNatClampNeg + wh.toNatClampNeg)))]) (fun jn => ?_) ?_
          · skip
            refine lv_icmp_ge (tgt := 137) hx hb dX0_minister_120 (by decide) (fun c9 => ?_) (fun c9 => ?_)
            · skip
              refine lv_iload_n hx hb dX0_minister_137 rfl (lv_at hl 5 rfl) ?_
              refine lv_iconst (v := 2) hx hb dX0_minister_138 (by decide) ?_
              refine lv_icmp_ne (tgt := 146) hx hb dX0_minister_139 (by decide) (fun c10 => ?_) (fun c10 => ?_)
              · skip
                refine lv_iload hx hb dX0_minister_146 (lv_at hl 1 rfl) ?_
                exact w_topi ((if_pos c9).trans (if_neg c10)) jn
              · skip
                refine lv_iload_n hx hb dX0_minister_142 rfl (lv_at hl 2 rfl) ?_
                refine lv_goto (tgt := 148) hx hb dX0_minister_143 (by decide) ?_
                exact w_topi ((if_pos c9).trans (if_pos c10)) jn
            · skip
              refine lv_aload_n hx hb dX0_minister_123 rfl (lv_at hl 3 rfl) ?_
              refine r_get M w tc0 0 0 3 rfl rfl (by decide) q722 rfl rfl dX0_minister_124 ?_
              refine r_getN M w tc1 2 0 2 rfl rfl (by decide) q135 rfl rfl dX0_minister_127 ?_
              refine lv_iload_n hx hb dX0_minister_130 rfl (lv_at hl 4 rfl) ?_
              refine r_aald M w 2 15 4 rfl rfl rfl rfl (vp_w (isI_1 c6 (by omega)) (by omega)) (v := (b + 2) + 16 + u.toNatClampNeg) (oref_in (vp_w (isI_1 c6 (by omega)) (by omega))) dX0_minister_131 ?_
              refine lv_iload_n hx hb dX0_minister_132 rfl (lv_at hl 5 rfl) ?_
              refine r_iald M w 2 (16 + u.toNatClampNeg) rfl (stg_mi G (b + 2) n1 m1 g1 (vp_cl (vp_w (isI_1 c6 (by omega)) (by omega)))) (vp_w (vp_cut (k := 2) (inL_1 (k := 3) (by omega) c7) c9 (by omega)) (by omega)) (v := g1 (30 + 2 * u.toNatClampNeg + wh.toNatClampNeg)) (row_inx (vp_w (vp_cut (k := 2) (inL_1 (k := 3) (by omega) c7) c9 (by omega)) (by omega))) dX0_minister_133 ?_
              refine lv_goto (tgt := 148) hx hb dX0_minister_134 (by decide) ?_
              exact w_topi (if_neg c9) jn
          exact tv_iret M w hr ((if_neg c6).trans ((if_neg c7).trans (if_pos c8))).symm dX0_minister_148
        · skip
          obtain ⟨w, hl⟩ := hI
          refine lv_iload hx hb dX0_minister_62 (lv_at hl 0 rfl) ?_
          refine lv_aload_n hx hb dX0_minister_64 rfl (lv_at hl 3 rfl) ?_
          refine r_get M w tc0 0 0 3 rfl rfl (by decide) q722 rfl rfl dX0_minister_65 ?_
          refine r_getN M w tc1 2 0 3 rfl rfl (by decide) q138 rfl rfl dX0_minister_68 ?_
          refine lv_icmp_ge (tgt := 118) hx hb dX0_minister_71 (by decide) (fun hc => absurd hc (nI_ge (a := i62) (b := n1) (by omega) (by omega))) (fun _ => ?_)
          refine lv_iload hx hb dX0_minister_74 (lv_at hl 1 rfl) ?_
          refine lv_iload_n hx hb dX0_minister_76 rfl (lv_at hl 2 rfl) ?_
          refine lv_iload hx hb dX0_minister_77 (lv_at hl 0 rfl) ?_
          refine c_iS M w (S' := (tvs G b x tp n1 m1 g1 n2 m2 g2 n3 m3 g3 se bs y0 n4 m4 g4 e0 y1 n5 m5 g5 e1 n6 m6 g6 Z)) tv_in.nil (tv_has l G (sHa g1 n1 (g1 (30 + 2 * u.toNatClampNeg + 1))) (nI i62)) q454 q371 q68 q372 nm_yX0_has ⟨Nat.le_of_ble_eq_true rfl, Nat.le_of_ble_eq_true rfl⟩ rfl hl.1 (rest := [.int (lp (lb_tv_minister_62 n1 g1 u) i62 0)]) rfl (Nat.le_of_ble_eq_true rfl) dX0_minister_79 ⟨Nat.zero_le _, Nat.zero_le _⟩ (fun H locs w => ?_)
          refine lv_if_eq (tgt := 108) hx hb dX0_minister_82 (by decide) (fun c11 => ?_) (fun c11 => ?_)
          · skip
            refine lv_iconst (v := 0) hx hb dX0_minister_108 (by decide) ?_
            refine lv_iadd hx hb dX0_minister_109 ?_
            refine lv_istore (lv' := [(4, .int ((lp (lb_tv_minister_62 n1 g1 u) i62 0) + 0)), (5, .int (nI i62)), (3, .int (sHa g1 n1 (g1 (30 + 2 * u.toNatClampNeg + 1)))), (0, .ref b), (1, .int u), (2, .int wh)]) hx hb dX0_minister_110 hl (by decide) rfl (fun ls hl => ?_)
            refine lv_iinc (k := 1) (v := nI (i62 + 1)) (lv' := [(5, .int (nI (i62 + 1))), (4, .int ((lp (lb_tv_minister_62 n1 g1 u) i62 0) + 0)), (3, .int (sHa g1 n1 (g1 (30 + 2 * u.toNatClampNeg + 1)))), (0, .ref b), (1, .int u), (2, .int wh)]) hx hb dX0_minister_112 hl rfl (nI_inc i62) (by decide) rfl (fun ls hl => ?_)
            refine lv_goto (tgt := 62) hx hb dX0_minister_115 (by decide) ?_
            refine ih62 _ _ _ ?_
            show tv_W G A s (tvs G b x tp n1 m1 g1 n2 m2 g2 n3 m3 g3 se bs y0 n4 m4 g4 e0 y1 n5 m5 g5 e1 n6 m6 g6 Z) H locs ∧ lv_has ls 6 [(5, .int (nI (i62 + 1))), (4, .int (lp (lb_tv_minister_62 n1 g1 u) (i62 + 1) 0)), (3, .int (sHa g1 n1 (g1 (30 + 2 * u.toNatClampNeg + 1)))), (0, .ref b), (1, .int u), (2, .int wh)]
            rw [show lp (lb_tv_minister_62 n1 g1 u) (i62 + 1) 0 = _ from if_pos c11]
            exact ⟨w, lv_sub hl [0, 1, 2, 3, 4, 5] rfl⟩
          · skip
            refine lv_aload_n hx hb dX0_minister_85 rfl (lv_at hl 3 rfl) ?_
            refine r_get M w tc0 0 0 3 rfl rfl (by decide) q722 rfl rfl dX0_minister_86 ?_
            refine lv_iload hx hb dX0_minister_89 (lv_at hl 0 rfl) ?_
            refine lv_aload_n hx hb dX0_minister_91 rfl (lv_at hl 3 rfl) ?_
            refine r_get M w tc0 0 0 3 rfl rfl (by decide) q722 rfl rfl dX0_minister_92 ?_
            refine r_getN M w tc1 2 0 2 rfl rfl (by decide) q135 rfl rfl dX0_minister_95 ?_
            refine lv_iload_n hx hb dX0_minister_98 rfl (lv_at hl 4 rfl) ?_
            refine r_aald M w 2 15 4 rfl rfl rfl rfl (vp_w (isI_1 c6 (by omega)) (by omega)) (v := (b + 2) + 16 + u.toNatClampNeg) (oref_in (vp_w (isI_1 c6 (by omega)) (by omega))) dX0_minister_99 ?_
            refine lv_iconst (v := 0) hx hb dX0_minister_100 (by decide) ?_
            refine r_iald M w 2 (16 + u.toNatClampNeg) rfl (stg_mi G (b + 2) n1 m1 g1 (vp_cl (vp_w (isI_1 c6 (by omega)) (by omega)))) (pk_in 0 2 (by decide)) (v := g1 (30 + 2 * u.toNatClampNeg)) rfl dX0_minister_101 ?_
            refine c_iV M w (S' := (tvs G b x tp n1 m1 g1 n2 m2 g2 n3 m3 g3 se bs y0 n4 m4 g4 e0 y1 n5 m5 g5 e1 n6 m6 g6 Z)) (tv_in.seg 2 rfl rfl) (st_angered l G (b + 2) n1 m1 g1 i62 (g1 (30 + 2 * u.toNatClampNeg)) (by omega) (hok.kd (by omega))) (q0 := 0) tc1 rfl q455 q456 q457 q69 q458 nm_yX1_angered ⟨Nat.le_of_ble_eq_true rfl, Nat.le_of_ble_eq_true rfl⟩ rfl hl.1 (rest := [.int (lp (lb_tv_minister_62 n1 g1 u) i62 0)]) rfl (Nat.le_of_ble_eq_true rfl) dX0_minister_102 ⟨Nat.zero_le _, Nat.zero_le _⟩ (fun H locs w => ?_)
            refine lv_goto (tgt := 109) hx hb dX0_minister_105 (by decide) ?_
            refine lv_iadd hx hb dX0_minister_109 ?_
            refine lv_istore (lv' := [(4, .int ((lp (lb_tv_minister_62 n1 g1 u) i62 0) + (ang (g1 (12 + 3 * i62)) (g1 (30 + 2 * u.toNatClampNeg))))), (5, .int (nI i62)), (3, .int (sHa g1 n1 (g1 (30 + 2 * u.toNatClampNeg + 1)))), (0, .ref b), (1, .int u), (2, .int wh)]) hx hb dX0_minister_110 hl (by decide) rfl (fun ls hl => ?_)
            refine lv_iinc (k := 1) (v := nI (i62 + 1)) (lv' := [(5, .int (nI (i62 + 1))), (4, .int ((lp (lb_tv_minister_62 n1 g1 u) i62 0) + (ang (g1 (12 + 3 * i62)) (g1 (30 + 2 * u.toNatClampNeg))))), (3, .int (sHa g1 n1 (g1 (30 + 2 * u.toNatClampNeg + 1)))), (0, .ref b), (1, .int u), (2, .int wh)]) hx hb dX0_minister_112 hl rfl (nI_inc i62) (by decide) rfl (fun ls hl => ?_)
            refine lv_goto (tgt := 62) hx hb dX0_minister_115 (by decide) ?_
            refine ih62 _ _ _ ?_
            show tv_W G A s (tvs G b x tp n1 m1 g1 n2 m2 g2 n3 m3 g3 se bs y0 n4 m4 g4 e0 y1 n5 m5 g5 e1 n6 m6 g6 Z) H locs ∧ lv_has ls 6 [(5, .int (nI (i62 + 1))), (4, .int (lp (lb_tv_minister_62 n1 g1 u) (i62 + 1) 0)), (3, .int (sHa g1 n1 (g1 (30 + 2 * u.toNatClampNeg + 1)))), (0, .ref b), (1, .int u), (2, .int wh)]
            rw [show lp (lb_tv_minister_62 n1 g1 u) (i62 + 1) 0 = _ from if_neg c11]
            exact ⟨w, lv_sub hl [0, 1, 2, 3, 4, 5] rfl⟩
      · skip
        refine lv_iconst (v := 0) hx hb dX0_minister_33 (by decide) ?_
        refine lv_goto (tgt := 55) hx hb dX0_minister_34 (by decide) ?_
        refine lv_istore_n (lv' := [(3, .int 0), (0, .ref b), (1, .int u), (2, .int wh)]) hx hb dX0_minister_55 rfl hl (by decide) rfl (fun ls hl => ?_)
        refine lv_iconst (v := 0) hx hb dX0_minister_56 (by decide) ?_
        refine lv_istore (lv' := [(4, .int 0), (3, .int 0), (0, .ref b), (1, .int u), (2, .int wh)]) hx hb dX0_minister_57 hl (by decide) rfl (fun ls hl => ?_)
        refine lv_iconst (v := 0) hx hb dX0_minister_59 (by decide) ?_
        refine lv_istore (lv' := [(5, .int 0), (4, .int 0), (3, .int 0), (0, .ref b), (1, .int u), (2, .int wh)]) hx hb dX0_minister_60 hl (by decide) rfl (fun ls hl => ?_)
        refine w_for (pc := 62) (fun i62 H locs ls => tv_W G A s (tvs G b x tp n1 m1 g1 n2 m2 g2 n3 m3 g3 se bs y0 n4 m4 g4 e0 y1 n5 m5 g5 e1 n6 m6 g6 Z) H locs ∧ lv_has ls 6 [(5, .int (nI i62)), (4, .int (lp (lb_tv_minister_62_1 g1 u) i62 0)), (3, .int 0), (0, .ref b), (1, .int u), (2, .int wh)]) n1 (fun H locs ls hI => ?_) (fun i62 hi62 H locs ls hI ih62 => ?_) 0 (Nat.zero_le _) _ _ _ ⟨w, hl⟩
        · skip
          obtain ⟨w, hl⟩ := hI
          refine lv_iload hx hb dX0_minister_62 (lv_at hl 0 rfl) ?_
          refine lv_aload_n hx hb dX0_minister_64 rfl (lv_at hl 3 rfl) ?_
          refine r_get M w tc0 0 0 3 rfl rfl (by decide) q722 rfl rfl dX0_minister_65 ?_
          refine r_getN M w tc1 2 0 3 rfl rfl (by decide) q138 rfl rfl dX0_minister_68 ?_
          refine lv_icmp_ge (tgt := 118) hx hb dX0_minister_71 (by decide) (fun _ => ?_) (fun hc => absurd (nI_le (a := n1) (b := n1) (by omega) (by omega)) hc)
          refine lv_iload_n hx hb dX0_minister_118 rfl (lv_at hl 5 rfl) ?_
          refine lv_iconst (v := 2) hx hb dX0_minister_119 (by decide) ?_
          refine w_cut (g2 := F0 m 148 ls [.int (if 2 ≤ wh then (if wh = 2 then (0 : Int32) else (lp (lb_tv_minister_62_1 g1 u) n1 0)) else (g1 (30 + 2 * u.toNatClampNeg + wh.toNatClampNeg)))]) (fun jn => ?_) ?_
          · skip
            refine lv_icmp_ge (tgt := 137) hx hb dX0_minister_120 (by decide) (fun c12 => ?_) (fun c12 => ?_)
            · skip
              refine lv_iload_n hx hb dX0_minister_137 rfl (lv_at hl 5 rfl) ?_
              refine lv_iconst (v := 2) hx hb dX0_minister_138 (by decide) ?_
              refine lv_icmp_ne (tgt := 146) hx hb dX0_minister_139 (by decide) (fun c13 => ?_) (fun c13 => ?_)
              · skip
                refine lv_iload hx hb dX0_minister_146 (lv_at hl 1 rfl) ?_
                exact w_topi ((if_pos c12).trans (if_neg c13)) jn
              · skip
                refine lv_iload_n hx hb dX0_minister_142 rfl (lv_at hl 2 rfl) ?_
                refine lv_goto (tgt := 148) hx hb dX0_minister_143 (by decide) ?_
                exact w_topi ((if_pos c12).trans (if_pos c13)) jn
            · skip
              refine lv_aload_n hx hb dX0_minister_123 rfl (lv_at hl 3 rfl) ?_
              refine r_get M w tc0 0 0 3 rfl rfl (by decide) q722 rfl rfl dX0_minister_124 ?_
              refine r_getN M w tc1 2 0 2 rfl rfl (by decide) q135 rfl rfl dX0_minister_127 ?_
              refine lv_iload_n hx hb dX0_minister_130 rfl (lv_at hl 4 rfl) ?_
              refine r_aald M w 2 15 4 rfl rfl rfl rfl (vp_w (isI_1 c6 (by omega)) (by omega)) (v := (b + 2) + 16 + u.toNatClampNeg) (oref_in (vp_w (isI_1 c6 (by omega)) (by omega))) dX0_minister_131 ?_
              refine lv_iload_n hx hb dX0_minister_132 rfl (lv_at hl 5 rfl) ?_
              refine r_iald M w 2 (16 + u.toNatClampNeg) rfl (stg_mi G (b + 2) n1 m1 g1 (vp_cl (vp_w (isI_1 c6 (by omega)) (by omega)))) (vp_w (vp_cut (k := 2) (inL_1 (k := 3) (by omega) c7) c12 (by omega)) (by omega)) (v := g1 (30 + 2 * u.toNatClampNeg + wh.toNatClampNeg)) (row_inx (vp_w (vp_cut (k := 2) (inL_1 (k := 3) (by omega) c7) c12 (by omega)) (by omega))) dX0_minister_133 ?_
              refine lv_goto (tgt := 148) hx hb dX0_minister_134 (by decide) ?_
              exact w_topi (if_neg c12) jn
          exact tv_iret M w hr ((if_neg c6).trans ((if_neg c7).trans (if_neg c8))).symm dX0_minister_148
        · skip
          obtain ⟨w, hl⟩ := hI
          refine lv_iload hx hb dX0_minister_62 (lv_at hl 0 rfl) ?_
          refine lv_aload_n hx hb dX0_minister_64 rfl (lv_at hl 3 rfl) ?_
          refine r_get M w tc0 0 0 3 rfl rfl (by decide) q722 rfl rfl dX0_minister_65 ?_
          refine r_getN M w tc1 2 0 3 rfl rfl (by decide) q138 rfl rfl dX0_minister_68 ?_
          refine lv_icmp_ge (tgt := 118) hx hb dX0_minister_71 (by decide) (fun hc => absurd hc (nI_ge (a := i62) (b := n1) (by omega) (by omega))) (fun _ => ?_)
          refine lv_iload hx hb dX0_minister_74 (lv_at hl 1 rfl) ?_
          refine lv_iload_n hx hb dX0_minister_76 rfl (lv_at hl 2 rfl) ?_
          refine lv_iload hx hb dX0_minister_77 (lv_at hl 0 rfl) ?_
          refine c_iS M w (S' := (tvs G b x tp n1 m1 g1 n2 m2 g2 n3 m3 g3 se bs y0 n4 m4 g4 e0 y1 n5 m5 g5 e1 n6 m6 g6 Z)) tv_in.nil (tv_has l G 0 (nI i62)) q454 q371 q68 q372 nm_yX0_has ⟨Nat.le_of_ble_eq_true rfl, Nat.le_of_ble_eq_true rfl⟩ rfl hl.1 (rest := [.int (lp (lb_tv_minister_62_1 g1 u) i62 0)]) rfl (Nat.le_of_ble_eq_true rfl) dX0_minister_79 ⟨Nat.zero_le _, Nat.zero_le _⟩ (fun H locs w => ?_)
          refine lv_if_eq (tgt := 108) hx hb dX0_minister_82 (by decide) (fun c14 => ?_) (fun c14 => ?_)
          · skip
            refine lv_iconst (v := 0) hx hb dX0_minister_108 (by decide) ?_
            refine lv_iadd hx hb dX0_minister_109 ?_
            refine lv_istore (lv' := [(4, .int ((lp (lb_tv_minister_62_1 g1 u) i62 0) + 0)), (5, .int (nI i62)), (3, .int 0), (0, .ref b), (1, .int u), (2, .int wh)]) hx hb dX0_minister_110 hl (by decide) rfl (fun ls hl => ?_)
            refine lv_iinc (k := 1) (v := nI (i62 + 1)) (lv' := [(5, .int (nI (i62 + 1))), (4, .int ((lp (lb_tv_minister_62_1 g1 u) i62 0) + 0)), (3, .int 0), (0, .ref b), (1, .int u), (2, .int wh)]) hx hb dX0_minister_112 hl rfl (nI_inc i62) (by decide) rfl (fun ls hl => ?_)
            refine lv_goto (tgt := 62) hx hb dX0_minister_115 (by decide) ?_
            refine ih62 _ _ _ ?_
            show tv_W G A s (tvs G b x tp n1 m1 g1 n2 m2 g2 n3 m3 g3 se bs y0 n4 m4 g4 e0 y1 n5 m5 g5 e1 n6 m6 g6 Z) H locs ∧ lv_has ls 6 [(5, .int (nI (i62 + 1))), (4, .int (lp (lb_tv_minister_62_1 g1 u) (i62 + 1) 0)), (3, .int 0), (0, .ref b), (1, .int u), (2, .int wh)]
            rw [show lp (lb_tv_minister_62_1 g1 u) (i62 + 1) 0 = _ from if_pos c14]
            exact ⟨w, lv_sub hl [0, 1, 2, 3, 4, 5] rfl⟩
          · skip
            refine lv_aload_n hx hb dX0_minister_85 rfl (lv_at hl 3 rfl) ?_
            refine r_get M w tc0 0 0 3 rfl rfl (by decide) q722 rfl rfl dX0_minister_86 ?_
            refine lv_iload hx hb dX0_minister_89 (lv_at hl 0 rfl) ?_
            refine lv_aload_n hx hb dX0_minister_91 rfl (lv_at hl 3 rfl) ?_
            refine r_get M w tc0 0 0 3 rfl rfl (by decide) q722 rfl rfl dX0_minister_92 ?_
            refine r_getN M w tc1 2 0 2 rfl rfl (by decide) q135 rfl rfl dX0_minister_95 ?_
            refine lv_iload_n hx hb dX0_minister_98 rfl (lv_at hl 4 rfl) ?_
            refine r_aald M w 2 15 4 rfl rfl rfl rfl (vp_w (isI_1 c6 (by omega)) (by omega)) (v := (b + 2) + 16 + u.toNatClampNeg) (oref_in (vp_w (isI_1 c6 (by omega)) (by omega))) dX0_minister_99 ?_
            refine lv_iconst (v := 0) hx hb dX0_minister_100 (by decide) ?_
            refine r_iald M w 2 (16 + u.toNatClampNeg) rfl (stg_mi G (b + 2) n1 m1 g1 (vp_cl (vp_w (isI_1 c6 (by omega)) (by omega)))) (pk_in 0 2 (by decide)) (v := g1 (30 + 2 * u.toNatClampNeg)) rfl dX0_minister_101 ?_
            refine c_iV M w (S' := (tvs G b x tp n1 m1 g1 n2 m2 g2 n3 m3 g3 se bs y0 n4 m4 g4 e0 y1 n5 m5 g5 e1 n6 m6 g6 Z)) (tv_in.seg 2 rfl rfl) (st_angered l G (b + 2) n1 m1 g1 i62 (g1 (30 + 2 * u.toNatClampNeg)) (by omega) (hok.kd (by omega))) (q0 := 0) tc1 rfl q455 q456 q457 q69 q458 nm_yX1_angered ⟨Nat.le_of_ble_eq_true rfl, Nat.le_of_ble_eq_true rfl⟩ rfl hl.1 (rest := [.int (lp (lb_tv_minister_62_1 g1 u) i62 0)]) rfl (Nat.le_of_ble_eq_true rfl) dX0_minister_102 ⟨Nat.zero_le _, Nat.zero_le _⟩ (fun H locs w => ?_)
            refine lv_goto (tgt := 109) hx hb dX0_minister_105 (by decide) ?_
            refine lv_iadd hx hb dX0_minister_109 ?_
            refine lv_istore (lv' := [(4, .int ((lp (lb_tv_minister_62_1 g1 u) i62 0) + (ang (g1 (12 + 3 * i62)) (g1 (30 + 2 * u.toNatClampNeg))))), (5, .int (nI i62)), (3, .int 0), (0, .ref b), (1, .int u), (2, .int wh)]) hx hb dX0_minister_110 hl (by decide) rfl (fun ls hl => ?_)
            refine lv_iinc (k := 1) (v := nI (i62 + 1)) (lv' := [(5, .int (nI (i62 + 1))), (4, .int ((lp (lb_tv_minister_62_1 g1 u) i62 0) + (ang (g1 (12 + 3 * i62)) (g1 (30 + 2 * u.toNatClampNeg))))), (3, .int 0), (0, .ref b), (1, .int u), (2, .int wh)]) hx hb dX0_minister_112 hl rfl (nI_inc i62) (by decide) rfl (fun ls hl => ?_)
            refine lv_goto (tgt := 62) hx hb dX0_minister_115 (by decide) ?_
            refine ih62 _ _ _ ?_
            show tv_W G A s (tvs G b x tp n1 m1 g1 n2 m2 g2 n3 m3 g3 se bs y0 n4 m4 g4 e0 y1 n5 m5 g5 e1 n6 m6 g6 Z) H locs ∧ lv_has ls 6 [(5, .int (nI (i62 + 1))), (4, .int (lp (lb_tv_minister_62_1 g1 u) (i62 + 1) 0)), (3, .int 0), (0, .ref b), (1, .int u), (2, .int wh)]
            rw [show lp (lb_tv_minister_62_1 g1 u) (i62 + 1) 0 = _ from if_neg c14]
            exact ⟨w, lv_sub hl [0, 1, 2, 3, 4, 5] rfl⟩
    · skip
      refine lv_iconst (v := -1) hx hb dX0_minister_20 (by decide) ?_
      exact tv_iret M w hr ((if_neg c6).trans (if_pos c7)).symm dX0_minister_21
