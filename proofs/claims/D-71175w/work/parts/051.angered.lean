/-! how a kind is angered -/
theorem kd_plain (l : Launch) (G : tG) (b : Nat) (t : Int32) : tv_U l yX7_angered cX7_angered 2 (tv_rm 0 0) G [.ref b, .int t] t := by
  refine tv_U.st (by decide) (Nat.le_of_ble_eq_true rfl) ?_
  intro p e s m below meth c A M hr w ls hl
  have hx := M.1.1
  have hb := M.1.2.1
  have hl : lv_has ls 2 [(0, .ref b), (1, .int t)] := hl
  refine lv_iload_n hx hb dX7_angered_0 rfl (lv_at hl 1 rfl) ?_
  exact tv_iret M w hr rfl dX7_angered_1
theorem kd_sly (l : Launch) (G : tG) (b : Nat) (t : Int32) (hob : tv_ob2 G b) : tv_U l yX10_angered cX10_angered 2 (tv_rm 1 21) G [.ref b, .int t] (2 * t) := by
  refine tv_U.st (by decide) (Nat.le_of_ble_eq_true rfl) ?_
  intro p e s m below meth c A M hr w ls hl
  have hx := M.1.1
  have hb := M.1.2.1
  have hl : lv_has ls 2 [(0, .ref b), (1, .int t)] := hl
  refine lv_iconst (v := 2) hx hb dX10_angered_0 (by decide) ?_
  refine lv_aload_n hx hb dX10_angered_1 rfl (lv_at hl 0 rfl) ?_
  refine lv_iload_n hx hb dX10_angered_2 rfl (lv_at hl 1 rfl) ?_
  refine c_iSU M w hob (kd_plain l G b t) q478 q464 q479 q462 q480 (by decide) nm_yX7_angered ⟨Nat.le_of_ble_eq_true rfl, Nat.le_of_ble_eq_true rfl⟩ rfl hl.1 (rest := [.int 2]) rfl (Nat.le_of_ble_eq_true rfl) dX10_angered_3 ⟨Nat.zero_le _, Nat.zero_le _⟩ (fun H locs w => ?_)
  refine lv_imul hx hb dX10_angered_6 ?_
  exact tv_iret M w hr rfl dX10_angered_7
theorem kd_loyal (l : Launch) (G : tG) (b : Nat) (t : Int32) (hob : tv_ob2 G b) : tv_U l yX8_angered cX8_angered 2 (tv_rm 1 21) G [.ref b, .int t] (t / 2) := by
  refine tv_U.st (by decide) (Nat.le_of_ble_eq_true rfl) ?_
  intro p e s m below meth c A M hr w ls hl
  have hx := M.1.1
  have hb := M.1.2.1
  have hl : lv_has ls 2 [(0, .ref b), (1, .int t)] := hl
  refine lv_aload_n hx hb dX8_angered_0 rfl (lv_at hl 0 rfl) ?_
  refine lv_iload_n hx hb dX8_angered_1 rfl (lv_at hl 1 rfl) ?_
  refine c_iSU M w hob (kd_plain l G b t) q468 q464 q469 q462 q480 (by decide) nm_yX7_angered ⟨Nat.le_of_ble_eq_true rfl, Nat.le_of_ble_eq_true rfl⟩ rfl hl.1 (rest := []) rfl (Nat.le_of_ble_eq_true rfl) dX8_angered_2 ⟨Nat.zero_le _, Nat.zero_le _⟩ (fun H locs w => ?_)
  refine lv_iconst (v := 2) hx hb dX8_angered_5 (by decide) ?_
  refine lv_idiv hx hb dX8_angered_6 (by decide) ?_
  exact tv_iret M w hr rfl dX8_angered_7
theorem kd_mouse (l : Launch) (G : tG) (b : Nat) (t : Int32) (hob : tv_ob2 G b) : tv_U l yX9_angered cX9_angered 2 (tv_rm 2 42) G [.ref b, .int t] (t / 2 + 1) := by
  refine tv_U.st (by decide) (Nat.le_of_ble_eq_true rfl) ?_
  intro p e s m below meth c A M hr w ls hl
  have hx := M.1.1
  have hb := M.1.2.1
  have hl : lv_has ls 2 [(0, .ref b), (1, .int t)] := hl
  refine lv_aload_n hx hb dX9_angered_0 rfl (lv_at hl 0 rfl) ?_
  refine lv_iload_n hx hb dX9_angered_1 rfl (lv_at hl 1 rfl) ?_
  refine c_iSU M w hob (kd_loyal l G b t hob) q473 q1373 q474 q466 q467 (by decide) nm_yX8_angered ⟨Nat.le_of_ble_eq_true rfl, Nat.le_of_ble_eq_true rfl⟩ rfl hl.1 (rest := []) rfl (Nat.le_of_ble_eq_true rfl) dX9_angered_2 ⟨Nat.zero_le _, Nat.zero_le _⟩ (fun H locs w => ?_)
  refine lv_iconst (v := 1) hx hb dX9_angered_5 (by decide) ?_
  refine lv_iadd hx hb dX9_angered_6 ?_
  exact tv_iret M w hr rfl dX9_angered_7
set_option maxHeartbeats 4000000 in
theorem st_angered (l : Launch) (G : tG) (a nh nm : Nat) (g : Nat → Int32) (h : Nat) (t : Int32) (hh : h < 6) (hk : vp_in (g (12 + 3 * h)) 4) : tv_I l yX1_angered cX1_angered 3 (some .int) (tv_rm 3 63) G [.ref a, .int (nI h), .int t] (stg G a nh nm g) (ang (g (12 + 3 * h)) t) (stg G a nh nm g) := by
  refine tv_I.st (S := [stg G a nh nm g]) (S' := [stg G a nh nm g]) sg_one sg_one (by decide) (Nat.le_of_ble_eq_true rfl) ?_
  intro p e s m below meth c A M hr w ls hl
  have hx := M.1.1
  have hb := M.1.2.1
  have hl : lv_has ls 3 [(0, .ref a), (1, .int (nI h)), (2, .int t)] := hl
  have hst := M.2.1.2.2.2.1
  refine va_getsN hx hb (hst.1.narrow M.2.2.2.1) w.2.2 M.1.2.2.2.1 (va_Nw.use rfl (M.2.1.2.1 _ q459 rfl)) (fun _ h => h) dX1_angered_0 ?_
  refine lv_aload_n hx hb dX1_angered_3 rfl (lv_at hl 0 rfl) ?_
  refine r_get M w tc1 0 0 1 rfl rfl (by decide) q130 rfl rfl dX1_angered_4 ?_
  refine lv_iload_n hx hb dX1_angered_7 rfl (lv_at hl 1 rfl) ?_
  refine r_aald M w 0 8 4 rfl rfl rfl rfl (vp_in_nI (by omega) (by omega)) (v := a + 9 + h) (oref_nI (by omega) (by omega)) dX1_angered_8 ?_
  refine lv_iconst (v := 0) hx hb dX1_angered_9 (by decide) ?_
  refine r_iald M w 0 (9 + h) rfl (stg_hd G a nh nm g (by omega)) (pk_in 0 3 (by decide)) (v := g (12 + 3 * h)) rfl dX1_angered_10 ?_
  obtain ⟨j, hj, ej⟩ := vp_in_of hk (by omega)
  have hv : (fun k => Value.ref (G.2.2.2 (1 + k))) (g (12 + 3 * h)).toNatClampNeg = .ref (G.2.2.2 (1 + j)) := by
    show Value.ref (G.2.2.2 (1 + (g (12 + 3 * h)).toNatClampNeg)) = _
    rw [ej, nI_clamp (by omega)]
  refine vb_tq hx hb (hst.2.1.narrow M.2.2.2.1) w.2.2 hk hv dX1_angered_11 ?_
  refine lv_iload_n hx hb dX1_angered_12 rfl (lv_at hl 2 rfl) ?_
  match j, hj with
  | 0, _ =>
    refine c_iVU (n := 1) M w hst.2.2.1 (kd_plain l G (G.2.2.2 1) t) q461 q464 q462 q480 q463 q462 q480 nm_yX7_angered ⟨Nat.le_of_ble_eq_true rfl, Nat.le_of_ble_eq_true rfl⟩ rfl hl.1 (rest := []) rfl (Nat.le_of_ble_eq_true rfl) dX1_angered_13 ⟨Nat.zero_le _, Nat.zero_le _⟩ (fun H locs w => ?_)
    exact tv_iret M w hr (by rw [ej]; rfl) dX1_angered_16
  | 1, _ =>
    refine c_iVU (n := 1) M w hst.2.2.2.1 (kd_sly l G (G.2.2.2 2) t ob_2) q461 q464 q462 q480 q475 q476 q477 nm_yX7_angered ⟨Nat.le_of_ble_eq_true rfl, Nat.le_of_ble_eq_true rfl⟩ rfl hl.1 (rest := []) rfl (Nat.le_of_ble_eq_true rfl) dX1_angered_13 ⟨Nat.zero_le _, Nat.zero_le _⟩ (fun H locs w => ?_)
    exact tv_iret M w hr (by rw [ej]; rfl) dX1_angered_16
  | 2, _ =>
    refine c_iVU (n := 1) M w hst.2.2.2.2.1 (kd_loyal l G (G.2.2.2 3) t ob_3) q461 q464 q462 q480 q465 q466 q467 nm_yX7_angered ⟨Nat.le_of_ble_eq_true rfl, Nat.le_of_ble_eq_true rfl⟩ rfl hl.1 (rest := []) rfl (Nat.le_of_ble_eq_true rfl) dX1_angered_13 ⟨Nat.zero_le _, Nat.zero_le _⟩ (fun H locs w => ?_)
    exact tv_iret M w hr (by rw [ej]; rfl) dX1_angered_16
  | 3, _ =>
    refine c_iVU (n := 1) M w hst.2.2.2.2.2 (kd_mouse l G (G.2.2.2 4) t ob_4) q461 q464 q462 q480 q470 q471 q472 nm_yX7_angered ⟨Nat.le_of_ble_eq_true rfl, Nat.le_of_ble_eq_true rfl⟩ rfl hl.1 (rest := []) rfl (Nat.le_of_ble_eq_true rfl) dX1_angered_13 ⟨Nat.zero_le _, Nat.zero_le _⟩ (fun H locs w => ?_)
    exact tv_iret M w hr (by rw [ej]; rfl) dX1_angered_16
