/-! the reference: loops over what is at hand -/
theorem m2_0 {x : Int32} (h : vp_in x 6) : vp_in (2 * x + 0) 58 := by
  obtain ⟨k, hk, rfl⟩ := vp_in_of h (by omega)
  have key : ∀ k, k < 6 → (2 : Int32) * nI k + 0 = nI (2 * k) := by decide +kernel
  rw [key k hk]
  exact vp_in_nI (by omega) (by omega)
theorem m2_1 {x : Int32} (h : vp_in x 6) : vp_in (2 * x + 1) 58 := by
  obtain ⟨k, hk, rfl⟩ := vp_in_of h (by omega)
  have key : ∀ k, k < 6 → (2 : Int32) * nI k + 1 = nI (2 * k + 1) := by decide +kernel
  rw [key k hk]
  exact vp_in_nI (by omega) (by omega)
def sp_md_isUnder (y : Nat → Int32) (nw : Nat → Int32) (h : Nat) (q : Int32) : Int32 := if (nI h) = (y 18) then 0 else (if (sp_md_of nw h 1) = q then (1 : Int32) else (0 : Int32))
set_option maxHeartbeats 4000000 in
set_option maxRecDepth 100000 in
theorem md_isUnder (l : Launch) (G : tG) (d : Nat) (nh : Nat) (nm : Nat) (y : Nat → Int32) (z : Nat → Int64) (st : Nat → Int32) (nw : Nat → Int32) (ik : Nat → Int32) (dr : Nat → Int32) (tq : Nat → Int32) (dn : Nat → Int32) (db : Nat → Int32) (la : Nat → Int32) (si : Nat → Int32) (ce : Nat → Int32) (be : Nat → Int32) (h : Nat) (q : Int32) (hh : h < 6) : tv_I l yX4_isUnder cX4_isUnder 3 (some .boolean) (tv_rm 1 22) G [.ref d, .int (nI h), .int q] (mds G d nh nm y z st nw ik dr tq dn db la si ce be).flatten (sp_md_isUnder y nw h q) (mds G d nh nm y z st nw ik dr tq dn db la si ce be).flatten := by
  refine tv_I.st (S := (mds G d nh nm y z st nw ik dr tq dn db la si ce be)) (S' := (mds G d nh nm y z st nw ik dr tq dn db la si ce be)) rfl rfl (by decide) (Nat.le_of_ble_eq_true rfl) ?_
  intro p e s m below meth c A M hr w ls hl
  have hx := M.1.1
  have hb := M.1.2.1
  have hl : lv_has ls 3 [(0, .ref d), (1, .int (nI h)), (2, .int q)] := hl
  refine lv_iload_n hx hb dX4_isUnder_0 rfl (lv_at hl 1 rfl) ?_
  refine lv_aload_n hx hb dX4_isUnder_1 rfl (lv_at hl 0 rfl) ?_
  refine r_get M w tc4 0 0 18 rfl rfl (by decide) q938 rfl rfl dX4_isUnder_2 ?_
  refine lv_icmp_eq (tgt := 22) hx hb dX4_isUnder_5 (by decide) (fun c2 => ?_) (fun c2 => ?_)
  · skip
    refine lv_iconst (v := 0) hx hb dX4_isUnder_22 (by decide) ?_
    exact tv_zret M w hr rfl (if_pos c2).symm dX4_isUnder_23
  · skip
    refine lv_aload_n hx hb dX4_isUnder_8 rfl (lv_at hl 0 rfl) ?_
    refine lv_iload_n hx hb dX4_isUnder_9 rfl (lv_at hl 1 rfl) ?_
    refine lv_iconst (v := 1) hx hb dX4_isUnder_10 (by decide) ?_
    refine c_iV M w (S' := (mds G d nh nm y z st nw ik dr tq dn db la si ce be)) tv_in.all (md_of l G d nh nm y z st nw ik dr tq dn db la si ce be h 1 (by omega) (by omega)) (q0 := 0) tc4 rfl q1098 q1100 qs41 q72 q1101 nm_yX4_of ⟨Nat.le_of_ble_eq_true rfl, Nat.le_of_ble_eq_true rfl⟩ rfl hl.1 (rest := []) rfl (Nat.le_of_ble_eq_true rfl) dX4_isUnder_11 ⟨Nat.zero_le _, Nat.zero_le _⟩ (fun H locs w => ?_)
    refine lv_iload_n hx hb dX4_isUnder_14 rfl (lv_at hl 2 rfl) ?_
    refine w_cut (g2 := F0 m 23 ls [.int (if (sp_md_of nw h 1) = q then (1 : Int32) else (0 : Int32))]) (fun jn => ?_) ?_
    · skip
      refine lv_icmp_ne (tgt := 22) hx hb dX4_isUnder_15 (by decide) (fun c3 => ?_) (fun c3 => ?_)
      · skip
        refine lv_iconst (v := 0) hx hb dX4_isUnder_22 (by decide) ?_
        exact w_topi (if_neg c3) jn
      · skip
        refine lv_iconst (v := 1) hx hb dX4_isUnder_18 (by decide) ?_
        refine lv_goto (tgt := 23) hx hb dX4_isUnder_19 (by decide) ?_
        exact w_topi (if_pos c3) jn
    exact tv_zret M w hr (ite_nar rfl rfl) (if_neg c2).symm dX4_isUnder_23
def sp_md_wants (nw : Nat → Int32) (h : Nat) : Int32 := if (10 + (nw (((2 * (sp_md_of nw h 1)) + 0).toNatClampNeg))) ≤ (sp_md_of nw h 2) then 0 else ((10 + (nw (((2 * (sp_md_of nw h 1)) + 0).toNatClampNeg))) - (sp_md_of nw h 2))
set_option maxHeartbeats 4000000 in
set_option maxRecDepth 100000 in
theorem md_wants (l : Launch) (G : tG) (d : Nat) (nh : Nat) (nm : Nat) (y : Nat → Int32) (z : Nat → Int64) (st : Nat → Int32) (nw : Nat → Int32) (ik : Nat → Int32) (dr : Nat → Int32) (tq : Nat → Int32) (dn : Nat → Int32) (db : Nat → Int32) (la : Nat → Int32) (si : Nat → Int32) (ce : Nat → Int32) (be : Nat → Int32) (h : Nat) (hh : h < 6) (hat : vp_in (nw (12 + 3 * h + 1)) 6) : tv_I l yX4_wants cX4_wants 3 (some .int) (tv_rm 1 22) G [.ref d, .int (nI h)] (mds G d nh nm y z st nw ik dr tq dn db la si ce be).flatten (sp_md_wants nw h) (mds G d nh nm y z st nw ik dr tq dn db la si ce be).flatten := by
  refine tv_I.st (S := (mds G d nh nm y z st nw ik dr tq dn db la si ce be)) (S' := (mds G d nh nm y z st nw ik dr tq dn db la si ce be)) rfl rfl (by decide) (Nat.le_of_ble_eq_true rfl) ?_
  intro p e s m below meth c A M hr w ls hl
  have hx := M.1.1
  have hb := M.1.2.1
  have hl : lv_has ls 3 [(0, .ref d), (1, .int (nI h))] := hl
  refine lv_bipush (v := 10) hx hb dX4_wants_0 (by decide) ?_
  refine lv_aload_n hx hb dX4_wants_2 rfl (lv_at hl 0 rfl) ?_
  refine r_get M w tc4 0 0 1 rfl rfl (by decide) q921 rfl rfl dX4_wants_3 ?_
  refine lv_iconst (v := 2) hx hb dX4_wants_6 (by decide) ?_
  refine lv_aload_n hx hb dX4_wants_7 rfl (lv_at hl 0 rfl) ?_
  refine lv_iload_n hx hb dX4_wants_8 rfl (lv_at hl 1 rfl) ?_
  refine lv_iconst (v := 1) hx hb dX4_wants_9 (by decide) ?_
  refine c_iV M w (S' := (mds G d nh nm y z st nw ik dr tq dn db la si ce be)) tv_in.all (md_of l G d nh nm y z st nw ik dr tq dn db la si ce be h 1 (by omega) (by omega)) (q0 := 0) tc4 rfl q1098 q1100 qs41 q72 q1101 nm_yX4_of ⟨Nat.le_of_ble_eq_true rfl, Nat.le_of_ble_eq_true rfl⟩ rfl hl.1 (rest := [.int 2, .ref (d + 2), .int 10]) rfl (Nat.le_of_ble_eq_true rfl) dX4_wants_10 ⟨Nat.zero_le _, Nat.zero_le _⟩ (fun H locs w => ?_)
  refine lv_imul hx hb dX4_wants_13 ?_
  refine lv_iconst (v := 0) hx hb dX4_wants_14 (by decide) ?_
  refine lv_iadd hx hb dX4_wants_15 ?_
  refine r_iald M w 2 0 rfl rfl (vp_w (m2_0 hat) (by omega)) (v := nw (((2 * (sp_md_of nw h 1)) + 0).toNatClampNeg)) rfl dX4_wants_16 ?_
  refine lv_iadd hx hb dX4_wants_17 ?_
  refine lv_istore_n (lv' := [(2, .int (10 + (nw (((2 * (sp_md_of nw h 1)) + 0).toNatClampNeg)))), (0, .ref d), (1, .int (nI h))]) hx hb dX4_wants_18 rfl hl (by decide) rfl (fun ls hl => ?_)
  refine lv_aload_n hx hb dX4_wants_19 rfl (lv_at hl 1 rfl) ?_
  refine lv_iload_n hx hb dX4_wants_20 rfl (lv_at hl 2 rfl) ?_
  refine lv_iconst (v := 2) hx hb dX4_wants_21 (by decide) ?_
  refine c_iV M w (S' := (mds G d nh nm y z st nw ik dr tq dn db la si ce be)) tv_in.all (md_of l G d nh nm y z st nw ik dr tq dn db la si ce be h 2 (by omega) (by omega)) (q0 := 0) tc4 rfl q1098 q1100 qs41 q72 q1101 nm_yX4_of ⟨Nat.le_of_ble_eq_true rfl, Nat.le_of_ble_eq_true rfl⟩ rfl hl.1 (rest := []) rfl (Nat.le_of_ble_eq_true rfl) dX4_wants_22 ⟨Nat.zero_le _, Nat.zero_le _⟩ (fun H locs w => ?_)
  refine lv_iload_n hx hb dX4_wants_25 rfl (lv_at hl 0 rfl) ?_
  refine lv_icmp_ge (tgt := 40) hx hb dX4_wants_26 (by decide) (fun c2 => ?_) (fun c2 => ?_)
  · skip
    refine lv_iconst (v := 0) hx hb dX4_wants_40 (by decide) ?_
    exact tv_iret M w hr (if_pos c2).symm dX4_wants_41
  · skip
    refine lv_iload_n hx hb dX4_wants_29 rfl (lv_at hl 0 rfl) ?_
    refine lv_aload_n hx hb dX4_wants_30 rfl (lv_at hl 1 rfl) ?_
    refine lv_iload_n hx hb dX4_wants_31 rfl (lv_at hl 2 rfl) ?_
    refine lv_iconst (v := 2) hx hb dX4_wants_32 (by decide) ?_
    refine c_iV M w (S' := (mds G d nh nm y z st nw ik dr tq dn db la si ce be)) tv_in.all (md_of l G d nh nm y z st nw ik dr tq dn db la si ce be h 2 (by omega) (by omega)) (q0 := 0) tc4 rfl q1098 q1100 qs41 q72 q1101 nm_yX4_of ⟨Nat.le_of_ble_eq_true rfl, Nat.le_of_ble_eq_true rfl⟩ rfl hl.1 (rest := [.int (10 + (nw (((2 * (sp_md_of nw h 1)) + 0).toNatClampNeg)))]) rfl (Nat.le_of_ble_eq_true rfl) dX4_wants_33 ⟨Nat.zero_le _, Nat.zero_le _⟩ (fun H locs w => ?_)
    refine lv_isub hx hb dX4_wants_36 ?_
    refine lv_goto (tgt := 41) hx hb dX4_wants_37 (by decide) ?_
    exact tv_iret M w hr (if_neg c2).symm dX4_wants_41
def lb_md_drawnAt_4 (y : Nat → Int32) (nw : Nat → Int32) (q : Int32) (i4 : Nat) (st4 : Int32) : Int32 := if (sp_md_isUnder y nw i4 q) = 0 then (st4 + (sp_md_flag 0)) else (st4 + (sp_md_flag (if (sp_md_wants nw i4) = 0 then (1 : Int32) else (0 : Int32))))
def sp_md_drawnAt (nh : Nat) (y : Nat → Int32) (nw : Nat → Int32) (q : Int32) : Int32 := lp (lb_md_drawnAt_4 y nw q) nh 0
set_option maxHeartbeats 4000000 in
set_option maxRecDepth 100000 in
theorem md_drawnAt (l : Launch) (G : tG) (d : Nat) (nh : Nat) (nm : Nat) (y : Nat → Int32) (z : Nat → Int64) (st : Nat → Int32) (nw : Nat → Int32) (ik : Nat → Int32) (dr : Nat → Int32) (tq : Nat → Int32) (dn : Nat → Int32) (db : Nat → Int32) (la : Nat → Int32) (si : Nat → Int32) (ce : Nat → Int32) (be : Nat → Int32) (q : Int32) (hn : nh ≤ 6) (hm : nm ≤ 4) (hat : ∀ h, h < 6 → vp_in (nw (12 + 3 * h + 1)) 6) : tv_I l yX4_drawnAt cX4_drawnAt 4 (some .int) (tv_rm 2 44) G [.ref d, .int q] (mds G d nh nm y z st nw ik dr tq dn db la si ce be).flatten (sp_md_drawnAt nh y nw q) (mds G d nh nm y z st nw ik dr tq dn db la si ce be).flatten := by
  refine tv_I.st (S := (mds G d nh nm y z st nw ik dr tq dn db la si ce be)) (S' := (mds G d nh nm y z st nw ik dr tq dn db la si ce be)) rfl rfl (by decide) (Nat.le_of_ble_eq_true rfl) ?_
  intro p e s m below meth c A M hr w ls hl
  have hx := M.1.1
  have hb := M.1.2.1
  have hl : lv_has ls 4 [(0, .ref d), (1, .int q)] := hl
  refine lv_iconst (v := 0) hx hb dX4_drawnAt_0 (by decide) ?_
  refine lv_istore_n (lv' := [(2, .int 0), (0, .ref d), (1, .int q)]) hx hb dX4_drawnAt_1 rfl hl (by decide) rfl (fun ls hl => ?_)
  refine lv_iconst (v := 0) hx hb dX4_drawnAt_2 (by decide) ?_
  refine lv_istore_n (lv' := [(3, .int 0), (2, .int 0), (0, .ref d), (1, .int q)]) hx hb dX4_drawnAt_3 rfl hl (by decide) rfl (fun ls hl => ?_)
  refine w_for (pc := 4) (fun i4 H locs ls => tv_W G A s (mds G d nh nm y z st nw ik dr tq dn db la si ce be) H locs ∧ lv_has ls 4 [(3, .int (nI i4)), (2, .int (lp (lb_md_drawnAt_4 y nw q) i4 0)), (0, .ref d), (1, .int q)]) nh (fun H locs ls hI => ?_) (fun i4 hi4 H locs ls hI ih4 => ?_) 0 (Nat.zero_le _) _ _ _ ⟨w, hl⟩
  · skip
    obtain ⟨w, hl⟩ := hI
    refine lv_iload_n hx hb dX4_drawnAt_4 rfl (lv_at hl 0 rfl) ?_
    refine lv_aload_n hx hb dX4_drawnAt_5 rfl (lv_at hl 2 rfl) ?_
    refine r_get M w tc4 0 0 3 rfl rfl (by decide) q923 rfl rfl dX4_drawnAt_6 ?_
    refine lv_icmp_ge (tgt := 46) hx hb dX4_drawnAt_9 (by decide) (fun _ => ?_) (fun hc => absurd (nI_le (a := nh) (b := nh) (by omega) (by omega)) hc)
    refine lv_iload_n hx hb dX4_drawnAt_46 rfl (lv_at hl 1 rfl) ?_
    exact tv_iret M w hr rfl dX4_drawnAt_47
  · skip
    obtain ⟨w, hl⟩ := hI
    refine lv_iload_n hx hb dX4_drawnAt_4 rfl (lv_at hl 0 rfl) ?_
    refine lv_aload_n hx hb dX4_drawnAt_5 rfl (lv_at hl 2 rfl) ?_
    refine r_get M w tc4 0 0 3 rfl rfl (by decide) q923 rfl rfl dX4_drawnAt_6 ?_
    refine lv_icmp_ge (tgt := 46) hx hb dX4_drawnAt_9 (by decide) (fun hc => absurd hc (nI_ge (a := i4) (b := nh) (by omega) (by omega))) (fun _ => ?_)
    refine lv_iload_n hx hb dX4_drawnAt_12 rfl (lv_at hl 1 rfl) ?_
    refine lv_aload_n hx hb dX4_drawnAt_13 rfl (lv_at hl 2 rfl) ?_
    refine lv_iload_n hx hb dX4_drawnAt_14 rfl (lv_at hl 0 rfl) ?_
    refine lv_iload_n hx hb dX4_drawnAt_15 rfl (lv_at hl 3 rfl) ?_
    refine c_iV M w (S' := (mds G d nh nm y z st nw ik dr tq dn db la si ce be)) tv_in.all (md_isUnder l G d nh nm y z st nw ik dr tq dn db la si ce be i4 q (by omega)) (q0 := 0) tc4 rfl q1193 q1195 qs53 q72 q1196 nm_yX4_isUnder ⟨Nat.le_of_ble_eq_true rfl, Nat.le_of_ble_eq_true rfl⟩ rfl hl.1 (rest := [.int (lp (lb_md_drawnAt_4 y nw q) i4 0)]) rfl (Nat.le_of_ble_eq_true rfl) dX4_drawnAt_16 ⟨Nat.zero_le _, Nat.zero_le _⟩ (fun H locs w => ?_)
    refine lv_if_eq (tgt := 34) hx hb dX4_drawnAt_19 (by decide) (fun c2 => ?_) (fun c2 => ?_)
    · skip
      refine lv_iconst (v := 0) hx hb dX4_drawnAt_34 (by decide) ?_
      refine c_iS M w (S' := (mds G d nh nm y z st nw ik dr tq dn db la si ce be)) tv_in.nil (md_flag l G 0) q1102 q1103 q72 q1104 nm_yX4_flag ⟨Nat.le_of_ble_eq_true rfl, Nat.le_of_ble_eq_true rfl⟩ rfl hl.1 (rest := [.int (lp (lb_md_drawnAt_4 y nw q) i4 0)]) rfl (Nat.le_of_ble_eq_true rfl) dX4_drawnAt_35 ⟨Nat.zero_le _, Nat.zero_le _⟩ (fun H locs w => ?_)
      refine lv_iadd hx hb dX4_drawnAt_38 ?_
      refine lv_istore_n (lv' := [(2, .int ((lp (lb_md_drawnAt_4 y nw q) i4 0) + (sp_md_flag 0))), (3, .int (nI i4)), (0, .ref d), (1, .int q)]) hx hb dX4_drawnAt_39 rfl hl (by decide) rfl (fun ls hl => ?_)
      refine lv_iinc (k := 1) (v := nI (i4 + 1)) (lv' := [(3, .int (nI (i4 + 1))), (2, .int ((lp (lb_md_drawnAt_4 y nw q) i4 0) + (sp_md_flag 0))), (0, .ref d), (1, .int q)]) hx hb dX4_drawnAt_40 hl rfl (nI_inc i4) (by decide) rfl (fun ls hl => ?_)
      refine lv_goto (tgt := 4) hx hb dX4_drawnAt_43 (by decide) ?_
      refine ih4 _ _ _ ?_
      show tv_W G A s (mds G d nh nm y z st nw ik dr tq dn db la si ce be) H locs ∧ lv_has ls 4 [(3, .int (nI (i4 + 1))), (2, .int (lp (lb_md_drawnAt_4 y nw q) (i4 + 1) 0)), (0, .ref d), (1, .int q)]
      rw [show lp (lb_md_drawnAt_4 y nw q) (i4 + 1) 0 = _ from if_pos c2]
      exact ⟨w, lv_sub hl [0, 1, 2, 3] rfl⟩
    · skip
      refine lv_aload_n hx hb dX4_drawnAt_22 rfl (lv_at hl 2 rfl) ?_
      refine lv_iload_n hx hb dX4_drawnAt_23 rfl (lv_at hl 0 rfl) ?_
      refine c_iV M w (S' := (mds G d nh nm y z st nw ik dr tq dn db la si ce be)) tv_in.all (md_wants l G d nh nm y z st nw ik dr tq dn db la si ce be i4 (by omega) (hat i4 (by omega))) (q0 := 0) tc4 rfl q1094 q1096 qs40 q72 q1097 nm_yX4_wants ⟨Nat.le_of_ble_eq_true rfl, Nat.le_of_ble_eq_true rfl⟩ rfl hl.1 (rest := [.int (lp (lb_md_drawnAt_4 y nw q) i4 0)]) rfl (Nat.le_of_ble_eq_true rfl) dX4_drawnAt_24 ⟨Nat.zero_le _, Nat.zero_le _⟩ (fun H locs w => ?_)
      refine w_cut (g2 := F0 m 35 ls [.int (if (sp_md_wants nw i4) = 0 then (1 : Int32) else (0 : Int32)), .int (lp (lb_md_drawnAt_4 y nw q) i4 0)]) (fun jn => ?_) ?_
      · skip
        refine lv_if_ne (tgt := 34) hx hb dX4_drawnAt_27 (by decide) (fun c3 => ?_) (fun c3 => ?_)
        · skip
          refine lv_iconst (v := 0) hx hb dX4_drawnAt_34 (by decide) ?_
          exact w_topi (if_neg c3) jn
        · skip
          refine lv_iconst (v := 1) hx hb dX4_drawnAt_30 (by decide) ?_
          refine lv_goto (tgt := 35) hx hb dX4_drawnAt_31 (by decide) ?_
          exact w_topi (if_pos c3) jn
      refine c_iS M w (S' := (mds G d nh nm y z st nw ik dr tq dn db la si ce be)) tv_in.nil (md_flag l G (if (sp_md_wants nw i4) = 0 then (1 : Int32) else (0 : Int32))) q1102 q1103 q72 q1104 nm_yX4_flag ⟨Nat.le_of_ble_eq_true rfl, Nat.le_of_ble_eq_true rfl⟩ rfl hl.1 (rest := [.int (lp (lb_md_drawnAt_4 y nw q) i4 0)]) rfl (Nat.le_of_ble_eq_true rfl) dX4_drawnAt_35 ⟨Nat.zero_le _, Nat.zero_le _⟩ (fun H locs w => ?_)
      refine lv_iadd hx hb dX4_drawnAt_38 ?_
      refine lv_istore_n (lv' := [(2, .int ((lp (lb_md_drawnAt_4 y nw q) i4 0) + (sp_md_flag (if (sp_md_wants nw i4) = 0 then (1 : Int32) else (0 : Int32))))), (3, .int (nI i4)), (0, .ref d), (1, .int q)]) hx hb dX4_drawnAt_39 rfl hl (by decide) rfl (fun ls hl => ?_)
      refine lv_iinc (k := 1) (v := nI (i4 + 1)) (lv' := [(3, .int (nI (i4 + 1))), (2, .int ((lp (lb_md_drawnAt_4 y nw q) i4 0) + (sp_md_flag (if (sp_md_wants nw i4) = 0 then (1 : Int32) else (0 : Int32))))), (0, .ref d), (1, .int q)]) hx hb dX4_drawnAt_40 hl rfl (nI_inc i4) (by decide) rfl (fun ls hl => ?_)
      refine lv_goto (tgt := 4) hx hb dX4_drawnAt_43 (by decide) ?_
      refine ih4 _ _ _ ?_
      show tv_W G A s (mds G d nh nm y z st nw ik dr tq dn db la si ce be) H locs ∧ lv_has ls 4 [(3, .int (nI (i4 + 1))), (2, .int (lp (lb_md_drawnAt_4 y nw q) (i4 + 1) 0)), (0, .ref d), (1, .int q)]
      rw [show lp (lb_md_drawnAt_4 y nw q) (i4 + 1) 0 = _ from if_neg c2]
      exact ⟨w, lv_sub hl [0, 1, 2, 3] rfl⟩
def lb_md_starts_2 (st : Nat → Int32) (i2 : Nat) (st2 : (Nat → Int32)) : (Nat → Int32) := upd st2 i2 (st i2)
def sp_md_starts_y (y : Nat → Int32) : Nat → Int32 := upd (upd y 18 (-4)) 19 0
def sp_md_starts_nw (st : Nat → Int32) (nw : Nat → Int32) : Nat → Int32 := lp (lb_md_starts_2 st) 58 nw
set_option maxHeartbeats 4000000 in
set_option maxRecDepth 100000 in
theorem md_starts (l : Launch) (G : tG) (d : Nat) (nh : Nat) (nm : Nat) (y : Nat → Int32) (z : Nat → Int64) (st : Nat → Int32) (nw : Nat → Int32) (ik : Nat → Int32) (dr : Nat → Int32) (tq : Nat → Int32) (dn : Nat → Int32) (db : Nat → Int32) (la : Nat → Int32) (si : Nat → Int32) (ce : Nat → Int32) (be : Nat → Int32) : tv_V l yX4_starts cX4_starts 2 (tv_rm 0 0) G [.ref d] (mds G d nh nm y z st nw ik dr tq dn db la si ce be).flatten (mds G d nh nm (sp_md_starts_y y) z st (sp_md_starts_nw st nw) ik dr tq dn db la si ce be).flatten := by
  refine tv_V.st (S := (mds G d nh nm y z st nw ik dr tq dn db la si ce be)) (S' := (mds G d nh nm (sp_md_starts_y y) z st (sp_md_starts_nw st nw) ik dr tq dn db la si ce be)) rfl rfl (by decide) (Nat.le_of_ble_eq_true rfl) ?_
  intro p e s m below meth c A M hr w ls hl
  have hx := M.1.1
  have hb := M.1.2.1
  have hl : lv_has ls 2 [(0, .ref d)] := hl
  refine lv_iconst (v := 0) hx hb dX4_starts_0 (by decide) ?_
  refine lv_istore_n (lv' := [(1, .int 0), (0, .ref d)]) hx hb dX4_starts_1 rfl hl (by decide) rfl (fun ls hl => ?_)
  refine w_for (pc := 2) (fun i2 H locs ls => tv_W G A s (mds G d nh nm y z st (lp (lb_md_starts_2 st) i2 nw) ik dr tq dn db la si ce be) H locs ∧ lv_has ls 2 [(1, .int (nI i2)), (0, .ref d)]) 58 (fun H locs ls hI => ?_) (fun i2 hi2 H locs ls hI ih2 => ?_) 0 (Nat.zero_le _) _ _ _ ⟨w, hl⟩
  · skip
    obtain ⟨w, hl⟩ := hI
    refine lv_iload_n hx hb dX4_starts_2 rfl (lv_at hl 0 rfl) ?_
    refine lv_bipush (v := 58) hx hb dX4_starts_3 (by decide) ?_
    refine lv_icmp_ge (tgt := 26) hx hb dX4_starts_5 (by decide) (fun _ => ?_) (fun hc => absurd (nI_le (a := 58) (b := 58) (by omega) (by omega)) hc)
    refine lv_aload_n hx hb dX4_starts_26 rfl (lv_at hl 1 rfl) ?_
    refine lv_bipush (v := -4) hx hb dX4_starts_27 (by decide) ?_
    refine r_put M w tc4 0 0 18 rfl rfl (by decide) q938 rfl rfl rfl rfl (Nat.le_of_ble_eq_true rfl) (S' := (mds G d nh nm (upd y 18 (-4)) z st (lp (lb_md_starts_2 st) 58 nw) ik dr tq dn db la si ce be)) rfl dX4_starts_29 (fun H locs w => ?_)
    refine lv_aload_n hx hb dX4_starts_32 rfl (lv_at hl 1 rfl) ?_
    refine lv_iconst (v := 0) hx hb dX4_starts_33 (by decide) ?_
    refine r_put M w tc4 0 0 19 rfl rfl (by decide) q939 rfl rfl rfl rfl (Nat.le_of_ble_eq_true rfl) (S' := (mds G d nh nm (upd (upd y 18 (-4)) 19 0) z st (lp (lb_md_starts_2 st) 58 nw) ik dr tq dn db la si ce be)) rfl dX4_starts_34 (fun H locs w => ?_)
    exact tv_vret M w hr dX4_starts_37
  · skip
    obtain ⟨w, hl⟩ := hI
    refine lv_iload_n hx hb dX4_starts_2 rfl (lv_at hl 0 rfl) ?_
    refine lv_bipush (v := 58) hx hb dX4_starts_3 (by decide) ?_
    refine lv_icmp_ge (tgt := 26) hx hb dX4_starts_5 (by decide) (fun hc => absurd hc (nI_ge (a := i2) (b := 58) (by omega) (by omega))) (fun _ => ?_)
    refine lv_aload_n hx hb dX4_starts_8 rfl (lv_at hl 1 rfl) ?_
    refine r_get M w tc4 0 0 1 rfl rfl (by decide) q921 rfl rfl dX4_starts_9 ?_
    refine lv_iload_n hx hb dX4_starts_12 rfl (lv_at hl 0 rfl) ?_
    refine lv_aload_n hx hb dX4_starts_13 rfl (lv_at hl 1 rfl) ?_
    refine r_get M w tc4 0 0 0 rfl rfl (by decide) q920 rfl rfl dX4_starts_14 ?_
    refine lv_iload_n hx hb dX4_starts_17 rfl (lv_at hl 0 rfl) ?_
    refine r_iald M w 1 0 rfl rfl (vp_in_nI (by omega) (by omega)) (v := st i2) (fn_nI (by omega)) dX4_starts_18 ?_
    refine r_iast M w 2 0 rfl rfl (vp_in_nI (by omega) (by omega)) (S' := (mds G d nh nm y z st (upd (lp (lb_md_starts_2 st) i2 nw) i2 (st i2)) ik dr tq dn db la si ce be)) (congrArg (fun zz_ => List.set (mds G d nh nm y z st (lp (lb_md_starts_2 st) i2 nw) ik dr tq dn db la si ce be) 2 zz_) (congrArg (mda (G.2.1 0) (d + 2) 58) (up_nI (f := (lp (lb_md_starts_2 st) i2 nw)) (i := i2) (x := (st i2)) (by omega)))) dX4_starts_19 (fun H locs w => ?_)
    refine lv_iinc (k := 0) (v := nI (i2 + 1)) (lv' := [(1, .int (nI (i2 + 1))), (0, .ref d)]) hx hb dX4_starts_20 hl rfl (nI_inc i2) (by decide) rfl (fun ls hl => ?_)
    refine lv_goto (tgt := 2) hx hb dX4_starts_23 (by decide) ?_
    exact ih2 _ _ _ ⟨w, lv_sub hl [0, 1] rfl⟩
def lb_md_settles_2 (nw : Nat → Int32) (i2 : Nat) (st2 : (Nat → Int32)) : (Nat → Int32) := upd st2 i2 (nw i2)
def sp_md_settles_st (st : Nat → Int32) (nw : Nat → Int32) : Nat → Int32 := lp (lb_md_settles_2 nw) 58 st
set_option maxHeartbeats 4000000 in
set_option maxRecDepth 100000 in
theorem md_settles (l : Launch) (G : tG) (d : Nat) (nh : Nat) (nm : Nat) (y : Nat → Int32) (z : Nat → Int64) (st : Nat → Int32) (nw : Nat → Int32) (ik : Nat → Int32) (dr : Nat → Int32) (tq : Nat → Int32) (dn : Nat → Int32) (db : Nat → Int32) (la : Nat → Int32) (si : Nat → Int32) (ce : Nat → Int32) (be : Nat → Int32) : tv_V l yX4_settles cX4_settles 2 (tv_rm 0 0) G [.ref d] (mds G d nh nm y z st nw ik dr tq dn db la si ce be).flatten (mds G d nh nm y z (sp_md_settles_st st nw) nw ik dr tq dn db la si ce be).flatten := by
  refine tv_V.st (S := (mds G d nh nm y z st nw ik dr tq dn db la si ce be)) (S' := (mds G d nh nm y z (sp_md_settles_st st nw) nw ik dr tq dn db la si ce be)) rfl rfl (by decide) (Nat.le_of_ble_eq_true rfl) ?_
  intro p e s m below meth c A M hr w ls hl
  have hx := M.1.1
  have hb := M.1.2.1
  have hl : lv_has ls 2 [(0, .ref d)] := hl
  refine lv_iconst (v := 0) hx hb dX4_settles_0 (by decide) ?_
  refine lv_istore_n (lv' := [(1, .int 0), (0, .ref d)]) hx hb dX4_settles_1 rfl hl (by decide) rfl (fun ls hl => ?_)
  refine w_for (pc := 2) (fun i2 H locs ls => tv_W G A s (mds G d nh nm y z (lp (lb_md_settles_2 nw) i2 st) nw ik dr tq dn db la si ce be) H locs ∧ lv_has ls 2 [(1, .int (nI i2)), (0, .ref d)]) 58 (fun H locs ls hI => ?_) (fun i2 hi2 H locs ls hI ih2 => ?_) 0 (Nat.zero_le _) _ _ _ ⟨w, hl⟩
  · skip
    obtain ⟨w, hl⟩ := hI
    refine lv_iload_n hx hb dX4_settles_2 rfl (lv_at hl 0 rfl) ?_
    refine lv_bipush (v := 58) hx hb dX4_settles_3 (by decide) ?_
    refine lv_icmp_ge (tgt := 26) hx hb dX4_settles_5 (by decide) (fun _ => ?_) (fun hc => absurd (nI_le (a := 58) (b := 58) (by omega) (by omega)) hc)
    exact tv_vret M w hr dX4_settles_26
  · skip
    obtain ⟨w, hl⟩ := hI
    refine lv_iload_n hx hb dX4_settles_2 rfl (lv_at hl 0 rfl) ?_
    refine lv_bipush (v := 58) hx hb dX4_settles_3 (by decide) ?_
    refine lv_icmp_ge (tgt := 26) hx hb dX4_settles_5 (by decide) (fun hc => absurd hc (nI_ge (a := i2) (b := 58) (by omega) (by omega))) (fun _ => ?_)
    refine lv_aload_n hx hb dX4_settles_8 rfl (lv_at hl 1 rfl) ?_
    refine r_get M w tc4 0 0 0 rfl rfl (by decide) q920 rfl rfl dX4_settles_9 ?_
    refine lv_iload_n hx hb dX4_settles_12 rfl (lv_at hl 0 rfl) ?_
    refine lv_aload_n hx hb dX4_settles_13 rfl (lv_at hl 1 rfl) ?_
    refine r_get M w tc4 0 0 1 rfl rfl (by decide) q921 rfl rfl dX4_settles_14 ?_
    refine lv_iload_n hx hb dX4_settles_17 rfl (lv_at hl 0 rfl) ?_
    refine r_iald M w 2 0 rfl rfl (vp_in_nI (by omega) (by omega)) (v := nw i2) (fn_nI (by omega)) dX4_settles_18 ?_
    refine r_iast M w 1 0 rfl rfl (vp_in_nI (by omega) (by omega)) (S' := (mds G d nh nm y z (upd (lp (lb_md_settles_2 nw) i2 st) i2 (nw i2)) nw ik dr tq dn db la si ce be)) (congrArg (fun zz_ => List.set (mds G d nh nm y z (lp (lb_md_settles_2 nw) i2 st) nw ik dr tq dn db la si ce be) 1 zz_) (congrArg (mda (G.2.1 0) (d + 1) 174) (up_nI (f := (lp (lb_md_settles_2 nw) i2 st)) (i := i2) (x := (nw i2)) (by omega)))) dX4_settles_19 (fun H locs w => ?_)
    refine lv_iinc (k := 0) (v := nI (i2 + 1)) (lv' := [(1, .int (nI (i2 + 1))), (0, .ref d)]) hx hb dX4_settles_20 hl rfl (nI_inc i2) (by decide) rfl (fun ls hl => ?_)
    refine lv_goto (tgt := 2) hx hb dX4_settles_23 (by decide) ?_
    exact ih2 _ _ _ ⟨w, lv_sub hl [0, 1] rfl⟩
def lb_md_upNow_4 (nw : Nat → Int32) (i4 : Nat) (st4 : Int32) : Int32 := st4 ||| ((sp_md_flag (if (sp_md_isDown nw i4) = 0 then (1 : Int32) else (0 : Int32))) <<< (nI i4 &&& 31))
def sp_md_upNow (nm : Nat) (nw : Nat → Int32) : Int32 := lp (lb_md_upNow_4 nw) nm 0
set_option maxHeartbeats 4000000 in
set_option maxRecDepth 100000 in
theorem md_upNow (l : Launch) (G : tG) (d : Nat) (nh : Nat) (nm : Nat) (y : Nat → Int32) (z : Nat → Int64) (st : Nat → Int32) (nw : Nat → Int32) (ik : Nat → Int32) (dr : Nat → Int32) (tq : Nat → Int32) (dn : Nat → Int32) (db : Nat → Int32) (la : Nat → Int32) (si : Nat → Int32) (ce : Nat → Int32) (be : Nat → Int32) (hn : nh ≤ 6) (hm : nm ≤ 4) : tv_I l yX4_upNow cX4_upNow 3 (some .int) (tv_rm 2 43) G [.ref d] (mds G d nh nm y z st nw ik dr tq dn db la si ce be).flatten (sp_md_upNow nm nw) (mds G d nh nm y z st nw ik dr tq dn db la si ce be).flatten := by
  refine tv_I.st (S := (mds G d nh nm y z st nw ik dr tq dn db la si ce be)) (S' := (mds G d nh nm y z st nw ik dr tq dn db la si ce be)) rfl rfl (by decide) (Nat.le_of_ble_eq_true rfl) ?_
  intro p e s m below meth c A M hr w ls hl
  have hx := M.1.1
  have hb := M.1.2.1
  have hl : lv_has ls 3 [(0, .ref d)] := hl
  refine lv_iconst (v := 0) hx hb dX4_upNow_0 (by decide) ?_
  refine lv_istore_n (lv' := [(1, .int 0), (0, .ref d)]) hx hb dX4_upNow_1 rfl hl (by decide) rfl (fun ls hl => ?_)
  refine lv_iconst (v := 0) hx hb dX4_upNow_2 (by decide) ?_
  refine lv_istore_n (lv' := [(2, .int 0), (1, .int 0), (0, .ref d)]) hx hb dX4_upNow_3 rfl hl (by decide) rfl (fun ls hl => ?_)
  refine w_for (pc := 4) (fun i4 H locs ls => tv_W G A s (mds G d nh nm y z st nw ik dr tq dn db la si ce be) H locs ∧ lv_has ls 3 [(2, .int (nI i4)), (1, .int (lp (lb_md_upNow_4 nw) i4 0)), (0, .ref d)]) nm (fun H locs ls hI => ?_) (fun i4 hi4 H locs ls hI ih4 => ?_) 0 (Nat.zero_le _) _ _ _ ⟨w, hl⟩
  · skip
    obtain ⟨w, hl⟩ := hI
    refine lv_iload_n hx hb dX4_upNow_4 rfl (lv_at hl 0 rfl) ?_
    refine lv_aload_n hx hb dX4_upNow_5 rfl (lv_at hl 2 rfl) ?_
    refine r_get M w tc4 0 0 4 rfl rfl (by decide) q924 rfl rfl dX4_upNow_6 ?_
    refine lv_icmp_ge (tgt := 39) hx hb dX4_upNow_9 (by decide) (fun _ => ?_) (fun hc => absurd (nI_le (a := nm) (b := nm) (by omega) (by omega)) hc)
    refine lv_iload_n hx hb dX4_upNow_39 rfl (lv_at hl 1 rfl) ?_
    exact tv_iret M w hr rfl dX4_upNow_40
  · skip
    obtain ⟨w, hl⟩ := hI
    refine lv_iload_n hx hb dX4_upNow_4 rfl (lv_at hl 0 rfl) ?_
    refine lv_aload_n hx hb dX4_upNow_5 rfl (lv_at hl 2 rfl) ?_
    refine r_get M w tc4 0 0 4 rfl rfl (by decide) q924 rfl rfl dX4_upNow_6 ?_
    refine lv_icmp_ge (tgt := 39) hx hb dX4_upNow_9 (by decide) (fun hc => absurd hc (nI_ge (a := i4) (b := nm) (by omega) (by omega))) (fun _ => ?_)
    refine lv_iload_n hx hb dX4_upNow_12 rfl (lv_at hl 1 rfl) ?_
    refine lv_aload_n hx hb dX4_upNow_13 rfl (lv_at hl 2 rfl) ?_
    refine lv_iload_n hx hb dX4_upNow_14 rfl (lv_at hl 0 rfl) ?_
    refine c_iV M w (S' := (mds G d nh nm y z st nw ik dr tq dn db la si ce be)) tv_in.all (md_isDown l G d nh nm y z st nw ik dr tq dn db la si ce be i4 (by omega)) (q0 := 0) tc4 rfl q1109 q1111 qs43 q72 q1112 nm_yX4_isDown ⟨Nat.le_of_ble_eq_true rfl, Nat.le_of_ble_eq_true rfl⟩ rfl hl.1 (rest := [.int (lp (lb_md_upNow_4 nw) i4 0)]) rfl (Nat.le_of_ble_eq_true rfl) dX4_upNow_15 ⟨Nat.zero_le _, Nat.zero_le _⟩ (fun H locs w => ?_)
    refine w_cut (g2 := F0 m 26 ls [.int (if (sp_md_isDown nw i4) = 0 then (1 : Int32) else (0 : Int32)), .int (lp (lb_md_upNow_4 nw) i4 0)]) (fun jn => ?_) ?_
    · skip
      refine lv_if_ne (tgt := 25) hx hb dX4_upNow_18 (by decide) (fun c1 => ?_) (fun c1 => ?_)
      · skip
        refine lv_iconst (v := 0) hx hb dX4_upNow_25 (by decide) ?_
        exact w_topi (if_neg c1) jn
      · skip
        refine lv_iconst (v := 1) hx hb dX4_upNow_21 (by decide) ?_
        refine lv_goto (tgt := 26) hx hb dX4_upNow_22 (by decide) ?_
        exact w_topi (if_pos c1) jn
    refine c_iS M w (S' := (mds G d nh nm y z st nw ik dr tq dn db la si ce be)) tv_in.nil (md_flag l G (if (sp_md_isDown nw i4) = 0 then (1 : Int32) else (0 : Int32))) q1102 q1103 q72 q1104 nm_yX4_flag ⟨Nat.le_of_ble_eq_true rfl, Nat.le_of_ble_eq_true rfl⟩ rfl hl.1 (rest := [.int (lp (lb_md_upNow_4 nw) i4 0)]) rfl (Nat.le_of_ble_eq_true rfl) dX4_upNow_26 ⟨Nat.zero_le _, Nat.zero_le _⟩ (fun H locs w => ?_)
    refine lv_iload_n hx hb dX4_upNow_29 rfl (lv_at hl 0 rfl) ?_
    refine lv_ishl hx hb dX4_upNow_30 ?_
    refine lv_ior hx hb dX4_upNow_31 ?_
    refine lv_istore_n (lv' := [(1, .int ((lp (lb_md_upNow_4 nw) i4 0) ||| ((sp_md_flag (if (sp_md_isDown nw i4) = 0 then (1 : Int32) else (0 : Int32))) <<< (nI i4 &&& 31)))), (2, .int (nI i4)), (0, .ref d)]) hx hb dX4_upNow_32 rfl hl (by decide) rfl (fun ls hl => ?_)
    refine lv_iinc (k := 1) (v := nI (i4 + 1)) (lv' := [(2, .int (nI (i4 + 1))), (1, .int ((lp (lb_md_upNow_4 nw) i4 0) ||| ((sp_md_flag (if (sp_md_isDown nw i4) = 0 then (1 : Int32) else (0 : Int32))) <<< (nI i4 &&& 31)))), (0, .ref d)]) hx hb dX4_upNow_33 hl rfl (nI_inc i4) (by decide) rfl (fun ls hl => ?_)
    refine lv_goto (tgt := 4) hx hb dX4_upNow_36 (by decide) ?_
    exact ih4 _ _ _ ⟨w, lv_sub hl [0, 1, 2] rfl⟩
def lb_md_temperOfAll_4 (nw : Nat → Int32) (i4 : Nat) (st4 : Int32) : Int32 := st4 + (sp_md_of nw i4 2)
def sp_md_temperOfAll (nh : Nat) (nw : Nat → Int32) : Int32 := lp (lb_md_temperOfAll_4 nw) nh 0
set_option maxHeartbeats 4000000 in
set_option maxRecDepth 100000 in
theorem md_temperOfAll (l : Launch) (G : tG) (d : Nat) (nh : Nat) (nm : Nat) (y : Nat → Int32) (z : Nat → Int64) (st : Nat → Int32) (nw : Nat → Int32) (ik : Nat → Int32) (dr : Nat → Int32) (tq : Nat → Int32) (dn : Nat → Int32) (db : Nat → Int32) (la : Nat → Int32) (si : Nat → Int32) (ce : Nat → Int32) (be : Nat → Int32) (hn : nh ≤ 6) (hm : nm ≤ 4) : tv_I l yX4_temperOfAll cX4_temperOfAll 3 (some .int) (tv_rm 1 22) G [.ref d] (mds G d nh nm y z st nw ik dr tq dn db la si ce be).flatten (sp_md_temperOfAll nh nw) (mds G d nh nm y z st nw ik dr tq dn db la si ce be).flatten := by
  refine tv_I.st (S := (mds G d nh nm y z st nw ik dr tq dn db la si ce be)) (S' := (mds G d nh nm y z st nw ik dr tq dn db la si ce be)) rfl rfl (by decide) (Nat.le_of_ble_eq_true rfl) ?_
  intro p e s m below meth c A M hr w ls hl
  have hx := M.1.1
  have hb := M.1.2.1
  have hl : lv_has ls 3 [(0, .ref d)] := hl
  refine lv_iconst (v := 0) hx hb dX4_temperOfAll_0 (by decide) ?_
  refine lv_istore_n (lv' := [(1, .int 0), (0, .ref d)]) hx hb dX4_temperOfAll_1 rfl hl (by decide) rfl (fun ls hl => ?_)
  refine lv_iconst (v := 0) hx hb dX4_temperOfAll_2 (by decide) ?_
  refine lv_istore_n (lv' := [(2, .int 0), (1, .int 0), (0, .ref d)]) hx hb dX4_temperOfAll_3 rfl hl (by decide) rfl (fun ls hl => ?_)
  refine w_for (pc := 4) (fun i4 H locs ls => tv_W G A s (mds G d nh nm y z st nw ik dr tq dn db la si ce be) H locs ∧ lv_has ls 3 [(2, .int (nI i4)), (1, .int (lp (lb_md_temperOfAll_4 nw) i4 0)), (0, .ref d)]) nh (fun H locs ls hI => ?_) (fun i4 hi4 H locs ls hI ih4 => ?_) 0 (Nat.zero_le _) _ _ _ ⟨w, hl⟩
  · skip
    obtain ⟨w, hl⟩ := hI
    refine lv_iload_n hx hb dX4_temperOfAll_4 rfl (lv_at hl 0 rfl) ?_
    refine lv_aload_n hx hb dX4_temperOfAll_5 rfl (lv_at hl 2 rfl) ?_
    refine r_get M w tc4 0 0 3 rfl rfl (by decide) q923 rfl rfl dX4_temperOfAll_6 ?_
    refine lv_icmp_ge (tgt := 27) hx hb dX4_temperOfAll_9 (by decide) (fun _ => ?_) (fun hc => absurd (nI_le (a := nh) (b := nh) (by omega) (by omega)) hc)
    refine lv_iload_n hx hb dX4_temperOfAll_27 rfl (lv_at hl 1 rfl) ?_
    exact tv_iret M w hr rfl dX4_temperOfAll_28
  · skip
    obtain ⟨w, hl⟩ := hI
    refine lv_iload_n hx hb dX4_temperOfAll_4 rfl (lv_at hl 0 rfl) ?_
    refine lv_aload_n hx hb dX4_temperOfAll_5 rfl (lv_at hl 2 rfl) ?_
    refine r_get M w tc4 0 0 3 rfl rfl (by decide) q923 rfl rfl dX4_temperOfAll_6 ?_
    refine lv_icmp_ge (tgt := 27) hx hb dX4_temperOfAll_9 (by decide) (fun hc => absurd hc (nI_ge (a := i4) (b := nh) (by omega) (by omega))) (fun _ => ?_)
    refine lv_iload_n hx hb dX4_temperOfAll_12 rfl (lv_at hl 1 rfl) ?_
    refine lv_aload_n hx hb dX4_temperOfAll_13 rfl (lv_at hl 2 rfl) ?_
    refine lv_iload_n hx hb dX4_temperOfAll_14 rfl (lv_at hl 0 rfl) ?_
    refine lv_iconst (v := 2) hx hb dX4_temperOfAll_15 (by decide) ?_
    refine c_iV M w (S' := (mds G d nh nm y z st nw ik dr tq dn db la si ce be)) tv_in.all (md_of l G d nh nm y z st nw ik dr tq dn db la si ce be i4 2 (by omega) (by omega)) (q0 := 0) tc4 rfl q1098 q1100 qs41 q72 q1101 nm_yX4_of ⟨Nat.le_of_ble_eq_true rfl, Nat.le_of_ble_eq_true rfl⟩ rfl hl.1 (rest := [.int (lp (lb_md_temperOfAll_4 nw) i4 0)]) rfl (Nat.le_of_ble_eq_true rfl) dX4_temperOfAll_16 ⟨Nat.zero_le _, Nat.zero_le _⟩ (fun H locs w => ?_)
    refine lv_iadd hx hb dX4_temperOfAll_19 ?_
    refine lv_istore_n (lv' := [(1, .int ((lp (lb_md_temperOfAll_4 nw) i4 0) + (sp_md_of nw i4 2))), (2, .int (nI i4)), (0, .ref d)]) hx hb dX4_temperOfAll_20 rfl hl (by decide) rfl (fun ls hl => ?_)
    refine lv_iinc (k := 1) (v := nI (i4 + 1)) (lv' := [(2, .int (nI (i4 + 1))), (1, .int ((lp (lb_md_temperOfAll_4 nw) i4 0) + (sp_md_of nw i4 2))), (0, .ref d)]) hx hb dX4_temperOfAll_21 hl rfl (nI_inc i4) (by decide) rfl (fun ls hl => ?_)
    refine lv_goto (tgt := 4) hx hb dX4_temperOfAll_24 (by decide) ?_
    exact ih4 _ _ _ ⟨w, lv_sub hl [0, 1, 2] rfl⟩
def lb_md_handsAt_4 (nw : Nat → Int32) (q : Int32) (i4 : Nat) (st4 : Int32) : Int32 := st4 ||| ((sp_md_flag (if (sp_md_of nw i4 1) = q then (1 : Int32) else (0 : Int32))) <<< (nI i4 &&& 31))
def sp_md_handsAt (nh : Nat) (nw : Nat → Int32) (q : Int32) : Int32 := lp (lb_md_handsAt_4 nw q) nh 0
set_option maxHeartbeats 4000000 in
set_option maxRecDepth 100000 in
theorem md_handsAt (l : Launch) (G : tG) (d : Nat) (nh : Nat) (nm : Nat) (y : Nat → Int32) (z : Nat → Int64) (st : Nat → Int32) (nw : Nat → Int32) (ik : Nat → Int32) (dr : Nat → Int32) (tq : Nat → Int32) (dn : Nat → Int32) (db : Nat → Int32) (la : Nat → Int32) (si : Nat → Int32) (ce : Nat → Int32) (be : Nat → Int32) (q : Int32) (hn : nh ≤ 6) (hm : nm ≤ 4) : tv_I l yX4_handsAt cX4_handsAt 4 (some .int) (tv_rm 1 22) G [.ref d, .int q] (mds G d nh nm y z st nw ik dr tq dn db la si ce be).flatten (sp_md_handsAt nh nw q) (mds G d nh nm y z st nw ik dr tq dn db la si ce be).flatten := by
  refine tv_I.st (S := (mds G d nh nm y z st nw ik dr tq dn db la si ce be)) (S' := (mds G d nh nm y z st nw ik dr tq dn db la si ce be)) rfl rfl (by decide) (Nat.le_of_ble_eq_true rfl) ?_
  intro p e s m below meth c A M hr w ls hl
  have hx := M.1.1
  have hb := M.1.2.1
  have hl : lv_has ls 4 [(0, .ref d), (1, .int q)] := hl
  refine lv_iconst (v := 0) hx hb dX4_handsAt_0 (by decide) ?_
  refine lv_istore_n (lv' := [(2, .int 0), (0, .ref d), (1, .int q)]) hx hb dX4_handsAt_1 rfl hl (by decide) rfl (fun ls hl => ?_)
  refine lv_iconst (v := 0) hx hb dX4_handsAt_2 (by decide) ?_
  refine lv_istore_n (lv' := [(3, .int 0), (2, .int 0), (0, .ref d), (1, .int q)]) hx hb dX4_handsAt_3 rfl hl (by decide) rfl (fun ls hl => ?_)
  refine w_for (pc := 4) (fun i4 H locs ls => tv_W G A s (mds G d nh nm y z st nw ik dr tq dn db la si ce be) H locs ∧ lv_has ls 4 [(3, .int (nI i4)), (2, .int (lp (lb_md_handsAt_4 nw q) i4 0)), (0, .ref d), (1, .int q)]) nh (fun H locs ls hI => ?_) (fun i4 hi4 H locs ls hI ih4 => ?_) 0 (Nat.zero_le _) _ _ _ ⟨w, hl⟩
  · skip
    obtain ⟨w, hl⟩ := hI
    refine lv_iload_n hx hb dX4_handsAt_4 rfl (lv_at hl 0 rfl) ?_
    refine lv_aload_n hx hb dX4_handsAt_5 rfl (lv_at hl 2 rfl) ?_
    refine r_get M w tc4 0 0 3 rfl rfl (by decide) q923 rfl rfl dX4_handsAt_6 ?_
    refine lv_icmp_ge (tgt := 41) hx hb dX4_handsAt_9 (by decide) (fun _ => ?_) (fun hc => absurd (nI_le (a := nh) (b := nh) (by omega) (by omega)) hc)
    refine lv_iload_n hx hb dX4_handsAt_41 rfl (lv_at hl 1 rfl) ?_
    exact tv_iret M w hr rfl dX4_handsAt_42
  · skip
    obtain ⟨w, hl⟩ := hI
    refine lv_iload_n hx hb dX4_handsAt_4 rfl (lv_at hl 0 rfl) ?_
    refine lv_aload_n hx hb dX4_handsAt_5 rfl (lv_at hl 2 rfl) ?_
    refine r_get M w tc4 0 0 3 rfl rfl (by decide) q923 rfl rfl dX4_handsAt_6 ?_
    refine lv_icmp_ge (tgt := 41) hx hb dX4_handsAt_9 (by decide) (fun hc => absurd hc (nI_ge (a := i4) (b := nh) (by omega) (by omega))) (fun _ => ?_)
    refine lv_iload_n hx hb dX4_handsAt_12 rfl (lv_at hl 1 rfl) ?_
    refine lv_aload_n hx hb dX4_handsAt_13 rfl (lv_at hl 2 rfl) ?_
    refine lv_iload_n hx hb dX4_handsAt_14 rfl (lv_at hl 0 rfl) ?_
    refine lv_iconst (v := 1) hx hb dX4_handsAt_15 (by decide) ?_
    refine c_iV M w (S' := (mds G d nh nm y z st nw ik dr tq dn db la si ce be)) tv_in.all (md_of l G d nh nm y z st nw ik dr tq dn db la si ce be i4 1 (by omega) (by omega)) (q0 := 0) tc4 rfl q1098 q1100 qs41 q72 q1101 nm_yX4_of ⟨Nat.le_of_ble_eq_true rfl, Nat.le_of_ble_eq_true rfl⟩ rfl hl.1 (rest := [.int (lp (lb_md_handsAt_4 nw q) i4 0)]) rfl (Nat.le_of_ble_eq_true rfl) dX4_handsAt_16 ⟨Nat.zero_le _, Nat.zero_le _⟩ (fun H locs w => ?_)
    refine lv_iload_n hx hb dX4_handsAt_19 rfl (lv_at hl 3 rfl) ?_
    refine w_cut (g2 := F0 m 28 ls [.int (if (sp_md_of nw i4 1) = q then (1 : Int32) else (0 : Int32)), .int (lp (lb_md_handsAt_4 nw q) i4 0)]) (fun jn => ?_) ?_
    · skip
      refine lv_icmp_ne (tgt := 27) hx hb dX4_handsAt_20 (by decide) (fun c1 => ?_) (fun c1 => ?_)
      · skip
        refine lv_iconst (v := 0) hx hb dX4_handsAt_27 (by decide) ?_
        exact w_topi (if_neg c1) jn
      · skip
        refine lv_iconst (v := 1) hx hb dX4_handsAt_23 (by decide) ?_
        refine lv_goto (tgt := 28) hx hb dX4_handsAt_24 (by decide) ?_
        exact w_topi (if_pos c1) jn
    refine c_iS M w (S' := (mds G d nh nm y z st nw ik dr tq dn db la si ce be)) tv_in.nil (md_flag l G (if (sp_md_of nw i4 1) = q then (1 : Int32) else (0 : Int32))) q1102 q1103 q72 q1104 nm_yX4_flag ⟨Nat.le_of_ble_eq_true rfl, Nat.le_of_ble_eq_true rfl⟩ rfl hl.1 (rest := [.int (lp (lb_md_handsAt_4 nw q) i4 0)]) rfl (Nat.le_of_ble_eq_true rfl) dX4_handsAt_28 ⟨Nat.zero_le _, Nat.zero_le _⟩ (fun H locs w => ?_)
    refine lv_iload_n hx hb dX4_handsAt_31 rfl (lv_at hl 0 rfl) ?_
    refine lv_ishl hx hb dX4_handsAt_32 ?_
    refine lv_ior hx hb dX4_handsAt_33 ?_
    refine lv_istore_n (lv' := [(2, .int ((lp (lb_md_handsAt_4 nw q) i4 0) ||| ((sp_md_flag (if (sp_md_of nw i4 1) = q then (1 : Int32) else (0 : Int32))) <<< (nI i4 &&& 31)))), (3, .int (nI i4)), (0, .ref d), (1, .int q)]) hx hb dX4_handsAt_34 rfl hl (by decide) rfl (fun ls hl => ?_)
    refine lv_iinc (k := 1) (v := nI (i4 + 1)) (lv' := [(3, .int (nI (i4 + 1))), (2, .int ((lp (lb_md_handsAt_4 nw q) i4 0) ||| ((sp_md_flag (if (sp_md_of nw i4 1) = q then (1 : Int32) else (0 : Int32))) <<< (nI i4 &&& 31)))), (0, .ref d), (1, .int q)]) hx hb dX4_handsAt_35 hl rfl (nI_inc i4) (by decide) rfl (fun ls hl => ?_)
    refine lv_goto (tgt := 4) hx hb dX4_handsAt_38 (by decide) ?_
    exact ih4 _ _ _ ⟨w, lv_sub hl [0, 1, 2, 3] rfl⟩
def sp_md_becomes (st : Nat → Int32) (k : Int32) : Int32 := st k.toNatClampNeg
def sp_md_becomes_st (st : Nat → Int32) (k : Int32) (v : Int32) : Nat → Int32 := upd st k.toNatClampNeg v
set_option maxHeartbeats 4000000 in
set_option maxRecDepth 100000 in
theorem md_becomes (l : Launch) (G : tG) (d : Nat) (nh : Nat) (nm : Nat) (y : Nat → Int32) (z : Nat → Int64) (st : Nat → Int32) (nw : Nat → Int32) (ik : Nat → Int32) (dr : Nat → Int32) (tq : Nat → Int32) (dn : Nat → Int32) (db : Nat → Int32) (la : Nat → Int32) (si : Nat → Int32) (ce : Nat → Int32) (be : Nat → Int32) (k : Int32) (v : Int32) (hk : vp_in k 174) : tv_I l yX4_becomes cX4_becomes 4 (some .int) (tv_rm 0 0) G [.ref d, .int k, .int v] (mds G d nh nm y z st nw ik dr tq dn db la si ce be).flatten (sp_md_becomes st k) (mds G d nh nm y z (sp_md_becomes_st st k v) nw ik dr tq dn db la si ce be).flatten := by
  refine tv_I.st (S := (mds G d nh nm y z st nw ik dr tq dn db la si ce be)) (S' := (mds G d nh nm y z (sp_md_becomes_st st k v) nw ik dr tq dn db la si ce be)) rfl rfl (by decide) (Nat.le_of_ble_eq_true rfl) ?_
  intro p e s m below meth c A M hr w ls hl
  have hx := M.1.1
  have hb := M.1.2.1
  have hl : lv_has ls 4 [(0, .ref d), (1, .int k), (2, .int v)] := hl
  refine lv_aload_n hx hb dX4_becomes_0 rfl (lv_at hl 0 rfl) ?_
  refine r_get M w tc4 0 0 0 rfl rfl (by decide) q920 rfl rfl dX4_becomes_1 ?_
  refine lv_iload_n hx hb dX4_becomes_4 rfl (lv_at hl 1 rfl) ?_
  refine r_iald M w 1 0 rfl rfl (vp_w hk (by omega)) (v := st k.toNatClampNeg) rfl dX4_becomes_5 ?_
  refine lv_istore_n (lv' := [(3, .int (st k.toNatClampNeg)), (0, .ref d), (1, .int k), (2, .int v)]) hx hb dX4_becomes_6 rfl hl (by decide) rfl (fun ls hl => ?_)
  refine lv_aload_n hx hb dX4_becomes_7 rfl (lv_at hl 1 rfl) ?_
  refine r_get M w tc4 0 0 0 rfl rfl (by decide) q920 rfl rfl dX4_becomes_8 ?_
  refine lv_iload_n hx hb dX4_becomes_11 rfl (lv_at hl 2 rfl) ?_
  refine lv_iload_n hx hb dX4_becomes_12 rfl (lv_at hl 3 rfl) ?_
  refine r_iast M w 1 0 rfl rfl (vp_w hk (by omega)) (S' := (mds G d nh nm y z (upd st k.toNatClampNeg v) nw ik dr tq dn db la si ce be)) rfl dX4_becomes_13 (fun H locs w => ?_)
  refine lv_iload_n hx hb dX4_becomes_14 rfl (lv_at hl 0 rfl) ?_
  exact tv_iret M w hr rfl dX4_becomes_15
def sp_md_judges_y (y : Nat → Int32) (cd : Int32) (mu : Int32) : Nat → Int32 := upd (upd y 20 (if (y 21) ≤ mu then (y 20) else cd)) 21 (sp_md_lesser mu (y 21))
set_option maxHeartbeats 4000000 in
set_option maxRecDepth 100000 in
theorem md_judges (l : Launch) (G : tG) (d : Nat) (nh : Nat) (nm : Nat) (y : Nat → Int32) (z : Nat → Int64) (st : Nat → Int32) (nw : Nat → Int32) (ik : Nat → Int32) (dr : Nat → Int32) (tq : Nat → Int32) (dn : Nat → Int32) (db : Nat → Int32) (la : Nat → Int32) (si : Nat → Int32) (ce : Nat → Int32) (be : Nat → Int32) (cd : Int32) (mu : Int32) : tv_V l yX4_judges cX4_judges 3 (tv_rm 1 21) G [.ref d, .int cd, .int mu] (mds G d nh nm y z st nw ik dr tq dn db la si ce be).flatten (mds G d nh nm (sp_md_judges_y y cd mu) z st nw ik dr tq dn db la si ce be).flatten := by
  refine tv_V.st (S := (mds G d nh nm y z st nw ik dr tq dn db la si ce be)) (S' := (mds G d nh nm (sp_md_judges_y y cd mu) z st nw ik dr tq dn db la si ce be)) rfl rfl (by decide) (Nat.le_of_ble_eq_true rfl) ?_
  intro p e s m below meth c A M hr w ls hl
  have hx := M.1.1
  have hb := M.1.2.1
  have hl : lv_has ls 3 [(0, .ref d), (1, .int cd), (2, .int mu)] := hl
  refine lv_aload_n hx hb dX4_judges_0 rfl (lv_at hl 0 rfl) ?_
  refine lv_iload_n hx hb dX4_judges_1 rfl (lv_at hl 2 rfl) ?_
  refine lv_aload_n hx hb dX4_judges_2 rfl (lv_at hl 0 rfl) ?_
  refine r_get M w tc4 0 0 21 rfl rfl (by decide) q941 rfl rfl dX4_judges_3 ?_
  refine w_cut (g2 := F0 m 17 ls [.int (if (y 21) ≤ mu then (y 20) else cd), .ref d]) (fun jn => ?_) ?_
  · skip
    refine lv_icmp_ge (tgt := 13) hx hb dX4_judges_6 (by decide) (fun c1 => ?_) (fun c1 => ?_)
    · skip
      refine lv_aload_n hx hb dX4_judges_13 rfl (lv_at hl 0 rfl) ?_
      refine r_get M w tc4 0 0 20 rfl rfl (by decide) q940 rfl rfl dX4_judges_14 ?_
      exact w_topi (if_pos c1) jn
    · skip
      refine lv_iload_n hx hb dX4_judges_9 rfl (lv_at hl 1 rfl) ?_
      refine lv_goto (tgt := 17) hx hb dX4_judges_10 (by decide) ?_
      exact w_topi (if_neg c1) jn
  refine r_put M w tc4 0 0 20 rfl rfl (by decide) q940 rfl rfl rfl rfl (Nat.le_of_ble_eq_true rfl) (S' := (mds G d nh nm (upd y 20 (if (y 21) ≤ mu then (y 20) else cd)) z st nw ik dr tq dn db la si ce be)) rfl dX4_judges_17 (fun H locs w => ?_)
  refine lv_aload_n hx hb dX4_judges_20 rfl (lv_at hl 0 rfl) ?_
  refine lv_iload_n hx hb dX4_judges_21 rfl (lv_at hl 2 rfl) ?_
  refine lv_aload_n hx hb dX4_judges_22 rfl (lv_at hl 0 rfl) ?_
  refine r_get M w tc4 0 0 21 rfl rfl (by decide) q941 rfl rfl dX4_judges_23 ?_
  refine c_iS M w (S' := (mds G d nh nm (upd y 20 (if (y 21) ≤ mu then (y 20) else cd)) z st nw ik dr tq dn db la si ce be)) tv_in.nil (md_lesser l G mu (y 21)) q1197 q1198 q72 q1199 nm_yX4_lesser ⟨Nat.le_of_ble_eq_true rfl, Nat.le_of_ble_eq_true rfl⟩ rfl hl.1 (rest := [.ref d]) rfl (Nat.le_of_ble_eq_true rfl) dX4_judges_26 ⟨Nat.zero_le _, Nat.zero_le _⟩ (fun H locs w => ?_)
  refine r_put M w tc4 0 0 21 rfl rfl (by decide) q941 rfl rfl rfl rfl (Nat.le_of_ble_eq_true rfl) (S' := (mds G d nh nm (upd (upd y 20 (if (y 21) ≤ mu then (y 20) else cd)) 21 (sp_md_lesser mu (y 21))) z st nw ik dr tq dn db la si ce be)) rfl dX4_judges_29 (fun H locs w => ?_)
  exact tv_vret M w hr dX4_judges_32
def sp_md_judged (y : Nat → Int32) (wh : Int32) : Int32 := if (y 20) = (-4) then (-4 : Int32) else (if wh = 0 then (y 20) else (y 21))
set_option maxHeartbeats 4000000 in
set_option maxRecDepth 100000 in
theorem md_judged (l : Launch) (G : tG) (d : Nat) (nh : Nat) (nm : Nat) (y : Nat → Int32) (z : Nat → Int64) (st : Nat → Int32) (nw : Nat → Int32) (ik : Nat → Int32) (dr : Nat → Int32) (tq : Nat → Int32) (dn : Nat → Int32) (db : Nat → Int32) (la : Nat → Int32) (si : Nat → Int32) (ce : Nat → Int32) (be : Nat → Int32) (wh : Int32) : tv_I l yX4_judged cX4_judged 2 (some .int) (tv_rm 0 0) G [.ref d, .int wh] (mds G d nh nm y z st nw ik dr tq dn db la si ce be).flatten (sp_md_judged y wh) (mds G d nh nm y z st nw ik dr tq dn db la si ce be).flatten := by
  refine tv_I.st (S := (mds G d nh nm y z st nw ik dr tq dn db la si ce be)) (S' := (mds G d nh nm y z st nw ik dr tq dn db la si ce be)) rfl rfl (by decide) (Nat.le_of_ble_eq_true rfl) ?_
  intro p e s m below meth c A M hr w ls hl
  have hx := M.1.1
  have hb := M.1.2.1
  have hl : lv_has ls 2 [(0, .ref d), (1, .int wh)] := hl
  refine lv_aload_n hx hb dX4_judged_0 rfl (lv_at hl 0 rfl) ?_
  refine r_get M w tc4 0 0 20 rfl rfl (by decide) q940 rfl rfl dX4_judged_1 ?_
  refine lv_bipush (v := -4) hx hb dX4_judged_4 (by decide) ?_
  refine w_cut (g2 := F0 m 29 ls [.int (if (y 20) = (-4) then (-4 : Int32) else (if wh = 0 then (y 20) else (y 21)))]) (fun jn => ?_) ?_
  · skip
    refine lv_icmp_ne (tgt := 14) hx hb dX4_judged_6 (by decide) (fun c1 => ?_) (fun c1 => ?_)
    · skip
      refine lv_iload_n hx hb dX4_judged_14 rfl (lv_at hl 1 rfl) ?_
      refine lv_if_ne (tgt := 25) hx hb dX4_judged_15 (by decide) (fun c2 => ?_) (fun c2 => ?_)
      · skip
        refine lv_aload_n hx hb dX4_judged_25 rfl (lv_at hl 0 rfl) ?_
        refine r_get M w tc4 0 0 21 rfl rfl (by decide) q941 rfl rfl dX4_judged_26 ?_
        exact w_topi ((if_neg c1).trans (if_neg c2)) jn
      · skip
        refine lv_aload_n hx hb dX4_judged_18 rfl (lv_at hl 0 rfl) ?_
        refine r_get M w tc4 0 0 20 rfl rfl (by decide) q940 rfl rfl dX4_judged_19 ?_
        refine lv_goto (tgt := 29) hx hb dX4_judged_22 (by decide) ?_
        exact w_topi ((if_neg c1).trans (if_pos c2)) jn
    · skip
      refine lv_bipush (v := -4) hx hb dX4_judged_9 (by decide) ?_
      refine lv_goto (tgt := 29) hx hb dX4_judged_11 (by decide) ?_
      exact w_topi (if_pos c1) jn
  exact tv_iret M w hr rfl dX4_judged_29
def sp_md_startsJudging_y (y : Nat → Int32) (mu : Int32) : Nat → Int32 := upd (upd y 20 (-4)) 21 mu
set_option maxHeartbeats 4000000 in
set_option maxRecDepth 100000 in
theorem md_startsJudging (l : Launch) (G : tG) (d : Nat) (nh : Nat) (nm : Nat) (y : Nat → Int32) (z : Nat → Int64) (st : Nat → Int32) (nw : Nat → Int32) (ik : Nat → Int32) (dr : Nat → Int32) (tq : Nat → Int32) (dn : Nat → Int32) (db : Nat → Int32) (la : Nat → Int32) (si : Nat → Int32) (ce : Nat → Int32) (be : Nat → Int32) (mu : Int32) : tv_V l yX4_startsJudging cX4_startsJudging 2 (tv_rm 0 0) G [.ref d, .int mu] (mds G d nh nm y z st nw ik dr tq dn db la si ce be).flatten (mds G d nh nm (sp_md_startsJudging_y y mu) z st nw ik dr tq dn db la si ce be).flatten := by
  refine tv_V.st (S := (mds G d nh nm y z st nw ik dr tq dn db la si ce be)) (S' := (mds G d nh nm (sp_md_startsJudging_y y mu) z st nw ik dr tq dn db la si ce be)) rfl rfl (by decide) (Nat.le_of_ble_eq_true rfl) ?_
  intro p e s m below meth c A M hr w ls hl
  have hx := M.1.1
  have hb := M.1.2.1
  have hl : lv_has ls 2 [(0, .ref d), (1, .int mu)] := hl
  refine lv_aload_n hx hb dX4_startsJudging_0 rfl (lv_at hl 0 rfl) ?_
  refine lv_bipush (v := -4) hx hb dX4_startsJudging_1 (by decide) ?_
  refine r_put M w tc4 0 0 20 rfl rfl (by decide) q940 rfl rfl rfl rfl (Nat.le_of_ble_eq_true rfl) (S' := (mds G d nh nm (upd y 20 (-4)) z st nw ik dr tq dn db la si ce be)) rfl dX4_startsJudging_3 (fun H locs w => ?_)
  refine lv_aload_n hx hb dX4_startsJudging_6 rfl (lv_at hl 0 rfl) ?_
  refine lv_iload_n hx hb dX4_startsJudging_7 rfl (lv_at hl 1 rfl) ?_
  refine r_put M w tc4 0 0 21 rfl rfl (by decide) q941 rfl rfl rfl rfl (Nat.le_of_ble_eq_true rfl) (S' := (mds G d nh nm (upd (upd y 20 (-4)) 21 mu) z st nw ik dr tq dn db la si ce be)) rfl dX4_startsJudging_8 (fun H locs w => ?_)
  exact tv_vret M w hr dX4_startsJudging_11
def sp_md_isSheet (k : Int32) (la_ : Int32) : Int32 := if (inL k.toInt64 (0 : Int64) (3 : Int64)) = 0 then 0 else (if (inL la_.toInt64 (0 : Int64) (2 : Int64)) = 0 then (0 : Int32) else (1 : Int32))
set_option maxHeartbeats 4000000 in
set_option maxRecDepth 100000 in
theorem md_isSheet (l : Launch) (G : tG) (k : Int32) (la_ : Int32) : tv_I l yX4_isSheet cX4_isSheet 2 (some .boolean) (tv_rm 1 25) G [.int k, .int la_] [] (sp_md_isSheet k la_) [] := by
  refine tv_I.st (S := []) (S' := []) rfl rfl (by decide) (Nat.le_of_ble_eq_true rfl) ?_
  intro p e s m below meth c A M hr w ls hl
  have hx := M.1.1
  have hb := M.1.2.1
  have hl : lv_has ls 2 [(0, .int k), (1, .int la_)] := hl
  refine lv_iload_n hx hb dX4_isSheet_0 rfl (lv_at hl 0 rfl) ?_
  refine lv_i2l (v := k.toInt64) hx hb dX4_isSheet_1 rfl ?_
  refine lv_lconst (v := 0) hx hb dX4_isSheet_2 (by decide) ?_
  refine lv_ldc2 (v := 3) hx hb M.1.2.2.2.1 (M.1.2.2.2.2 _ q1129) dX4_isSheet_3 ?_
  refine c_iS M w (S' := []) tv_in.nil (md_in l G k.toInt64 (0 : Int64) (3 : Int64)) q1023 q1024 q72 q1025 nm_yX4_in ⟨Nat.le_of_ble_eq_true rfl, Nat.le_of_ble_eq_true rfl⟩ rfl hl.1 (rest := []) rfl (Nat.le_of_ble_eq_true rfl) dX4_isSheet_6 ⟨Nat.zero_le _, Nat.zero_le _⟩ (fun H locs w => ?_)
  refine lv_if_eq (tgt := 28) hx hb dX4_isSheet_9 (by decide) (fun c2 => ?_) (fun c2 => ?_)
  · skip
    refine lv_iconst (v := 0) hx hb dX4_isSheet_28 (by decide) ?_
    exact tv_zret M w hr rfl (if_pos c2).symm dX4_isSheet_29
  · skip
    refine lv_iload_n hx hb dX4_isSheet_12 rfl (lv_at hl 1 rfl) ?_
    refine lv_i2l (v := la_.toInt64) hx hb dX4_isSheet_13 rfl ?_
    refine lv_lconst (v := 0) hx hb dX4_isSheet_14 (by decide) ?_
    refine lv_ldc2 (v := 2) hx hb M.1.2.2.2.1 (M.1.2.2.2.2 _ q1353) dX4_isSheet_15 ?_
    refine c_iS M w (S' := []) tv_in.nil (md_in l G la_.toInt64 (0 : Int64) (2 : Int64)) q1023 q1024 q72 q1025 nm_yX4_in ⟨Nat.le_of_ble_eq_true rfl, Nat.le_of_ble_eq_true rfl⟩ rfl hl.1 (rest := []) rfl (Nat.le_of_ble_eq_true rfl) dX4_isSheet_18 ⟨Nat.zero_le _, Nat.zero_le _⟩ (fun H locs w => ?_)
    refine w_cut (g2 := F0 m 29 ls [.int (if (inL la_.toInt64 (0 : Int64) (2 : Int64)) = 0 then (0 : Int32) else (1 : Int32))]) (fun jn => ?_) ?_
    · skip
      refine lv_if_eq (tgt := 28) hx hb dX4_isSheet_21 (by decide) (fun c3 => ?_) (fun c3 => ?_)
      · skip
        refine lv_iconst (v := 0) hx hb dX4_isSheet_28 (by decide) ?_
        exact w_topi (if_pos c3) jn
      · skip
        refine lv_iconst (v := 1) hx hb dX4_isSheet_24 (by decide) ?_
        refine lv_goto (tgt := 29) hx hb dX4_isSheet_25 (by decide) ?_
        exact w_topi (if_neg c3) jn
    exact tv_zret M w hr (ite_nar rfl rfl) (if_neg c2).symm dX4_isSheet_29
def lb_md_tellAll_2 (k : Nat) (v : Int32) (i2 : Nat) (st2 : (Nat → Int32)) : (Nat → Int32) := upd st2 ((2 * i2) + k) v
def sp_md_tellAll_dr (dr : Nat → Int32) (k : Nat) (v : Int32) : Nat → Int32 := lp (lb_md_tellAll_2 k v) 6 dr
set_option maxHeartbeats 4000000 in
set_option maxRecDepth 100000 in
theorem md_tellAll (l : Launch) (G : tG) (d : Nat) (nh : Nat) (nm : Nat) (y : Nat → Int32) (z : Nat → Int64) (st : Nat → Int32) (nw : Nat → Int32) (ik : Nat → Int32) (dr : Nat → Int32) (tq : Nat → Int32) (dn : Nat → Int32) (db : Nat → Int32) (la : Nat → Int32) (si : Nat → Int32) (ce : Nat → Int32) (be : Nat → Int32) (k : Nat) (v : Int32) (hk : k < 2) : tv_V l yX4_tellAll cX4_tellAll 4 (tv_rm 0 0) G [.ref d, .int (nI k), .int v] (mds G d nh nm y z st nw ik dr tq dn db la si ce be).flatten (mds G d nh nm y z st nw ik (sp_md_tellAll_dr dr k v) tq dn db la si ce be).flatten := by
  refine tv_V.st (S := (mds G d nh nm y z st nw ik dr tq dn db la si ce be)) (S' := (mds G d nh nm y z st nw ik (sp_md_tellAll_dr dr k v) tq dn db la si ce be)) rfl rfl (by decide) (Nat.le_of_ble_eq_true rfl) ?_
  intro p e s m below meth c A M hr w ls hl
  have hx := M.1.1
  have hb := M.1.2.1
  have hl : lv_has ls 4 [(0, .ref d), (1, .int (nI k)), (2, .int v)] := hl
  refine lv_iconst (v := 0) hx hb dX4_tellAll_0 (by decide) ?_
  refine lv_istore_n (lv' := [(3, .int 0), (0, .ref d), (1, .int (nI k)), (2, .int v)]) hx hb dX4_tellAll_1 rfl hl (by decide) rfl (fun ls hl => ?_)
  refine w_for (pc := 2) (fun i2 H locs ls => tv_W G A s (mds G d nh nm y z st nw ik (lp (lb_md_tellAll_2 k v) i2 dr) tq dn db la si ce be) H locs ∧ lv_has ls 4 [(3, .int (nI i2)), (0, .ref d), (1, .int (nI k)), (2, .int v)]) 6 (fun H locs ls hI => ?_) (fun i2 hi2 H locs ls hI ih2 => ?_) 0 (Nat.zero_le _) _ _ _ ⟨w, hl⟩
  · skip
    obtain ⟨w, hl⟩ := hI
    refine lv_iload_n hx hb dX4_tellAll_2 rfl (lv_at hl 0 rfl) ?_
    refine lv_bipush (v := 6) hx hb dX4_tellAll_3 (by decide) ?_
    refine lv_icmp_ge (tgt := 25) hx hb dX4_tellAll_5 (by decide) (fun _ => ?_) (fun hc => absurd (nI_le (a := 6) (b := 6) (by omega) (by omega)) hc)
    exact tv_vret M w hr dX4_tellAll_25
  · skip
    obtain ⟨w, hl⟩ := hI
    refine lv_iload_n hx hb dX4_tellAll_2 rfl (lv_at hl 0 rfl) ?_
    refine lv_bipush (v := 6) hx hb dX4_tellAll_3 (by decide) ?_
    refine lv_icmp_ge (tgt := 25) hx hb dX4_tellAll_5 (by decide) (fun hc => absurd hc (nI_ge (a := i2) (b := 6) (by omega) (by omega))) (fun _ => ?_)
    refine lv_aload_n hx hb dX4_tellAll_8 rfl (lv_at hl 1 rfl) ?_
    refine r_get M w tc4 0 0 5 rfl rfl (by decide) q925 rfl rfl dX4_tellAll_9 ?_
    refine lv_iconst (v := 2) hx hb dX4_tellAll_12 (by decide) ?_
    refine lv_iload_n hx hb dX4_tellAll_13 rfl (lv_at hl 0 rfl) ?_
    refine lv_imul hx hb dX4_tellAll_14 ?_
    refine w_topi (pk_mul 2 i2).symm ?_
    refine lv_iload_n hx hb dX4_tellAll_15 rfl (lv_at hl 2 rfl) ?_
    refine lv_iadd hx hb dX4_tellAll_16 ?_
    refine w_topi (nI_add (2 * i2) k).symm ?_
    refine lv_iload_n hx hb dX4_tellAll_17 rfl (lv_at hl 3 rfl) ?_
    refine r_iast M w 4 0 rfl rfl (vp_in_nI (by omega) (by omega)) (S' := (mds G d nh nm y z st nw ik (upd (lp (lb_md_tellAll_2 k v) i2 dr) ((2 * i2) + k) v) tq dn db la si ce be)) (congrArg (fun zz_ => List.set (mds G d nh nm y z st nw ik (lp (lb_md_tellAll_2 k v) i2 dr) tq dn db la si ce be) 4 zz_) (congrArg (mda (G.2.1 0) (d + 4) 58) (up_nI (f := (lp (lb_md_tellAll_2 k v) i2 dr)) (i := ((2 * i2) + k)) (x := v) (by omega)))) dX4_tellAll_18 (fun H locs w => ?_)
    refine lv_iinc (k := 0) (v := nI (i2 + 1)) (lv' := [(3, .int (nI (i2 + 1))), (0, .ref d), (1, .int (nI k)), (2, .int v)]) hx hb dX4_tellAll_19 hl rfl (nI_inc i2) (by decide) rfl (fun ls hl => ?_)
    refine lv_goto (tgt := 2) hx hb dX4_tellAll_22 (by decide) ?_
    exact ih2 _ _ _ ⟨w, lv_sub hl [0, 1, 2, 3] rfl⟩
def lb_md_copies_2 (to_ : Nat) (so_ : Nat) (i2 : Nat) (st2 : (Nat → Int32)) : (Nat → Int32) := upd st2 (to_ + i2) (st2 (so_ + i2))
def sp_md_copies_st (st : Nat → Int32) (to_ : Nat) (so_ : Nat) : Nat → Int32 := lp (lb_md_copies_2 to_ so_) 58 st
set_option maxHeartbeats 4000000 in
set_option maxRecDepth 100000 in
theorem md_copies (l : Launch) (G : tG) (d : Nat) (nh : Nat) (nm : Nat) (y : Nat → Int32) (z : Nat → Int64) (st : Nat → Int32) (nw : Nat → Int32) (ik : Nat → Int32) (dr : Nat → Int32) (tq : Nat → Int32) (dn : Nat → Int32) (db : Nat → Int32) (la : Nat → Int32) (si : Nat → Int32) (ce : Nat → Int32) (be : Nat → Int32) (to_ : Nat) (so_ : Nat) (ht : to_ ≤ 116) (hs : so_ ≤ 116) : tv_V l yX4_copies cX4_copies 4 (tv_rm 0 0) G [.ref d, .int (nI to_), .int (nI so_)] (mds G d nh nm y z st nw ik dr tq dn db la si ce be).flatten (mds G d nh nm y z (sp_md_copies_st st to_ so_) nw ik dr tq dn db la si ce be).flatten := by
  refine tv_V.st (S := (mds G d nh nm y z st nw ik dr tq dn db la si ce be)) (S' := (mds G d nh nm y z (sp_md_copies_st st to_ so_) nw ik dr tq dn db la si ce be)) rfl rfl (by decide) (Nat.le_of_ble_eq_true rfl) ?_
  intro p e s m below meth c A M hr w ls hl
  have hx := M.1.1
  have hb := M.1.2.1
  have hl : lv_has ls 4 [(0, .ref d), (1, .int (nI to_)), (2, .int (nI so_))] := hl
  refine lv_iconst (v := 0) hx hb dX4_copies_0 (by decide) ?_
  refine lv_istore_n (lv' := [(3, .int 0), (0, .ref d), (1, .int (nI to_)), (2, .int (nI so_))]) hx hb dX4_copies_1 rfl hl (by decide) rfl (fun ls hl => ?_)
  refine w_for (pc := 2) (fun i2 H locs ls => tv_W G A s (mds G d nh nm y z (lp (lb_md_copies_2 to_ so_) i2 st) nw ik dr tq dn db la si ce be) H locs ∧ lv_has ls 4 [(3, .int (nI i2)), (0, .ref d), (1, .int (nI to_)), (2, .int (nI so_))]) 58 (fun H locs ls hI => ?_) (fun i2 hi2 H locs ls hI ih2 => ?_) 0 (Nat.zero_le _) _ _ _ ⟨w, hl⟩
  · skip
    obtain ⟨w, hl⟩ := hI
    refine lv_iload_n hx hb dX4_copies_2 rfl (lv_at hl 0 rfl) ?_
    refine lv_bipush (v := 58) hx hb dX4_copies_3 (by decide) ?_
    refine lv_icmp_ge (tgt := 30) hx hb dX4_copies_5 (by decide) (fun _ => ?_) (fun hc => absurd (nI_le (a := 58) (b := 58) (by omega) (by omega)) hc)
    exact tv_vret M w hr dX4_copies_30
  · skip
    obtain ⟨w, hl⟩ := hI
    refine lv_iload_n hx hb dX4_copies_2 rfl (lv_at hl 0 rfl) ?_
    refine lv_bipush (v := 58) hx hb dX4_copies_3 (by decide) ?_
    refine lv_icmp_ge (tgt := 30) hx hb dX4_copies_5 (by decide) (fun hc => absurd hc (nI_ge (a := i2) (b := 58) (by omega) (by omega))) (fun _ => ?_)
    refine lv_aload_n hx hb dX4_copies_8 rfl (lv_at hl 1 rfl) ?_
    refine r_get M w tc4 0 0 0 rfl rfl (by decide) q920 rfl rfl dX4_copies_9 ?_
    refine lv_iload_n hx hb dX4_copies_12 rfl (lv_at hl 2 rfl) ?_
    refine lv_iload_n hx hb dX4_copies_13 rfl (lv_at hl 0 rfl) ?_
    refine lv_iadd hx hb dX4_copies_14 ?_
    refine w_topi (nI_add to_ i2).symm ?_
    refine lv_aload_n hx hb dX4_copies_15 rfl (lv_at hl 1 rfl) ?_
    refine r_get M w tc4 0 0 0 rfl rfl (by decide) q920 rfl rfl dX4_copies_16 ?_
    refine lv_iload_n hx hb dX4_copies_19 rfl (lv_at hl 3 rfl) ?_
    refine lv_iload_n hx hb dX4_copies_20 rfl (lv_at hl 0 rfl) ?_
    refine lv_iadd hx hb dX4_copies_21 ?_
    refine w_topi (nI_add so_ i2).symm ?_
    refine r_iald M w 1 0 rfl rfl (vp_in_nI (by omega) (by omega)) (v := (lp (lb_md_copies_2 to_ so_) i2 st) (so_ + i2)) (fn_nI (by omega)) dX4_copies_22 ?_
    refine r_iast M w 1 0 rfl rfl (vp_in_nI (by omega) (by omega)) (S' := (mds G d nh nm y z (upd (lp (lb_md_copies_2 to_ so_) i2 st) (to_ + i2) ((lp (lb_md_copies_2 to_ so_) i2 st) (so_ + i2))) nw ik dr tq dn db la si ce be)) (congrArg (fun zz_ => List.set (mds G d nh nm y z (lp (lb_md_copies_2 to_ so_) i2 st) nw ik dr tq dn db la si ce be) 1 zz_) (congrArg (mda (G.2.1 0) (d + 1) 174) (up_nI (f := (lp (lb_md_copies_2 to_ so_) i2 st)) (i := (to_ + i2)) (x := ((lp (lb_md_copies_2 to_ so_) i2 st) (so_ + i2))) (by omega)))) dX4_copies_23 (fun H locs w => ?_)
    refine lv_iinc (k := 0) (v := nI (i2 + 1)) (lv' := [(3, .int (nI (i2 + 1))), (0, .ref d), (1, .int (nI to_)), (2, .int (nI so_))]) hx hb dX4_copies_24 hl rfl (nI_inc i2) (by decide) rfl (fun ls hl => ?_)
    refine lv_goto (tgt := 2) hx hb dX4_copies_27 (by decide) ?_
    exact ih2 _ _ _ ⟨w, lv_sub hl [0, 1, 2, 3] rfl⟩
