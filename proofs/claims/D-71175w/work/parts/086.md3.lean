/-! the reference: a turn -/
def lb_md_ministerTreads_9 (y : Nat → Int32) (nw : Nat → Int32) (u : Nat) (i9 : Nat) (st9 : (Nat → Int32)) : (Nat → Int32) := if (sp_md_isUnder y st9 i9 (sp_md_ofMinister nw u 1)) = 0 then st9 else (sp_md_becomesOf_nw st9 i9 2 (sp_md_lesser 99 ((sp_md_of st9 i9 2) + (sp_md_angered (sp_md_of st9 i9 0) (sp_md_ofMinister st9 u 0)))))
theorem at_md9 {y nw : Nat → Int32} {u n h : Nat} : lp (lb_md_ministerTreads_9 y nw u) n nw (12 + 3 * h + 1) = nw (12 + 3 * h + 1) := by
  have key : ∀ n (g : Nat → Int32), lp (lb_md_ministerTreads_9 y nw u) n g (12 + 3 * h + 1) = g (12 + 3 * h + 1) := by
    intro n
    induction n with
    | zero => intro g; rfl
    | succ n ih =>
      intro g
      show lb_md_ministerTreads_9 y nw u n (lp (lb_md_ministerTreads_9 y nw u) n g) (12 + 3 * h + 1) = _
      unfold lb_md_ministerTreads_9
      split
      · exact ih g
      · unfold sp_md_becomesOf_nw
        rw [upd_ne (by omega)]
        exact ih g
  exact key n nw
def lb_md_ministerTreads_102 (y : Nat → Int32) (nw : Nat → Int32) (u : Nat) (i102 : Nat) (st102 : (Nat → Int32)) : (Nat → Int32) := if (sp_md_isUnder (upd y 19 ((y 19) + 1)) st102 i102 (sp_md_ofMinister nw u 1)) = 0 then (sp_md_becomesOf_nw st102 i102 2 (sp_md_of st102 i102 2)) else (sp_md_becomesOf_nw st102 i102 2 0)
def sp_md_ministerTreads_y (nh : Nat) (y : Nat → Int32) (nw : Nat → Int32) (u : Nat) : Nat → Int32 := if (sp_md_drawnAt nh y (lp (lb_md_ministerTreads_9 y nw u) nh nw) (sp_md_ofMinister nw u 1)) < ((lp (lb_md_ministerTreads_9 y nw u) nh nw) (((2 * (sp_md_ofMinister nw u 1)) + 1).toNatClampNeg)) then y else (upd y 19 ((y 19) + 1))
def sp_md_ministerTreads_nw (nh : Nat) (y : Nat → Int32) (nw : Nat → Int32) (u : Nat) : Nat → Int32 := if (sp_md_drawnAt nh y (lp (lb_md_ministerTreads_9 y nw u) nh nw) (sp_md_ofMinister nw u 1)) < ((lp (lb_md_ministerTreads_9 y nw u) nh nw) (((2 * (sp_md_ofMinister nw u 1)) + 1).toNatClampNeg)) then (lp (lb_md_ministerTreads_9 y nw u) nh nw) else (lp (lb_md_ministerTreads_102 y nw u) nh (sp_md_stepsTo_nw (lp (lb_md_ministerTreads_9 y nw u) nh nw) u (-4)))
set_option maxHeartbeats 4000000 in
set_option maxRecDepth 100000 in
theorem md_ministerTreads (l : Launch) (G : tG) (d : Nat) (nh : Nat) (nm : Nat) (y : Nat → Int32) (z : Nat → Int64) (st : Nat → Int32) (nw : Nat → Int32) (ik : Nat → Int32) (dr : Nat → Int32) (tq : Nat → Int32) (dn : Nat → Int32) (db : Nat → Int32) (la : Nat → Int32) (si : Nat → Int32) (ce : Nat → Int32) (be : Nat → Int32) (u : Nat) (hn : nh ≤ 6) (hm : nm ≤ 4) (hu : u < 4) (hat : ∀ h, h < 6 → vp_in (nw (12 + 3 * h + 1)) 6) (hup : vp_in (nw (30 + 2 * u + 1)) 6) : tv_V l yX4_ministerTreads cX4_ministerTreads 4 (tv_rm 3 67) G [.ref d, .int (nI u)] (mds G d nh nm y z st nw ik dr tq dn db la si ce be).flatten (mds G d nh nm (sp_md_ministerTreads_y nh y nw u) z st (sp_md_ministerTreads_nw nh y nw u) ik dr tq dn db la si ce be).flatten := by
  refine tv_V.st (S := (mds G d nh nm y z st nw ik dr tq dn db la si ce be)) (S' := (mds G d nh nm (sp_md_ministerTreads_y nh y nw u) z st (sp_md_ministerTreads_nw nh y nw u) ik dr tq dn db la si ce be)) rfl rfl (by decide) (Nat.le_of_ble_eq_true rfl) ?_
  intro p e s m below meth c A M hr w ls hl
  have hx := M.1.1
  have hb := M.1.2.1
  have hl : lv_has ls 4 [(0, .ref d), (1, .int (nI u))] := hl
  refine lv_aload_n hx hb dX4_ministerTreads_0 rfl (lv_at hl 0 rfl) ?_
  refine lv_iload_n hx hb dX4_ministerTreads_1 rfl (lv_at hl 1 rfl) ?_
  refine lv_iconst (v := 1) hx hb dX4_ministerTreads_2 (by decide) ?_
  refine c_iV M w (S' := (mds G d nh nm y z st nw ik dr tq dn db la si ce be)) tv_in.all (md_ofMinister l G d nh nm y z st nw ik dr tq dn db la si ce be u 1 (by omega) (by omega)) (q0 := 0) tc4 rfl q1113 q1115 qs44 q72 q1116 nm_yX4_ofMinister ⟨Nat.le_of_ble_eq_true rfl, Nat.le_of_ble_eq_true rfl⟩ rfl hl.1 (rest := []) rfl (Nat.le_of_ble_eq_true rfl) dX4_ministerTreads_3 ⟨Nat.zero_le _, Nat.zero_le _⟩ (fun H locs w => ?_)
  refine lv_istore_n (lv' := [(2, .int (sp_md_ofMinister nw u 1)), (0, .ref d), (1, .int (nI u))]) hx hb dX4_ministerTreads_6 rfl hl (by decide) rfl (fun ls hl => ?_)
  refine lv_iconst (v := 0) hx hb dX4_ministerTreads_7 (by decide) ?_
  refine lv_istore_n (lv' := [(3, .int 0), (2, .int (sp_md_ofMinister nw u 1)), (0, .ref d), (1, .int (nI u))]) hx hb dX4_ministerTreads_8 rfl hl (by decide) rfl (fun ls hl => ?_)
  refine w_for (pc := 9) (fun i9 H locs ls => tv_W G A s (mds G d nh nm y z st (lp (lb_md_ministerTreads_9 y nw u) i9 nw) ik dr tq dn db la si ce be) H locs ∧ lv_has ls 4 [(3, .int (nI i9)), (2, .int (sp_md_ofMinister nw u 1)), (0, .ref d), (1, .int (nI u))]) nh (fun H locs ls hI => ?_) (fun i9 hi9 H locs ls hI ih9 => ?_) 0 (Nat.zero_le _) _ _ _ ⟨w, hl⟩
  · skip
    obtain ⟨w, hl⟩ := hI
    refine lv_iload_n hx hb dX4_ministerTreads_9 rfl (lv_at hl 0 rfl) ?_
    refine lv_aload_n hx hb dX4_ministerTreads_10 rfl (lv_at hl 2 rfl) ?_
    refine r_get M w tc4 0 0 3 rfl rfl (by decide) q923 rfl rfl dX4_ministerTreads_11 ?_
    refine lv_icmp_ge (tgt := 65) hx hb dX4_ministerTreads_14 (by decide) (fun _ => ?_) (fun hc => absurd (nI_le (a := nh) (b := nh) (by omega) (by omega)) hc)
    refine lv_aload_n hx hb dX4_ministerTreads_65 rfl (lv_at hl 2 rfl) ?_
    refine lv_iload_n hx hb dX4_ministerTreads_66 rfl (lv_at hl 1 rfl) ?_
    refine c_iV M w (S' := (mds G d nh nm y z st (lp (lb_md_ministerTreads_9 y nw u) nh nw) ik dr tq dn db la si ce be)) tv_in.all (md_drawnAt l G d nh nm y z st (lp (lb_md_ministerTreads_9 y nw u) nh nw) ik dr tq dn db la si ce be (sp_md_ofMinister nw u 1) (by omega) (by omega) (fun h hh => by rw [at_md9]; exact hat h hh)) (q0 := 0) tc4 rfl q1204 q1206 qs55 q72 q1207 nm_yX4_drawnAt ⟨Nat.le_of_ble_eq_true rfl, Nat.le_of_ble_eq_true rfl⟩ rfl hl.1 (rest := []) rfl (Nat.le_of_ble_eq_true rfl) dX4_ministerTreads_67 ⟨Nat.zero_le _, Nat.zero_le _⟩ (fun H locs w => ?_)
    refine lv_aload_n hx hb dX4_ministerTreads_70 rfl (lv_at hl 2 rfl) ?_
    refine r_get M w tc4 0 0 1 rfl rfl (by decide) q921 rfl rfl dX4_ministerTreads_71 ?_
    refine lv_iconst (v := 2) hx hb dX4_ministerTreads_74 (by decide) ?_
    refine lv_iload_n hx hb dX4_ministerTreads_75 rfl (lv_at hl 1 rfl) ?_
    refine lv_imul hx hb dX4_ministerTreads_76 ?_
    refine lv_iconst (v := 1) hx hb dX4_ministerTreads_77 (by decide) ?_
    refine lv_iadd hx hb dX4_ministerTreads_78 ?_
    refine r_iald M w 2 0 rfl rfl (vp_w (m2_1 hup) (by omega)) (v := (lp (lb_md_ministerTreads_9 y nw u) nh nw) (((2 * (sp_md_ofMinister nw u 1)) + 1).toNatClampNeg)) rfl dX4_ministerTreads_79 ?_
    refine lv_icmp_lt (tgt := 141) hx hb dX4_ministerTreads_80 (by decide) (fun c4 => ?_) (fun c4 => ?_)
    · skip
      exact tv_vret M (by rw [show sp_md_ministerTreads_y nh y nw u = _ from if_pos c4, show sp_md_ministerTreads_nw nh y nw u = _ from if_pos c4]; exact w) hr dX4_ministerTreads_141
    · skip
      refine lv_aload_n hx hb dX4_ministerTreads_83 rfl (lv_at hl 2 rfl) ?_
      refine lv_dup hx hb dX4_ministerTreads_84 rfl ?_
      refine r_get M w tc4 0 0 19 rfl rfl (by decide) q939 rfl rfl dX4_ministerTreads_85 ?_
      refine lv_iconst (v := 1) hx hb dX4_ministerTreads_88 (by decide) ?_
      refine lv_iadd hx hb dX4_ministerTreads_89 ?_
      refine r_put M w tc4 0 0 19 rfl rfl (by decide) q939 rfl rfl rfl rfl (Nat.le_of_ble_eq_true rfl) (S' := (mds G d nh nm (upd y 19 ((y 19) + 1)) z st (lp (lb_md_ministerTreads_9 y nw u) nh nw) ik dr tq dn db la si ce be)) rfl dX4_ministerTreads_90 (fun H locs w => ?_)
      refine lv_aload_n hx hb dX4_ministerTreads_93 rfl (lv_at hl 2 rfl) ?_
      refine lv_iload_n hx hb dX4_ministerTreads_94 rfl (lv_at hl 3 rfl) ?_
      refine lv_bipush (v := -4) hx hb dX4_ministerTreads_95 (by decide) ?_
      refine c_vV M w (S' := (mds G d nh nm (upd y 19 ((y 19) + 1)) z st (sp_md_stepsTo_nw (lp (lb_md_ministerTreads_9 y nw u) nh nw) u (-4)) ik dr tq dn db la si ce be)) tv_in.all (md_stepsTo l G d nh nm (upd y 19 ((y 19) + 1)) z st (lp (lb_md_ministerTreads_9 y nw u) nh nw) ik dr tq dn db la si ce be u (-4) (by omega)) (q0 := 0) tc4 rfl q1208 q1210 qs56 q72 q1211 nm_yX4_stepsTo ⟨Nat.le_of_ble_eq_true rfl, Nat.le_of_ble_eq_true rfl⟩ rfl hl.1 (rest := []) rfl (Nat.le_of_ble_eq_true rfl) dX4_ministerTreads_97 ⟨Nat.zero_le _, Nat.zero_le _⟩ (fun H locs w => ?_)
      refine lv_iconst (v := 0) hx hb dX4_ministerTreads_100 (by decide) ?_
      refine lv_istore_n (lv' := [(3, .int 0), (2, .int (sp_md_ofMinister nw u 1)), (0, .ref d), (1, .int (nI u))]) hx hb dX4_ministerTreads_101 rfl hl (by decide) rfl (fun ls hl => ?_)
      refine w_for (pc := 102) (fun i102 H locs ls => tv_W G A s (mds G d nh nm (upd y 19 ((y 19) + 1)) z st (lp (lb_md_ministerTreads_102 y nw u) i102 (sp_md_stepsTo_nw (lp (lb_md_ministerTreads_9 y nw u) nh nw) u (-4))) ik dr tq dn db la si ce be) H locs ∧ lv_has ls 4 [(3, .int (nI i102)), (2, .int (sp_md_ofMinister nw u 1)), (0, .ref d), (1, .int (nI u))]) nh (fun H locs ls hI => ?_) (fun i102 hi102 H locs ls hI ih102 => ?_) 0 (Nat.zero_le _) _ _ _ ⟨w, hl⟩
      · skip
        obtain ⟨w, hl⟩ := hI
        refine lv_iload_n hx hb dX4_ministerTreads_102 rfl (lv_at hl 0 rfl) ?_
        refine lv_aload_n hx hb dX4_ministerTreads_103 rfl (lv_at hl 2 rfl) ?_
        refine r_get M w tc4 0 0 3 rfl rfl (by decide) q923 rfl rfl dX4_ministerTreads_104 ?_
        refine lv_icmp_ge (tgt := 141) hx hb dX4_ministerTreads_107 (by decide) (fun _ => ?_) (fun hc => absurd (nI_le (a := nh) (b := nh) (by omega) (by omega)) hc)
        exact tv_vret M (by rw [show sp_md_ministerTreads_y nh y nw u = _ from if_neg c4, show sp_md_ministerTreads_nw nh y nw u = _ from if_neg c4]; exact w) hr dX4_ministerTreads_141
      · skip
        obtain ⟨w, hl⟩ := hI
        refine lv_iload_n hx hb dX4_ministerTreads_102 rfl (lv_at hl 0 rfl) ?_
        refine lv_aload_n hx hb dX4_ministerTreads_103 rfl (lv_at hl 2 rfl) ?_
        refine r_get M w tc4 0 0 3 rfl rfl (by decide) q923 rfl rfl dX4_ministerTreads_104 ?_
        refine lv_icmp_ge (tgt := 141) hx hb dX4_ministerTreads_107 (by decide) (fun hc => absurd hc (nI_ge (a := i102) (b := nh) (by omega) (by omega))) (fun _ => ?_)
        refine lv_aload_n hx hb dX4_ministerTreads_110 rfl (lv_at hl 2 rfl) ?_
        refine lv_iload_n hx hb dX4_ministerTreads_111 rfl (lv_at hl 0 rfl) ?_
        refine lv_iconst (v := 2) hx hb dX4_ministerTreads_112 (by decide) ?_
        refine lv_aload_n hx hb dX4_ministerTreads_113 rfl (lv_at hl 2 rfl) ?_
        refine lv_iload_n hx hb dX4_ministerTreads_114 rfl (lv_at hl 0 rfl) ?_
        refine lv_iload_n hx hb dX4_ministerTreads_115 rfl (lv_at hl 1 rfl) ?_
        refine c_iV M w (S' := (mds G d nh nm (upd y 19 ((y 19) + 1)) z st (lp (lb_md_ministerTreads_102 y nw u) i102 (sp_md_stepsTo_nw (lp (lb_md_ministerTreads_9 y nw u) nh nw) u (-4))) ik dr tq dn db la si ce be)) tv_in.all (md_isUnder l G d nh nm (upd y 19 ((y 19) + 1)) z st (lp (lb_md_ministerTreads_102 y nw u) i102 (sp_md_stepsTo_nw (lp (lb_md_ministerTreads_9 y nw u) nh nw) u (-4))) ik dr tq dn db la si ce be i102 (sp_md_ofMinister nw u 1) (by omega)) (q0 := 0) tc4 rfl q1193 q1195 qs53 q72 q1196 nm_yX4_isUnder ⟨Nat.le_of_ble_eq_true rfl, Nat.le_of_ble_eq_true rfl⟩ rfl hl.1 (rest := [.int 2, .int (nI i102), .ref d]) rfl (Nat.le_of_ble_eq_true rfl) dX4_ministerTreads_116 ⟨Nat.zero_le _, Nat.zero_le _⟩ (fun H locs w => ?_)
        refine lv_if_eq (tgt := 126) hx hb dX4_ministerTreads_119 (by decide) (fun c5 => ?_) (fun c5 => ?_)
        · skip
          refine lv_aload_n hx hb dX4_ministerTreads_126 rfl (lv_at hl 2 rfl) ?_
          refine lv_iload_n hx hb dX4_ministerTreads_127 rfl (lv_at hl 0 rfl) ?_
          refine lv_iconst (v := 2) hx hb dX4_ministerTreads_128 (by decide) ?_
          refine c_iV M w (S' := (mds G d nh nm (upd y 19 ((y 19) + 1)) z st (lp (lb_md_ministerTreads_102 y nw u) i102 (sp_md_stepsTo_nw (lp (lb_md_ministerTreads_9 y nw u) nh nw) u (-4))) ik dr tq dn db la si ce be)) tv_in.all (md_of l G d nh nm (upd y 19 ((y 19) + 1)) z st (lp (lb_md_ministerTreads_102 y nw u) i102 (sp_md_stepsTo_nw (lp (lb_md_ministerTreads_9 y nw u) nh nw) u (-4))) ik dr tq dn db la si ce be i102 2 (by omega) (by omega)) (q0 := 0) tc4 rfl q1098 q1100 qs41 q72 q1101 nm_yX4_of ⟨Nat.le_of_ble_eq_true rfl, Nat.le_of_ble_eq_true rfl⟩ rfl hl.1 (rest := [.int 2, .int (nI i102), .ref d]) rfl (Nat.le_of_ble_eq_true rfl) dX4_ministerTreads_129 ⟨Nat.zero_le _, Nat.zero_le _⟩ (fun H locs w => ?_)
          refine c_vV M w (S' := (mds G d nh nm (upd y 19 ((y 19) + 1)) z st (sp_md_becomesOf_nw (lp (lb_md_ministerTreads_102 y nw u) i102 (sp_md_stepsTo_nw (lp (lb_md_ministerTreads_9 y nw u) nh nw) u (-4))) i102 2 (sp_md_of (lp (lb_md_ministerTreads_102 y nw u) i102 (sp_md_stepsTo_nw (lp (lb_md_ministerTreads_9 y nw u) nh nw) u (-4))) i102 2)) ik dr tq dn db la si ce be)) tv_in.all (md_becomesOf l G d nh nm (upd y 19 ((y 19) + 1)) z st (lp (lb_md_ministerTreads_102 y nw u) i102 (sp_md_stepsTo_nw (lp (lb_md_ministerTreads_9 y nw u) nh nw) u (-4))) ik dr tq dn db la si ce be i102 2 (sp_md_of (lp (lb_md_ministerTreads_102 y nw u) i102 (sp_md_stepsTo_nw (lp (lb_md_ministerTreads_9 y nw u) nh nw) u (-4))) i102 2) (by omega) (by omega)) (q0 := 0) tc4 rfl q1200 q1202 qs54 q72 q1203 nm_yX4_becomesOf ⟨Nat.le_of_ble_eq_true rfl, Nat.le_of_ble_eq_true rfl⟩ rfl hl.1 (rest := []) rfl (Nat.le_of_ble_eq_true rfl) dX4_ministerTreads_132 ⟨Nat.zero_le _, Nat.zero_le _⟩ (fun H locs w => ?_)
          refine lv_iinc (k := 0) (v := nI (i102 + 1)) (lv' := [(3, .int (nI (i102 + 1))), (2, .int (sp_md_ofMinister nw u 1)), (0, .ref d), (1, .int (nI u))]) hx hb dX4_ministerTreads_135 hl rfl (nI_inc i102) (by decide) rfl (fun ls hl => ?_)
          refine lv_goto (tgt := 102) hx hb dX4_ministerTreads_138 (by decide) ?_
          refine ih102 _ _ _ ?_
          show tv_W G A s (mds G d nh nm (upd y 19 ((y 19) + 1)) z st (lp (lb_md_ministerTreads_102 y nw u) (i102 + 1) (sp_md_stepsTo_nw (lp (lb_md_ministerTreads_9 y nw u) nh nw) u (-4))) ik dr tq dn db la si ce be) H locs ∧ lv_has ls 4 [(3, .int (nI (i102 + 1))), (2, .int (sp_md_ofMinister nw u 1)), (0, .ref d), (1, .int (nI u))]
          rw [show lp (lb_md_ministerTreads_102 y nw u) (i102 + 1) (sp_md_stepsTo_nw (lp (lb_md_ministerTreads_9 y nw u) nh nw) u (-4)) = _ from if_pos c5]
          exact ⟨w, lv_sub hl [0, 1, 2, 3] rfl⟩
        · skip
          refine lv_iconst (v := 0) hx hb dX4_ministerTreads_122 (by decide) ?_
          refine lv_goto (tgt := 132) hx hb dX4_ministerTreads_123 (by decide) ?_
          refine c_vV M w (S' := (mds G d nh nm (upd y 19 ((y 19) + 1)) z st (sp_md_becomesOf_nw (lp (lb_md_ministerTreads_102 y nw u) i102 (sp_md_stepsTo_nw (lp (lb_md_ministerTreads_9 y nw u) nh nw) u (-4))) i102 2 0) ik dr tq dn db la si ce be)) tv_in.all (md_becomesOf l G d nh nm (upd y 19 ((y 19) + 1)) z st (lp (lb_md_ministerTreads_102 y nw u) i102 (sp_md_stepsTo_nw (lp (lb_md_ministerTreads_9 y nw u) nh nw) u (-4))) ik dr tq dn db la si ce be i102 2 0 (by omega) (by omega)) (q0 := 0) tc4 rfl q1200 q1202 qs54 q72 q1203 nm_yX4_becomesOf ⟨Nat.le_of_ble_eq_true rfl, Nat.le_of_ble_eq_true rfl⟩ rfl hl.1 (rest := []) rfl (Nat.le_of_ble_eq_true rfl) dX4_ministerTreads_132 ⟨Nat.zero_le _, Nat.zero_le _⟩ (fun H locs w => ?_)
          refine lv_iinc (k := 0) (v := nI (i102 + 1)) (lv' := [(3, .int (nI (i102 + 1))), (2, .int (sp_md_ofMinister nw u 1)), (0, .ref d), (1, .int (nI u))]) hx hb dX4_ministerTreads_135 hl rfl (nI_inc i102) (by decide) rfl (fun ls hl => ?_)
          refine lv_goto (tgt := 102) hx hb dX4_ministerTreads_138 (by decide) ?_
          refine ih102 _ _ _ ?_
          show tv_W G A s (mds G d nh nm (upd y 19 ((y 19) + 1)) z st (lp (lb_md_ministerTreads_102 y nw u) (i102 + 1) (sp_md_stepsTo_nw (lp (lb_md_ministerTreads_9 y nw u) nh nw) u (-4))) ik dr tq dn db la si ce be) H locs ∧ lv_has ls 4 [(3, .int (nI (i102 + 1))), (2, .int (sp_md_ofMinister nw u 1)), (0, .ref d), (1, .int (nI u))]
          rw [show lp (lb_md_ministerTreads_102 y nw u) (i102 + 1) (sp_md_stepsTo_nw (lp (lb_md_ministerTreads_9 y nw u) nh nw) u (-4)) = _ from if_neg c5]
          exact ⟨w, lv_sub hl [0, 1, 2, 3] rfl⟩
  · skip
    obtain ⟨w, hl⟩ := hI
    refine lv_iload_n hx hb dX4_ministerTreads_9 rfl (lv_at hl 0 rfl) ?_
    refine lv_aload_n hx hb dX4_ministerTreads_10 rfl (lv_at hl 2 rfl) ?_
    refine r_get M w tc4 0 0 3 rfl rfl (by decide) q923 rfl rfl dX4_ministerTreads_11 ?_
    refine lv_icmp_ge (tgt := 65) hx hb dX4_ministerTreads_14 (by decide) (fun hc => absurd hc (nI_ge (a := i9) (b := nh) (by omega) (by omega))) (fun _ => ?_)
    refine lv_aload_n hx hb dX4_ministerTreads_17 rfl (lv_at hl 2 rfl) ?_
    refine lv_iload_n hx hb dX4_ministerTreads_18 rfl (lv_at hl 0 rfl) ?_
    refine lv_iload_n hx hb dX4_ministerTreads_19 rfl (lv_at hl 1 rfl) ?_
    refine c_iV M w (S' := (mds G d nh nm y z st (lp (lb_md_ministerTreads_9 y nw u) i9 nw) ik dr tq dn db la si ce be)) tv_in.all (md_isUnder l G d nh nm y z st (lp (lb_md_ministerTreads_9 y nw u) i9 nw) ik dr tq dn db la si ce be i9 (sp_md_ofMinister nw u 1) (by omega)) (q0 := 0) tc4 rfl q1193 q1195 qs53 q72 q1196 nm_yX4_isUnder ⟨Nat.le_of_ble_eq_true rfl, Nat.le_of_ble_eq_true rfl⟩ rfl hl.1 (rest := []) rfl (Nat.le_of_ble_eq_true rfl) dX4_ministerTreads_20 ⟨Nat.zero_le _, Nat.zero_le _⟩ (fun H locs w => ?_)
    refine lv_if_eq (tgt := 59) hx hb dX4_ministerTreads_23 (by decide) (fun c6 => ?_) (fun c6 => ?_)
    · skip
      refine lv_iinc (k := 0) (v := nI (i9 + 1)) (lv' := [(3, .int (nI (i9 + 1))), (2, .int (sp_md_ofMinister nw u 1)), (0, .ref d), (1, .int (nI u))]) hx hb dX4_ministerTreads_59 hl rfl (nI_inc i9) (by decide) rfl (fun ls hl => ?_)
      refine lv_goto (tgt := 9) hx hb dX4_ministerTreads_62 (by decide) ?_
      refine ih9 _ _ _ ?_
      show tv_W G A s (mds G d nh nm y z st (lp (lb_md_ministerTreads_9 y nw u) (i9 + 1) nw) ik dr tq dn db la si ce be) H locs ∧ lv_has ls 4 [(3, .int (nI (i9 + 1))), (2, .int (sp_md_ofMinister nw u 1)), (0, .ref d), (1, .int (nI u))]
      rw [show lp (lb_md_ministerTreads_9 y nw u) (i9 + 1) nw = _ from if_pos c6]
      exact ⟨w, lv_sub hl [0, 1, 2, 3] rfl⟩
    · skip
      refine lv_aload_n hx hb dX4_ministerTreads_26 rfl (lv_at hl 2 rfl) ?_
      refine lv_iload_n hx hb dX4_ministerTreads_27 rfl (lv_at hl 0 rfl) ?_
      refine lv_iconst (v := 2) hx hb dX4_ministerTreads_28 (by decide) ?_
      refine lv_bipush (v := 99) hx hb dX4_ministerTreads_29 (by decide) ?_
      refine lv_aload_n hx hb dX4_ministerTreads_31 rfl (lv_at hl 2 rfl) ?_
      refine lv_iload_n hx hb dX4_ministerTreads_32 rfl (lv_at hl 0 rfl) ?_
      refine lv_iconst (v := 2) hx hb dX4_ministerTreads_33 (by decide) ?_
      refine c_iV M w (S' := (mds G d nh nm y z st (lp (lb_md_ministerTreads_9 y nw u) i9 nw) ik dr tq dn db la si ce be)) tv_in.all (md_of l G d nh nm y z st (lp (lb_md_ministerTreads_9 y nw u) i9 nw) ik dr tq dn db la si ce be i9 2 (by omega) (by omega)) (q0 := 0) tc4 rfl q1098 q1100 qs41 q72 q1101 nm_yX4_of ⟨Nat.le_of_ble_eq_true rfl, Nat.le_of_ble_eq_true rfl⟩ rfl hl.1 (rest := [.int 99, .int 2, .int (nI i9), .ref d]) rfl (Nat.le_of_ble_eq_true rfl) dX4_ministerTreads_34 ⟨Nat.zero_le _, Nat.zero_le _⟩ (fun H locs w => ?_)
      refine lv_aload_n hx hb dX4_ministerTreads_37 rfl (lv_at hl 2 rfl) ?_
      refine lv_iload_n hx hb dX4_ministerTreads_38 rfl (lv_at hl 0 rfl) ?_
      refine lv_iconst (v := 0) hx hb dX4_ministerTreads_39 (by decide) ?_
      refine c_iV M w (S' := (mds G d nh nm y z st (lp (lb_md_ministerTreads_9 y nw u) i9 nw) ik dr tq dn db la si ce be)) tv_in.all (md_of l G d nh nm y z st (lp (lb_md_ministerTreads_9 y nw u) i9 nw) ik dr tq dn db la si ce be i9 0 (by omega) (by omega)) (q0 := 0) tc4 rfl q1098 q1100 qs41 q72 q1101 nm_yX4_of ⟨Nat.le_of_ble_eq_true rfl, Nat.le_of_ble_eq_true rfl⟩ rfl hl.1 (rest := [.int (sp_md_of (lp (lb_md_ministerTreads_9 y nw u) i9 nw) i9 2), .int 99, .int 2, .int (nI i9), .ref d]) rfl (Nat.le_of_ble_eq_true rfl) dX4_ministerTreads_40 ⟨Nat.zero_le _, Nat.zero_le _⟩ (fun H locs w => ?_)
      refine lv_aload_n hx hb dX4_ministerTreads_43 rfl (lv_at hl 2 rfl) ?_
      refine lv_iload_n hx hb dX4_ministerTreads_44 rfl (lv_at hl 3 rfl) ?_
      refine lv_iconst (v := 0) hx hb dX4_ministerTreads_45 (by decide) ?_
      refine c_iV M w (S' := (mds G d nh nm y z st (lp (lb_md_ministerTreads_9 y nw u) i9 nw) ik dr tq dn db la si ce be)) tv_in.all (md_ofMinister l G d nh nm y z st (lp (lb_md_ministerTreads_9 y nw u) i9 nw) ik dr tq dn db la si ce be u 0 (by omega) (by omega)) (q0 := 0) tc4 rfl q1113 q1115 qs44 q72 q1116 nm_yX4_ofMinister ⟨Nat.le_of_ble_eq_true rfl, Nat.le_of_ble_eq_true rfl⟩ rfl hl.1 (rest := [.int (sp_md_of (lp (lb_md_ministerTreads_9 y nw u) i9 nw) i9 0), .int (sp_md_of (lp (lb_md_ministerTreads_9 y nw u) i9 nw) i9 2), .int 99, .int 2, .int (nI i9), .ref d]) rfl (Nat.le_of_ble_eq_true rfl) dX4_ministerTreads_46 ⟨Nat.zero_le _, Nat.zero_le _⟩ (fun H locs w => ?_)
      refine c_iS M w (S' := (mds G d nh nm y z st (lp (lb_md_ministerTreads_9 y nw u) i9 nw) ik dr tq dn db la si ce be)) tv_in.nil (md_angered l G (sp_md_of (lp (lb_md_ministerTreads_9 y nw u) i9 nw) i9 0) (sp_md_ofMinister (lp (lb_md_ministerTreads_9 y nw u) i9 nw) u 0)) q1150 q1151 q72 q1152 nm_yX4_angered ⟨Nat.le_of_ble_eq_true rfl, Nat.le_of_ble_eq_true rfl⟩ rfl hl.1 (rest := [.int (sp_md_of (lp (lb_md_ministerTreads_9 y nw u) i9 nw) i9 2), .int 99, .int 2, .int (nI i9), .ref d]) rfl (Nat.le_of_ble_eq_true rfl) dX4_ministerTreads_49 ⟨Nat.zero_le _, Nat.zero_le _⟩ (fun H locs w => ?_)
      refine lv_iadd hx hb dX4_ministerTreads_52 ?_
      refine c_iS M w (S' := (mds G d nh nm y z st (lp (lb_md_ministerTreads_9 y nw u) i9 nw) ik dr tq dn db la si ce be)) tv_in.nil (md_lesser l G 99 ((sp_md_of (lp (lb_md_ministerTreads_9 y nw u) i9 nw) i9 2) + (sp_md_angered (sp_md_of (lp (lb_md_ministerTreads_9 y nw u) i9 nw) i9 0) (sp_md_ofMinister (lp (lb_md_ministerTreads_9 y nw u) i9 nw) u 0)))) q1197 q1198 q72 q1199 nm_yX4_lesser ⟨Nat.le_of_ble_eq_true rfl, Nat.le_of_ble_eq_true rfl⟩ rfl hl.1 (rest := [.int 2, .int (nI i9), .ref d]) rfl (Nat.le_of_ble_eq_true rfl) dX4_ministerTreads_53 ⟨Nat.zero_le _, Nat.zero_le _⟩ (fun H locs w => ?_)
      refine c_vV M w (S' := (mds G d nh nm y z st (sp_md_becomesOf_nw (lp (lb_md_ministerTreads_9 y nw u) i9 nw) i9 2 (sp_md_lesser 99 ((sp_md_of (lp (lb_md_ministerTreads_9 y nw u) i9 nw) i9 2) + (sp_md_angered (sp_md_of (lp (lb_md_ministerTreads_9 y nw u) i9 nw) i9 0) (sp_md_ofMinister (lp (lb_md_ministerTreads_9 y nw u) i9 nw) u 0))))) ik dr tq dn db la si ce be)) tv_in.all (md_becomesOf l G d nh nm y z st (lp (lb_md_ministerTreads_9 y nw u) i9 nw) ik dr tq dn db la si ce be i9 2 (sp_md_lesser 99 ((sp_md_of (lp (lb_md_ministerTreads_9 y nw u) i9 nw) i9 2) + (sp_md_angered (sp_md_of (lp (lb_md_ministerTreads_9 y nw u) i9 nw) i9 0) (sp_md_ofMinister (lp (lb_md_ministerTreads_9 y nw u) i9 nw) u 0)))) (by omega) (by omega)) (q0 := 0) tc4 rfl q1200 q1202 qs54 q72 q1203 nm_yX4_becomesOf ⟨Nat.le_of_ble_eq_true rfl, Nat.le_of_ble_eq_true rfl⟩ rfl hl.1 (rest := []) rfl (Nat.le_of_ble_eq_true rfl) dX4_ministerTreads_56 ⟨Nat.zero_le _, Nat.zero_le _⟩ (fun H locs w => ?_)
      refine lv_iinc (k := 0) (v := nI (i9 + 1)) (lv' := [(3, .int (nI (i9 + 1))), (2, .int (sp_md_ofMinister nw u 1)), (0, .ref d), (1, .int (nI u))]) hx hb dX4_ministerTreads_59 hl rfl (nI_inc i9) (by decide) rfl (fun ls hl => ?_)
      refine lv_goto (tgt := 9) hx hb dX4_ministerTreads_62 (by decide) ?_
      refine ih9 _ _ _ ?_
      show tv_W G A s (mds G d nh nm y z st (lp (lb_md_ministerTreads_9 y nw u) (i9 + 1) nw) ik dr tq dn db la si ce be) H locs ∧ lv_has ls 4 [(3, .int (nI (i9 + 1))), (2, .int (sp_md_ofMinister nw u 1)), (0, .ref d), (1, .int (nI u))]
      rw [show lp (lb_md_ministerTreads_9 y nw u) (i9 + 1) nw = _ from if_neg c6]
      exact ⟨w, lv_sub hl [0, 1, 2, 3] rfl⟩
