/-! the reference: a turn, loud or silent -/
theorem md_down {g : Nat → Int32} {u : Nat} (h : sp_md_isDown g u = 0) : ¬ g (30 + 2 * u + 1) = -4 := fun q => by
  unfold sp_md_isDown at h
  rw [if_pos (show sp_md_ofMinister g u 1 = -4 from q)] at h
  exact absurd h (by decide)
def lb_md_turnGoes0_4 (nh : Nat) (i4 : Nat) (st4 : Int32 × (Nat → Int32) × (Nat → Int32)) : Int32 × (Nat → Int32) × (Nat → Int32) := if (sp_md_isDown st4.2.1 i4) = 0 then (st4.1 ||| (1 <<< (sp_md_ofMinister st4.2.1 i4 1 &&& 31)), sp_md_ministerTreads_nw nh st4.2.2 st4.2.1 i4, sp_md_ministerTreads_y nh st4.2.2 st4.2.1 i4) else (st4.1, st4.2.1, st4.2.2)
theorem ok_md_tg4 {nh nm n : Nat} {nw y : Nat → Int32} (hn : nh ≤ 6) (hm : nm ≤ 4) (h : Sok nw) (hk : n ≤ nm) : Sok (lp (lb_md_turnGoes0_4 nh) n (0, nw, y)).2.1 := by
  refine lp_inv2 (f := lb_md_turnGoes0_4 nh) (x := (0, nw, y)) (fun s => Sok s.2.1) n h (fun i s hi hs => ?_)
  have k := md_tr_ok (y := s.2.2) hn (show i < 4 by omega) hs
  show Sok (lb_md_turnGoes0_4 nh i s).2.1
  unfold lb_md_turnGoes0_4
  by_cases c : sp_md_isDown s.2.1 i = 0
  · rw [if_pos c]; exact k
  · rw [if_neg c]; exact hs
def lb_md_turnGoes0_48 (nh : Nat) (nm : Nat) (y : Nat → Int32) (nw : Nat → Int32) (i48 : Nat) (st48 : (Nat → Int32)) : (Nat → Int32) := if ((((lp (lb_md_turnGoes0_4 nh) nm (0, nw, y)).1) >>> (sp_md_of st48 i48 1 &&& 31)) &&& 1) = 0 then (if (sp_md_of st48 i48 2) ≤ 0 then st48 else (sp_md_becomesOf_nw st48 i48 2 ((sp_md_of st48 i48 2) - 1))) else st48
def sp_md_turnGoes0_y (nh : Nat) (nm : Nat) (y : Nat → Int32) (nw : Nat → Int32) : Nat → Int32 := (lp (lb_md_turnGoes0_4 nh) nm (0, nw, y)).2.2
def sp_md_turnGoes0_nw (nh : Nat) (nm : Nat) (y : Nat → Int32) (nw : Nat → Int32) : Nat → Int32 := upd (lp (lb_md_turnGoes0_48 nh nm y nw) nh ((lp (lb_md_turnGoes0_4 nh) nm (0, nw, y)).2.1)) 38 (((lp (lb_md_turnGoes0_48 nh nm y nw) nh ((lp (lb_md_turnGoes0_4 nh) nm (0, nw, y)).2.1)) 38) + 1)
set_option maxHeartbeats 4000000 in
set_option maxRecDepth 100000 in
theorem md_turnGoes0 (l : Launch) (G : tG) (d : Nat) (nh : Nat) (nm : Nat) (y : Nat → Int32) (z : Nat → Int64) (st : Nat → Int32) (nw : Nat → Int32) (ik : Nat → Int32) (dr : Nat → Int32) (tq : Nat → Int32) (dn : Nat → Int32) (db : Nat → Int32) (la : Nat → Int32) (si : Nat → Int32) (ce : Nat → Int32) (be : Nat → Int32) (si_ : Int32) (hn : nh ≤ 6) (hm : nm ≤ 4) (hok : Sok nw) (hsi : si_ = 0) : tv_V l yX4_turnGoes cX4_turnGoes 4 (tv_rm 4 90) G [.ref d, .int si_] (mds G d nh nm y z st nw ik dr tq dn db la si ce be).flatten (mds G d nh nm (sp_md_turnGoes0_y nh nm y nw) z st (sp_md_turnGoes0_nw nh nm y nw) ik dr tq dn db la si ce be).flatten := by
  refine tv_V.st (S := (mds G d nh nm y z st nw ik dr tq dn db la si ce be)) (S' := (mds G d nh nm (sp_md_turnGoes0_y nh nm y nw) z st (sp_md_turnGoes0_nw nh nm y nw) ik dr tq dn db la si ce be)) rfl rfl (by decide) (Nat.le_of_ble_eq_true rfl) ?_
  intro p e s m below meth c A M hr w ls hl
  have hx := M.1.1
  have hb := M.1.2.1
  have hl : lv_has ls 4 [(0, .ref d), (1, .int si_)] := hl
  refine lv_iconst (v := 0) hx hb dX4_turnGoes_0 (by decide) ?_
  refine lv_istore_n (lv' := [(2, .int 0), (0, .ref d), (1, .int si_)]) hx hb dX4_turnGoes_1 rfl hl (by decide) rfl (fun ls hl => ?_)
  refine lv_iconst (v := 0) hx hb dX4_turnGoes_2 (by decide) ?_
  refine lv_istore_n (lv' := [(3, .int 0), (2, .int 0), (0, .ref d), (1, .int si_)]) hx hb dX4_turnGoes_3 rfl hl (by decide) rfl (fun ls hl => ?_)
  refine w_for (pc := 4) (fun i4 H locs ls => tv_W G A s (mds G d nh nm ((lp (lb_md_turnGoes0_4 nh) i4 (0, nw, y)).2.2) z st ((lp (lb_md_turnGoes0_4 nh) i4 (0, nw, y)).2.1) ik dr tq dn db la si ce be) H locs ∧ lv_has ls 4 [(3, .int (nI i4)), (2, .int ((lp (lb_md_turnGoes0_4 nh) i4 (0, nw, y)).1)), (0, .ref d), (1, .int si_)]) nm (fun H locs ls hI => ?_) (fun i4 hi4 H locs ls hI ih4 => ?_) 0 (Nat.zero_le _) _ _ _ ⟨w, hl⟩
  · skip
    obtain ⟨w, hl⟩ := hI
    refine lv_iload_n hx hb dX4_turnGoes_4 rfl (lv_at hl 0 rfl) ?_
    refine lv_aload_n hx hb dX4_turnGoes_5 rfl (lv_at hl 2 rfl) ?_
    refine r_get M w tc4 0 0 4 rfl rfl (by decide) q924 rfl rfl dX4_turnGoes_6 ?_
    refine lv_icmp_ge (tgt := 46) hx hb dX4_turnGoes_9 (by decide) (fun _ => ?_) (fun hc => absurd (nI_le (a := nm) (b := nm) (by omega) (by omega)) hc)
    refine lv_iconst (v := 0) hx hb dX4_turnGoes_46 (by decide) ?_
    refine lv_istore_n (lv' := [(3, .int 0), (2, .int ((lp (lb_md_turnGoes0_4 nh) nm (0, nw, y)).1)), (0, .ref d), (1, .int si_)]) hx hb dX4_turnGoes_47 rfl hl (by decide) rfl (fun ls hl => ?_)
    refine w_for (pc := 48) (fun i48 H locs ls => tv_W G A s (mds G d nh nm ((lp (lb_md_turnGoes0_4 nh) nm (0, nw, y)).2.2) z st (lp (lb_md_turnGoes0_48 nh nm y nw) i48 ((lp (lb_md_turnGoes0_4 nh) nm (0, nw, y)).2.1)) ik dr tq dn db la si ce be) H locs ∧ lv_has ls 4 [(3, .int (nI i48)), (2, .int ((lp (lb_md_turnGoes0_4 nh) nm (0, nw, y)).1)), (0, .ref d), (1, .int si_)]) nh (fun H locs ls hI => ?_) (fun i48 hi48 H locs ls hI ih48 => ?_) 0 (Nat.zero_le _) _ _ _ ⟨w, hl⟩
    · skip
      obtain ⟨w, hl⟩ := hI
      refine lv_iload_n hx hb dX4_turnGoes_48 rfl (lv_at hl 0 rfl) ?_
      refine lv_aload_n hx hb dX4_turnGoes_49 rfl (lv_at hl 2 rfl) ?_
      refine r_get M w tc4 0 0 3 rfl rfl (by decide) q923 rfl rfl dX4_turnGoes_50 ?_
      refine lv_icmp_ge (tgt := 98) hx hb dX4_turnGoes_53 (by decide) (fun _ => ?_) (fun hc => absurd (nI_le (a := nh) (b := nh) (by omega) (by omega)) hc)
      refine lv_aload_n hx hb dX4_turnGoes_98 rfl (lv_at hl 2 rfl) ?_
      refine r_get M w tc4 0 0 1 rfl rfl (by decide) q921 rfl rfl dX4_turnGoes_99 ?_
      refine lv_bipush (v := 38) hx hb dX4_turnGoes_102 (by decide) ?_
      refine lv_dup2_11 hx hb dX4_turnGoes_104 rfl rfl ?_
      refine r_iald M w 2 0 rfl rfl (pk_in 38 58 (by decide)) (v := (lp (lb_md_turnGoes0_48 nh nm y nw) nh ((lp (lb_md_turnGoes0_4 nh) nm (0, nw, y)).2.1)) 38) rfl dX4_turnGoes_105 ?_
      refine lv_iconst (v := 1) hx hb dX4_turnGoes_106 (by decide) ?_
      refine lv_iadd hx hb dX4_turnGoes_107 ?_
      refine r_iast M w 2 0 rfl rfl (pk_in 38 58 (by decide)) (S' := (mds G d nh nm ((lp (lb_md_turnGoes0_4 nh) nm (0, nw, y)).2.2) z st (upd (lp (lb_md_turnGoes0_48 nh nm y nw) nh ((lp (lb_md_turnGoes0_4 nh) nm (0, nw, y)).2.1)) 38 (((lp (lb_md_turnGoes0_48 nh nm y nw) nh ((lp (lb_md_turnGoes0_4 nh) nm (0, nw, y)).2.1)) 38) + 1)) ik dr tq dn db la si ce be)) rfl dX4_turnGoes_108 (fun H locs w => ?_)
      exact tv_vret M w hr dX4_turnGoes_109
    · skip
      obtain ⟨w, hl⟩ := hI
      refine lv_iload_n hx hb dX4_turnGoes_48 rfl (lv_at hl 0 rfl) ?_
      refine lv_aload_n hx hb dX4_turnGoes_49 rfl (lv_at hl 2 rfl) ?_
      refine r_get M w tc4 0 0 3 rfl rfl (by decide) q923 rfl rfl dX4_turnGoes_50 ?_
      refine lv_icmp_ge (tgt := 98) hx hb dX4_turnGoes_53 (by decide) (fun hc => absurd hc (nI_ge (a := i48) (b := nh) (by omega) (by omega))) (fun _ => ?_)
      refine lv_iload_n hx hb dX4_turnGoes_56 rfl (lv_at hl 1 rfl) ?_
      refine lv_aload_n hx hb dX4_turnGoes_57 rfl (lv_at hl 2 rfl) ?_
      refine lv_iload_n hx hb dX4_turnGoes_58 rfl (lv_at hl 0 rfl) ?_
      refine lv_iconst (v := 1) hx hb dX4_turnGoes_59 (by decide) ?_
      refine c_iV M w (S' := (mds G d nh nm ((lp (lb_md_turnGoes0_4 nh) nm (0, nw, y)).2.2) z st (lp (lb_md_turnGoes0_48 nh nm y nw) i48 ((lp (lb_md_turnGoes0_4 nh) nm (0, nw, y)).2.1)) ik dr tq dn db la si ce be)) tv_in.all (md_of l G d nh nm ((lp (lb_md_turnGoes0_4 nh) nm (0, nw, y)).2.2) z st (lp (lb_md_turnGoes0_48 nh nm y nw) i48 ((lp (lb_md_turnGoes0_4 nh) nm (0, nw, y)).2.1)) ik dr tq dn db la si ce be i48 1 (by omega) (by omega)) (q0 := 0) tc4 rfl q1098 q1100 qs41 q72 q1101 nm_yX4_of ⟨Nat.le_of_ble_eq_true rfl, Nat.le_of_ble_eq_true rfl⟩ rfl hl.1 (rest := [.int ((lp (lb_md_turnGoes0_4 nh) nm (0, nw, y)).1)]) rfl (Nat.le_of_ble_eq_true rfl) dX4_turnGoes_60 ⟨Nat.zero_le _, Nat.zero_le _⟩ (fun H locs w => ?_)
      refine lv_ishr hx hb dX4_turnGoes_63 ?_
      refine lv_iconst (v := 1) hx hb dX4_turnGoes_64 (by decide) ?_
      refine lv_iand hx hb dX4_turnGoes_65 ?_
      refine lv_if_ne (tgt := 92) hx hb dX4_turnGoes_66 (by decide) (fun c4 => ?_) (fun c4 => ?_)
      · skip
        refine lv_iinc (k := 0) (v := nI (i48 + 1)) (lv' := [(3, .int (nI (i48 + 1))), (2, .int ((lp (lb_md_turnGoes0_4 nh) nm (0, nw, y)).1)), (0, .ref d), (1, .int si_)]) hx hb dX4_turnGoes_92 hl rfl (nI_inc i48) (by decide) rfl (fun ls hl => ?_)
        refine lv_goto (tgt := 48) hx hb dX4_turnGoes_95 (by decide) ?_
        refine ih48 _ _ _ ?_
        show tv_W G A s (mds G d nh nm ((lp (lb_md_turnGoes0_4 nh) nm (0, nw, y)).2.2) z st (lp (lb_md_turnGoes0_48 nh nm y nw) (i48 + 1) ((lp (lb_md_turnGoes0_4 nh) nm (0, nw, y)).2.1)) ik dr tq dn db la si ce be) H locs ∧ lv_has ls 4 [(3, .int (nI (i48 + 1))), (2, .int ((lp (lb_md_turnGoes0_4 nh) nm (0, nw, y)).1)), (0, .ref d), (1, .int si_)]
        rw [show lp (lb_md_turnGoes0_48 nh nm y nw) (i48 + 1) ((lp (lb_md_turnGoes0_4 nh) nm (0, nw, y)).2.1) = _ from if_neg c4]
        exact ⟨w, lv_sub hl [0, 1, 2, 3] rfl⟩
      · skip
        refine lv_aload_n hx hb dX4_turnGoes_69 rfl (lv_at hl 2 rfl) ?_
        refine lv_iload_n hx hb dX4_turnGoes_70 rfl (lv_at hl 0 rfl) ?_
        refine lv_iconst (v := 2) hx hb dX4_turnGoes_71 (by decide) ?_
        refine c_iV M w (S' := (mds G d nh nm ((lp (lb_md_turnGoes0_4 nh) nm (0, nw, y)).2.2) z st (lp (lb_md_turnGoes0_48 nh nm y nw) i48 ((lp (lb_md_turnGoes0_4 nh) nm (0, nw, y)).2.1)) ik dr tq dn db la si ce be)) tv_in.all (md_of l G d nh nm ((lp (lb_md_turnGoes0_4 nh) nm (0, nw, y)).2.2) z st (lp (lb_md_turnGoes0_48 nh nm y nw) i48 ((lp (lb_md_turnGoes0_4 nh) nm (0, nw, y)).2.1)) ik dr tq dn db la si ce be i48 2 (by omega) (by omega)) (q0 := 0) tc4 rfl q1098 q1100 qs41 q72 q1101 nm_yX4_of ⟨Nat.le_of_ble_eq_true rfl, Nat.le_of_ble_eq_true rfl⟩ rfl hl.1 (rest := []) rfl (Nat.le_of_ble_eq_true rfl) dX4_turnGoes_72 ⟨Nat.zero_le _, Nat.zero_le _⟩ (fun H locs w => ?_)
        refine lv_if_le (tgt := 92) hx hb dX4_turnGoes_75 (by decide) (fun c5 => ?_) (fun c5 => ?_)
        · skip
          refine lv_iinc (k := 0) (v := nI (i48 + 1)) (lv' := [(3, .int (nI (i48 + 1))), (2, .int ((lp (lb_md_turnGoes0_4 nh) nm (0, nw, y)).1)), (0, .ref d), (1, .int si_)]) hx hb dX4_turnGoes_92 hl rfl (nI_inc i48) (by decide) rfl (fun ls hl => ?_)
          refine lv_goto (tgt := 48) hx hb dX4_turnGoes_95 (by decide) ?_
          refine ih48 _ _ _ ?_
          show tv_W G A s (mds G d nh nm ((lp (lb_md_turnGoes0_4 nh) nm (0, nw, y)).2.2) z st (lp (lb_md_turnGoes0_48 nh nm y nw) (i48 + 1) ((lp (lb_md_turnGoes0_4 nh) nm (0, nw, y)).2.1)) ik dr tq dn db la si ce be) H locs ∧ lv_has ls 4 [(3, .int (nI (i48 + 1))), (2, .int ((lp (lb_md_turnGoes0_4 nh) nm (0, nw, y)).1)), (0, .ref d), (1, .int si_)]
          rw [show lp (lb_md_turnGoes0_48 nh nm y nw) (i48 + 1) ((lp (lb_md_turnGoes0_4 nh) nm (0, nw, y)).2.1) = _ from (if_pos c4).trans (if_pos c5)]
          exact ⟨w, lv_sub hl [0, 1, 2, 3] rfl⟩
        · skip
          refine lv_aload_n hx hb dX4_turnGoes_78 rfl (lv_at hl 2 rfl) ?_
          refine lv_iload_n hx hb dX4_turnGoes_79 rfl (lv_at hl 0 rfl) ?_
          refine lv_iconst (v := 2) hx hb dX4_turnGoes_80 (by decide) ?_
          refine lv_aload_n hx hb dX4_turnGoes_81 rfl (lv_at hl 2 rfl) ?_
          refine lv_iload_n hx hb dX4_turnGoes_82 rfl (lv_at hl 0 rfl) ?_
          refine lv_iconst (v := 2) hx hb dX4_turnGoes_83 (by decide) ?_
          refine c_iV M w (S' := (mds G d nh nm ((lp (lb_md_turnGoes0_4 nh) nm (0, nw, y)).2.2) z st (lp (lb_md_turnGoes0_48 nh nm y nw) i48 ((lp (lb_md_turnGoes0_4 nh) nm (0, nw, y)).2.1)) ik dr tq dn db la si ce be)) tv_in.all (md_of l G d nh nm ((lp (lb_md_turnGoes0_4 nh) nm (0, nw, y)).2.2) z st (lp (lb_md_turnGoes0_48 nh nm y nw) i48 ((lp (lb_md_turnGoes0_4 nh) nm (0, nw, y)).2.1)) ik dr tq dn db la si ce be i48 2 (by omega) (by omega)) (q0 := 0) tc4 rfl q1098 q1100 qs41 q72 q1101 nm_yX4_of ⟨Nat.le_of_ble_eq_true rfl, Nat.le_of_ble_eq_true rfl⟩ rfl hl.1 (rest := [.int 2, .int (nI i48), .ref d]) rfl (Nat.le_of_ble_eq_true rfl) dX4_turnGoes_84 ⟨Nat.zero_le _, Nat.zero_le _⟩ (fun H locs w => ?_)
          refine lv_iconst (v := 1) hx hb dX4_turnGoes_87 (by decide) ?_
          refine lv_isub hx hb dX4_turnGoes_88 ?_
          refine c_vV M w (S' := (mds G d nh nm ((lp (lb_md_turnGoes0_4 nh) nm (0, nw, y)).2.2) z st (sp_md_becomesOf_nw (lp (lb_md_turnGoes0_48 nh nm y nw) i48 ((lp (lb_md_turnGoes0_4 nh) nm (0, nw, y)).2.1)) i48 2 ((sp_md_of (lp (lb_md_turnGoes0_48 nh nm y nw) i48 ((lp (lb_md_turnGoes0_4 nh) nm (0, nw, y)).2.1)) i48 2) - 1)) ik dr tq dn db la si ce be)) tv_in.all (md_becomesOf l G d nh nm ((lp (lb_md_turnGoes0_4 nh) nm (0, nw, y)).2.2) z st (lp (lb_md_turnGoes0_48 nh nm y nw) i48 ((lp (lb_md_turnGoes0_4 nh) nm (0, nw, y)).2.1)) ik dr tq dn db la si ce be i48 2 ((sp_md_of (lp (lb_md_turnGoes0_48 nh nm y nw) i48 ((lp (lb_md_turnGoes0_4 nh) nm (0, nw, y)).2.1)) i48 2) - 1) (by omega) (by omega)) (q0 := 0) tc4 rfl q1200 q1202 qs54 q72 q1203 nm_yX4_becomesOf ⟨Nat.le_of_ble_eq_true rfl, Nat.le_of_ble_eq_true rfl⟩ rfl hl.1 (rest := []) rfl (Nat.le_of_ble_eq_true rfl) dX4_turnGoes_89 ⟨Nat.zero_le _, Nat.zero_le _⟩ (fun H locs w => ?_)
          refine lv_iinc (k := 0) (v := nI (i48 + 1)) (lv' := [(3, .int (nI (i48 + 1))), (2, .int ((lp (lb_md_turnGoes0_4 nh) nm (0, nw, y)).1)), (0, .ref d), (1, .int si_)]) hx hb dX4_turnGoes_92 hl rfl (nI_inc i48) (by decide) rfl (fun ls hl => ?_)
          refine lv_goto (tgt := 48) hx hb dX4_turnGoes_95 (by decide) ?_
          refine ih48 _ _ _ ?_
          show tv_W G A s (mds G d nh nm ((lp (lb_md_turnGoes0_4 nh) nm (0, nw, y)).2.2) z st (lp (lb_md_turnGoes0_48 nh nm y nw) (i48 + 1) ((lp (lb_md_turnGoes0_4 nh) nm (0, nw, y)).2.1)) ik dr tq dn db la si ce be) H locs ∧ lv_has ls 4 [(3, .int (nI (i48 + 1))), (2, .int ((lp (lb_md_turnGoes0_4 nh) nm (0, nw, y)).1)), (0, .ref d), (1, .int si_)]
          rw [show lp (lb_md_turnGoes0_48 nh nm y nw) (i48 + 1) ((lp (lb_md_turnGoes0_4 nh) nm (0, nw, y)).2.1) = _ from (if_pos c4).trans (if_neg c5)]
          exact ⟨w, lv_sub hl [0, 1, 2, 3] rfl⟩
  · skip
    obtain ⟨w, hl⟩ := hI
    refine lv_iload_n hx hb dX4_turnGoes_4 rfl (lv_at hl 0 rfl) ?_
    refine lv_aload_n hx hb dX4_turnGoes_5 rfl (lv_at hl 2 rfl) ?_
    refine r_get M w tc4 0 0 4 rfl rfl (by decide) q924 rfl rfl dX4_turnGoes_6 ?_
    refine lv_icmp_ge (tgt := 46) hx hb dX4_turnGoes_9 (by decide) (fun hc => absurd hc (nI_ge (a := i4) (b := nm) (by omega) (by omega))) (fun _ => ?_)
    refine lv_iload_n hx hb dX4_turnGoes_12 rfl (lv_at hl 3 rfl) ?_
    refine lv_if_ne (tgt := 46) hx hb dX4_turnGoes_13 (by decide) (fun hc => absurd hsi hc) (fun _ => ?_)
    refine lv_aload_n hx hb dX4_turnGoes_16 rfl (lv_at hl 2 rfl) ?_
    refine lv_iload_n hx hb dX4_turnGoes_17 rfl (lv_at hl 0 rfl) ?_
    refine c_iV M w (S' := (mds G d nh nm ((lp (lb_md_turnGoes0_4 nh) i4 (0, nw, y)).2.2) z st ((lp (lb_md_turnGoes0_4 nh) i4 (0, nw, y)).2.1) ik dr tq dn db la si ce be)) tv_in.all (md_isDown l G d nh nm ((lp (lb_md_turnGoes0_4 nh) i4 (0, nw, y)).2.2) z st ((lp (lb_md_turnGoes0_4 nh) i4 (0, nw, y)).2.1) ik dr tq dn db la si ce be i4 (by omega)) (q0 := 0) tc4 rfl q1109 q1111 qs43 q72 q1112 nm_yX4_isDown ⟨Nat.le_of_ble_eq_true rfl, Nat.le_of_ble_eq_true rfl⟩ rfl hl.1 (rest := []) rfl (Nat.le_of_ble_eq_true rfl) dX4_turnGoes_18 ⟨Nat.zero_le _, Nat.zero_le _⟩ (fun H locs w => ?_)
    refine lv_if_ne (tgt := 40) hx hb dX4_turnGoes_21 (by decide) (fun c6 => ?_) (fun c6 => ?_)
    · skip
      refine lv_iinc (k := 0) (v := nI (i4 + 1)) (lv' := [(3, .int (nI (i4 + 1))), (2, .int ((lp (lb_md_turnGoes0_4 nh) i4 (0, nw, y)).1)), (0, .ref d), (1, .int si_)]) hx hb dX4_turnGoes_40 hl rfl (nI_inc i4) (by decide) rfl (fun ls hl => ?_)
      refine lv_goto (tgt := 4) hx hb dX4_turnGoes_43 (by decide) ?_
      refine ih4 _ _ _ ?_
      show tv_W G A s (mds G d nh nm ((lp (lb_md_turnGoes0_4 nh) (i4 + 1) (0, nw, y)).2.2) z st ((lp (lb_md_turnGoes0_4 nh) (i4 + 1) (0, nw, y)).2.1) ik dr tq dn db la si ce be) H locs ∧ lv_has ls 4 [(3, .int (nI (i4 + 1))), (2, .int ((lp (lb_md_turnGoes0_4 nh) (i4 + 1) (0, nw, y)).1)), (0, .ref d), (1, .int si_)]
      rw [show lp (lb_md_turnGoes0_4 nh) (i4 + 1) (0, nw, y) = _ from if_neg c6]
      exact ⟨w, lv_sub hl [0, 1, 2, 3] rfl⟩
    · skip
      refine lv_iload_n hx hb dX4_turnGoes_24 rfl (lv_at hl 1 rfl) ?_
      refine lv_iconst (v := 1) hx hb dX4_turnGoes_25 (by decide) ?_
      refine lv_aload_n hx hb dX4_turnGoes_26 rfl (lv_at hl 2 rfl) ?_
      refine lv_iload_n hx hb dX4_turnGoes_27 rfl (lv_at hl 0 rfl) ?_
      refine lv_iconst (v := 1) hx hb dX4_turnGoes_28 (by decide) ?_
      refine c_iV M w (S' := (mds G d nh nm ((lp (lb_md_turnGoes0_4 nh) i4 (0, nw, y)).2.2) z st ((lp (lb_md_turnGoes0_4 nh) i4 (0, nw, y)).2.1) ik dr tq dn db la si ce be)) tv_in.all (md_ofMinister l G d nh nm ((lp (lb_md_turnGoes0_4 nh) i4 (0, nw, y)).2.2) z st ((lp (lb_md_turnGoes0_4 nh) i4 (0, nw, y)).2.1) ik dr tq dn db la si ce be i4 1 (by omega) (by omega)) (q0 := 0) tc4 rfl q1113 q1115 qs44 q72 q1116 nm_yX4_ofMinister ⟨Nat.le_of_ble_eq_true rfl, Nat.le_of_ble_eq_true rfl⟩ rfl hl.1 (rest := [.int 1, .int ((lp (lb_md_turnGoes0_4 nh) i4 (0, nw, y)).1)]) rfl (Nat.le_of_ble_eq_true rfl) dX4_turnGoes_29 ⟨Nat.zero_le _, Nat.zero_le _⟩ (fun H locs w => ?_)
      refine lv_ishl hx hb dX4_turnGoes_32 ?_
      refine lv_ior hx hb dX4_turnGoes_33 ?_
      refine lv_istore_n (lv' := [(2, .int (((lp (lb_md_turnGoes0_4 nh) i4 (0, nw, y)).1) ||| (1 <<< (sp_md_ofMinister ((lp (lb_md_turnGoes0_4 nh) i4 (0, nw, y)).2.1) i4 1 &&& 31)))), (3, .int (nI i4)), (0, .ref d), (1, .int si_)]) hx hb dX4_turnGoes_34 rfl hl (by decide) rfl (fun ls hl => ?_)
      refine lv_aload_n hx hb dX4_turnGoes_35 rfl (lv_at hl 2 rfl) ?_
      refine lv_iload_n hx hb dX4_turnGoes_36 rfl (lv_at hl 1 rfl) ?_
      refine c_vV M w (S' := (mds G d nh nm (sp_md_ministerTreads_y nh ((lp (lb_md_turnGoes0_4 nh) i4 (0, nw, y)).2.2) ((lp (lb_md_turnGoes0_4 nh) i4 (0, nw, y)).2.1) i4) z st (sp_md_ministerTreads_nw nh ((lp (lb_md_turnGoes0_4 nh) i4 (0, nw, y)).2.2) ((lp (lb_md_turnGoes0_4 nh) i4 (0, nw, y)).2.1) i4) ik dr tq dn db la si ce be)) tv_in.all (md_ministerTreads l G d nh nm ((lp (lb_md_turnGoes0_4 nh) i4 (0, nw, y)).2.2) z st ((lp (lb_md_turnGoes0_4 nh) i4 (0, nw, y)).2.1) ik dr tq dn db la si ce be i4 (by omega) (by omega) (by omega) (fun h hh => (ok_md_tg4 hn hm hok (n := i4) (by omega)).at hh) ((ok_md_tg4 hn hm hok (n := i4) (by omega)).up (by omega) (md_down c6))) (q0 := 0) tc4 rfl q1189 q1191 qs52 q72 q1192 nm_yX4_ministerTreads ⟨Nat.le_of_ble_eq_true rfl, Nat.le_of_ble_eq_true rfl⟩ rfl hl.1 (rest := []) rfl (Nat.le_of_ble_eq_true rfl) dX4_turnGoes_37 ⟨Nat.zero_le _, Nat.zero_le _⟩ (fun H locs w => ?_)
      refine lv_iinc (k := 1) (v := nI (i4 + 1)) (lv' := [(3, .int (nI (i4 + 1))), (2, .int (((lp (lb_md_turnGoes0_4 nh) i4 (0, nw, y)).1) ||| (1 <<< (sp_md_ofMinister ((lp (lb_md_turnGoes0_4 nh) i4 (0, nw, y)).2.1) i4 1 &&& 31)))), (0, .ref d), (1, .int si_)]) hx hb dX4_turnGoes_40 hl rfl (nI_inc i4) (by decide) rfl (fun ls hl => ?_)
      refine lv_goto (tgt := 4) hx hb dX4_turnGoes_43 (by decide) ?_
      refine ih4 _ _ _ ?_
      show tv_W G A s (mds G d nh nm ((lp (lb_md_turnGoes0_4 nh) (i4 + 1) (0, nw, y)).2.2) z st ((lp (lb_md_turnGoes0_4 nh) (i4 + 1) (0, nw, y)).2.1) ik dr tq dn db la si ce be) H locs ∧ lv_has ls 4 [(3, .int (nI (i4 + 1))), (2, .int ((lp (lb_md_turnGoes0_4 nh) (i4 + 1) (0, nw, y)).1)), (0, .ref d), (1, .int si_)]
      rw [show lp (lb_md_turnGoes0_4 nh) (i4 + 1) (0, nw, y) = _ from if_pos c6]
      exact ⟨w, lv_sub hl [0, 1, 2, 3] rfl⟩
def lb_md_turnGoes1_48  (i48 : Nat) (st48 : (Nat → Int32)) : (Nat → Int32) := if ((0 >>> (sp_md_of st48 i48 1 &&& 31)) &&& 1) = 0 then (if (sp_md_of st48 i48 2) ≤ 0 then st48 else (sp_md_becomesOf_nw st48 i48 2 ((sp_md_of st48 i48 2) - 1))) else st48
def sp_md_turnGoes1_nw (nh : Nat) (nm : Nat) (nw : Nat → Int32) : Nat → Int32 := if (nI nm) ≤ 0 then (upd (lp (lb_md_turnGoes1_48) nh nw) 38 (((lp (lb_md_turnGoes1_48) nh nw) 38) + 1)) else (upd (lp (lb_md_turnGoes1_48) nh nw) 38 (((lp (lb_md_turnGoes1_48) nh nw) 38) + 1))
set_option maxHeartbeats 4000000 in
set_option maxRecDepth 100000 in
theorem md_turnGoes1 (l : Launch) (G : tG) (d : Nat) (nh : Nat) (nm : Nat) (y : Nat → Int32) (z : Nat → Int64) (st : Nat → Int32) (nw : Nat → Int32) (ik : Nat → Int32) (dr : Nat → Int32) (tq : Nat → Int32) (dn : Nat → Int32) (db : Nat → Int32) (la : Nat → Int32) (si : Nat → Int32) (ce : Nat → Int32) (be : Nat → Int32) (si_ : Int32) (hn : nh ≤ 6) (hm : nm ≤ 4) (hok : Sok nw) (hsi : ¬ si_ = 0) : tv_V l yX4_turnGoes cX4_turnGoes 4 (tv_rm 1 23) G [.ref d, .int si_] (mds G d nh nm y z st nw ik dr tq dn db la si ce be).flatten (mds G d nh nm y z st (sp_md_turnGoes1_nw nh nm nw) ik dr tq dn db la si ce be).flatten := by
  refine tv_V.st (S := (mds G d nh nm y z st nw ik dr tq dn db la si ce be)) (S' := (mds G d nh nm y z st (sp_md_turnGoes1_nw nh nm nw) ik dr tq dn db la si ce be)) rfl rfl (by decide) (Nat.le_of_ble_eq_true rfl) ?_
  intro p e s m below meth c A M hr w ls hl
  have hx := M.1.1
  have hb := M.1.2.1
  have hl : lv_has ls 4 [(0, .ref d), (1, .int si_)] := hl
  refine lv_iconst (v := 0) hx hb dX4_turnGoes_0 (by decide) ?_
  refine lv_istore_n (lv' := [(2, .int 0), (0, .ref d), (1, .int si_)]) hx hb dX4_turnGoes_1 rfl hl (by decide) rfl (fun ls hl => ?_)
  refine lv_iconst (v := 0) hx hb dX4_turnGoes_2 (by decide) ?_
  refine lv_istore_n (lv' := [(3, .int 0), (2, .int 0), (0, .ref d), (1, .int si_)]) hx hb dX4_turnGoes_3 rfl hl (by decide) rfl (fun ls hl => ?_)
  refine lv_iload_n hx hb dX4_turnGoes_4 rfl (lv_at hl 0 rfl) ?_
  refine lv_aload_n hx hb dX4_turnGoes_5 rfl (lv_at hl 2 rfl) ?_
  refine r_get M w tc4 0 0 4 rfl rfl (by decide) q924 rfl rfl dX4_turnGoes_6 ?_
  refine lv_icmp_ge (tgt := 46) hx hb dX4_turnGoes_9 (by decide) (fun c4 => ?_) (fun c4 => ?_)
  · skip
    refine lv_iconst (v := 0) hx hb dX4_turnGoes_46 (by decide) ?_
    refine lv_istore_n (lv' := [(3, .int 0), (2, .int 0), (0, .ref d), (1, .int si_)]) hx hb dX4_turnGoes_47 rfl hl (by decide) rfl (fun ls hl => ?_)
    refine w_for (pc := 48) (fun i48 H locs ls => tv_W G A s (mds G d nh nm y z st (lp (lb_md_turnGoes1_48) i48 nw) ik dr tq dn db la si ce be) H locs ∧ lv_has ls 4 [(3, .int (nI i48)), (2, .int 0), (0, .ref d), (1, .int si_)]) nh (fun H locs ls hI => ?_) (fun i48 hi48 H locs ls hI ih48 => ?_) 0 (Nat.zero_le _) _ _ _ ⟨w, hl⟩
    · skip
      obtain ⟨w, hl⟩ := hI
      refine lv_iload_n hx hb dX4_turnGoes_48 rfl (lv_at hl 0 rfl) ?_
      refine lv_aload_n hx hb dX4_turnGoes_49 rfl (lv_at hl 2 rfl) ?_
      refine r_get M w tc4 0 0 3 rfl rfl (by decide) q923 rfl rfl dX4_turnGoes_50 ?_
      refine lv_icmp_ge (tgt := 98) hx hb dX4_turnGoes_53 (by decide) (fun _ => ?_) (fun hc => absurd (nI_le (a := nh) (b := nh) (by omega) (by omega)) hc)
      refine lv_aload_n hx hb dX4_turnGoes_98 rfl (lv_at hl 2 rfl) ?_
      refine r_get M w tc4 0 0 1 rfl rfl (by decide) q921 rfl rfl dX4_turnGoes_99 ?_
      refine lv_bipush (v := 38) hx hb dX4_turnGoes_102 (by decide) ?_
      refine lv_dup2_11 hx hb dX4_turnGoes_104 rfl rfl ?_
      refine r_iald M w 2 0 rfl rfl (pk_in 38 58 (by decide)) (v := (lp (lb_md_turnGoes1_48) nh nw) 38) rfl dX4_turnGoes_105 ?_
      refine lv_iconst (v := 1) hx hb dX4_turnGoes_106 (by decide) ?_
      refine lv_iadd hx hb dX4_turnGoes_107 ?_
      refine r_iast M w 2 0 rfl rfl (pk_in 38 58 (by decide)) (S' := (mds G d nh nm y z st (upd (lp (lb_md_turnGoes1_48) nh nw) 38 (((lp (lb_md_turnGoes1_48) nh nw) 38) + 1)) ik dr tq dn db la si ce be)) rfl dX4_turnGoes_108 (fun H locs w => ?_)
      exact tv_vret M (by rw [show sp_md_turnGoes1_nw nh nm nw = _ from if_pos c4]; exact w) hr dX4_turnGoes_109
    · skip
      obtain ⟨w, hl⟩ := hI
      refine lv_iload_n hx hb dX4_turnGoes_48 rfl (lv_at hl 0 rfl) ?_
      refine lv_aload_n hx hb dX4_turnGoes_49 rfl (lv_at hl 2 rfl) ?_
      refine r_get M w tc4 0 0 3 rfl rfl (by decide) q923 rfl rfl dX4_turnGoes_50 ?_
      refine lv_icmp_ge (tgt := 98) hx hb dX4_turnGoes_53 (by decide) (fun hc => absurd hc (nI_ge (a := i48) (b := nh) (by omega) (by omega))) (fun _ => ?_)
      refine lv_iload_n hx hb dX4_turnGoes_56 rfl (lv_at hl 1 rfl) ?_
      refine lv_aload_n hx hb dX4_turnGoes_57 rfl (lv_at hl 2 rfl) ?_
      refine lv_iload_n hx hb dX4_turnGoes_58 rfl (lv_at hl 0 rfl) ?_
      refine lv_iconst (v := 1) hx hb dX4_turnGoes_59 (by decide) ?_
      refine c_iV M w (S' := (mds G d nh nm y z st (lp (lb_md_turnGoes1_48) i48 nw) ik dr tq dn db la si ce be)) tv_in.all (md_of l G d nh nm y z st (lp (lb_md_turnGoes1_48) i48 nw) ik dr tq dn db la si ce be i48 1 (by omega) (by omega)) (q0 := 0) tc4 rfl q1098 q1100 qs41 q72 q1101 nm_yX4_of ⟨Nat.le_of_ble_eq_true rfl, Nat.le_of_ble_eq_true rfl⟩ rfl hl.1 (rest := [.int 0]) rfl (Nat.le_of_ble_eq_true rfl) dX4_turnGoes_60 ⟨Nat.zero_le _, Nat.zero_le _⟩ (fun H locs w => ?_)
      refine lv_ishr hx hb dX4_turnGoes_63 ?_
      refine lv_iconst (v := 1) hx hb dX4_turnGoes_64 (by decide) ?_
      refine lv_iand hx hb dX4_turnGoes_65 ?_
      refine lv_if_ne (tgt := 92) hx hb dX4_turnGoes_66 (by decide) (fun c5 => ?_) (fun c5 => ?_)
      · skip
        refine lv_iinc (k := 0) (v := nI (i48 + 1)) (lv' := [(3, .int (nI (i48 + 1))), (2, .int 0), (0, .ref d), (1, .int si_)]) hx hb dX4_turnGoes_92 hl rfl (nI_inc i48) (by decide) rfl (fun ls hl => ?_)
        refine lv_goto (tgt := 48) hx hb dX4_turnGoes_95 (by decide) ?_
        refine ih48 _ _ _ ?_
        show tv_W G A s (mds G d nh nm y z st (lp (lb_md_turnGoes1_48) (i48 + 1) nw) ik dr tq dn db la si ce be) H locs ∧ lv_has ls 4 [(3, .int (nI (i48 + 1))), (2, .int 0), (0, .ref d), (1, .int si_)]
        rw [show lp (lb_md_turnGoes1_48) (i48 + 1) nw = _ from if_neg c5]
        exact ⟨w, lv_sub hl [0, 1, 2, 3] rfl⟩
      · skip
        refine lv_aload_n hx hb dX4_turnGoes_69 rfl (lv_at hl 2 rfl) ?_
        refine lv_iload_n hx hb dX4_turnGoes_70 rfl (lv_at hl 0 rfl) ?_
        refine lv_iconst (v := 2) hx hb dX4_turnGoes_71 (by decide) ?_
        refine c_iV M w (S' := (mds G d nh nm y z st (lp (lb_md_turnGoes1_48) i48 nw) ik dr tq dn db la si ce be)) tv_in.all (md_of l G d nh nm y z st (lp (lb_md_turnGoes1_48) i48 nw) ik dr tq dn db la si ce be i48 2 (by omega) (by omega)) (q0 := 0) tc4 rfl q1098 q1100 qs41 q72 q1101 nm_yX4_of ⟨Nat.le_of_ble_eq_true rfl, Nat.le_of_ble_eq_true rfl⟩ rfl hl.1 (rest := []) rfl (Nat.le_of_ble_eq_true rfl) dX4_turnGoes_72 ⟨Nat.zero_le _, Nat.zero_le _⟩ (fun H locs w => ?_)
        refine lv_if_le (tgt := 92) hx hb dX4_turnGoes_75 (by decide) (fun c6 => ?_) (fun c6 => ?_)
        · skip
          refine lv_iinc (k := 0) (v := nI (i48 + 1)) (lv' := [(3, .int (nI (i48 + 1))), (2, .int 0), (0, .ref d), (1, .int si_)]) hx hb dX4_turnGoes_92 hl rfl (nI_inc i48) (by decide) rfl (fun ls hl => ?_)
          refine lv_goto (tgt := 48) hx hb dX4_turnGoes_95 (by decide) ?_
          refine ih48 _ _ _ ?_
          show tv_W G A s (mds G d nh nm y z st (lp (lb_md_turnGoes1_48) (i48 + 1) nw) ik dr tq dn db la si ce be) H locs ∧ lv_has ls 4 [(3, .int (nI (i48 + 1))), (2, .int 0), (0, .ref d), (1, .int si_)]
          rw [show lp (lb_md_turnGoes1_48) (i48 + 1) nw = _ from (if_pos c5).trans (if_pos c6)]
          exact ⟨w, lv_sub hl [0, 1, 2, 3] rfl⟩
        · skip
          refine lv_aload_n hx hb dX4_turnGoes_78 rfl (lv_at hl 2 rfl) ?_
          refine lv_iload_n hx hb dX4_turnGoes_79 rfl (lv_at hl 0 rfl) ?_
          refine lv_iconst (v := 2) hx hb dX4_turnGoes_80 (by decide) ?_
          refine lv_aload_n hx hb dX4_turnGoes_81 rfl (lv_at hl 2 rfl) ?_
          refine lv_iload_n hx hb dX4_turnGoes_82 rfl (lv_at hl 0 rfl) ?_
          refine lv_iconst (v := 2) hx hb dX4_turnGoes_83 (by decide) ?_
          refine c_iV M w (S' := (mds G d nh nm y z st (lp (lb_md_turnGoes1_48) i48 nw) ik dr tq dn db la si ce be)) tv_in.all (md_of l G d nh nm y z st (lp (lb_md_turnGoes1_48) i48 nw) ik dr tq dn db la si ce be i48 2 (by omega) (by omega)) (q0 := 0) tc4 rfl q1098 q1100 qs41 q72 q1101 nm_yX4_of ⟨Nat.le_of_ble_eq_true rfl, Nat.le_of_ble_eq_true rfl⟩ rfl hl.1 (rest := [.int 2, .int (nI i48), .ref d]) rfl (Nat.le_of_ble_eq_true rfl) dX4_turnGoes_84 ⟨Nat.zero_le _, Nat.zero_le _⟩ (fun H locs w => ?_)
          refine lv_iconst (v := 1) hx hb dX4_turnGoes_87 (by decide) ?_
          refine lv_isub hx hb dX4_turnGoes_88 ?_
          refine c_vV M w (S' := (mds G d nh nm y z st (sp_md_becomesOf_nw (lp (lb_md_turnGoes1_48) i48 nw) i48 2 ((sp_md_of (lp (lb_md_turnGoes1_48) i48 nw) i48 2) - 1)) ik dr tq dn db la si ce be)) tv_in.all (md_becomesOf l G d nh nm y z st (lp (lb_md_turnGoes1_48) i48 nw) ik dr tq dn db la si ce be i48 2 ((sp_md_of (lp (lb_md_turnGoes1_48) i48 nw) i48 2) - 1) (by omega) (by omega)) (q0 := 0) tc4 rfl q1200 q1202 qs54 q72 q1203 nm_yX4_becomesOf ⟨Nat.le_of_ble_eq_true rfl, Nat.le_of_ble_eq_true rfl⟩ rfl hl.1 (rest := []) rfl (Nat.le_of_ble_eq_true rfl) dX4_turnGoes_89 ⟨Nat.zero_le _, Nat.zero_le _⟩ (fun H locs w => ?_)
          refine lv_iinc (k := 0) (v := nI (i48 + 1)) (lv' := [(3, .int (nI (i48 + 1))), (2, .int 0), (0, .ref d), (1, .int si_)]) hx hb dX4_turnGoes_92 hl rfl (nI_inc i48) (by decide) rfl (fun ls hl => ?_)
          refine lv_goto (tgt := 48) hx hb dX4_turnGoes_95 (by decide) ?_
          refine ih48 _ _ _ ?_
          show tv_W G A s (mds G d nh nm y z st (lp (lb_md_turnGoes1_48) (i48 + 1) nw) ik dr tq dn db la si ce be) H locs ∧ lv_has ls 4 [(3, .int (nI (i48 + 1))), (2, .int 0), (0, .ref d), (1, .int si_)]
          rw [show lp (lb_md_turnGoes1_48) (i48 + 1) nw = _ from (if_pos c5).trans (if_neg c6)]
          exact ⟨w, lv_sub hl [0, 1, 2, 3] rfl⟩
  · skip
    refine lv_iload_n hx hb dX4_turnGoes_12 rfl (lv_at hl 3 rfl) ?_
    refine lv_if_ne (tgt := 46) hx hb dX4_turnGoes_13 (by decide) (fun _ => ?_) (fun hc => absurd hc hsi)
    refine lv_iconst (v := 0) hx hb dX4_turnGoes_46 (by decide) ?_
    refine lv_istore_n (lv' := [(3, .int 0), (2, .int 0), (0, .ref d), (1, .int si_)]) hx hb dX4_turnGoes_47 rfl hl (by decide) rfl (fun ls hl => ?_)
    refine w_for (pc := 48) (fun i48 H locs ls => tv_W G A s (mds G d nh nm y z st (lp (lb_md_turnGoes1_48) i48 nw) ik dr tq dn db la si ce be) H locs ∧ lv_has ls 4 [(3, .int (nI i48)), (2, .int 0), (0, .ref d), (1, .int si_)]) nh (fun H locs ls hI => ?_) (fun i48 hi48 H locs ls hI ih48 => ?_) 0 (Nat.zero_le _) _ _ _ ⟨w, hl⟩
    · skip
      obtain ⟨w, hl⟩ := hI
      refine lv_iload_n hx hb dX4_turnGoes_48 rfl (lv_at hl 0 rfl) ?_
      refine lv_aload_n hx hb dX4_turnGoes_49 rfl (lv_at hl 2 rfl) ?_
      refine r_get M w tc4 0 0 3 rfl rfl (by decide) q923 rfl rfl dX4_turnGoes_50 ?_
      refine lv_icmp_ge (tgt := 98) hx hb dX4_turnGoes_53 (by decide) (fun _ => ?_) (fun hc => absurd (nI_le (a := nh) (b := nh) (by omega) (by omega)) hc)
      refine lv_aload_n hx hb dX4_turnGoes_98 rfl (lv_at hl 2 rfl) ?_
      refine r_get M w tc4 0 0 1 rfl rfl (by decide) q921 rfl rfl dX4_turnGoes_99 ?_
      refine lv_bipush (v := 38) hx hb dX4_turnGoes_102 (by decide) ?_
      refine lv_dup2_11 hx hb dX4_turnGoes_104 rfl rfl ?_
      refine r_iald M w 2 0 rfl rfl (pk_in 38 58 (by decide)) (v := (lp (lb_md_turnGoes1_48) nh nw) 38) rfl dX4_turnGoes_105 ?_
      refine lv_iconst (v := 1) hx hb dX4_turnGoes_106 (by decide) ?_
      refine lv_iadd hx hb dX4_turnGoes_107 ?_
      refine r_iast M w 2 0 rfl rfl (pk_in 38 58 (by decide)) (S' := (mds G d nh nm y z st (upd (lp (lb_md_turnGoes1_48) nh nw) 38 (((lp (lb_md_turnGoes1_48) nh nw) 38) + 1)) ik dr tq dn db la si ce be)) rfl dX4_turnGoes_108 (fun H locs w => ?_)
      exact tv_vret M (by rw [show sp_md_turnGoes1_nw nh nm nw = _ from if_neg c4]; exact w) hr dX4_turnGoes_109
    · skip
      obtain ⟨w, hl⟩ := hI
      refine lv_iload_n hx hb dX4_turnGoes_48 rfl (lv_at hl 0 rfl) ?_
      refine lv_aload_n hx hb dX4_turnGoes_49 rfl (lv_at hl 2 rfl) ?_
      refine r_get M w tc4 0 0 3 rfl rfl (by decide) q923 rfl rfl dX4_turnGoes_50 ?_
      refine lv_icmp_ge (tgt := 98) hx hb dX4_turnGoes_53 (by decide) (fun hc => absurd hc (nI_ge (a := i48) (b := nh) (by omega) (by omega))) (fun _ => ?_)
      refine lv_iload_n hx hb dX4_turnGoes_56 rfl (lv_at hl 1 rfl) ?_
      refine lv_aload_n hx hb dX4_turnGoes_57 rfl (lv_at hl 2 rfl) ?_
      refine lv_iload_n hx hb dX4_turnGoes_58 rfl (lv_at hl 0 rfl) ?_
      refine lv_iconst (v := 1) hx hb dX4_turnGoes_59 (by decide) ?_
      refine c_iV M w (S' := (mds G d nh nm y z st (lp (lb_md_turnGoes1_48) i48 nw) ik dr tq dn db la si ce be)) tv_in.all (md_of l G d nh nm y z st (lp (lb_md_turnGoes1_48) i48 nw) ik dr tq dn db la si ce be i48 1 (by omega) (by omega)) (q0 := 0) tc4 rfl q1098 q1100 qs41 q72 q1101 nm_yX4_of ⟨Nat.le_of_ble_eq_true rfl, Nat.le_of_ble_eq_true rfl⟩ rfl hl.1 (rest := [.int 0]) rfl (Nat.le_of_ble_eq_true rfl) dX4_turnGoes_60 ⟨Nat.zero_le _, Nat.zero_le _⟩ (fun H locs w => ?_)
      refine lv_ishr hx hb dX4_turnGoes_63 ?_
      refine lv_iconst (v := 1) hx hb dX4_turnGoes_64 (by decide) ?_
      refine lv_iand hx hb dX4_turnGoes_65 ?_
      refine lv_if_ne (tgt := 92) hx hb dX4_turnGoes_66 (by decide) (fun c7 => ?_) (fun c7 => ?_)
      · skip
        refine lv_iinc (k := 0) (v := nI (i48 + 1)) (lv' := [(3, .int (nI (i48 + 1))), (2, .int 0), (0, .ref d), (1, .int si_)]) hx hb dX4_turnGoes_92 hl rfl (nI_inc i48) (by decide) rfl (fun ls hl => ?_)
        refine lv_goto (tgt := 48) hx hb dX4_turnGoes_95 (by decide) ?_
        refine ih48 _ _ _ ?_
        show tv_W G A s (mds G d nh nm y z st (lp (lb_md_turnGoes1_48) (i48 + 1) nw) ik dr tq dn db la si ce be) H locs ∧ lv_has ls 4 [(3, .int (nI (i48 + 1))), (2, .int 0), (0, .ref d), (1, .int si_)]
        rw [show lp (lb_md_turnGoes1_48) (i48 + 1) nw = _ from if_neg c7]
        exact ⟨w, lv_sub hl [0, 1, 2, 3] rfl⟩
      · skip
        refine lv_aload_n hx hb dX4_turnGoes_69 rfl (lv_at hl 2 rfl) ?_
        refine lv_iload_n hx hb dX4_turnGoes_70 rfl (lv_at hl 0 rfl) ?_
        refine lv_iconst (v := 2) hx hb dX4_turnGoes_71 (by decide) ?_
        refine c_iV M w (S' := (mds G d nh nm y z st (lp (lb_md_turnGoes1_48) i48 nw) ik dr tq dn db la si ce be)) tv_in.all (md_of l G d nh nm y z st (lp (lb_md_turnGoes1_48) i48 nw) ik dr tq dn db la si ce be i48 2 (by omega) (by omega)) (q0 := 0) tc4 rfl q1098 q1100 qs41 q72 q1101 nm_yX4_of ⟨Nat.le_of_ble_eq_true rfl, Nat.le_of_ble_eq_true rfl⟩ rfl hl.1 (rest := []) rfl (Nat.le_of_ble_eq_true rfl) dX4_turnGoes_72 ⟨Nat.zero_le _, Nat.zero_le _⟩ (fun H locs w => ?_)
        refine lv_if_le (tgt := 92) hx hb dX4_turnGoes_75 (by decide) (fun c8 => ?_) (fun c8 => ?_)
        · skip
          refine lv_iinc (k := 0) (v := nI (i48 + 1)) (lv' := [(3, .int (nI (i48 + 1))), (2, .int 0), (0, .ref d), (1, .int si_)]) hx hb dX4_turnGoes_92 hl rfl (nI_inc i48) (by decide) rfl (fun ls hl => ?_)
          refine lv_goto (tgt := 48) hx hb dX4_turnGoes_95 (by decide) ?_
          refine ih48 _ _ _ ?_
          show tv_W G A s (mds G d nh nm y z st (lp (lb_md_turnGoes1_48) (i48 + 1) nw) ik dr tq dn db la si ce be) H locs ∧ lv_has ls 4 [(3, .int (nI (i48 + 1))), (2, .int 0), (0, .ref d), (1, .int si_)]
          rw [show lp (lb_md_turnGoes1_48) (i48 + 1) nw = _ from (if_pos c7).trans (if_pos c8)]
          exact ⟨w, lv_sub hl [0, 1, 2, 3] rfl⟩
        · skip
          refine lv_aload_n hx hb dX4_turnGoes_78 rfl (lv_at hl 2 rfl) ?_
          refine lv_iload_n hx hb dX4_turnGoes_79 rfl (lv_at hl 0 rfl) ?_
          refine lv_iconst (v := 2) hx hb dX4_turnGoes_80 (by decide) ?_
          refine lv_aload_n hx hb dX4_turnGoes_81 rfl (lv_at hl 2 rfl) ?_
          refine lv_iload_n hx hb dX4_turnGoes_82 rfl (lv_at hl 0 rfl) ?_
          refine lv_iconst (v := 2) hx hb dX4_turnGoes_83 (by decide) ?_
          refine c_iV M w (S' := (mds G d nh nm y z st (lp (lb_md_turnGoes1_48) i48 nw) ik dr tq dn db la si ce be)) tv_in.all (md_of l G d nh nm y z st (lp (lb_md_turnGoes1_48) i48 nw) ik dr tq dn db la si ce be i48 2 (by omega) (by omega)) (q0 := 0) tc4 rfl q1098 q1100 qs41 q72 q1101 nm_yX4_of ⟨Nat.le_of_ble_eq_true rfl, Nat.le_of_ble_eq_true rfl⟩ rfl hl.1 (rest := [.int 2, .int (nI i48), .ref d]) rfl (Nat.le_of_ble_eq_true rfl) dX4_turnGoes_84 ⟨Nat.zero_le _, Nat.zero_le _⟩ (fun H locs w => ?_)
          refine lv_iconst (v := 1) hx hb dX4_turnGoes_87 (by decide) ?_
          refine lv_isub hx hb dX4_turnGoes_88 ?_
          refine c_vV M w (S' := (mds G d nh nm y z st (sp_md_becomesOf_nw (lp (lb_md_turnGoes1_48) i48 nw) i48 2 ((sp_md_of (lp (lb_md_turnGoes1_48) i48 nw) i48 2) - 1)) ik dr tq dn db la si ce be)) tv_in.all (md_becomesOf l G d nh nm y z st (lp (lb_md_turnGoes1_48) i48 nw) ik dr tq dn db la si ce be i48 2 ((sp_md_of (lp (lb_md_turnGoes1_48) i48 nw) i48 2) - 1) (by omega) (by omega)) (q0 := 0) tc4 rfl q1200 q1202 qs54 q72 q1203 nm_yX4_becomesOf ⟨Nat.le_of_ble_eq_true rfl, Nat.le_of_ble_eq_true rfl⟩ rfl hl.1 (rest := []) rfl (Nat.le_of_ble_eq_true rfl) dX4_turnGoes_89 ⟨Nat.zero_le _, Nat.zero_le _⟩ (fun H locs w => ?_)
          refine lv_iinc (k := 0) (v := nI (i48 + 1)) (lv' := [(3, .int (nI (i48 + 1))), (2, .int 0), (0, .ref d), (1, .int si_)]) hx hb dX4_turnGoes_92 hl rfl (nI_inc i48) (by decide) rfl (fun ls hl => ?_)
          refine lv_goto (tgt := 48) hx hb dX4_turnGoes_95 (by decide) ?_
          refine ih48 _ _ _ ?_
          show tv_W G A s (mds G d nh nm y z st (lp (lb_md_turnGoes1_48) (i48 + 1) nw) ik dr tq dn db la si ce be) H locs ∧ lv_has ls 4 [(3, .int (nI (i48 + 1))), (2, .int 0), (0, .ref d), (1, .int si_)]
          rw [show lp (lb_md_turnGoes1_48) (i48 + 1) nw = _ from (if_pos c7).trans (if_neg c8)]
          exact ⟨w, lv_sub hl [0, 1, 2, 3] rfl⟩
