/-! TrapdoorVotes: turns tried -/
theorem lp_inv {α : Type} {f : Nat → α → α} (P : α → Prop) {x : α} (h0 : P x) (hs : ∀ i y, P y → P (f i y)) (n : Nat) : P (lp f n x) := by
  induction n with
  | zero => exact h0
  | succ n ih => exact hs n _ ih
theorem vp_nI {x : Int32} {n : Nat} (h : vp_in x n) (hn : n < 2 ^ 31) : x = nI x.toNatClampNeg := by
  obtain ⟨k, hk, rfl⟩ := vp_in_of h hn
  rw [nI_clamp (by omega)]
theorem vb_le {x : Int32} {n : Nat} (h : vp_in x n) (hn : n < 2 ^ 31) : x ≤ nI x.toNatClampNeg := by
  obtain ⟨k, hk, rfl⟩ := vp_in_of h hn
  rw [nI_clamp (by omega)]
  exact nI_le (Nat.le_refl _) (by omega)
theorem vb_ge {x : Int32} {n i : Nat} (h : vp_in x n) (hn : n < 2 ^ 31) (hi : i < x.toNatClampNeg) : ¬ x ≤ nI i := by
  obtain ⟨k, hk, rfl⟩ := vp_in_of h hn
  rw [nI_clamp (by omega)] at hi
  exact nI_ge hi (by omega)
theorem vg_lt {x : Int32} {n : Nat} (h : vp_in x n) (hn : n < 2 ^ 31) : x < nI (x.toNatClampNeg + 1) := by
  obtain ⟨k, hk, rfl⟩ := vp_in_of h hn
  rw [nI_clamp (by omega)]
  exact nI_lt (by omega) (by omega)
theorem vg_ge {x : Int32} {n i : Nat} (h : vp_in x n) (hn : n < 2 ^ 31) (hi : i < x.toNatClampNeg) : ¬ x < nI (i + 1) := by
  obtain ⟨k, hk, rfl⟩ := vp_in_of h hn
  rw [nI_clamp (by omega)] at hi
  exact nI_nlt (by omega) (by omega)
def lb_tv_turns_42 (n1 : Nat) (m1 : Nat) (i42 : Nat) (st42 : (Nat → Int32)) : (Nat → Int32) := tnF n1 m1 0 st42
theorem ok_lb_tv_turns_42 {n1 m1 : Nat} (hn : n1 ≤ 6) (hm : m1 ≤ 4) {y : Nat → Int32} (i : Nat) (h : Sok y) : Sok (lb_tv_turns_42 n1 m1 i y) := by
  show Sok (tnF n1 m1 0 y)
  exact tnF_ok h hm hn 0
def sp_tv_turns (n1 : Nat) (m1 : Nat) (g1 : Nat → Int32) (n : Int32) : Int32 := if (inL n.toInt64 (0 : Int64) (30 : Int64)) = 0 then (-1) else (if ((g1 38) + n) ≤ 999 then ((lp (lb_tv_turns_42 n1 m1) n.toNatClampNeg (upd g1 39 0)) 39) else (-3))
def sp_tv_turns_g1 (n1 : Nat) (m1 : Nat) (g1 : Nat → Int32) (n : Int32) : Nat → Int32 := if (inL n.toInt64 (0 : Int64) (30 : Int64)) = 0 then g1 else (if ((g1 38) + n) ≤ 999 then (lp (lb_tv_turns_42 n1 m1) n.toNatClampNeg (upd g1 39 0)) else g1)
set_option maxHeartbeats 4000000 in
set_option maxRecDepth 100000 in
theorem tv_turns (l : Launch) (G : tG) (b : Nat) (x : Nat → Int32) (tp : Nat → Int32) (n1 : Nat) (m1 : Nat) (g1 : Nat → Int32) (n2 : Nat) (m2 : Nat) (g2 : Nat → Int32) (n3 : Nat) (m3 : Nat) (g3 : Nat → Int32) (se : Nat → Int32) (bs : Nat → Int32) (y0 : Nat → Int32) (n4 : Nat) (m4 : Nat) (g4 : Nat → Int32) (e0 : Nat → Int32) (y1 : Nat → Int32) (n5 : Nat) (m5 : Nat) (g5 : Nat → Int32) (e1 : Nat → Int32) (n6 : Nat) (m6 : Nat) (g6 : Nat → Int32) (Z : List va_W) (n : Int32) (hn : n1 ≤ 6) (hm : m1 ≤ 4) (hok : Sok g1) : tv_I l yX0_turns cX0_turns 3 (some .int) (tv_rm 6 132) G [.ref b, .int n] (tvs G b x tp n1 m1 g1 n2 m2 g2 n3 m3 g3 se bs y0 n4 m4 g4 e0 y1 n5 m5 g5 e1 n6 m6 g6 Z).flatten (sp_tv_turns n1 m1 g1 n) (tvs G b x tp n1 m1 (sp_tv_turns_g1 n1 m1 g1 n) n2 m2 g2 n3 m3 g3 se bs y0 n4 m4 g4 e0 y1 n5 m5 g5 e1 n6 m6 g6 Z).flatten := by
  refine tv_I.st (S := (tvs G b x tp n1 m1 g1 n2 m2 g2 n3 m3 g3 se bs y0 n4 m4 g4 e0 y1 n5 m5 g5 e1 n6 m6 g6 Z)) (S' := (tvs G b x tp n1 m1 (sp_tv_turns_g1 n1 m1 g1 n) n2 m2 g2 n3 m3 g3 se bs y0 n4 m4 g4 e0 y1 n5 m5 g5 e1 n6 m6 g6 Z)) rfl rfl (by decide) (Nat.le_of_ble_eq_true rfl) ?_
  intro p e s m below meth c A M hr w ls hl
  have hx := M.1.1
  have hb := M.1.2.1
  have hl : lv_has ls 3 [(0, .ref b), (1, .int n)] := hl
  refine lv_iload_n hx hb dX0_turns_0 rfl (lv_at hl 1 rfl) ?_
  refine lv_i2l (v := n.toInt64) hx hb dX0_turns_1 rfl ?_
  refine lv_lconst (v := 0) hx hb dX0_turns_2 (by decide) ?_
  refine lv_ldc2 (v := 30) hx hb M.1.2.2.2.1 (M.1.2.2.2.2 _ q511) dX0_turns_3 ?_
  refine c_iS M w (S' := (tvs G b x tp n1 m1 g1 n2 m2 g2 n3 m3 g3 se bs y0 n4 m4 g4 e0 y1 n5 m5 g5 e1 n6 m6 g6 Z)) tv_in.nil (tv_isIn l G n.toInt64 (0 : Int64) (30 : Int64)) q95 q96 q68 q97 nm_yX0_isIn ⟨Nat.le_of_ble_eq_true rfl, Nat.le_of_ble_eq_true rfl⟩ rfl hl.1 (rest := []) rfl (Nat.le_of_ble_eq_true rfl) dX0_turns_6 ⟨Nat.zero_le _, Nat.zero_le _⟩ (fun H locs w => ?_)
  refine lv_if_ne (tgt := 14) hx hb dX0_turns_9 (by decide) (fun c3 => ?_) (fun c3 => ?_)
  · skip
    refine lv_aload_n hx hb dX0_turns_14 rfl (lv_at hl 0 rfl) ?_
    refine r_get M w tc0 0 0 3 rfl rfl (by decide) q722 rfl rfl dX0_turns_15 ?_
    refine r_getN M w tc1 2 0 5 rfl rfl (by decide) q143 rfl rfl dX0_turns_18 ?_
    refine lv_iload_n hx hb dX0_turns_21 rfl (lv_at hl 1 rfl) ?_
    refine lv_iadd hx hb dX0_turns_22 ?_
    refine lv_sipush (v := 999) hx hb dX0_turns_23 (by decide) ?_
    refine lv_icmp_le (tgt := 32) hx hb dX0_turns_26 (by decide) (fun c4 => ?_) (fun c4 => ?_)
    · skip
      refine lv_aload_n hx hb dX0_turns_32 rfl (lv_at hl 0 rfl) ?_
      refine r_get M w tc0 0 0 3 rfl rfl (by decide) q722 rfl rfl dX0_turns_33 ?_
      refine lv_iconst (v := 0) hx hb dX0_turns_36 (by decide) ?_
      refine r_putN M w tc1 2 0 6 rfl rfl (by decide) q145 rfl rfl rfl rfl (Nat.le_of_ble_eq_true rfl) (S' := (tvs G b x tp n1 m1 (upd g1 39 0) n2 m2 g2 n3 m3 g3 se bs y0 n4 m4 g4 e0 y1 n5 m5 g5 e1 n6 m6 g6 Z)) (congrArg (fun zz_ => List.set (tvs G b x tp n1 m1 g1 n2 m2 g2 n3 m3 g3 se bs y0 n4 m4 g4 e0 y1 n5 m5 g5 e1 n6 m6 g6 Z) 2 zz_) (stg_f6 G (b + 2) n1 m1 g1 0)) dX0_turns_37 (fun H locs w => ?_)
      refine lv_iconst (v := 0) hx hb dX0_turns_40 (by decide) ?_
      refine lv_istore_n (lv' := [(2, .int 0), (0, .ref b), (1, .int n)]) hx hb dX0_turns_41 rfl hl (by decide) rfl (fun ls hl => ?_)
      refine w_for (pc := 42) (fun i42 H locs ls => tv_W G A s (tvs G b x tp n1 m1 (lp (lb_tv_turns_42 n1 m1) i42 (upd g1 39 0)) n2 m2 g2 n3 m3 g3 se bs y0 n4 m4 g4 e0 y1 n5 m5 g5 e1 n6 m6 g6 Z) H locs ∧ lv_has ls 3 [(2, .int (nI i42)), (0, .ref b), (1, .int n)]) n.toNatClampNeg (fun H locs ls hI => ?_) (fun i42 hi42 H locs ls hI ih42 => ?_) 0 (Nat.zero_le _) _ _ _ ⟨w, hl⟩
      · skip
        obtain ⟨w, hl⟩ := hI
        refine lv_iload_n hx hb dX0_turns_42 rfl (lv_at hl 0 rfl) ?_
        refine lv_iload_n hx hb dX0_turns_43 rfl (lv_at hl 2 rfl) ?_
        refine lv_icmp_ge (tgt := 61) hx hb dX0_turns_44 (by decide) (fun _ => ?_) (fun hc => absurd (vb_le (inL_1 (k := 30) (by omega) c3) (by omega)) hc)
        refine lv_aload_n hx hb dX0_turns_61 rfl (lv_at hl 1 rfl) ?_
        refine r_get M w tc0 0 0 3 rfl rfl (by decide) q722 rfl rfl dX0_turns_62 ?_
        refine r_getN M w tc1 2 0 6 rfl rfl (by decide) q145 rfl rfl dX0_turns_65 ?_
        exact tv_iret M (by rw [show sp_tv_turns_g1 n1 m1 g1 n = _ from (if_neg c3).trans (if_pos c4)]; exact w) hr ((if_neg c3).trans (if_pos c4)).symm dX0_turns_68
      · skip
        obtain ⟨w, hl⟩ := hI
        refine lv_iload_n hx hb dX0_turns_42 rfl (lv_at hl 0 rfl) ?_
        refine lv_iload_n hx hb dX0_turns_43 rfl (lv_at hl 2 rfl) ?_
        refine lv_icmp_ge (tgt := 61) hx hb dX0_turns_44 (by decide) (fun hc => absurd hc (vb_ge (inL_1 (k := 30) (by omega) c3) (by omega) (by omega))) (fun _ => ?_)
        refine lv_aload_n hx hb dX0_turns_47 rfl (lv_at hl 1 rfl) ?_
        refine r_get M w tc0 0 0 3 rfl rfl (by decide) q722 rfl rfl dX0_turns_48 ?_
        refine lv_iconst (v := 0) hx hb dX0_turns_51 (by decide) ?_
        refine c_vV M w (S' := (tvs G b x tp n1 m1 (tnF n1 m1 0 (lp (lb_tv_turns_42 n1 m1) i42 (upd g1 39 0))) n2 m2 g2 n3 m3 g3 se bs y0 n4 m4 g4 e0 y1 n5 m5 g5 e1 n6 m6 g6 Z)) (tv_in.seg 2 rfl rfl) (st_turnGoes l G (b + 2) n1 m1 (lp (lb_tv_turns_42 n1 m1) i42 (upd g1 39 0)) 0 (by omega) (by omega) (lp_inv (f := (lb_tv_turns_42 n1 m1)) (x := (upd g1 39 0)) (fun y => Sok y) (hok.oS (by omega)) (fun i y h => ok_lb_tv_turns_42 hn hm i h) i42)) (q0 := 0) tc1 rfl q512 q513 q514 q69 q515 nm_yX1_turnGoes ⟨Nat.le_of_ble_eq_true rfl, Nat.le_of_ble_eq_true rfl⟩ rfl hl.1 (rest := []) rfl (Nat.le_of_ble_eq_true rfl) dX0_turns_52 ⟨Nat.zero_le _, Nat.zero_le _⟩ (fun H locs w => ?_)
        refine lv_iinc (k := 0) (v := nI (i42 + 1)) (lv' := [(2, .int (nI (i42 + 1))), (0, .ref b), (1, .int n)]) hx hb dX0_turns_55 hl rfl (nI_inc i42) (by decide) rfl (fun ls hl => ?_)
        refine lv_goto (tgt := 42) hx hb dX0_turns_58 (by decide) ?_
        exact ih42 _ _ _ ⟨w, lv_sub hl [0, 1, 2] rfl⟩
    · skip
      refine lv_bipush (v := -3) hx hb dX0_turns_29 (by decide) ?_
      exact tv_iret M (by rw [show sp_tv_turns_g1 n1 m1 g1 n = _ from (if_neg c3).trans (if_neg c4)]; exact w) hr ((if_neg c3).trans (if_neg c4)).symm dX0_turns_31
  · skip
    refine lv_iconst (v := -1) hx hb dX0_turns_12 (by decide) ?_
    exact tv_iret M (by rw [show sp_tv_turns_g1 n1 m1 g1 n = _ from if_pos c3]; exact w) hr (if_pos c3).symm dX0_turns_13
def lb_tv_fallsOf_now_16 (n1 : Nat) (m1 : Nat) (i16 : Nat) (st16 : (Nat → Int32) × (Nat → Int32)) : (Nat → Int32) × (Nat → Int32) := (upd st16.1 6 (if (st16.1 6) = (-4) then (if ((tnF n1 m1 0 st16.2) 39) ≤ 0 then (st16.1 6) else (nI (i16 + 1))) else (st16.1 6)), tnF n1 m1 0 st16.2)
theorem ok_lb_tv_fallsOf_now_16 {n1 m1 : Nat} (hn : n1 ≤ 6) (hm : m1 ≤ 4) {y : (Nat → Int32) × (Nat → Int32)} (i : Nat) (h : Sok y.2) : Sok (lb_tv_fallsOf_now_16 n1 m1 i y).2 := by
  show Sok (tnF n1 m1 0 y.2)
  exact tnF_ok h hm hn 0
def sp_tv_fallsOf_now (x : Nat → Int32) (n1 : Nat) (m1 : Nat) (g1 : Nat → Int32) (n : Int32) : Int32 := ((lp (lb_tv_fallsOf_now_16 n1 m1) n.toNatClampNeg (upd x 6 (-4), upd g1 39 0)).2) 39
def sp_tv_fallsOf_now_x (x : Nat → Int32) (n1 : Nat) (m1 : Nat) (g1 : Nat → Int32) (n : Int32) : Nat → Int32 := (lp (lb_tv_fallsOf_now_16 n1 m1) n.toNatClampNeg (upd x 6 (-4), upd g1 39 0)).1
def sp_tv_fallsOf_now_g2 (x : Nat → Int32) (n1 : Nat) (m1 : Nat) (g1 : Nat → Int32) (n : Int32) : Nat → Int32 := (lp (lb_tv_fallsOf_now_16 n1 m1) n.toNatClampNeg (upd x 6 (-4), upd g1 39 0)).2
set_option maxHeartbeats 4000000 in
set_option maxRecDepth 100000 in
theorem tv_fallsOf_now (l : Launch) (G : tG) (b : Nat) (x : Nat → Int32) (tp : Nat → Int32) (n1 : Nat) (m1 : Nat) (g1 : Nat → Int32) (n2 : Nat) (m2 : Nat) (g2 : Nat → Int32) (n3 : Nat) (m3 : Nat) (g3 : Nat → Int32) (se : Nat → Int32) (bs : Nat → Int32) (y0 : Nat → Int32) (n4 : Nat) (m4 : Nat) (g4 : Nat → Int32) (e0 : Nat → Int32) (y1 : Nat → Int32) (n5 : Nat) (m5 : Nat) (g5 : Nat → Int32) (e1 : Nat → Int32) (n6 : Nat) (m6 : Nat) (g6 : Nat → Int32) (Z : List va_W) (n : Int32) (hn : n1 ≤ 6) (hm : m1 ≤ 4) (hok : Sok g1) (hf : vp_in n 61) : tv_I l yX0_fallsOf cX0_fallsOf 4 (some .int) (tv_rm 6 132) G [.ref b, .ref (b + 2), .int n] (tvs G b x tp n1 m1 g1 n2 m2 g2 n3 m3 g3 se bs y0 n4 m4 g4 e0 y1 n5 m5 g5 e1 n6 m6 g6 Z).flatten (sp_tv_fallsOf_now x n1 m1 g1 n) (tvs G b (sp_tv_fallsOf_now_x x n1 m1 g1 n) tp n1 m1 g1 n1 m1 (sp_tv_fallsOf_now_g2 x n1 m1 g1 n) n3 m3 g3 se bs y0 n4 m4 g4 e0 y1 n5 m5 g5 e1 n6 m6 g6 Z).flatten := by
  refine tv_I.st (S := (tvs G b x tp n1 m1 g1 n2 m2 g2 n3 m3 g3 se bs y0 n4 m4 g4 e0 y1 n5 m5 g5 e1 n6 m6 g6 Z)) (S' := (tvs G b (sp_tv_fallsOf_now_x x n1 m1 g1 n) tp n1 m1 g1 n1 m1 (sp_tv_fallsOf_now_g2 x n1 m1 g1 n) n3 m3 g3 se bs y0 n4 m4 g4 e0 y1 n5 m5 g5 e1 n6 m6 g6 Z)) rfl rfl (by decide) (Nat.le_of_ble_eq_true rfl) ?_
  intro p e s m below meth c A M hr w ls hl
  have hx := M.1.1
  have hb := M.1.2.1
  have hl : lv_has ls 4 [(0, .ref b), (1, .ref (b + 2)), (2, .int n)] := hl
  refine lv_aload_n hx hb dX0_fallsOf_0 rfl (lv_at hl 0 rfl) ?_
  refine r_get M w tc0 0 0 4 rfl rfl (by decide) q723 rfl rfl dX0_fallsOf_1 ?_
  refine lv_aload_n hx hb dX0_fallsOf_4 rfl (lv_at hl 1 rfl) ?_
  refine c_vV M w (S' := (tvs G b x tp n1 m1 g1 n1 m1 (upd g1 39 0) n3 m3 g3 se bs y0 n4 m4 g4 e0 y1 n5 m5 g5 e1 n6 m6 g6 Z)) (tv_in.seg2 3 2 (by decide) rfl rfl rfl) (st_takes l G (b + 22) n2 m2 (b + 2) n1 m1 g2 g1) (q0 := 0) tc1 rfl q385 q386 q387 q69 q388 nm_yX1_takes ⟨Nat.le_of_ble_eq_true rfl, Nat.le_of_ble_eq_true rfl⟩ rfl hl.1 (rest := []) rfl (Nat.le_of_ble_eq_true rfl) dX0_fallsOf_5 ⟨Nat.zero_le _, Nat.zero_le _⟩ (fun H locs w => ?_)
  refine lv_aload_n hx hb dX0_fallsOf_8 rfl (lv_at hl 0 rfl) ?_
  refine lv_bipush (v := -4) hx hb dX0_fallsOf_9 (by decide) ?_
  refine r_put M w tc0 0 0 6 rfl rfl (by decide) q725 rfl rfl rfl rfl (Nat.le_of_ble_eq_true rfl) (S' := (tvs G b (upd x 6 (-4)) tp n1 m1 g1 n1 m1 (upd g1 39 0) n3 m3 g3 se bs y0 n4 m4 g4 e0 y1 n5 m5 g5 e1 n6 m6 g6 Z)) rfl dX0_fallsOf_11 (fun H locs w => ?_)
  refine lv_iconst (v := 1) hx hb dX0_fallsOf_14 (by decide) ?_
  refine lv_istore_n (lv' := [(3, .int 1), (0, .ref b), (1, .ref (b + 2)), (2, .int n)]) hx hb dX0_fallsOf_15 rfl hl (by decide) rfl (fun ls hl => ?_)
  refine w_for (pc := 16) (fun i16 H locs ls => tv_W G A s (tvs G b ((lp (lb_tv_fallsOf_now_16 n1 m1) i16 (upd x 6 (-4), upd g1 39 0)).1) tp n1 m1 g1 n1 m1 ((lp (lb_tv_fallsOf_now_16 n1 m1) i16 (upd x 6 (-4), upd g1 39 0)).2) n3 m3 g3 se bs y0 n4 m4 g4 e0 y1 n5 m5 g5 e1 n6 m6 g6 Z) H locs ∧ lv_has ls 4 [(3, .int (nI (i16 + 1))), (0, .ref b), (1, .ref (b + 2)), (2, .int n)]) n.toNatClampNeg (fun H locs ls hI => ?_) (fun i16 hi16 H locs ls hI ih16 => ?_) 0 (Nat.zero_le _) _ _ _ ⟨w, hl⟩
  · skip
    obtain ⟨w, hl⟩ := hI
    refine lv_iload_n hx hb dX0_fallsOf_16 rfl (lv_at hl 0 rfl) ?_
    refine lv_iload_n hx hb dX0_fallsOf_17 rfl (lv_at hl 3 rfl) ?_
    refine lv_icmp_gt (tgt := 66) hx hb dX0_fallsOf_18 (by decide) (fun _ => ?_) (fun hc => absurd (vg_lt hf (by omega)) hc)
    refine lv_aload_n hx hb dX0_fallsOf_66 rfl (lv_at hl 1 rfl) ?_
    refine r_get M w tc0 0 0 4 rfl rfl (by decide) q723 rfl rfl dX0_fallsOf_67 ?_
    refine r_getN M w tc1 3 0 6 rfl rfl (by decide) q145 rfl rfl dX0_fallsOf_70 ?_
    exact tv_iret M w hr rfl dX0_fallsOf_73
  · skip
    obtain ⟨w, hl⟩ := hI
    refine lv_iload_n hx hb dX0_fallsOf_16 rfl (lv_at hl 0 rfl) ?_
    refine lv_iload_n hx hb dX0_fallsOf_17 rfl (lv_at hl 3 rfl) ?_
    refine lv_icmp_gt (tgt := 66) hx hb dX0_fallsOf_18 (by decide) (fun hc => absurd hc (vg_ge hf (by omega) (by omega))) (fun _ => ?_)
    refine lv_aload_n hx hb dX0_fallsOf_21 rfl (lv_at hl 1 rfl) ?_
    refine r_get M w tc0 0 0 4 rfl rfl (by decide) q723 rfl rfl dX0_fallsOf_22 ?_
    refine lv_iconst (v := 0) hx hb dX0_fallsOf_25 (by decide) ?_
    refine c_vV M w (S' := (tvs G b ((lp (lb_tv_fallsOf_now_16 n1 m1) i16 (upd x 6 (-4), upd g1 39 0)).1) tp n1 m1 g1 n1 m1 (tnF n1 m1 0 ((lp (lb_tv_fallsOf_now_16 n1 m1) i16 (upd x 6 (-4), upd g1 39 0)).2)) n3 m3 g3 se bs y0 n4 m4 g4 e0 y1 n5 m5 g5 e1 n6 m6 g6 Z)) (tv_in.seg 3 rfl rfl) (st_turnGoes l G (b + 22) n1 m1 ((lp (lb_tv_fallsOf_now_16 n1 m1) i16 (upd x 6 (-4), upd g1 39 0)).2) 0 (by omega) (by omega) (lp_inv (f := (lb_tv_fallsOf_now_16 n1 m1)) (x := (upd x 6 (-4), upd g1 39 0)) (fun y => Sok y.2) (hok.oS (by omega)) (fun i y h => ok_lb_tv_fallsOf_now_16 hn hm i h) i16)) (q0 := 0) tc1 rfl q512 q513 q514 q69 q515 nm_yX1_turnGoes ⟨Nat.le_of_ble_eq_true rfl, Nat.le_of_ble_eq_true rfl⟩ rfl hl.1 (rest := []) rfl (Nat.le_of_ble_eq_true rfl) dX0_fallsOf_26 ⟨Nat.zero_le _, Nat.zero_le _⟩ (fun H locs w => ?_)
    refine lv_aload_n hx hb dX0_fallsOf_29 rfl (lv_at hl 1 rfl) ?_
    refine lv_aload_n hx hb dX0_fallsOf_30 rfl (lv_at hl 1 rfl) ?_
    refine r_get M w tc0 0 0 6 rfl rfl (by decide) q725 rfl rfl dX0_fallsOf_31 ?_
    refine lv_bipush (v := -4) hx hb dX0_fallsOf_34 (by decide) ?_
    refine w_cut (g2 := F0 m 57 ls [.int (if (((lp (lb_tv_fallsOf_now_16 n1 m1) i16 (upd x 6 (-4), upd g1 39 0)).1) 6) = (-4) then (if ((tnF n1 m1 0 ((lp (lb_tv_fallsOf_now_16 n1 m1) i16 (upd x 6 (-4), upd g1 39 0)).2)) 39) ≤ 0 then (((lp (lb_tv_fallsOf_now_16 n1 m1) i16 (upd x 6 (-4), upd g1 39 0)).1) 6) else (nI (i16 + 1))) else (((lp (lb_tv_fallsOf_now_16 n1 m1) i16 (upd x 6 (-4), upd g1 39 0)).1) 6)), .ref b]) (fun jn => ?_) ?_
    · skip
      refine lv_icmp_ne (tgt := 53) hx hb dX0_fallsOf_36 (by decide) (fun c1 => ?_) (fun c1 => ?_)
      · skip
        refine lv_aload_n hx hb dX0_fallsOf_53 rfl (lv_at hl 1 rfl) ?_
        refine r_get M w tc0 0 0 6 rfl rfl (by decide) q725 rfl rfl dX0_fallsOf_54 ?_
        exact w_topi (if_neg c1) jn
      · skip
        refine lv_aload_n hx hb dX0_fallsOf_39 rfl (lv_at hl 1 rfl) ?_
        refine r_get M w tc0 0 0 4 rfl rfl (by decide) q723 rfl rfl dX0_fallsOf_40 ?_
        refine r_getN M w tc1 3 0 6 rfl rfl (by decide) q145 rfl rfl dX0_fallsOf_43 ?_
        refine lv_if_le (tgt := 53) hx hb dX0_fallsOf_46 (by decide) (fun c2 => ?_) (fun c2 => ?_)
        · skip
          refine lv_aload_n hx hb dX0_fallsOf_53 rfl (lv_at hl 1 rfl) ?_
          refine r_get M w tc0 0 0 6 rfl rfl (by decide) q725 rfl rfl dX0_fallsOf_54 ?_
          exact w_topi ((if_pos c1).trans (if_pos c2)) jn
        · skip
          refine lv_iload_n hx hb dX0_fallsOf_49 rfl (lv_at hl 0 rfl) ?_
          refine lv_goto (tgt := 57) hx hb dX0_fallsOf_50 (by decide) ?_
          exact w_topi ((if_pos c1).trans (if_neg c2)) jn
    refine r_put M w tc0 0 0 6 rfl rfl (by decide) q725 rfl rfl rfl rfl (Nat.le_of_ble_eq_true rfl) (S' := (tvs G b (upd ((lp (lb_tv_fallsOf_now_16 n1 m1) i16 (upd x 6 (-4), upd g1 39 0)).1) 6 (if (((lp (lb_tv_fallsOf_now_16 n1 m1) i16 (upd x 6 (-4), upd g1 39 0)).1) 6) = (-4) then (if ((tnF n1 m1 0 ((lp (lb_tv_fallsOf_now_16 n1 m1) i16 (upd x 6 (-4), upd g1 39 0)).2)) 39) ≤ 0 then (((lp (lb_tv_fallsOf_now_16 n1 m1) i16 (upd x 6 (-4), upd g1 39 0)).1) 6) else (nI (i16 + 1))) else (((lp (lb_tv_fallsOf_now_16 n1 m1) i16 (upd x 6 (-4), upd g1 39 0)).1) 6))) tp n1 m1 g1 n1 m1 (tnF n1 m1 0 ((lp (lb_tv_fallsOf_now_16 n1 m1) i16 (upd x 6 (-4), upd g1 39 0)).2)) n3 m3 g3 se bs y0 n4 m4 g4 e0 y1 n5 m5 g5 e1 n6 m6 g6 Z)) rfl dX0_fallsOf_57 (fun H locs w => ?_)
    refine lv_iinc (k := 0) (v := nI (i16 + 1 + 1)) (lv' := [(3, .int (nI (i16 + 1 + 1))), (0, .ref b), (1, .ref (b + 2)), (2, .int n)]) hx hb dX0_fallsOf_60 hl rfl (nI_inc (i16 + 1)) (by decide) rfl (fun ls hl => ?_)
    refine lv_goto (tgt := 16) hx hb dX0_fallsOf_63 (by decide) ?_
    exact ih16 _ _ _ ⟨w, lv_sub hl [0, 1, 2, 3] rfl⟩
def lb_tv_fallsOf_home_16 (n3 : Nat) (m3 : Nat) (i16 : Nat) (st16 : (Nat → Int32) × (Nat → Int32)) : (Nat → Int32) × (Nat → Int32) := (upd st16.1 6 (if (st16.1 6) = (-4) then (if ((tnF n3 m3 0 st16.2) 39) ≤ 0 then (st16.1 6) else (nI (i16 + 1))) else (st16.1 6)), tnF n3 m3 0 st16.2)
theorem ok_lb_tv_fallsOf_home_16 {n3 m3 : Nat} (hn : n3 ≤ 6) (hm : m3 ≤ 4) {y : (Nat → Int32) × (Nat → Int32)} (i : Nat) (h : Sok y.2) : Sok (lb_tv_fallsOf_home_16 n3 m3 i y).2 := by
  show Sok (tnF n3 m3 0 y.2)
  exact tnF_ok h hm hn 0
def sp_tv_fallsOf_home (x : Nat → Int32) (n3 : Nat) (m3 : Nat) (g3 : Nat → Int32) (n : Int32) : Int32 := ((lp (lb_tv_fallsOf_home_16 n3 m3) n.toNatClampNeg (upd x 6 (-4), upd g3 39 0)).2) 39
def sp_tv_fallsOf_home_x (x : Nat → Int32) (n3 : Nat) (m3 : Nat) (g3 : Nat → Int32) (n : Int32) : Nat → Int32 := (lp (lb_tv_fallsOf_home_16 n3 m3) n.toNatClampNeg (upd x 6 (-4), upd g3 39 0)).1
def sp_tv_fallsOf_home_g2 (x : Nat → Int32) (n3 : Nat) (m3 : Nat) (g3 : Nat → Int32) (n : Int32) : Nat → Int32 := (lp (lb_tv_fallsOf_home_16 n3 m3) n.toNatClampNeg (upd x 6 (-4), upd g3 39 0)).2
set_option maxHeartbeats 4000000 in
set_option maxRecDepth 100000 in
theorem tv_fallsOf_home (l : Launch) (G : tG) (b : Nat) (x : Nat → Int32) (tp : Nat → Int32) (n1 : Nat) (m1 : Nat) (g1 : Nat → Int32) (n2 : Nat) (m2 : Nat) (g2 : Nat → Int32) (n3 : Nat) (m3 : Nat) (g3 : Nat → Int32) (se : Nat → Int32) (bs : Nat → Int32) (y0 : Nat → Int32) (n4 : Nat) (m4 : Nat) (g4 : Nat → Int32) (e0 : Nat → Int32) (y1 : Nat → Int32) (n5 : Nat) (m5 : Nat) (g5 : Nat → Int32) (e1 : Nat → Int32) (n6 : Nat) (m6 : Nat) (g6 : Nat → Int32) (Z : List va_W) (n : Int32) (hn3 : n3 ≤ 6) (hm3 : m3 ≤ 4) (hok3 : Sok g3) (hf : vp_in n 61) : tv_I l yX0_fallsOf cX0_fallsOf 4 (some .int) (tv_rm 6 132) G [.ref b, .ref (b + 42), .int n] (tvs G b x tp n1 m1 g1 n2 m2 g2 n3 m3 g3 se bs y0 n4 m4 g4 e0 y1 n5 m5 g5 e1 n6 m6 g6 Z).flatten (sp_tv_fallsOf_home x n3 m3 g3 n) (tvs G b (sp_tv_fallsOf_home_x x n3 m3 g3 n) tp n1 m1 g1 n3 m3 (sp_tv_fallsOf_home_g2 x n3 m3 g3 n) n3 m3 g3 se bs y0 n4 m4 g4 e0 y1 n5 m5 g5 e1 n6 m6 g6 Z).flatten := by
  refine tv_I.st (S := (tvs G b x tp n1 m1 g1 n2 m2 g2 n3 m3 g3 se bs y0 n4 m4 g4 e0 y1 n5 m5 g5 e1 n6 m6 g6 Z)) (S' := (tvs G b (sp_tv_fallsOf_home_x x n3 m3 g3 n) tp n1 m1 g1 n3 m3 (sp_tv_fallsOf_home_g2 x n3 m3 g3 n) n3 m3 g3 se bs y0 n4 m4 g4 e0 y1 n5 m5 g5 e1 n6 m6 g6 Z)) rfl rfl (by decide) (Nat.le_of_ble_eq_true rfl) ?_
  intro p e s m below meth c A M hr w ls hl
  have hx := M.1.1
  have hb := M.1.2.1
  have hl : lv_has ls 4 [(0, .ref b), (1, .ref (b + 42)), (2, .int n)] := hl
  refine lv_aload_n hx hb dX0_fallsOf_0 rfl (lv_at hl 0 rfl) ?_
  refine r_get M w tc0 0 0 4 rfl rfl (by decide) q723 rfl rfl dX0_fallsOf_1 ?_
  refine lv_aload_n hx hb dX0_fallsOf_4 rfl (lv_at hl 1 rfl) ?_
  refine c_vV M w (S' := (tvs G b x tp n1 m1 g1 n3 m3 (upd g3 39 0) n3 m3 g3 se bs y0 n4 m4 g4 e0 y1 n5 m5 g5 e1 n6 m6 g6 Z)) (tv_in.seg2 3 4 (by decide) rfl rfl rfl) (st_takes l G (b + 22) n2 m2 (b + 42) n3 m3 g2 g3) (q0 := 0) tc1 rfl q385 q386 q387 q69 q388 nm_yX1_takes ⟨Nat.le_of_ble_eq_true rfl, Nat.le_of_ble_eq_true rfl⟩ rfl hl.1 (rest := []) rfl (Nat.le_of_ble_eq_true rfl) dX0_fallsOf_5 ⟨Nat.zero_le _, Nat.zero_le _⟩ (fun H locs w => ?_)
  refine lv_aload_n hx hb dX0_fallsOf_8 rfl (lv_at hl 0 rfl) ?_
  refine lv_bipush (v := -4) hx hb dX0_fallsOf_9 (by decide) ?_
  refine r_put M w tc0 0 0 6 rfl rfl (by decide) q725 rfl rfl rfl rfl (Nat.le_of_ble_eq_true rfl) (S' := (tvs G b (upd x 6 (-4)) tp n1 m1 g1 n3 m3 (upd g3 39 0) n3 m3 g3 se bs y0 n4 m4 g4 e0 y1 n5 m5 g5 e1 n6 m6 g6 Z)) rfl dX0_fallsOf_11 (fun H locs w => ?_)
  refine lv_iconst (v := 1) hx hb dX0_fallsOf_14 (by decide) ?_
  refine lv_istore_n (lv' := [(3, .int 1), (0, .ref b), (1, .ref (b + 42)), (2, .int n)]) hx hb dX0_fallsOf_15 rfl hl (by decide) rfl (fun ls hl => ?_)
  refine w_for (pc := 16) (fun i16 H locs ls => tv_W G A s (tvs G b ((lp (lb_tv_fallsOf_home_16 n3 m3) i16 (upd x 6 (-4), upd g3 39 0)).1) tp n1 m1 g1 n3 m3 ((lp (lb_tv_fallsOf_home_16 n3 m3) i16 (upd x 6 (-4), upd g3 39 0)).2) n3 m3 g3 se bs y0 n4 m4 g4 e0 y1 n5 m5 g5 e1 n6 m6 g6 Z) H locs ∧ lv_has ls 4 [(3, .int (nI (i16 + 1))), (0, .ref b), (1, .ref (b + 42)), (2, .int n)]) n.toNatClampNeg (fun H locs ls hI => ?_) (fun i16 hi16 H locs ls hI ih16 => ?_) 0 (Nat.zero_le _) _ _ _ ⟨w, hl⟩
  · skip
    obtain ⟨w, hl⟩ := hI
    refine lv_iload_n hx hb dX0_fallsOf_16 rfl (lv_at hl 0 rfl) ?_
    refine lv_iload_n hx hb dX0_fallsOf_17 rfl (lv_at hl 3 rfl) ?_
    refine lv_icmp_gt (tgt := 66) hx hb dX0_fallsOf_18 (by decide) (fun _ => ?_) (fun hc => absurd (vg_lt hf (by omega)) hc)
    refine lv_aload_n hx hb dX0_fallsOf_66 rfl (lv_at hl 1 rfl) ?_
    refine r_get M w tc0 0 0 4 rfl rfl (by decide) q723 rfl rfl dX0_fallsOf_67 ?_
    refine r_getN M w tc1 3 0 6 rfl rfl (by decide) q145 rfl rfl dX0_fallsOf_70 ?_
    exact tv_iret M w hr rfl dX0_fallsOf_73
  · skip
    obtain ⟨w, hl⟩ := hI
    refine lv_iload_n hx hb dX0_fallsOf_16 rfl (lv_at hl 0 rfl) ?_
    refine lv_iload_n hx hb dX0_fallsOf_17 rfl (lv_at hl 3 rfl) ?_
    refine lv_icmp_gt (tgt := 66) hx hb dX0_fallsOf_18 (by decide) (fun hc => absurd hc (vg_ge hf (by omega) (by omega))) (fun _ => ?_)
    refine lv_aload_n hx hb dX0_fallsOf_21 rfl (lv_at hl 1 rfl) ?_
    refine r_get M w tc0 0 0 4 rfl rfl (by decide) q723 rfl rfl dX0_fallsOf_22 ?_
    refine lv_iconst (v := 0) hx hb dX0_fallsOf_25 (by decide) ?_
    refine c_vV M w (S' := (tvs G b ((lp (lb_tv_fallsOf_home_16 n3 m3) i16 (upd x 6 (-4), upd g3 39 0)).1) tp n1 m1 g1 n3 m3 (tnF n3 m3 0 ((lp (lb_tv_fallsOf_home_16 n3 m3) i16 (upd x 6 (-4), upd g3 39 0)).2)) n3 m3 g3 se bs y0 n4 m4 g4 e0 y1 n5 m5 g5 e1 n6 m6 g6 Z)) (tv_in.seg 3 rfl rfl) (st_turnGoes l G (b + 22) n3 m3 ((lp (lb_tv_fallsOf_home_16 n3 m3) i16 (upd x 6 (-4), upd g3 39 0)).2) 0 (by omega) (by omega) (lp_inv (f := (lb_tv_fallsOf_home_16 n3 m3)) (x := (upd x 6 (-4), upd g3 39 0)) (fun y => Sok y.2) (hok3.oS (by omega)) (fun i y h => ok_lb_tv_fallsOf_home_16 hn3 hm3 i h) i16)) (q0 := 0) tc1 rfl q512 q513 q514 q69 q515 nm_yX1_turnGoes ⟨Nat.le_of_ble_eq_true rfl, Nat.le_of_ble_eq_true rfl⟩ rfl hl.1 (rest := []) rfl (Nat.le_of_ble_eq_true rfl) dX0_fallsOf_26 ⟨Nat.zero_le _, Nat.zero_le _⟩ (fun H locs w => ?_)
    refine lv_aload_n hx hb dX0_fallsOf_29 rfl (lv_at hl 1 rfl) ?_
    refine lv_aload_n hx hb dX0_fallsOf_30 rfl (lv_at hl 1 rfl) ?_
    refine r_get M w tc0 0 0 6 rfl rfl (by decide) q725 rfl rfl dX0_fallsOf_31 ?_
    refine lv_bipush (v := -4) hx hb dX0_fallsOf_34 (by decide) ?_
    refine w_cut (g2 := F0 m 57 ls [.int (if (((lp (lb_tv_fallsOf_home_16 n3 m3) i16 (upd x 6 (-4), upd g3 39 0)).1) 6) = (-4) then (if ((tnF n3 m3 0 ((lp (lb_tv_fallsOf_home_16 n3 m3) i16 (upd x 6 (-4), upd g3 39 0)).2)) 39) ≤ 0 then (((lp (lb_tv_fallsOf_home_16 n3 m3) i16 (upd x 6 (-4), upd g3 39 0)).1) 6) else (nI (i16 + 1))) else (((lp (lb_tv_fallsOf_home_16 n3 m3) i16 (upd x 6 (-4), upd g3 39 0)).1) 6)), .ref b]) (fun jn => ?_) ?_
    · skip
      refine lv_icmp_ne (tgt := 53) hx hb dX0_fallsOf_36 (by decide) (fun c1 => ?_) (fun c1 => ?_)
      · skip
        refine lv_aload_n hx hb dX0_fallsOf_53 rfl (lv_at hl 1 rfl) ?_
        refine r_get M w tc0 0 0 6 rfl rfl (by decide) q725 rfl rfl dX0_fallsOf_54 ?_
        exact w_topi (if_neg c1) jn
      · skip
        refine lv_aload_n hx hb dX0_fallsOf_39 rfl (lv_at hl 1 rfl) ?_
        refine r_get M w tc0 0 0 4 rfl rfl (by decide) q723 rfl rfl dX0_fallsOf_40 ?_
        refine r_getN M w tc1 3 0 6 rfl rfl (by decide) q145 rfl rfl dX0_fallsOf_43 ?_
        refine lv_if_le (tgt := 53) hx hb dX0_fallsOf_46 (by decide) (fun c2 => ?_) (fun c2 => ?_)
        · skip
          refine lv_aload_n hx hb dX0_fallsOf_53 rfl (lv_at hl 1 rfl) ?_
          refine r_get M w tc0 0 0 6 rfl rfl (by decide) q725 rfl rfl dX0_fallsOf_54 ?_
          exact w_topi ((if_pos c1).trans (if_pos c2)) jn
        · skip
          refine lv_iload_n hx hb dX0_fallsOf_49 rfl (lv_at hl 0 rfl) ?_
          refine lv_goto (tgt := 57) hx hb dX0_fallsOf_50 (by decide) ?_
          exact w_topi ((if_pos c1).trans (if_neg c2)) jn
    refine r_put M w tc0 0 0 6 rfl rfl (by decide) q725 rfl rfl rfl rfl (Nat.le_of_ble_eq_true rfl) (S' := (tvs G b (upd ((lp (lb_tv_fallsOf_home_16 n3 m3) i16 (upd x 6 (-4), upd g3 39 0)).1) 6 (if (((lp (lb_tv_fallsOf_home_16 n3 m3) i16 (upd x 6 (-4), upd g3 39 0)).1) 6) = (-4) then (if ((tnF n3 m3 0 ((lp (lb_tv_fallsOf_home_16 n3 m3) i16 (upd x 6 (-4), upd g3 39 0)).2)) 39) ≤ 0 then (((lp (lb_tv_fallsOf_home_16 n3 m3) i16 (upd x 6 (-4), upd g3 39 0)).1) 6) else (nI (i16 + 1))) else (((lp (lb_tv_fallsOf_home_16 n3 m3) i16 (upd x 6 (-4), upd g3 39 0)).1) 6))) tp n1 m1 g1 n3 m3 (tnF n3 m3 0 ((lp (lb_tv_fallsOf_home_16 n3 m3) i16 (upd x 6 (-4), upd g3 39 0)).2)) n3 m3 g3 se bs y0 n4 m4 g4 e0 y1 n5 m5 g5 e1 n6 m6 g6 Z)) rfl dX0_fallsOf_57 (fun H locs w => ?_)
    refine lv_iinc (k := 0) (v := nI (i16 + 1 + 1)) (lv' := [(3, .int (nI (i16 + 1 + 1))), (0, .ref b), (1, .ref (b + 42)), (2, .int n)]) hx hb dX0_fallsOf_60 hl rfl (nI_inc (i16 + 1)) (by decide) rfl (fun ls hl => ?_)
    refine lv_goto (tgt := 16) hx hb dX0_fallsOf_63 (by decide) ?_
    exact ih16 _ _ _ ⟨w, lv_sub hl [0, 1, 2, 3] rfl⟩
def sp_tv_runs (x : Nat → Int32) (n1 : Nat) (m1 : Nat) (g1 : Nat → Int32) (n : Int32) (wh : Int32) : Int32 := if (inL n.toInt64 (0 : Int64) (60 : Int64)) = 0 then (-1) else (if (inL wh.toInt64 (0 : Int64) (3 : Int64)) = 0 then (-1) else (if wh = 0 then (sp_tv_fallsOf_now x n1 m1 g1 n) else (if wh = 1 then (sUp (sp_tv_fallsOf_now_g2 x n1 m1 g1 n) m1) else (if wh = 2 then ((sp_tv_fallsOf_now_x x n1 m1 g1 n) 6) else (sTm (sp_tv_fallsOf_now_g2 x n1 m1 g1 n) n1)))))
def sp_tv_runs_x (x : Nat → Int32) (n1 : Nat) (m1 : Nat) (g1 : Nat → Int32) (n : Int32) (wh : Int32) : Nat → Int32 := if (inL n.toInt64 (0 : Int64) (60 : Int64)) = 0 then x else (if (inL wh.toInt64 (0 : Int64) (3 : Int64)) = 0 then x else (if wh = 0 then (sp_tv_fallsOf_now_x x n1 m1 g1 n) else (if wh = 1 then (sp_tv_fallsOf_now_x x n1 m1 g1 n) else (if wh = 2 then (sp_tv_fallsOf_now_x x n1 m1 g1 n) else (sp_tv_fallsOf_now_x x n1 m1 g1 n)))))
def sp_tv_runs_n2 (n1 : Nat) (n2 : Nat) (n : Int32) (wh : Int32) : Nat := if (inL n.toInt64 (0 : Int64) (60 : Int64)) = 0 then n2 else (if (inL wh.toInt64 (0 : Int64) (3 : Int64)) = 0 then n2 else (if wh = 0 then n1 else (if wh = 1 then n1 else (if wh = 2 then n1 else n1))))
def sp_tv_runs_m2 (m1 : Nat) (m2 : Nat) (n : Int32) (wh : Int32) : Nat := if (inL n.toInt64 (0 : Int64) (60 : Int64)) = 0 then m2 else (if (inL wh.toInt64 (0 : Int64) (3 : Int64)) = 0 then m2 else (if wh = 0 then m1 else (if wh = 1 then m1 else (if wh = 2 then m1 else m1))))
def sp_tv_runs_g2 (x : Nat → Int32) (n1 : Nat) (m1 : Nat) (g1 : Nat → Int32) (g2 : Nat → Int32) (n : Int32) (wh : Int32) : Nat → Int32 := if (inL n.toInt64 (0 : Int64) (60 : Int64)) = 0 then g2 else (if (inL wh.toInt64 (0 : Int64) (3 : Int64)) = 0 then g2 else (if wh = 0 then (sp_tv_fallsOf_now_g2 x n1 m1 g1 n) else (if wh = 1 then (sp_tv_fallsOf_now_g2 x n1 m1 g1 n) else (if wh = 2 then (sp_tv_fallsOf_now_g2 x n1 m1 g1 n) else (sp_tv_fallsOf_now_g2 x n1 m1 g1 n)))))
set_option maxHeartbeats 4000000 in
set_option maxRecDepth 100000 in
theorem tv_runs (l : Launch) (G : tG) (b : Nat) (x : Nat → Int32) (tp : Nat → Int32) (n1 : Nat) (m1 : Nat) (g1 : Nat → Int32) (n2 : Nat) (m2 : Nat) (g2 : Nat → Int32) (n3 : Nat) (m3 : Nat) (g3 : Nat → Int32) (se : Nat → Int32) (bs : Nat → Int32) (y0 : Nat → Int32) (n4 : Nat) (m4 : Nat) (g4 : Nat → Int32) (e0 : Nat → Int32) (y1 : Nat → Int32) (n5 : Nat) (m5 : Nat) (g5 : Nat → Int32) (e1 : Nat → Int32) (n6 : Nat) (m6 : Nat) (g6 : Nat → Int32) (Z : List va_W) (n : Int32) (wh : Int32) (hn : n1 ≤ 6) (hm : m1 ≤ 4) (hok : Sok g1) : tv_I l yX0_runs cX0_runs 4 (some .int) (tv_rm 7 155) G [.ref b, .int n, .int wh] (tvs G b x tp n1 m1 g1 n2 m2 g2 n3 m3 g3 se bs y0 n4 m4 g4 e0 y1 n5 m5 g5 e1 n6 m6 g6 Z).flatten (sp_tv_runs x n1 m1 g1 n wh) (tvs G b (sp_tv_runs_x x n1 m1 g1 n wh) tp n1 m1 g1 (sp_tv_runs_n2 n1 n2 n wh) (sp_tv_runs_m2 m1 m2 n wh) (sp_tv_runs_g2 x n1 m1 g1 g2 n wh) n3 m3 g3 se bs y0 n4 m4 g4 e0 y1 n5 m5 g5 e1 n6 m6 g6 Z).flatten := by
  refine tv_I.st (S := (tvs G b x tp n1 m1 g1 n2 m2 g2 n3 m3 g3 se bs y0 n4 m4 g4 e0 y1 n5 m5 g5 e1 n6 m6 g6 Z)) (S' := (tvs G b (sp_tv_runs_x x n1 m1 g1 n wh) tp n1 m1 g1 (sp_tv_runs_n2 n1 n2 n wh) (sp_tv_runs_m2 m1 m2 n wh) (sp_tv_runs_g2 x n1 m1 g1 g2 n wh) n3 m3 g3 se bs y0 n4 m4 g4 e0 y1 n5 m5 g5 e1 n6 m6 g6 Z)) rfl rfl (by decide) (Nat.le_of_ble_eq_true rfl) ?_
  intro p e s m below meth c A M hr w ls hl
  have hx := M.1.1
  have hb := M.1.2.1
  have hl : lv_has ls 4 [(0, .ref b), (1, .int n), (2, .int wh)] := hl
  refine lv_iload_n hx hb dX0_runs_0 rfl (lv_at hl 1 rfl) ?_
  refine c_iS M w (S' := (tvs G b x tp n1 m1 g1 n2 m2 g2 n3 m3 g3 se bs y0 n4 m4 g4 e0 y1 n5 m5 g5 e1 n6 m6 g6 Z)) tv_in.nil (tv_isLong l G n) q533 q534 q68 q535 nm_yX0_isLong ⟨Nat.le_of_ble_eq_true rfl, Nat.le_of_ble_eq_true rfl⟩ rfl hl.1 (rest := []) rfl (Nat.le_of_ble_eq_true rfl) dX0_runs_1 ⟨Nat.zero_le _, Nat.zero_le _⟩ (fun H locs w => ?_)
  refine lv_if_eq (tgt := 19) hx hb dX0_runs_4 (by decide) (fun c6 => ?_) (fun c6 => ?_)
  · skip
    refine lv_iconst (v := -1) hx hb dX0_runs_19 (by decide) ?_
    exact tv_iret M (by rw [show sp_tv_runs_x x n1 m1 g1 n wh = _ from if_pos c6, show sp_tv_runs_n2 n1 n2 n wh = _ from if_pos c6, show sp_tv_runs_m2 m1 m2 n wh = _ from if_pos c6, show sp_tv_runs_g2 x n1 m1 g1 g2 n wh = _ from if_pos c6]; exact w) hr (if_pos c6).symm dX0_runs_20
  · skip
    refine lv_iload_n hx hb dX0_runs_7 rfl (lv_at hl 2 rfl) ?_
    refine lv_i2l (v := wh.toInt64) hx hb dX0_runs_8 rfl ?_
    refine lv_lconst (v := 0) hx hb dX0_runs_9 (by decide) ?_
    refine lv_ldc2 (v := 3) hx hb M.1.2.2.2.1 (M.1.2.2.2.2 _ q426) dX0_runs_10 ?_
    refine c_iS M w (S' := (tvs G b x tp n1 m1 g1 n2 m2 g2 n3 m3 g3 se bs y0 n4 m4 g4 e0 y1 n5 m5 g5 e1 n6 m6 g6 Z)) tv_in.nil (tv_isIn l G wh.toInt64 (0 : Int64) (3 : Int64)) q95 q96 q68 q97 nm_yX0_isIn ⟨Nat.le_of_ble_eq_true rfl, Nat.le_of_ble_eq_true rfl⟩ rfl hl.1 (rest := []) rfl (Nat.le_of_ble_eq_true rfl) dX0_runs_13 ⟨Nat.zero_le _, Nat.zero_le _⟩ (fun H locs w => ?_)
    refine lv_if_ne (tgt := 21) hx hb dX0_runs_16 (by decide) (fun c7 => ?_) (fun c7 => ?_)
    · skip
      refine lv_aload_n hx hb dX0_runs_21 rfl (lv_at hl 0 rfl) ?_
      refine lv_aload_n hx hb dX0_runs_22 rfl (lv_at hl 0 rfl) ?_
      refine r_get M w tc0 0 0 3 rfl rfl (by decide) q722 rfl rfl dX0_runs_23 ?_
      refine lv_iload_n hx hb dX0_runs_26 rfl (lv_at hl 1 rfl) ?_
      refine c_iV M w (S' := (tvs G b (sp_tv_fallsOf_now_x x n1 m1 g1 n) tp n1 m1 g1 n1 m1 (sp_tv_fallsOf_now_g2 x n1 m1 g1 n) n3 m3 g3 se bs y0 n4 m4 g4 e0 y1 n5 m5 g5 e1 n6 m6 g6 Z)) tv_in.all (tv_fallsOf_now l G b x tp n1 m1 g1 n2 m2 g2 n3 m3 g3 se bs y0 n4 m4 g4 e0 y1 n5 m5 g5 e1 n6 m6 g6 Z n (by omega) (by omega) hok (vp_w (inL_1 (k := 60) (by omega) c6) (by omega))) (q0 := 0) tc0 rfl q537 q539 qs17 q68 q540 nm_yX0_fallsOf ⟨Nat.le_of_ble_eq_true rfl, Nat.le_of_ble_eq_true rfl⟩ rfl hl.1 (rest := []) rfl (Nat.le_of_ble_eq_true rfl) dX0_runs_27 ⟨Nat.zero_le _, Nat.zero_le _⟩ (fun H locs w => ?_)
      refine lv_istore_n (lv' := [(3, .int (sp_tv_fallsOf_now x n1 m1 g1 n)), (0, .ref b), (1, .int n), (2, .int wh)]) hx hb dX0_runs_30 rfl hl (by decide) rfl (fun ls hl => ?_)
      refine lv_iload_n hx hb dX0_runs_31 rfl (lv_at hl 3 rfl) ?_
      refine lv_if_ne (tgt := 39) hx hb dX0_runs_32 (by decide) (fun c8 => ?_) (fun c8 => ?_)
      · skip
        refine lv_iload_n hx hb dX0_runs_39 rfl (lv_at hl 3 rfl) ?_
        refine lv_iconst (v := 1) hx hb dX0_runs_40 (by decide) ?_
        refine lv_icmp_ne (tgt := 54) hx hb dX0_runs_41 (by decide) (fun c9 => ?_) (fun c9 => ?_)
        · skip
          refine lv_iload_n hx hb dX0_runs_54 rfl (lv_at hl 3 rfl) ?_
          refine lv_iconst (v := 2) hx hb dX0_runs_55 (by decide) ?_
          refine lv_icmp_ne (tgt := 66) hx hb dX0_runs_56 (by decide) (fun c10 => ?_) (fun c10 => ?_)
          · skip
            refine lv_aload_n hx hb dX0_runs_66 rfl (lv_at hl 1 rfl) ?_
            refine r_get M w tc0 0 0 4 rfl rfl (by decide) q723 rfl rfl dX0_runs_67 ?_
            refine c_iV M w (S' := (tvs G b (sp_tv_fallsOf_now_x x n1 m1 g1 n) tp n1 m1 g1 n1 m1 (sp_tv_fallsOf_now_g2 x n1 m1 g1 n) n3 m3 g3 se bs y0 n4 m4 g4 e0 y1 n5 m5 g5 e1 n6 m6 g6 Z)) (tv_in.seg 3 rfl rfl) (st_temper l G (b + 22) n1 m1 (sp_tv_fallsOf_now_g2 x n1 m1 g1 n)  (by omega) (by omega)) (q0 := 0) tc1 rfl q417 q418 q419 q69 q420 nm_yX1_temper ⟨Nat.le_of_ble_eq_true rfl, Nat.le_of_ble_eq_true rfl⟩ rfl hl.1 (rest := []) rfl (Nat.le_of_ble_eq_true rfl) dX0_runs_70 ⟨Nat.zero_le _, Nat.zero_le _⟩ (fun H locs w => ?_)
            exact tv_iret M (by rw [show sp_tv_runs_x x n1 m1 g1 n wh = _ from (if_neg c6).trans ((if_neg c7).trans ((if_neg c8).trans ((if_neg c9).trans (if_neg c10)))), show sp_tv_runs_n2 n1 n2 n wh = _ from (if_neg c6).trans ((if_neg c7).trans ((if_neg c8).trans ((if_neg c9).trans (if_neg c10)))), show sp_tv_runs_m2 m1 m2 n wh = _ from (if_neg c6).trans ((if_neg c7).trans ((if_neg c8).trans ((if_neg c9).trans (if_neg c10)))), show sp_tv_runs_g2 x n1 m1 g1 g2 n wh = _ from (if_neg c6).trans ((if_neg c7).trans ((if_neg c8).trans ((if_neg c9).trans (if_neg c10))))]; exact w) hr ((if_neg c6).trans ((if_neg c7).trans ((if_neg c8).trans ((if_neg c9).trans (if_neg c10))))).symm dX0_runs_73
          · skip
            refine lv_aload_n hx hb dX0_runs_59 rfl (lv_at hl 1 rfl) ?_
            refine r_get M w tc0 0 0 6 rfl rfl (by decide) q725 rfl rfl dX0_runs_60 ?_
            refine lv_goto (tgt := 73) hx hb dX0_runs_63 (by decide) ?_
            exact tv_iret M (by rw [show sp_tv_runs_x x n1 m1 g1 n wh = _ from (if_neg c6).trans ((if_neg c7).trans ((if_neg c8).trans ((if_neg c9).trans (if_pos c10)))), show sp_tv_runs_n2 n1 n2 n wh = _ from (if_neg c6).trans ((if_neg c7).trans ((if_neg c8).trans ((if_neg c9).trans (if_pos c10)))), show sp_tv_runs_m2 m1 m2 n wh = _ from (if_neg c6).trans ((if_neg c7).trans ((if_neg c8).trans ((if_neg c9).trans (if_pos c10)))), show sp_tv_runs_g2 x n1 m1 g1 g2 n wh = _ from (if_neg c6).trans ((if_neg c7).trans ((if_neg c8).trans ((if_neg c9).trans (if_pos c10))))]; exact w) hr ((if_neg c6).trans ((if_neg c7).trans ((if_neg c8).trans ((if_neg c9).trans (if_pos c10))))).symm dX0_runs_73
        · skip
          refine lv_aload_n hx hb dX0_runs_44 rfl (lv_at hl 1 rfl) ?_
          refine r_get M w tc0 0 0 4 rfl rfl (by decide) q723 rfl rfl dX0_runs_45 ?_
          refine c_iV M w (S' := (tvs G b (sp_tv_fallsOf_now_x x n1 m1 g1 n) tp n1 m1 g1 n1 m1 (sp_tv_fallsOf_now_g2 x n1 m1 g1 n) n3 m3 g3 se bs y0 n4 m4 g4 e0 y1 n5 m5 g5 e1 n6 m6 g6 Z)) (tv_in.seg 3 rfl rfl) (st_standing l G (b + 22) n1 m1 (sp_tv_fallsOf_now_g2 x n1 m1 g1 n)  (by omega) (by omega)) (q0 := 0) tc1 rfl q398 q399 q400 q69 q401 nm_yX1_standing ⟨Nat.le_of_ble_eq_true rfl, Nat.le_of_ble_eq_true rfl⟩ rfl hl.1 (rest := []) rfl (Nat.le_of_ble_eq_true rfl) dX0_runs_48 ⟨Nat.zero_le _, Nat.zero_le _⟩ (fun H locs w => ?_)
          refine lv_goto (tgt := 73) hx hb dX0_runs_51 (by decide) ?_
          exact tv_iret M (by rw [show sp_tv_runs_x x n1 m1 g1 n wh = _ from (if_neg c6).trans ((if_neg c7).trans ((if_neg c8).trans (if_pos c9))), show sp_tv_runs_n2 n1 n2 n wh = _ from (if_neg c6).trans ((if_neg c7).trans ((if_neg c8).trans (if_pos c9))), show sp_tv_runs_m2 m1 m2 n wh = _ from (if_neg c6).trans ((if_neg c7).trans ((if_neg c8).trans (if_pos c9))), show sp_tv_runs_g2 x n1 m1 g1 g2 n wh = _ from (if_neg c6).trans ((if_neg c7).trans ((if_neg c8).trans (if_pos c9)))]; exact w) hr ((if_neg c6).trans ((if_neg c7).trans ((if_neg c8).trans (if_pos c9)))).symm dX0_runs_73
      · skip
        refine lv_iload_n hx hb dX0_runs_35 rfl (lv_at hl 0 rfl) ?_
        refine lv_goto (tgt := 73) hx hb dX0_runs_36 (by decide) ?_
        exact tv_iret M (by rw [show sp_tv_runs_x x n1 m1 g1 n wh = _ from (if_neg c6).trans ((if_neg c7).trans (if_pos c8)), show sp_tv_runs_n2 n1 n2 n wh = _ from (if_neg c6).trans ((if_neg c7).trans (if_pos c8)), show sp_tv_runs_m2 m1 m2 n wh = _ from (if_neg c6).trans ((if_neg c7).trans (if_pos c8)), show sp_tv_runs_g2 x n1 m1 g1 g2 n wh = _ from (if_neg c6).trans ((if_neg c7).trans (if_pos c8))]; exact w) hr ((if_neg c6).trans ((if_neg c7).trans (if_pos c8))).symm dX0_runs_73
    · skip
      refine lv_iconst (v := -1) hx hb dX0_runs_19 (by decide) ?_
      exact tv_iret M (by rw [show sp_tv_runs_x x n1 m1 g1 n wh = _ from (if_neg c6).trans (if_pos c7), show sp_tv_runs_n2 n1 n2 n wh = _ from (if_neg c6).trans (if_pos c7), show sp_tv_runs_m2 m1 m2 n wh = _ from (if_neg c6).trans (if_pos c7), show sp_tv_runs_g2 x n1 m1 g1 g2 n wh = _ from (if_neg c6).trans (if_pos c7)]; exact w) hr ((if_neg c6).trans (if_pos c7)).symm dX0_runs_20
def sp_tv_ahead (x : Nat → Int32) (n1 : Nat) (m1 : Nat) (g1 : Nat → Int32) (h : Int32) (n : Int32) : Int32 := if (isI h n1) = 0 then (-1) else (if (inL n.toInt64 (0 : Int64) (60 : Int64)) = 0 then (-1) else ((sp_tv_fallsOf_now_g2 x n1 m1 g1 n) (12 + 3 * h.toNatClampNeg + 2)))
def sp_tv_ahead_x (x : Nat → Int32) (n1 : Nat) (m1 : Nat) (g1 : Nat → Int32) (h : Int32) (n : Int32) : Nat → Int32 := if (isI h n1) = 0 then x else (if (inL n.toInt64 (0 : Int64) (60 : Int64)) = 0 then x else (sp_tv_fallsOf_now_x x n1 m1 g1 n))
def sp_tv_ahead_n2 (n1 : Nat) (n2 : Nat) (h : Int32) (n : Int32) : Nat := if (isI h n1) = 0 then n2 else (if (inL n.toInt64 (0 : Int64) (60 : Int64)) = 0 then n2 else n1)
def sp_tv_ahead_m2 (n1 : Nat) (m1 : Nat) (m2 : Nat) (h : Int32) (n : Int32) : Nat := if (isI h n1) = 0 then m2 else (if (inL n.toInt64 (0 : Int64) (60 : Int64)) = 0 then m2 else m1)
def sp_tv_ahead_g2 (x : Nat → Int32) (n1 : Nat) (m1 : Nat) (g1 : Nat → Int32) (g2 : Nat → Int32) (h : Int32) (n : Int32) : Nat → Int32 := if (isI h n1) = 0 then g2 else (if (inL n.toInt64 (0 : Int64) (60 : Int64)) = 0 then g2 else (sp_tv_fallsOf_now_g2 x n1 m1 g1 n))
set_option maxHeartbeats 4000000 in
set_option maxRecDepth 100000 in
theorem tv_ahead (l : Launch) (G : tG) (b : Nat) (x : Nat → Int32) (tp : Nat → Int32) (n1 : Nat) (m1 : Nat) (g1 : Nat → Int32) (n2 : Nat) (m2 : Nat) (g2 : Nat → Int32) (n3 : Nat) (m3 : Nat) (g3 : Nat → Int32) (se : Nat → Int32) (bs : Nat → Int32) (y0 : Nat → Int32) (n4 : Nat) (m4 : Nat) (g4 : Nat → Int32) (e0 : Nat → Int32) (y1 : Nat → Int32) (n5 : Nat) (m5 : Nat) (g5 : Nat → Int32) (e1 : Nat → Int32) (n6 : Nat) (m6 : Nat) (g6 : Nat → Int32) (Z : List va_W) (h : Int32) (n : Int32) (hn : n1 ≤ 6) (hm : m1 ≤ 4) (hok : Sok g1) : tv_I l yX0_ahead cX0_ahead 3 (some .int) (tv_rm 7 155) G [.ref b, .int h, .int n] (tvs G b x tp n1 m1 g1 n2 m2 g2 n3 m3 g3 se bs y0 n4 m4 g4 e0 y1 n5 m5 g5 e1 n6 m6 g6 Z).flatten (sp_tv_ahead x n1 m1 g1 h n) (tvs G b (sp_tv_ahead_x x n1 m1 g1 h n) tp n1 m1 g1 (sp_tv_ahead_n2 n1 n2 h n) (sp_tv_ahead_m2 n1 m1 m2 h n) (sp_tv_ahead_g2 x n1 m1 g1 g2 h n) n3 m3 g3 se bs y0 n4 m4 g4 e0 y1 n5 m5 g5 e1 n6 m6 g6 Z).flatten := by
  refine tv_I.st (S := (tvs G b x tp n1 m1 g1 n2 m2 g2 n3 m3 g3 se bs y0 n4 m4 g4 e0 y1 n5 m5 g5 e1 n6 m6 g6 Z)) (S' := (tvs G b (sp_tv_ahead_x x n1 m1 g1 h n) tp n1 m1 g1 (sp_tv_ahead_n2 n1 n2 h n) (sp_tv_ahead_m2 n1 m1 m2 h n) (sp_tv_ahead_g2 x n1 m1 g1 g2 h n) n3 m3 g3 se bs y0 n4 m4 g4 e0 y1 n5 m5 g5 e1 n6 m6 g6 Z)) rfl rfl (by decide) (Nat.le_of_ble_eq_true rfl) ?_
  intro p e s m below meth c A M hr w ls hl
  have hx := M.1.1
  have hb := M.1.2.1
  have hl : lv_has ls 3 [(0, .ref b), (1, .int h), (2, .int n)] := hl
  refine lv_aload_n hx hb dX0_ahead_0 rfl (lv_at hl 0 rfl) ?_
  refine lv_iload_n hx hb dX0_ahead_1 rfl (lv_at hl 1 rfl) ?_
  refine c_iV M w (S' := (tvs G b x tp n1 m1 g1 n2 m2 g2 n3 m3 g3 se bs y0 n4 m4 g4 e0 y1 n5 m5 g5 e1 n6 m6 g6 Z)) tv_in.all (tv_isHand l G b x tp n1 m1 g1 n2 m2 g2 n3 m3 g3 se bs y0 n4 m4 g4 e0 y1 n5 m5 g5 e1 n6 m6 g6 Z h (by omega) (by omega)) (q0 := 0) tc0 rfl q439 q441 qs12 q68 q443 nm_yX0_isHand ⟨Nat.le_of_ble_eq_true rfl, Nat.le_of_ble_eq_true rfl⟩ rfl hl.1 (rest := []) rfl (Nat.le_of_ble_eq_true rfl) dX0_ahead_2 ⟨Nat.zero_le _, Nat.zero_le _⟩ (fun H locs w => ?_)
  refine lv_if_eq (tgt := 15) hx hb dX0_ahead_5 (by decide) (fun c3 => ?_) (fun c3 => ?_)
  · skip
    refine lv_iconst (v := -1) hx hb dX0_ahead_15 (by decide) ?_
    exact tv_iret M (by rw [show sp_tv_ahead_x x n1 m1 g1 h n = _ from if_pos c3, show sp_tv_ahead_n2 n1 n2 h n = _ from if_pos c3, show sp_tv_ahead_m2 n1 m1 m2 h n = _ from if_pos c3, show sp_tv_ahead_g2 x n1 m1 g1 g2 h n = _ from if_pos c3]; exact w) hr (if_pos c3).symm dX0_ahead_16
  · skip
    refine lv_iload_n hx hb dX0_ahead_8 rfl (lv_at hl 2 rfl) ?_
    refine c_iS M w (S' := (tvs G b x tp n1 m1 g1 n2 m2 g2 n3 m3 g3 se bs y0 n4 m4 g4 e0 y1 n5 m5 g5 e1 n6 m6 g6 Z)) tv_in.nil (tv_isLong l G n) q533 q534 q68 q535 nm_yX0_isLong ⟨Nat.le_of_ble_eq_true rfl, Nat.le_of_ble_eq_true rfl⟩ rfl hl.1 (rest := []) rfl (Nat.le_of_ble_eq_true rfl) dX0_ahead_9 ⟨Nat.zero_le _, Nat.zero_le _⟩ (fun H locs w => ?_)
    refine lv_if_ne (tgt := 17) hx hb dX0_ahead_12 (by decide) (fun c4 => ?_) (fun c4 => ?_)
    · skip
      refine lv_aload_n hx hb dX0_ahead_17 rfl (lv_at hl 0 rfl) ?_
      refine lv_aload_n hx hb dX0_ahead_18 rfl (lv_at hl 0 rfl) ?_
      refine r_get M w tc0 0 0 3 rfl rfl (by decide) q722 rfl rfl dX0_ahead_19 ?_
      refine lv_iload_n hx hb dX0_ahead_22 rfl (lv_at hl 2 rfl) ?_
      refine c_iV M w (S' := (tvs G b (sp_tv_fallsOf_now_x x n1 m1 g1 n) tp n1 m1 g1 n1 m1 (sp_tv_fallsOf_now_g2 x n1 m1 g1 n) n3 m3 g3 se bs y0 n4 m4 g4 e0 y1 n5 m5 g5 e1 n6 m6 g6 Z)) tv_in.all (tv_fallsOf_now l G b x tp n1 m1 g1 n2 m2 g2 n3 m3 g3 se bs y0 n4 m4 g4 e0 y1 n5 m5 g5 e1 n6 m6 g6 Z n (by omega) (by omega) hok (vp_w (inL_1 (k := 60) (by omega) c4) (by omega))) (q0 := 0) tc0 rfl q537 q539 qs17 q68 q540 nm_yX0_fallsOf ⟨Nat.le_of_ble_eq_true rfl, Nat.le_of_ble_eq_true rfl⟩ rfl hl.1 (rest := []) rfl (Nat.le_of_ble_eq_true rfl) dX0_ahead_23 ⟨Nat.zero_le _, Nat.zero_le _⟩ (fun H locs w => ?_)
      refine lv_pop hx hb dX0_ahead_26 rfl ?_
      refine lv_aload_n hx hb dX0_ahead_27 rfl (lv_at hl 0 rfl) ?_
      refine r_get M w tc0 0 0 4 rfl rfl (by decide) q723 rfl rfl dX0_ahead_28 ?_
      refine r_getN M w tc1 3 0 1 rfl rfl (by decide) q132 rfl rfl dX0_ahead_31 ?_
      refine lv_iload_n hx hb dX0_ahead_34 rfl (lv_at hl 1 rfl) ?_
      refine r_aald M w 3 8 4 rfl rfl rfl rfl (vp_w (isI_1 c3 (by omega)) (by omega)) (v := (b + 22) + 9 + h.toNatClampNeg) (oref_in (vp_w (isI_1 c3 (by omega)) (by omega))) dX0_ahead_35 ?_
      refine lv_iconst (v := 2) hx hb dX0_ahead_36 (by decide) ?_
      refine r_iald M w 3 (9 + h.toNatClampNeg) rfl (stg_hd G (b + 22) n1 m1 (sp_tv_fallsOf_now_g2 x n1 m1 g1 n) (vp_cl (vp_w (isI_1 c3 (by omega)) (by omega)))) (pk_in 2 3 (by decide)) (v := (sp_tv_fallsOf_now_g2 x n1 m1 g1 n) (12 + 3 * h.toNatClampNeg + 2)) rfl dX0_ahead_37 ?_
      exact tv_iret M (by rw [show sp_tv_ahead_x x n1 m1 g1 h n = _ from (if_neg c3).trans (if_neg c4), show sp_tv_ahead_n2 n1 n2 h n = _ from (if_neg c3).trans (if_neg c4), show sp_tv_ahead_m2 n1 m1 m2 h n = _ from (if_neg c3).trans (if_neg c4), show sp_tv_ahead_g2 x n1 m1 g1 g2 h n = _ from (if_neg c3).trans (if_neg c4)]; exact w) hr ((if_neg c3).trans (if_neg c4)).symm dX0_ahead_38
    · skip
      refine lv_iconst (v := -1) hx hb dX0_ahead_15 (by decide) ?_
      exact tv_iret M (by rw [show sp_tv_ahead_x x n1 m1 g1 h n = _ from (if_neg c3).trans (if_pos c4), show sp_tv_ahead_n2 n1 n2 h n = _ from (if_neg c3).trans (if_pos c4), show sp_tv_ahead_m2 n1 m1 m2 h n = _ from (if_neg c3).trans (if_pos c4), show sp_tv_ahead_g2 x n1 m1 g1 g2 h n = _ from (if_neg c3).trans (if_pos c4)]; exact w) hr ((if_neg c3).trans (if_pos c4)).symm dX0_ahead_16
