/-! TrapdoorVotes: loops that may return -/
theorem Sok.kdS {g : Nat → Int32} (h : Sok g) {i : Nat} (hi : i < 6) {x : Int32} (hx : vp_in x 4) : Sok (upd g (12 + 3 * i) x) := by
  refine ⟨fun k hk => ⟨?_, ?_, ?_⟩, fun k hk => ⟨?_, ?_⟩, fun k hk => ⟨?_, ?_⟩⟩
  · by_cases e : k = i
    · subst e; rw [upd_eq]; exact hx
    · rw [upd_ne (by omega)]; exact h.kd hk
  · rw [upd_ne (by omega)]; exact h.at hk
  · rw [upd_ne (by omega)]; exact h.tm hk
  · rw [upd_ne (by omega)]; exact h.td hk
  · rw [upd_ne (by omega)]; exact (h.2.1 k hk).2
  · rw [upd_ne (by omega)]; exact (h.2.2 k hk).1
  · rw [upd_ne (by omega)]; exact (h.2.2 k hk).2
theorem Sok.atS {g : Nat → Int32} (h : Sok g) {i : Nat} (hi : i < 6) {x : Int32} (hx : vp_in x 6) : Sok (upd g (12 + 3 * i + 1) x) := by
  refine ⟨fun k hk => ⟨?_, ?_, ?_⟩, fun k hk => ⟨?_, ?_⟩, fun k hk => ⟨?_, ?_⟩⟩
  · rw [upd_ne (by omega)]; exact h.kd hk
  · by_cases e : k = i
    · subst e; rw [upd_eq]; exact hx
    · rw [upd_ne (by omega)]; exact h.at hk
  · rw [upd_ne (by omega)]; exact h.tm hk
  · rw [upd_ne (by omega)]; exact h.td hk
  · rw [upd_ne (by omega)]; exact (h.2.1 k hk).2
  · rw [upd_ne (by omega)]; exact (h.2.2 k hk).1
  · rw [upd_ne (by omega)]; exact (h.2.2 k hk).2
theorem Sok.tmS2 {g : Nat → Int32} (h : Sok g) {i : Nat} (hi : i < 6) {x : Int32} (hx : vp_in x 100) : Sok (upd g (12 + 3 * i + 2) x) := by
  refine ⟨fun k hk => ⟨?_, ?_, ?_⟩, fun k hk => ⟨?_, ?_⟩, fun k hk => ⟨?_, ?_⟩⟩
  · rw [upd_ne (by omega)]; exact h.kd hk
  · rw [upd_ne (by omega)]; exact h.at hk
  · by_cases e : k = i
    · subst e; rw [upd_eq]; exact hx
    · rw [upd_ne (by omega)]; exact h.tm hk
  · rw [upd_ne (by omega)]; exact h.td hk
  · rw [upd_ne (by omega)]; exact (h.2.1 k hk).2
  · rw [upd_ne (by omega)]; exact (h.2.2 k hk).1
  · rw [upd_ne (by omega)]; exact (h.2.2 k hk).2
theorem Sok.tdS {g : Nat → Int32} (h : Sok g) {i : Nat} {x : Int32} (hx : vp_in x 10) : Sok (upd g (30 + 2 * i) x) := by
  refine ⟨fun k hk => ⟨?_, ?_, ?_⟩, fun k hk => ⟨?_, ?_⟩, fun k hk => ⟨?_, ?_⟩⟩
  · rw [upd_ne (by omega)]; exact h.kd hk
  · rw [upd_ne (by omega)]; exact h.at hk
  · rw [upd_ne (by omega)]; exact h.tm hk
  · by_cases e : k = i
    · subst e; rw [upd_eq]; exact hx
    · rw [upd_ne (by omega)]; exact h.td hk
  · rw [upd_ne (by omega)]; exact (h.2.1 k hk).2
  · rw [upd_ne (by omega)]; exact (h.2.2 k hk).1
  · rw [upd_ne (by omega)]; exact (h.2.2 k hk).2
theorem Sok.ruS {g : Nat → Int32} (h : Sok g) {i : Nat} (hi : i < 6) {x : Int32} (hx : vp_in x 21) : Sok (upd g (2 * i) x) := by
  refine ⟨fun k hk => ⟨?_, ?_, ?_⟩, fun k hk => ⟨?_, ?_⟩, fun k hk => ⟨?_, ?_⟩⟩
  · rw [upd_ne (by omega)]; exact h.kd hk
  · rw [upd_ne (by omega)]; exact h.at hk
  · rw [upd_ne (by omega)]; exact h.tm hk
  · rw [upd_ne (by omega)]; exact h.td hk
  · rw [upd_ne (by omega)]; exact (h.2.1 k hk).2
  · by_cases e : k = i
    · subst e; rw [upd_eq]; exact hx
    · rw [upd_ne (by omega)]; exact (h.2.2 k hk).1
  · rw [upd_ne (by omega)]; exact (h.2.2 k hk).2
theorem Sok.neS {g : Nat → Int32} (h : Sok g) {i : Nat} (hi : i < 6) {x : Int32} (hx : vp_in x 4) : Sok (upd g (2 * i + 1) x) := by
  refine ⟨fun k hk => ⟨?_, ?_, ?_⟩, fun k hk => ⟨?_, ?_⟩, fun k hk => ⟨?_, ?_⟩⟩
  · rw [upd_ne (by omega)]; exact h.kd hk
  · rw [upd_ne (by omega)]; exact h.at hk
  · rw [upd_ne (by omega)]; exact h.tm hk
  · rw [upd_ne (by omega)]; exact h.td hk
  · rw [upd_ne (by omega)]; exact (h.2.1 k hk).2
  · rw [upd_ne (by omega)]; exact (h.2.2 k hk).1
  · by_cases e : k = i
    · subst e; rw [upd_eq]; exact hx
    · rw [upd_ne (by omega)]; exact (h.2.2 k hk).2
def lpx {α : Type} (f : Nat → α → Bool × α) : Nat → Nat → α → Bool × α
  | 0, _, x => (false, x)
  | k + 1, i, x => if (f i x).1 = true then f i x else lpx f k (i + 1) (f i x).2
theorem lp_go {α : Type} {f : Nat → α → α} {i : Nat} {x y z : α} (h : lp f i x = y) (hf : f i y = z) : lp f (i + 1) x = z := by
  subst h; exact hf
theorem lpx_end {α : Type} {f : Nat → α → Bool × α} {N : Nat} {x : α} {r : Bool × α} (h : lpx f (N - N) N x = r) : ¬ r.1 = true ∧ x = r.2 := by
  rw [Nat.sub_self] at h
  subst h
  exact ⟨Bool.false_ne_true, rfl⟩
theorem lpx_go {α : Type} {f : Nat → α → Bool × α} {N i : Nat} {x y : α} {r : Bool × α} (hi : i < N) (hf : f i x = (false, y)) (h : lpx f (N - i) i x = r) : lpx f (N - (i + 1)) (i + 1) y = r := by
  rw [show N - i = (N - (i + 1)) + 1 by omega] at h
  unfold lpx at h
  rw [hf, if_neg (Bool.false_ne_true : ¬ (false, y).1 = true)] at h
  exact h
theorem lpx_ret {α : Type} {f : Nat → α → Bool × α} {N i : Nat} {x y : α} {r : Bool × α} (hi : i < N) (hf : f i x = (true, y)) (h : lpx f (N - i) i x = r) : r = (true, y) := by
  rw [show N - i = (N - (i + 1)) + 1 by omega] at h
  unfold lpx at h
  rw [hf, if_pos rfl] at h
  exact h.symm
def lb_tv_lastsOf_now_10 (n1 : Nat) (m1 : Nat) (u : Int32) (i10 : Nat) (st10 : Int32 × (Nat → Int32)) : Bool × Int32 × (Nat → Int32) := if (b2 (st10.2 (30 + 2 * u.toNatClampNeg + 1) = -4)) = 0 then (false, st10.1, tnF n1 m1 0 st10.2) else (true, nI i10, st10.2)
def sp_tv_lastsOf_now (n1 : Nat) (m1 : Nat) (g1 : Nat → Int32) (u : Int32) : Int32 := if (lpx (lb_tv_lastsOf_now_10 n1 m1 u) 61 0 (0, upd g1 39 0)).1 = true then (((lpx (lb_tv_lastsOf_now_10 n1 m1 u) 61 0 (0, upd g1 39 0)).2).1) else (-4)
def sp_tv_lastsOf_now_g2 (n1 : Nat) (m1 : Nat) (g1 : Nat → Int32) (u : Int32) : Nat → Int32 := if (lpx (lb_tv_lastsOf_now_10 n1 m1 u) 61 0 (0, upd g1 39 0)).1 = true then (((lpx (lb_tv_lastsOf_now_10 n1 m1 u) 61 0 (0, upd g1 39 0)).2).2) else (((lpx (lb_tv_lastsOf_now_10 n1 m1 u) 61 0 (0, upd g1 39 0)).2).2)
set_option maxHeartbeats 4000000 in
set_option maxRecDepth 100000 in
theorem tv_lastsOf_now (l : Launch) (G : tG) (b : Nat) (x : Nat → Int32) (tp : Nat → Int32) (n1 : Nat) (m1 : Nat) (g1 : Nat → Int32) (n2 : Nat) (m2 : Nat) (g2 : Nat → Int32) (n3 : Nat) (m3 : Nat) (g3 : Nat → Int32) (se : Nat → Int32) (bs : Nat → Int32) (y0 : Nat → Int32) (n4 : Nat) (m4 : Nat) (g4 : Nat → Int32) (e0 : Nat → Int32) (y1 : Nat → Int32) (n5 : Nat) (m5 : Nat) (g5 : Nat → Int32) (e1 : Nat → Int32) (n6 : Nat) (m6 : Nat) (g6 : Nat → Int32) (Z : List va_W) (u : Int32) (hn : n1 ≤ 6) (hm : m1 ≤ 4) (hok : Sok g1) (hu : vp_in u 4) : tv_I l yX0_lastsOf cX0_lastsOf 4 (some .int) (tv_rm 6 132) G [.ref b, .ref (b + 2), .int u] (tvs G b x tp n1 m1 g1 n2 m2 g2 n3 m3 g3 se bs y0 n4 m4 g4 e0 y1 n5 m5 g5 e1 n6 m6 g6 Z).flatten (sp_tv_lastsOf_now n1 m1 g1 u) (tvs G b x tp n1 m1 g1 n1 m1 (sp_tv_lastsOf_now_g2 n1 m1 g1 u) n3 m3 g3 se bs y0 n4 m4 g4 e0 y1 n5 m5 g5 e1 n6 m6 g6 Z).flatten := by
  refine tv_I.st (S := (tvs G b x tp n1 m1 g1 n2 m2 g2 n3 m3 g3 se bs y0 n4 m4 g4 e0 y1 n5 m5 g5 e1 n6 m6 g6 Z)) (S' := (tvs G b x tp n1 m1 g1 n1 m1 (sp_tv_lastsOf_now_g2 n1 m1 g1 u) n3 m3 g3 se bs y0 n4 m4 g4 e0 y1 n5 m5 g5 e1 n6 m6 g6 Z)) rfl rfl (by decide) (Nat.le_of_ble_eq_true rfl) ?_
  intro p e s m below meth c A M hr w ls hl
  have hx := M.1.1
  have hb := M.1.2.1
  have hl : lv_has ls 4 [(0, .ref b), (1, .ref (b + 2)), (2, .int u)] := hl
  refine lv_aload_n hx hb dX0_lastsOf_0 rfl (lv_at hl 0 rfl) ?_
  refine r_get M w tc0 0 0 4 rfl rfl (by decide) q723 rfl rfl dX0_lastsOf_1 ?_
  refine lv_aload_n hx hb dX0_lastsOf_4 rfl (lv_at hl 1 rfl) ?_
  refine c_vV M w (S' := (tvs G b x tp n1 m1 g1 n1 m1 (upd g1 39 0) n3 m3 g3 se bs y0 n4 m4 g4 e0 y1 n5 m5 g5 e1 n6 m6 g6 Z)) (tv_in.seg2 3 2 (by decide) rfl rfl rfl) (st_takes l G (b + 22) n2 m2 (b + 2) n1 m1 g2 g1) (q0 := 0) tc1 rfl q385 q386 q387 q69 q388 nm_yX1_takes ⟨Nat.le_of_ble_eq_true rfl, Nat.le_of_ble_eq_true rfl⟩ rfl hl.1 (rest := []) rfl (Nat.le_of_ble_eq_true rfl) dX0_lastsOf_5 ⟨Nat.zero_le _, Nat.zero_le _⟩ (fun H locs w => ?_)
  refine lv_iconst (v := 0) hx hb dX0_lastsOf_8 (by decide) ?_
  refine lv_istore_n (lv' := [(3, .int 0), (0, .ref b), (1, .ref (b + 2)), (2, .int u)]) hx hb dX0_lastsOf_9 rfl hl (by decide) rfl (fun ls hl => ?_)
  have hs2 : Sok (upd g1 39 0) := (hok.oS (by omega))
  refine w_for (pc := 10) (fun i10 H locs ls => ∃ st10 : Int32 × (Nat → Int32), tv_W G A s (tvs G b x tp n1 m1 g1 n1 m1 st10.2 n3 m3 g3 se bs y0 n4 m4 g4 e0 y1 n5 m5 g5 e1 n6 m6 g6 Z) H locs ∧ lv_has ls 4 [(3, .int (nI i10)), (0, .ref b), (1, .ref (b + 2)), (2, .int u)] ∧ lpx (lb_tv_lastsOf_now_10 n1 m1 u) (61 - i10) i10 st10 = lpx (lb_tv_lastsOf_now_10 n1 m1 u) 61 0 (0, upd g1 39 0) ∧ (Sok (st10.2))) 61 (fun H locs ls hI => ?_) (fun i10 hi10 H locs ls hI ih10 => ?_) 0 (Nat.zero_le _) _ _ _ ⟨(0, upd g1 39 0), w, hl, rfl, hs2⟩
  · skip
    obtain ⟨st10, w, hl, hE10, hv10⟩ := hI
    obtain ⟨c3, rfl⟩ := lpx_end hE10
    refine lv_iload_n hx hb dX0_lastsOf_10 rfl (lv_at hl 0 rfl) ?_
    refine lv_bipush (v := 60) hx hb dX0_lastsOf_11 (by decide) ?_
    refine lv_icmp_gt (tgt := 43) hx hb dX0_lastsOf_13 (by decide) (fun _ => ?_) (fun hc => absurd (nI_lt (a := 60) (b := 61) (by omega) (by omega)) hc)
    refine lv_bipush (v := -4) hx hb dX0_lastsOf_43 (by decide) ?_
    exact tv_iret M (by rw [show sp_tv_lastsOf_now_g2 n1 m1 g1 u = _ from if_neg c3]; exact w) hr (if_neg c3).symm dX0_lastsOf_45
  · skip
    obtain ⟨st10, w, hl, hE10, hv10⟩ := hI
    refine lv_iload_n hx hb dX0_lastsOf_10 rfl (lv_at hl 0 rfl) ?_
    refine lv_bipush (v := 60) hx hb dX0_lastsOf_11 (by decide) ?_
    refine lv_icmp_gt (tgt := 43) hx hb dX0_lastsOf_13 (by decide) (fun hc => absurd hc (nI_nlt (a := 60) (b := i10) (by omega) (by omega))) (fun _ => ?_)
    refine lv_aload_n hx hb dX0_lastsOf_16 rfl (lv_at hl 1 rfl) ?_
    refine r_get M w tc0 0 0 4 rfl rfl (by decide) q723 rfl rfl dX0_lastsOf_17 ?_
    refine lv_iload_n hx hb dX0_lastsOf_20 rfl (lv_at hl 3 rfl) ?_
    refine c_iV M w (S' := (tvs G b x tp n1 m1 g1 n1 m1 st10.2 n3 m3 g3 se bs y0 n4 m4 g4 e0 y1 n5 m5 g5 e1 n6 m6 g6 Z)) (tv_in.seg 3 rfl rfl) (st_isDownX l G (b + 22) n1 m1 st10.2 u (vp_w hu (by omega))) (q0 := 0) tc1 rfl q453 q403 q404 q69 q405 nm_yX1_isDown ⟨Nat.le_of_ble_eq_true rfl, Nat.le_of_ble_eq_true rfl⟩ rfl hl.1 (rest := []) rfl (Nat.le_of_ble_eq_true rfl) dX0_lastsOf_21 ⟨Nat.zero_le _, Nat.zero_le _⟩ (fun H locs w => ?_)
    refine lv_if_eq (tgt := 29) hx hb dX0_lastsOf_24 (by decide) (fun c4 => ?_) (fun c4 => ?_)
    · skip
      refine lv_aload_n hx hb dX0_lastsOf_29 rfl (lv_at hl 1 rfl) ?_
      refine r_get M w tc0 0 0 4 rfl rfl (by decide) q723 rfl rfl dX0_lastsOf_30 ?_
      refine lv_iconst (v := 0) hx hb dX0_lastsOf_33 (by decide) ?_
      refine c_vV M w (S' := (tvs G b x tp n1 m1 g1 n1 m1 (tnF n1 m1 0 st10.2) n3 m3 g3 se bs y0 n4 m4 g4 e0 y1 n5 m5 g5 e1 n6 m6 g6 Z)) (tv_in.seg 3 rfl rfl) (st_turnGoes l G (b + 22) n1 m1 st10.2 0 (by omega) (by omega) hv10) (q0 := 0) tc1 rfl q512 q513 q514 q69 q515 nm_yX1_turnGoes ⟨Nat.le_of_ble_eq_true rfl, Nat.le_of_ble_eq_true rfl⟩ rfl hl.1 (rest := []) rfl (Nat.le_of_ble_eq_true rfl) dX0_lastsOf_34 ⟨Nat.zero_le _, Nat.zero_le _⟩ (fun H locs w => ?_)
      refine lv_iinc (k := 0) (v := nI (i10 + 1)) (lv' := [(3, .int (nI (i10 + 1))), (0, .ref b), (1, .ref (b + 2)), (2, .int u)]) hx hb dX0_lastsOf_37 hl rfl (nI_inc i10) (by decide) rfl (fun ls hl => ?_)
      refine lv_goto (tgt := 10) hx hb dX0_lastsOf_40 (by decide) ?_
      have hs5 : Sok (tnF n1 m1 0 st10.2) := (tnF_ok hv10 (by omega) (by omega) 0)
      exact ih10 _ _ _ ⟨(st10.1, tnF n1 m1 0 st10.2), w, lv_sub hl [0, 1, 2, 3] rfl, lpx_go hi10 (show lb_tv_lastsOf_now_10 n1 m1 u i10 st10 = (false, (st10.1, tnF n1 m1 0 st10.2)) from if_pos c4) hE10, hs5⟩
    · skip
      refine lv_iload_n hx hb dX0_lastsOf_27 rfl (lv_at hl 0 rfl) ?_
      have hR : lpx (lb_tv_lastsOf_now_10 n1 m1 u) 61 0 (0, upd g1 39 0) = (true, (nI i10, st10.2)) := lpx_ret hi10 (show lb_tv_lastsOf_now_10 n1 m1 u i10 st10 = (true, (nI i10, st10.2)) from if_neg c4) hE10
      exact tv_iret M (by rw [show sp_tv_lastsOf_now_g2 n1 m1 g1 u = st10.2 from (if_pos (congrArg Prod.fst hR)).trans (congrArg (fun r_ => r_.2.2) hR)]; exact w) hr ((if_pos (congrArg Prod.fst hR)).trans (congrArg (fun r_ => r_.2.1) hR)).symm dX0_lastsOf_28
def lb_tv_lastsOf_home_10 (n3 : Nat) (m3 : Nat) (u : Int32) (i10 : Nat) (st10 : Int32 × (Nat → Int32)) : Bool × Int32 × (Nat → Int32) := if (b2 (st10.2 (30 + 2 * u.toNatClampNeg + 1) = -4)) = 0 then (false, st10.1, tnF n3 m3 0 st10.2) else (true, nI i10, st10.2)
def sp_tv_lastsOf_home (n3 : Nat) (m3 : Nat) (g3 : Nat → Int32) (u : Int32) : Int32 := if (lpx (lb_tv_lastsOf_home_10 n3 m3 u) 61 0 (0, upd g3 39 0)).1 = true then (((lpx (lb_tv_lastsOf_home_10 n3 m3 u) 61 0 (0, upd g3 39 0)).2).1) else (-4)
def sp_tv_lastsOf_home_g2 (n3 : Nat) (m3 : Nat) (g3 : Nat → Int32) (u : Int32) : Nat → Int32 := if (lpx (lb_tv_lastsOf_home_10 n3 m3 u) 61 0 (0, upd g3 39 0)).1 = true then (((lpx (lb_tv_lastsOf_home_10 n3 m3 u) 61 0 (0, upd g3 39 0)).2).2) else (((lpx (lb_tv_lastsOf_home_10 n3 m3 u) 61 0 (0, upd g3 39 0)).2).2)
set_option maxHeartbeats 4000000 in
set_option maxRecDepth 100000 in
theorem tv_lastsOf_home (l : Launch) (G : tG) (b : Nat) (x : Nat → Int32) (tp : Nat → Int32) (n1 : Nat) (m1 : Nat) (g1 : Nat → Int32) (n2 : Nat) (m2 : Nat) (g2 : Nat → Int32) (n3 : Nat) (m3 : Nat) (g3 : Nat → Int32) (se : Nat → Int32) (bs : Nat → Int32) (y0 : Nat → Int32) (n4 : Nat) (m4 : Nat) (g4 : Nat → Int32) (e0 : Nat → Int32) (y1 : Nat → Int32) (n5 : Nat) (m5 : Nat) (g5 : Nat → Int32) (e1 : Nat → Int32) (n6 : Nat) (m6 : Nat) (g6 : Nat → Int32) (Z : List va_W) (u : Int32) (hn3 : n3 ≤ 6) (hm3 : m3 ≤ 4) (hok3 : Sok g3) (hu : vp_in u 4) : tv_I l yX0_lastsOf cX0_lastsOf 4 (some .int) (tv_rm 6 132) G [.ref b, .ref (b + 42), .int u] (tvs G b x tp n1 m1 g1 n2 m2 g2 n3 m3 g3 se bs y0 n4 m4 g4 e0 y1 n5 m5 g5 e1 n6 m6 g6 Z).flatten (sp_tv_lastsOf_home n3 m3 g3 u) (tvs G b x tp n1 m1 g1 n3 m3 (sp_tv_lastsOf_home_g2 n3 m3 g3 u) n3 m3 g3 se bs y0 n4 m4 g4 e0 y1 n5 m5 g5 e1 n6 m6 g6 Z).flatten := by
  refine tv_I.st (S := (tvs G b x tp n1 m1 g1 n2 m2 g2 n3 m3 g3 se bs y0 n4 m4 g4 e0 y1 n5 m5 g5 e1 n6 m6 g6 Z)) (S' := (tvs G b x tp n1 m1 g1 n3 m3 (sp_tv_lastsOf_home_g2 n3 m3 g3 u) n3 m3 g3 se bs y0 n4 m4 g4 e0 y1 n5 m5 g5 e1 n6 m6 g6 Z)) rfl rfl (by decide) (Nat.le_of_ble_eq_true rfl) ?_
  intro p e s m below meth c A M hr w ls hl
  have hx := M.1.1
  have hb := M.1.2.1
  have hl : lv_has ls 4 [(0, .ref b), (1, .ref (b + 42)), (2, .int u)] := hl
  refine lv_aload_n hx hb dX0_lastsOf_0 rfl (lv_at hl 0 rfl) ?_
  refine r_get M w tc0 0 0 4 rfl rfl (by decide) q723 rfl rfl dX0_lastsOf_1 ?_
  refine lv_aload_n hx hb dX0_lastsOf_4 rfl (lv_at hl 1 rfl) ?_
  refine c_vV M w (S' := (tvs G b x tp n1 m1 g1 n3 m3 (upd g3 39 0) n3 m3 g3 se bs y0 n4 m4 g4 e0 y1 n5 m5 g5 e1 n6 m6 g6 Z)) (tv_in.seg2 3 4 (by decide) rfl rfl rfl) (st_takes l G (b + 22) n2 m2 (b + 42) n3 m3 g2 g3) (q0 := 0) tc1 rfl q385 q386 q387 q69 q388 nm_yX1_takes ⟨Nat.le_of_ble_eq_true rfl, Nat.le_of_ble_eq_true rfl⟩ rfl hl.1 (rest := []) rfl (Nat.le_of_ble_eq_true rfl) dX0_lastsOf_5 ⟨Nat.zero_le _, Nat.zero_le _⟩ (fun H locs w => ?_)
  refine lv_iconst (v := 0) hx hb dX0_lastsOf_8 (by decide) ?_
  refine lv_istore_n (lv' := [(3, .int 0), (0, .ref b), (1, .ref (b + 42)), (2, .int u)]) hx hb dX0_lastsOf_9 rfl hl (by decide) rfl (fun ls hl => ?_)
  have hs2 : Sok (upd g3 39 0) := (hok3.oS (by omega))
  refine w_for (pc := 10) (fun i10 H locs ls => ∃ st10 : Int32 × (Nat → Int32), tv_W G A s (tvs G b x tp n1 m1 g1 n3 m3 st10.2 n3 m3 g3 se bs y0 n4 m4 g4 e0 y1 n5 m5 g5 e1 n6 m6 g6 Z) H locs ∧ lv_has ls 4 [(3, .int (nI i10)), (0, .ref b), (1, .ref (b + 42)), (2, .int u)] ∧ lpx (lb_tv_lastsOf_home_10 n3 m3 u) (61 - i10) i10 st10 = lpx (lb_tv_lastsOf_home_10 n3 m3 u) 61 0 (0, upd g3 39 0) ∧ (Sok (st10.2))) 61 (fun H locs ls hI => ?_) (fun i10 hi10 H locs ls hI ih10 => ?_) 0 (Nat.zero_le _) _ _ _ ⟨(0, upd g3 39 0), w, hl, rfl, hs2⟩
  · skip
    obtain ⟨st10, w, hl, hE10, hv10⟩ := hI
    obtain ⟨c3, rfl⟩ := lpx_end hE10
    refine lv_iload_n hx hb dX0_lastsOf_10 rfl (lv_at hl 0 rfl) ?_
    refine lv_bipush (v := 60) hx hb dX0_lastsOf_11 (by decide) ?_
    refine lv_icmp_gt (tgt := 43) hx hb dX0_lastsOf_13 (by decide) (fun _ => ?_) (fun hc => absurd (nI_lt (a := 60) (b := 61) (by omega) (by omega)) hc)
    refine lv_bipush (v := -4) hx hb dX0_lastsOf_43 (by decide) ?_
    exact tv_iret M (by rw [show sp_tv_lastsOf_home_g2 n3 m3 g3 u = _ from if_neg c3]; exact w) hr (if_neg c3).symm dX0_lastsOf_45
  · skip
    obtain ⟨st10, w, hl, hE10, hv10⟩ := hI
    refine lv_iload_n hx hb dX0_lastsOf_10 rfl (lv_at hl 0 rfl) ?_
    refine lv_bipush (v := 60) hx hb dX0_lastsOf_11 (by decide) ?_
    refine lv_icmp_gt (tgt := 43) hx hb dX0_lastsOf_13 (by decide) (fun hc => absurd hc (nI_nlt (a := 60) (b := i10) (by omega) (by omega))) (fun _ => ?_)
    refine lv_aload_n hx hb dX0_lastsOf_16 rfl (lv_at hl 1 rfl) ?_
    refine r_get M w tc0 0 0 4 rfl rfl (by decide) q723 rfl rfl dX0_lastsOf_17 ?_
    refine lv_iload_n hx hb dX0_lastsOf_20 rfl (lv_at hl 3 rfl) ?_
    refine c_iV M w (S' := (tvs G b x tp n1 m1 g1 n3 m3 st10.2 n3 m3 g3 se bs y0 n4 m4 g4 e0 y1 n5 m5 g5 e1 n6 m6 g6 Z)) (tv_in.seg 3 rfl rfl) (st_isDownX l G (b + 22) n3 m3 st10.2 u (vp_w hu (by omega))) (q0 := 0) tc1 rfl q453 q403 q404 q69 q405 nm_yX1_isDown ⟨Nat.le_of_ble_eq_true rfl, Nat.le_of_ble_eq_true rfl⟩ rfl hl.1 (rest := []) rfl (Nat.le_of_ble_eq_true rfl) dX0_lastsOf_21 ⟨Nat.zero_le _, Nat.zero_le _⟩ (fun H locs w => ?_)
    refine lv_if_eq (tgt := 29) hx hb dX0_lastsOf_24 (by decide) (fun c4 => ?_) (fun c4 => ?_)
    · skip
      refine lv_aload_n hx hb dX0_lastsOf_29 rfl (lv_at hl 1 rfl) ?_
      refine r_get M w tc0 0 0 4 rfl rfl (by decide) q723 rfl rfl dX0_lastsOf_30 ?_
      refine lv_iconst (v := 0) hx hb dX0_lastsOf_33 (by decide) ?_
      refine c_vV M w (S' := (tvs G b x tp n1 m1 g1 n3 m3 (tnF n3 m3 0 st10.2) n3 m3 g3 se bs y0 n4 m4 g4 e0 y1 n5 m5 g5 e1 n6 m6 g6 Z)) (tv_in.seg 3 rfl rfl) (st_turnGoes l G (b + 22) n3 m3 st10.2 0 (by omega) (by omega) hv10) (q0 := 0) tc1 rfl q512 q513 q514 q69 q515 nm_yX1_turnGoes ⟨Nat.le_of_ble_eq_true rfl, Nat.le_of_ble_eq_true rfl⟩ rfl hl.1 (rest := []) rfl (Nat.le_of_ble_eq_true rfl) dX0_lastsOf_34 ⟨Nat.zero_le _, Nat.zero_le _⟩ (fun H locs w => ?_)
      refine lv_iinc (k := 0) (v := nI (i10 + 1)) (lv' := [(3, .int (nI (i10 + 1))), (0, .ref b), (1, .ref (b + 42)), (2, .int u)]) hx hb dX0_lastsOf_37 hl rfl (nI_inc i10) (by decide) rfl (fun ls hl => ?_)
      refine lv_goto (tgt := 10) hx hb dX0_lastsOf_40 (by decide) ?_
      have hs5 : Sok (tnF n3 m3 0 st10.2) := (tnF_ok hv10 (by omega) (by omega) 0)
      exact ih10 _ _ _ ⟨(st10.1, tnF n3 m3 0 st10.2), w, lv_sub hl [0, 1, 2, 3] rfl, lpx_go hi10 (show lb_tv_lastsOf_home_10 n3 m3 u i10 st10 = (false, (st10.1, tnF n3 m3 0 st10.2)) from if_pos c4) hE10, hs5⟩
    · skip
      refine lv_iload_n hx hb dX0_lastsOf_27 rfl (lv_at hl 0 rfl) ?_
      have hR : lpx (lb_tv_lastsOf_home_10 n3 m3 u) 61 0 (0, upd g3 39 0) = (true, (nI i10, st10.2)) := lpx_ret hi10 (show lb_tv_lastsOf_home_10 n3 m3 u i10 st10 = (true, (nI i10, st10.2)) from if_neg c4) hE10
      exact tv_iret M (by rw [show sp_tv_lastsOf_home_g2 n3 m3 g3 u = st10.2 from (if_pos (congrArg Prod.fst hR)).trans (congrArg (fun r_ => r_.2.2) hR)]; exact w) hr ((if_pos (congrArg Prod.fst hR)).trans (congrArg (fun r_ => r_.2.1) hR)).symm dX0_lastsOf_28
def lb_tv_stand_37 (n1 : Nat) (m1 : Nat) (u : Int32) (i37 : Nat) (st37 : Int32 × Int32 × Nat × Nat × (Nat → Int32) × (Nat → Int32)) : Int32 × Int32 × Nat × Nat × (Nat → Int32) × (Nat → Int32) := (if st37.1 < (if (sp_tv_lastsOf_home n1 m1 (upd st37.2.2.2.2.2 (30 + 2 * u.toNatClampNeg + 1) (nI i37)) u) = (-4) then (61 : Int32) else (sp_tv_lastsOf_home n1 m1 (upd st37.2.2.2.2.2 (30 + 2 * u.toNatClampNeg + 1) (nI i37)) u)) then if (sp_tv_lastsOf_home n1 m1 (upd st37.2.2.2.2.2 (30 + 2 * u.toNatClampNeg + 1) (nI i37)) u) = (-4) then (61 : Int32) else (sp_tv_lastsOf_home n1 m1 (upd st37.2.2.2.2.2 (30 + 2 * u.toNatClampNeg + 1) (nI i37)) u) else st37.1, if (if (sp_tv_lastsOf_home n1 m1 (upd st37.2.2.2.2.2 (30 + 2 * u.toNatClampNeg + 1) (nI i37)) u) = (-4) then (61 : Int32) else (sp_tv_lastsOf_home n1 m1 (upd st37.2.2.2.2.2 (30 + 2 * u.toNatClampNeg + 1) (nI i37)) u)) ≤ st37.1 then st37.2.1 else (nI i37), n1, m1, sp_tv_lastsOf_home_g2 n1 m1 (upd st37.2.2.2.2.2 (30 + 2 * u.toNatClampNeg + 1) (nI i37)) u, upd st37.2.2.2.2.2 (30 + 2 * u.toNatClampNeg + 1) (nI i37))
def sp_tv_stand (n1 : Nat) (m1 : Nat) (g1 : Nat → Int32) (n2 : Nat) (m2 : Nat) (g2 : Nat → Int32) (u : Int32) (wh : Int32) : Int32 := if (isI u m1) = 0 then (-1) else (if (inL wh.toInt64 (0 : Int64) (1 : Int64)) = 0 then (-1) else (if wh = 0 then ((lp (lb_tv_stand_37 n1 m1 u) 6 (-4, 0, n2, m2, g2, upd g1 39 0)).2.1) else (if ((lp (lb_tv_stand_37 n1 m1 u) 6 (-4, 0, n2, m2, g2, upd g1 39 0)).1) = 61 then (-4 : Int32) else ((lp (lb_tv_stand_37 n1 m1 u) 6 (-4, 0, n2, m2, g2, upd g1 39 0)).1))))
def sp_tv_stand_n2 (n1 : Nat) (m1 : Nat) (g1 : Nat → Int32) (n2 : Nat) (m2 : Nat) (g2 : Nat → Int32) (u : Int32) (wh : Int32) : Nat := if (isI u m1) = 0 then n2 else (if (inL wh.toInt64 (0 : Int64) (1 : Int64)) = 0 then n2 else ((lp (lb_tv_stand_37 n1 m1 u) 6 (-4, 0, n2, m2, g2, upd g1 39 0)).2.2.1))
def sp_tv_stand_m2 (n1 : Nat) (m1 : Nat) (g1 : Nat → Int32) (n2 : Nat) (m2 : Nat) (g2 : Nat → Int32) (u : Int32) (wh : Int32) : Nat := if (isI u m1) = 0 then m2 else (if (inL wh.toInt64 (0 : Int64) (1 : Int64)) = 0 then m2 else ((lp (lb_tv_stand_37 n1 m1 u) 6 (-4, 0, n2, m2, g2, upd g1 39 0)).2.2.2.1))
def sp_tv_stand_g2 (n1 : Nat) (m1 : Nat) (g1 : Nat → Int32) (n2 : Nat) (m2 : Nat) (g2 : Nat → Int32) (u : Int32) (wh : Int32) : Nat → Int32 := if (isI u m1) = 0 then g2 else (if (inL wh.toInt64 (0 : Int64) (1 : Int64)) = 0 then g2 else ((lp (lb_tv_stand_37 n1 m1 u) 6 (-4, 0, n2, m2, g2, upd g1 39 0)).2.2.2.2.1))
def sp_tv_stand_n3 (n1 : Nat) (m1 : Nat) (n3 : Nat) (u : Int32) (wh : Int32) : Nat := if (isI u m1) = 0 then n3 else (if (inL wh.toInt64 (0 : Int64) (1 : Int64)) = 0 then n3 else n1)
def sp_tv_stand_m3 (m1 : Nat) (m3 : Nat) (u : Int32) (wh : Int32) : Nat := if (isI u m1) = 0 then m3 else (if (inL wh.toInt64 (0 : Int64) (1 : Int64)) = 0 then m3 else m1)
def sp_tv_stand_g3 (n1 : Nat) (m1 : Nat) (g1 : Nat → Int32) (n2 : Nat) (m2 : Nat) (g2 : Nat → Int32) (g3 : Nat → Int32) (u : Int32) (wh : Int32) : Nat → Int32 := if (isI u m1) = 0 then g3 else (if (inL wh.toInt64 (0 : Int64) (1 : Int64)) = 0 then g3 else ((lp (lb_tv_stand_37 n1 m1 u) 6 (-4, 0, n2, m2, g2, upd g1 39 0)).2.2.2.2.2))
set_option maxHeartbeats 4000000 in
set_option maxRecDepth 100000 in
theorem tv_stand (l : Launch) (G : tG) (b : Nat) (x : Nat → Int32) (tp : Nat → Int32) (n1 : Nat) (m1 : Nat) (g1 : Nat → Int32) (n2 : Nat) (m2 : Nat) (g2 : Nat → Int32) (n3 : Nat) (m3 : Nat) (g3 : Nat → Int32) (se : Nat → Int32) (bs : Nat → Int32) (y0 : Nat → Int32) (n4 : Nat) (m4 : Nat) (g4 : Nat → Int32) (e0 : Nat → Int32) (y1 : Nat → Int32) (n5 : Nat) (m5 : Nat) (g5 : Nat → Int32) (e1 : Nat → Int32) (n6 : Nat) (m6 : Nat) (g6 : Nat → Int32) (Z : List va_W) (u : Int32) (wh : Int32) (hn : n1 ≤ 6) (hm : m1 ≤ 4) (hok : Sok g1) : tv_I l yX0_stand cX0_stand 8 (some .int) (tv_rm 7 155) G [.ref b, .int u, .int wh] (tvs G b x tp n1 m1 g1 n2 m2 g2 n3 m3 g3 se bs y0 n4 m4 g4 e0 y1 n5 m5 g5 e1 n6 m6 g6 Z).flatten (sp_tv_stand n1 m1 g1 n2 m2 g2 u wh) (tvs G b x tp n1 m1 g1 (sp_tv_stand_n2 n1 m1 g1 n2 m2 g2 u wh) (sp_tv_stand_m2 n1 m1 g1 n2 m2 g2 u wh) (sp_tv_stand_g2 n1 m1 g1 n2 m2 g2 u wh) (sp_tv_stand_n3 n1 m1 n3 u wh) (sp_tv_stand_m3 m1 m3 u wh) (sp_tv_stand_g3 n1 m1 g1 n2 m2 g2 g3 u wh) se bs y0 n4 m4 g4 e0 y1 n5 m5 g5 e1 n6 m6 g6 Z).flatten := by
  refine tv_I.st (S := (tvs G b x tp n1 m1 g1 n2 m2 g2 n3 m3 g3 se bs y0 n4 m4 g4 e0 y1 n5 m5 g5 e1 n6 m6 g6 Z)) (S' := (tvs G b x tp n1 m1 g1 (sp_tv_stand_n2 n1 m1 g1 n2 m2 g2 u wh) (sp_tv_stand_m2 n1 m1 g1 n2 m2 g2 u wh) (sp_tv_stand_g2 n1 m1 g1 n2 m2 g2 u wh) (sp_tv_stand_n3 n1 m1 n3 u wh) (sp_tv_stand_m3 m1 m3 u wh) (sp_tv_stand_g3 n1 m1 g1 n2 m2 g2 g3 u wh) se bs y0 n4 m4 g4 e0 y1 n5 m5 g5 e1 n6 m6 g6 Z)) rfl rfl (by decide) (Nat.le_of_ble_eq_true rfl) ?_
  intro p e s m below meth c A M hr w ls hl
  have hx := M.1.1
  have hb := M.1.2.1
  have hl : lv_has ls 8 [(0, .ref b), (1, .int u), (2, .int wh)] := hl
  refine lv_aload_n hx hb dX0_stand_0 rfl (lv_at hl 0 rfl) ?_
  refine lv_iload_n hx hb dX0_stand_1 rfl (lv_at hl 1 rfl) ?_
  refine c_iV M w (S' := (tvs G b x tp n1 m1 g1 n2 m2 g2 n3 m3 g3 se bs y0 n4 m4 g4 e0 y1 n5 m5 g5 e1 n6 m6 g6 Z)) tv_in.all (tv_isMinister l G b x tp n1 m1 g1 n2 m2 g2 n3 m3 g3 se bs y0 n4 m4 g4 e0 y1 n5 m5 g5 e1 n6 m6 g6 Z u (by omega) (by omega)) (q0 := 0) tc0 rfl q449 q451 qs13 q68 q452 nm_yX0_isMinister ⟨Nat.le_of_ble_eq_true rfl, Nat.le_of_ble_eq_true rfl⟩ rfl hl.1 (rest := []) rfl (Nat.le_of_ble_eq_true rfl) dX0_stand_2 ⟨Nat.zero_le _, Nat.zero_le _⟩ (fun H locs w => ?_)
  refine lv_if_eq (tgt := 15) hx hb dX0_stand_5 (by decide) (fun c3 => ?_) (fun c3 => ?_)
  · skip
    refine lv_iconst (v := -1) hx hb dX0_stand_15 (by decide) ?_
    exact tv_iret M (by rw [show sp_tv_stand_n2 n1 m1 g1 n2 m2 g2 u wh = _ from if_pos c3, show sp_tv_stand_m2 n1 m1 g1 n2 m2 g2 u wh = _ from if_pos c3, show sp_tv_stand_g2 n1 m1 g1 n2 m2 g2 u wh = _ from if_pos c3, show sp_tv_stand_n3 n1 m1 n3 u wh = _ from if_pos c3, show sp_tv_stand_m3 m1 m3 u wh = _ from if_pos c3, show sp_tv_stand_g3 n1 m1 g1 n2 m2 g2 g3 u wh = _ from if_pos c3]; exact w) hr (if_pos c3).symm dX0_stand_16
  · skip
    refine lv_iload_n hx hb dX0_stand_8 rfl (lv_at hl 2 rfl) ?_
    refine c_iS M w (S' := (tvs G b x tp n1 m1 g1 n2 m2 g2 n3 m3 g3 se bs y0 n4 m4 g4 e0 y1 n5 m5 g5 e1 n6 m6 g6 Z)) tv_in.nil (tv_isPart l G wh) q557 q558 q68 q559 nm_yX0_isPart ⟨Nat.le_of_ble_eq_true rfl, Nat.le_of_ble_eq_true rfl⟩ rfl hl.1 (rest := []) rfl (Nat.le_of_ble_eq_true rfl) dX0_stand_9 ⟨Nat.zero_le _, Nat.zero_le _⟩ (fun H locs w => ?_)
    refine lv_if_ne (tgt := 17) hx hb dX0_stand_12 (by decide) (fun c4 => ?_) (fun c4 => ?_)
    · skip
      refine lv_bipush (v := -4) hx hb dX0_stand_17 (by decide) ?_
      refine lv_istore_n (lv' := [(3, .int (-4)), (0, .ref b), (1, .int u), (2, .int wh)]) hx hb dX0_stand_19 rfl hl (by decide) rfl (fun ls hl => ?_)
      refine lv_iconst (v := 0) hx hb dX0_stand_20 (by decide) ?_
      refine lv_istore (lv' := [(4, .int 0), (3, .int (-4)), (0, .ref b), (1, .int u), (2, .int wh)]) hx hb dX0_stand_21 hl (by decide) rfl (fun ls hl => ?_)
      refine lv_aload_n hx hb dX0_stand_23 rfl (lv_at hl 2 rfl) ?_
      refine r_get M w tc0 0 0 5 rfl rfl (by decide) q724 rfl rfl dX0_stand_24 ?_
      refine lv_aload_n hx hb dX0_stand_27 rfl (lv_at hl 2 rfl) ?_
      refine r_get M w tc0 0 0 3 rfl rfl (by decide) q722 rfl rfl dX0_stand_28 ?_
      refine c_vV M w (S' := (tvs G b x tp n1 m1 g1 n2 m2 g2 n1 m1 (upd g1 39 0) se bs y0 n4 m4 g4 e0 y1 n5 m5 g5 e1 n6 m6 g6 Z)) (tv_in.seg2 4 2 (by decide) rfl rfl rfl) (st_takes l G (b + 42) n3 m3 (b + 2) n1 m1 g3 g1) (q0 := 0) tc1 rfl q385 q386 q387 q69 q388 nm_yX1_takes ⟨Nat.le_of_ble_eq_true rfl, Nat.le_of_ble_eq_true rfl⟩ rfl hl.1 (rest := []) rfl (Nat.le_of_ble_eq_true rfl) dX0_stand_31 ⟨Nat.zero_le _, Nat.zero_le _⟩ (fun H locs w => ?_)
      refine lv_iconst (v := 0) hx hb dX0_stand_34 (by decide) ?_
      refine lv_istore (lv' := [(5, .int 0), (4, .int 0), (3, .int (-4)), (0, .ref b), (1, .int u), (2, .int wh)]) hx hb dX0_stand_35 hl (by decide) rfl (fun ls hl => ?_)
      have hs5 : Sok (upd g1 39 0) := (hok.oS (by omega))
      refine w_for (pc := 37) (fun i37 H locs ls => ∃ st37 : Int32 × Int32 × Nat × Nat × (Nat → Int32) × (Nat → Int32), tv_W G A s (tvs G b x tp n1 m1 g1 st37.2.2.1 st37.2.2.2.1 st37.2.2.2.2.1 n1 m1 st37.2.2.2.2.2 se bs y0 n4 m4 g4 e0 y1 n5 m5 g5 e1 n6 m6 g6 Z) H locs ∧ lv_has ls 8 [(5, .int (nI i37)), (4, .int st37.2.1), (3, .int st37.1), (0, .ref b), (1, .int u), (2, .int wh)] ∧ lp (lb_tv_stand_37 n1 m1 u) i37 (-4, 0, n2, m2, g2, upd g1 39 0) = st37 ∧ (Sok (st37.2.2.2.2.2))) 6 (fun H locs ls hI => ?_) (fun i37 hi37 H locs ls hI ih37 => ?_) 0 (Nat.zero_le _) _ _ _ ⟨(-4, 0, n2, m2, g2, upd g1 39 0), w, hl, rfl, hs5⟩
      · skip
        obtain ⟨st37, w, hl, rfl, hv37⟩ := hI
        refine lv_iload hx hb dX0_stand_37 (lv_at hl 0 rfl) ?_
        refine lv_bipush (v := 6) hx hb dX0_stand_39 (by decide) ?_
        refine lv_icmp_ge (tgt := 112) hx hb dX0_stand_41 (by decide) (fun _ => ?_) (fun hc => absurd (nI_le (a := 6) (b := 6) (by omega) (by omega)) hc)
        refine lv_iload_n hx hb dX0_stand_112 rfl (lv_at hl 5 rfl) ?_
        refine w_cut (g2 := F0 m 133 ls [.int (if wh = 0 then ((lp (lb_tv_stand_37 n1 m1 u) 6 (-4, 0, n2, m2, g2, upd g1 39 0)).2.1) else (if ((lp (lb_tv_stand_37 n1 m1 u) 6 (-4, 0, n2, m2, g2, upd g1 39 0)).1) = 61 then (-4 : Int32) else ((lp (lb_tv_stand_37 n1 m1 u) 6 (-4, 0, n2, m2, g2, upd g1 39 0)).1)))]) (fun jn => ?_) ?_
        · skip
          refine lv_if_ne (tgt := 121) hx hb dX0_stand_113 (by decide) (fun c6 => ?_) (fun c6 => ?_)
          · skip
            refine lv_iload_n hx hb dX0_stand_121 rfl (lv_at hl 2 rfl) ?_
            refine lv_bipush (v := 61) hx hb dX0_stand_122 (by decide) ?_
            refine lv_icmp_ne (tgt := 132) hx hb dX0_stand_124 (by decide) (fun c7 => ?_) (fun c7 => ?_)
            · skip
              refine lv_iload_n hx hb dX0_stand_132 rfl (lv_at hl 2 rfl) ?_
              exact w_topi ((if_neg c6).trans (if_neg c7)) jn
            · skip
              refine lv_bipush (v := -4) hx hb dX0_stand_127 (by decide) ?_
              refine lv_goto (tgt := 133) hx hb dX0_stand_129 (by decide) ?_
              exact w_topi ((if_neg c6).trans (if_pos c7)) jn
          · skip
            refine lv_iload hx hb dX0_stand_116 (lv_at hl 1 rfl) ?_
            refine lv_goto (tgt := 133) hx hb dX0_stand_118 (by decide) ?_
            exact w_topi (if_pos c6) jn
        exact tv_iret M (by rw [show sp_tv_stand_n2 n1 m1 g1 n2 m2 g2 u wh = _ from (if_neg c3).trans (if_neg c4), show sp_tv_stand_m2 n1 m1 g1 n2 m2 g2 u wh = _ from (if_neg c3).trans (if_neg c4), show sp_tv_stand_g2 n1 m1 g1 n2 m2 g2 u wh = _ from (if_neg c3).trans (if_neg c4), show sp_tv_stand_n3 n1 m1 n3 u wh = _ from (if_neg c3).trans (if_neg c4), show sp_tv_stand_m3 m1 m3 u wh = _ from (if_neg c3).trans (if_neg c4), show sp_tv_stand_g3 n1 m1 g1 n2 m2 g2 g3 u wh = _ from (if_neg c3).trans (if_neg c4)]; exact w) hr ((if_neg c3).trans (if_neg c4)).symm dX0_stand_133
      · skip
        obtain ⟨st37, w, hl, hE37, hv37⟩ := hI
        refine lv_iload hx hb dX0_stand_37 (lv_at hl 0 rfl) ?_
        refine lv_bipush (v := 6) hx hb dX0_stand_39 (by decide) ?_
        refine lv_icmp_ge (tgt := 112) hx hb dX0_stand_41 (by decide) (fun hc => absurd hc (nI_ge (a := i37) (b := 6) (by omega) (by omega))) (fun _ => ?_)
        refine lv_aload_n hx hb dX0_stand_44 rfl (lv_at hl 3 rfl) ?_
        refine r_get M w tc0 0 0 5 rfl rfl (by decide) q724 rfl rfl dX0_stand_45 ?_
        refine r_getN M w tc1 4 0 2 rfl rfl (by decide) q135 rfl rfl dX0_stand_48 ?_
        refine lv_iload_n hx hb dX0_stand_51 rfl (lv_at hl 4 rfl) ?_
        refine r_aald M w 4 15 4 rfl rfl rfl rfl (vp_w (isI_1 c3 (by omega)) (by omega)) (v := (b + 42) + 16 + u.toNatClampNeg) (oref_in (vp_w (isI_1 c3 (by omega)) (by omega))) dX0_stand_52 ?_
        refine lv_iconst (v := 1) hx hb dX0_stand_53 (by decide) ?_
        refine lv_iload hx hb dX0_stand_54 (lv_at hl 0 rfl) ?_
        refine r_iast M w 4 (16 + u.toNatClampNeg) rfl (stg_mi G (b + 42) n1 m1 st37.2.2.2.2.2 (vp_cl (vp_w (isI_1 c3 (by omega)) (by omega)))) (pk_in 1 2 (by decide)) (S' := (tvs G b x tp n1 m1 g1 st37.2.2.1 st37.2.2.2.1 st37.2.2.2.2.1 n1 m1 (upd st37.2.2.2.2.2 (30 + 2 * u.toNatClampNeg + 1) (nI i37)) se bs y0 n4 m4 g4 e0 y1 n5 m5 g5 e1 n6 m6 g6 Z)) (congrArg (fun zz_ => List.set (tvs G b x tp n1 m1 g1 st37.2.2.1 st37.2.2.2.1 st37.2.2.2.2.1 n1 m1 st37.2.2.2.2.2 se bs y0 n4 m4 g4 e0 y1 n5 m5 g5 e1 n6 m6 g6 Z) 4 zz_) (stg_miS G (b + 42) n1 m1 st37.2.2.2.2.2 (i := 1) (vp_cl (vp_w (isI_1 c3 (by omega)) (by omega))) (by decide) (nI i37))) dX0_stand_56 (fun H locs w => ?_)
        refine lv_aload_n hx hb dX0_stand_57 rfl (lv_at hl 3 rfl) ?_
        refine lv_aload_n hx hb dX0_stand_58 rfl (lv_at hl 3 rfl) ?_
        refine r_get M w tc0 0 0 5 rfl rfl (by decide) q724 rfl rfl dX0_stand_59 ?_
        refine lv_iload_n hx hb dX0_stand_62 rfl (lv_at hl 4 rfl) ?_
        refine c_iV M w (S' := (tvs G b x tp n1 m1 g1 n1 m1 (sp_tv_lastsOf_home_g2 n1 m1 (upd st37.2.2.2.2.2 (30 + 2 * u.toNatClampNeg + 1) (nI i37)) u) n1 m1 (upd st37.2.2.2.2.2 (30 + 2 * u.toNatClampNeg + 1) (nI i37)) se bs y0 n4 m4 g4 e0 y1 n5 m5 g5 e1 n6 m6 g6 Z)) tv_in.all (tv_lastsOf_home l G b x tp n1 m1 g1 st37.2.2.1 st37.2.2.2.1 st37.2.2.2.2.1 n1 m1 (upd st37.2.2.2.2.2 (30 + 2 * u.toNatClampNeg + 1) (nI i37)) se bs y0 n4 m4 g4 e0 y1 n5 m5 g5 e1 n6 m6 g6 Z u (by omega) (by omega) (hv37.upS (Or.inr (vp_in_nI (by omega) (by omega)))) (vp_w (isI_1 c3 (by omega)) (by omega))) (q0 := 0) tc0 rfl q549 q551 qs18 q68 q552 nm_yX0_lastsOf ⟨Nat.le_of_ble_eq_true rfl, Nat.le_of_ble_eq_true rfl⟩ rfl hl.1 (rest := []) rfl (Nat.le_of_ble_eq_true rfl) dX0_stand_63 ⟨Nat.zero_le _, Nat.zero_le _⟩ (fun H locs w => ?_)
        sorry
    · skip
      refine lv_iconst (v := -1) hx hb dX0_stand_15 (by decide) ?_
      exact tv_iret M (by rw [show sp_tv_stand_n2 n1 m1 g1 n2 m2 g2 u wh = _ from (if_neg c3).trans (if_pos c4), show sp_tv_stand_m2 n1 m1 g1 n2 m2 g2 u wh = _ from (if_neg c3).trans (if_pos c4), show sp_tv_stand_g2 n1 m1 g1 n2 m2 g2 u wh = _ from (if_neg c3).trans (if_pos c4), show sp_tv_stand_n3 n1 m1 n3 u wh = _ from (if_neg c3).trans (if_pos c4), show sp_tv_stand_m3 m1 m3 u wh = _ from (if_neg c3).trans (if_pos c4), show sp_tv_stand_g3 n1 m1 g1 n2 m2 g2 g3 u wh = _ from (if_neg c3).trans (if_pos c4)]; exact w) hr ((if_neg c3).trans (if_pos c4)).symm dX0_stand_16
