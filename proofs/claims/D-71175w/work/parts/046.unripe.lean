/-! contracts of methods whose class isn't said to be initialised (the kinds): the same, without that word -/
def MetU (l : Launch) (y : MethodName) (ws : List Cond) (rm : Room) (Pc : Array Value → State → Prop) (Qc : Array Value → State → Outcome → State → Prop) (mc ms : Nat) (free : Addr → Prop) : Prop :=
  ∀ (p : Program) (e : Env), l.admits e → FairCas e.choices → FairClock e.choices → ∀ (s : State) (m : MethodId) (args : Array Value) (below : List Frame), s.frames = .invoking m args :: below → s.status = .running → s.curStatus? = some .runnable → s.alone = true → s.methodNamed? y = some m → s.hears m below = true →
    s.hasRoom e.platform rm = true → (∀ w ∈ ws, w.before args s = true) → Pc args s →
    ∃ n o, (∀ k, k < n → Within (stepsAlone p.tables e k s) below) ∧ (stepsAlone p.tables e n s).status = .running ∧ Ended (stepsAlone p.tables e n s) below o ∧ Qc args s o (stepsAlone p.tables e n s) ∧ ∃ L, FrameEnd s o (stepsAlone p.tables e n s) L mc ms ∧ ∀ q ∈ L, free q.base
theorem MetU.ofW {l : Launch} {y : MethodName} {ws : List Cond} {rm : Room} {Pc : Array Value → State → Prop} {Qc : Array Value → State → Outcome → State → Prop} {mc ms : Nat} {free : Addr → Prop} {cc : ByteArray} {maxL : Nat} {ret : Option FieldType}
    (hy : plainName y.cls = true) (hw : Cond.code y cc maxL ret ∈ ws)
    (body : ∀ (p : Program) (e : Env) (s : State) (m : MethodId) (args : Array Value) (below : List Frame) (meth : Method) (c : Code), p.tables.exec = Jvm.exec → c.code = cc → meth.sig.returnType = ret → meth.locks = false → c.maxLocals = maxL → s.methodNamed? y = some m → (∀ w ∈ ws, w.before args s = true) → Pc args s →
      W p l e rm s m args below meth c s.heap [] 0 0 (MQ below Qc args s mc ms free) (entryFrame m args maxL)) : MetU l y ws rm Pc Qc mc ms free := by
  intro p e ha hc hk s m args below hf hrun hable halone hname hhears hroom hpre hP
  obtain ⟨meth, c, hmeth, hcode, hbytes, hlocals, hret, hlocks, -, -⟩ := Cond.code_spec hname (hpre _ hw)
  have hcur := State.cur_lt_of_frames hf
  have hf1 : (s.setFrames (.java (entryFrame m args maxL) :: below)).frames = .java (entryFrame m args maxL) :: below := State.frames_setFrames _ hcur
  have ht1 := State.topJava?_of_frames hf1
  have hplain : (s.setFrames (.java (entryFrame m args maxL) :: below)).plainMethod m := State.plainMethod.of_named (s := s) (plainFor_of_name hy) hname hmeth
  have hAt : At (s.setFrames (.java (entryFrame m args maxL) :: below)) m c below :=
    ⟨by rw [ht1]; rfl, ⟨[], by rw [hf1]; rfl⟩, hrun, by simpa using hable, by simpa using halone, by rw [State.code?_eq]; simp [State.setFrames, hmeth, hcode], hplain⟩
  have hstep : (stepThread p.tables e s).1 = (s.setFrames (.java (entryFrame m args maxL) :: below)).setTop (entryFrame m args maxL) := by
    have hfull : e.platform.stackFull (s.setFrames below).me (s.setFrames below).frames c.maxLocals = false := by
      obtain ⟨-, h1, -, h2⟩ := State.hasRoom_stack hroom
      rw [hf, List.length_cons] at h1
      rw [State.localsInUse_invoking hf hmeth hcode] at h2
      have hw2 := stackUse_le_stackWeight below
      rw [State.frames_setFrames _ hcur]
      exact Platform.stackFull_eq_false (by rw [State.stackLimits_setFrames]; omega) (by rw [State.stackLimits_setFrames]; omega)
    rw [stepThread_invoking hf, (doInvoke_java (s := s.setFrames below) (e := e) (meth := meth) (code := c) hmeth hcode hlocks hfull).1, State.setTop_self ht1]
    simp only [State.pushFrame, State.frames_setFrames _ hcur, State.setFrames_setFrames, hlocals, entryFrame]
  obtain ⟨t, ht, -⟩ := State.frames_cons hf
  have X0 : Stand p l e rm s m args below meth c (s.setFrames (.java (entryFrame m args maxL) :: below)) [] 0 0 :=
    ⟨ha, hc, hk, hf, hroom, hhears, hmeth, hcode, hAt, by rw [hf1]; rfl, State.WarmedH.refl s, by rw [State.stackLimits_setFrames], by rw [State.stackBytes_setFrames], (State.sameButNew.refl s ht).setFrames (.java (entryFrame m args maxL) :: below) hcur⟩
  obtain ⟨s₂, hs, o, hr, he, hq⟩ := body p e s m args below meth c (by cases p <;> rfl) hbytes hret hlocks hlocals hname hpre hP (s.setFrames (.java (entryFrame m args maxL) :: below)) rfl X0
  obtain ⟨n, hn, hwn⟩ := Steps.head (tb := p.tables) (e := e) ⟨hrun, hable, halone⟩ ⟨[.invoking m args], hf, by simp, by simp⟩ (hstep ▸ hs)
  exact ⟨n, o, hwn, hn ▸ hr, hn ▸ he, hn ▸ hq⟩
section BU
variable {l : Launch} {R : Room} {p : Program} {e : Env} {below : List Frame} {s : State} {sargs : Array Value} {y : MethodName} {len W : Nat}
theorem backU {ws : List Cond} {rm : Room} {Pc : Array Value → State → Prop} {Qc : Array Value → State → Outcome → State → Prop} {mc ms : Nat} {free : Addr → Prop} {bytes : ByteArray} {maxL : Nat} {ret : Option FieldType}
    (hM : MetU l y ws rm Pc Qc mc ms free) (hblind : FrameBlind Pc) (hrc : rm.cells = mc) (hrs : rm.slots = ms) (hframes : rm.frames + 1 ≤ R.frames) (hlocals : W + (maxL + 11) + rm.locals ≤ R.locals)
    (hws : ∀ w ∈ ws, ∀ a' U, s.WarmedH U.vm → w.before a' U = true) (hcode : Cond.code y bytes maxL ret ∈ ws) :
    Back l R p e below s sargs y len W (PreOf R mc ms Pc) (PostOf Qc mc ms free) := by
  intro m meth c A g ig mk a X hg hsize hdg hW hn hp
  obtain ⟨U, Ls, c0, s0⟩ := A
  obtain ⟨p1, p2, p3⟩ := hp
  dsimp only [Pt.U, Pt.locs, Pt.cells, Pt.slots] at p1 p2 p3 X hn ⊢
  obtain ⟨methY, cY, hmY, hcY, -, hlY, -, -, -, -⟩ := Cond.code_spec hn (hws _ hcode a U X.warmed)
  have h : At U g.method c below := by rw [hg]; exact X.here
  have hcodeU : (U.calling g mk a).code? g.method = some c := by
    have := h.code
    rw [State.code?_eq] at this ⊢
    simpa [State.calling, State.pushFrame, State.setFrames] using this
  have hroom : (U.calling g mk a).hasRoom e.platform rm = true := X.room_calling (g := g) (R' := rm) hsize hmY hcY hframes (by rw [hlY]; omega) (by rw [hrc]; exact p1) (by rw [hrs]; exact p2)
  obtain ⟨mid, hmid⟩ := h.above
  have hfr : (U.setTop g).frames = (.java g :: mid) ++ below := by rw [State.frames_setTop' g h.top, hmid]; rfl
  have hf' : (U.calling g mk a).frames = .invoking mk a :: (U.setTop g).frames := by
    rw [State.frames_calling h.top, State.frames_setTop' g h.top]
  have hgo : (U.calling g mk a).goesOn := ⟨h.running, by simpa [State.calling] using h.runnable, by simpa [State.calling] using h.alone⟩
  obtain ⟨n, o, hw, hr, he, hq, L, hfe, hL⟩ := hM p e X.admits X.cas X.clock (U.calling g mk a) mk a (U.setTop g).frames hf' hgo.1 hgo.2.1 hgo.2.2 hn
    (by rw [hfr]; simp [State.hears, hcodeU, hdg, Except.toOption]) hroom (fun w hw => hws w hw a (U.calling g mk a) X.warmed) (hblind a U g mk p3)
  have hstep : (stepThread p.tables e (U.calling g mk a)).1 = (doInvoke e (U.setTop g) [] mk a).1 := by
    obtain ⟨t, ht⟩ : ∃ t, (U.setTop g).threads[(U.setTop g).cur]? = some t := by
      obtain ⟨g₀, hg0⟩ := Option.isSome_iff_exists.mp h.top
      obtain ⟨r, hr0⟩ := State.topJava?_eq_some.mp hg0
      have hf0 : (U.setTop g).frames = .java g :: mid ++ below := hfr
      obtain ⟨t, ht, -⟩ := State.frames_cons (s := U.setTop g) hf0
      exact ⟨t, ht⟩
    rw [stepThread_invoking hf']
    show (doInvoke e (((U.setTop g).pushFrame (.invoking mk a)).setFrames (U.setTop g).frames) [] mk a).1 = _
    rw [State.pushFrame, State.setFrames_setFrames, State.setFrames_self ht]
  have key : ∃ s₂, Steps p.tables e below (doInvoke e (U.setTop g) [] mk a).1 s₂ ∧ Ended s₂ (U.setTop g).frames o ∧ Qc a (U.calling g mk a) o s₂ ∧ FrameEnd (U.calling g mk a) o s₂ L mc ms := by
    cases n with
    | zero => exact absurd ⟨[.invoking mk a], hf', by simp, by simp⟩ he.not_within
    | succ k =>
      rw [stepsAlone_succ _ hgo, hstep] at hr he hq hfe
      refine ⟨_, ⟨k, rfl, fun j hj => ?_⟩, he, hq, hfe⟩
      have := hw (j + 1) (by omega)
      rw [stepsAlone_succ _ hgo, hstep, hfr] at this
      exact this.weaken
  obtain ⟨s₂, hsteps, hend, hq', hfe⟩ := key
  rw [State.frames_setTop' g h.top] at hend
  obtain ⟨⟨v, rfl⟩, hW₂, e2, q2, q3, q4, q5, q6⟩ := id hfe
  have e3 : s₂ = ({ (U.calling g mk a).setFrames s₂.frames with heap := s₂.heap, slotsUsed := s₂.slotsUsed } : State).setVm s₂.vm := by
    have : s₂ = ({ s₂ with vm := (U.calling g mk a).vm } : State).setVm s₂.vm := rfl
    rw [e2] at this
    exact this
  obtain ⟨c₂, i₂, len₂, hc₂, hd₂, hf₂⟩ := hend
  have hW' : U.WarmedH s₂.vm := hW₂
  have hcc : c₂ = c := by
    have h1 : s₂.code? g.method = U.code? g.method := by rw [State.code?_eq, State.code?_eq, hW'.alike.method?]
    exact Option.some.inj (hc₂.symm.trans (h1.trans h.code))
  subst hcc
  have hlen : len₂ = len := by rw [hdg] at hd₂; cases hd₂; rfl
  subst hlen
  obtain ⟨g₀, hg0⟩ := Option.isSome_iff_exists.mp h.top
  obtain ⟨r, hr2⟩ := State.topJava?_eq_some.mp hg0
  have hs₂ : s₂ = (({ U with heap := s₂.heap, slotsUsed := s₂.slotsUsed } : State).setVm s₂.vm).setTop { g with pc := g.pc + len₂, stack := v.toList ++ g.stack } := by
    have hr' : (({ U with heap := s₂.heap, slotsUsed := s₂.slotsUsed } : State).setVm s₂.vm).frames = .java g₀ :: r := hr2
    refine e3.trans ?_
    rw [hf₂, State.calling_eq h.top, State.setFrames_setFrames, State.setTop_of_frames _ hr', hr2]
    rfl
  have hsame : U.sameButNew ({ U with heap := s₂.heap, slotsUsed := s₂.slotsUsed } : State) L mc ms := by
    refine ⟨?_, q2, q3, q4, q5, q6⟩
    obtain ⟨t, ht, -⟩ := State.frames_cons hr2
    show ({ U with heap := s₂.heap, slotsUsed := s₂.slotsUsed } : State) = { U.setFrames U.frames with heap := s₂.heap, slotsUsed := s₂.slotsUsed }
    rw [State.setFrames_self ht]
  subst hg
  refine ⟨v, ⟨(({ U with heap := s₂.heap, slotsUsed := s₂.slotsUsed } : State).setVm s₂.vm), Ls ++ L, c0 + mc, s0 + ms⟩,
    ⟨X.admits, X.cas, X.clock, X.frames, X.room, X.hears, X.method, X.code, (X.here.setHeapUsed s₂.heap s₂.slotsUsed).setVm hW'.alike, X.tail, State.WarmedH.trans X.warmed hW', X.limits, X.bytes, X.same.trans (hsame.setVm s.vm)⟩, ?_, ?_⟩
  · exact ⟨g, mk, s₂, L, rfl, rfl, hq', rfl, hL, rfl, rfl⟩
  · show Steps p.tables e below _ ((({ U with heap := s₂.heap, slotsUsed := s₂.slotsUsed } : State).setVm s₂.vm).setTop { g with pc := g.pc + len₂, stack := v.toList ++ g.stack })
    rw [← hs₂]
    exact hsteps
end BU
/-! the kinds' method 'angered' -/
/-- an old object that is there -/
def tv_ob2 (G : tG) (b : Nat) : Prop := ∀ U : State, tv_E G U → ∃ (cell : Cell) (kB : Class), U.heap[b]? = some cell ∧ cell.vm.isStatics = false ∧ U.vm.classes[cell.cls]? = some kB ∧ ¬ G.2.2.1 ≤ b
theorem tv_ob2.of {G : tG} {b : Nat} {nm : String} (h : ∀ U : State, tv_E G U → va_O nm b (fun q => G.2.2.1 ≤ q) U U.heap) : tv_ob2 G b := by
  intro U hU
  obtain ⟨cell, h1, h2, h3, h4⟩ := h U hU
  obtain ⟨k, hk, -⟩ := Vm.findClass_spec h3
  exact ⟨cell, k, h1, h2, hk, h4⟩
theorem ob_1 {G : tG} : tv_ob2 G (G.2.2.2 1) := tv_ob2.of (fun U h => h.2.2.2.1.2.2.1)
theorem ob_2 {G : tG} : tv_ob2 G (G.2.2.2 2) := tv_ob2.of (fun U h => h.2.2.2.1.2.2.2.1)
theorem ob_3 {G : tG} : tv_ob2 G (G.2.2.2 3) := tv_ob2.of (fun U h => h.2.2.2.1.2.2.2.2.1)
theorem ob_4 {G : tG} : tv_ob2 G (G.2.2.2 4) := tv_ob2.of (fun U h => h.2.2.2.1.2.2.2.2.2)
def tv_U (l : Launch) (y : MethodName) (cc : ByteArray) (nL : Nat) (rm : Room) (G : tG) (av : List Value) (r : Int32) : Prop := ∀ sz : Nat, MetU l y (ws_ y cc nL (some .int)) rm (tv_Pc G [] sz av) (tv_QI G (va_A [] sz) r []) rm.cells rm.slots (va_A [] sz)
theorem tv_U.st {l : Launch} {y : MethodName} {cc : ByteArray} {nL : Nat} {rm : Room} {G : tG} {av : List Value} {r : Int32} (hy : plainName y.cls = true) (hav : (lg_sl av).length ≤ nL)
    (body : ∀ (p : Program) (e : Env) (s : State) (m : MethodId) (below : List Frame) (meth : Method) (c : Code) (A : Nat → Prop), tv_M G A p m c cc nL s av.toArray y.cls meth → meth.sig.returnType = some .int → tv_W G A s [] s.heap [] → ∀ ls : Array Slot, lv_has ls nL (lv_args 0 av) →
      W p l e rm s m av.toArray below meth c s.heap [] 0 0 (MQ below (tv_QI G A r ([] : List va_W).flatten) av.toArray s rm.cells rm.slots A) (F0 m 0 ls [])) : tv_U l y cc nL rm G av r := by
  intro sz
  refine MetU.ofW (cc := cc) (maxL := nL) (ret := some .int) hy List.mem_cons_self ?_
  intro p e s m args below meth c hx hb hr hlk hml hnm hts hv
  obtain ⟨rfl, hsz, hE, hP, hD⟩ := hv
  subst hsz
  have hl := lv_entry av (n := nL) hav
  rw [lg_entry_eq]
  exact body p e s m below meth c (va_A [] s.heap.size) ⟨⟨hx, hb, hml, findClass_of_methodNamed hnm, fun w h => hts w (List.mem_cons_of_mem _ h)⟩, hE, fun q h => Or.inr h, tv_below hE hD, hlk⟩ hr ⟨hP, hD.self, va_S.rf⟩ _ hl
section CU
variable {p : Program} {l : Launch} {e : Env} {R : Room} {s : State} {m : MethodId} {args : Array Value} {below : List Frame} {meth : Method} {c : Code} {H : Heap} {locs : List Loc} {cells slots : Nat} {Q : State → Prop}
variable {cc : ByteArray} {pc nL : Nat} {ls : Array Slot} {rest st0 : List Value} {A : Nat → Prop} {b : Nat} {G : tG} {S : List va_W} {own : String}
variable {y : MethodName} {bytes : ByteArray} {maxL index n : Nat} {As : List Value} {f k : Nat}
/-- super.y(..) on an old object -/
theorem c_iSU {r : Int32} (M : tv_M G A p m c cc nL s args own meth) (w : tv_W G A s S H locs) (hob : tv_ob2 G b) (hct : tv_U l y bytes maxL (tv_rm f k) G (.ref b :: As) r)
    (h1 : Cond.methodLink own index y ∈ lw_all) (h2 : Cond.sameMethod y.cls y.cls y.name y.desc ∈ lw_all) (h3 : Cond.superclass own y.cls ∈ lw_all) (h4 : Cond.instanceMethod y ∈ lw_all) (h5 : Cond.code y bytes maxL (some .int) ∈ lw_all) (hni : y.name ≠ "<init>") (hd : tv_nm y n) (hR : f + 1 ≤ R.frames ∧ 8 + (maxL + 11) + k ≤ R.locals) (hn : As.length = n) (hl : ls.size = nL)
    (hst : st0 = As.reverse ++ .ref b :: rest) (hW : (rest.map fun v => v.category).sum ≤ 8) (hdg : decode cc pc = .ok (.invokespecial index, 3)) (hf : cells ≤ R.cells ∧ slots ≤ R.slots)
    (kk : ∀ (H1 : Heap) (locs1 : List Loc), tv_W G A s S H1 locs1 → W p l e R s m args below meth c H1 locs1 cells slots Q (F0 m (pc + 3) ls (.int r :: rest))) : W p l e R s m args below meth c H locs cells slots Q (F0 m pc ls st0) := by
  subst hst
  have hts := M.1.2.2.2.2
  refine tv_coreI (C := []) (C' := []) (av := (Value.ref b :: As).toArray) M w tv_in.nil ?_ kk
  have hK : Back l R p e below s args y 3 8 (PreOf R 0 0 (tv_Pc G [] H.size (.ref b :: As))) (PostOf (tv_QI G (va_A [] H.size) r []) 0 0 (va_A [] H.size)) :=
    backU (bytes := bytes) (maxL := maxL) (ret := some .int) (hct H.size) tv_blind rfl rfl hR.1 (by show 8 + (maxL + 11) + k ≤ _; exact hR.2) (pay_in hts (lw_meth h5)) List.mem_cons_self
  obtain ⟨cellB, kB, c1, c2, c3, c4⟩ := hob s M.2.1
  have hHb : H[b]? = some cellB := by rw [w.2.2.2.1 b (Array.getElem?_eq_some_iff.mp c1).1 (fun z => c4 (M.2.2.2.1 b z))]; exact c1
  intro T hT X
  have hlen : ∀ sig, parseMethodDescriptor y.desc = some sig → As.length = sig.parameters.length := fun sig h => by
    have h9 := hd.2
    rw [h] at h9
    rw [hn]; exact (Option.some.inj h9).symm
  obtain ⟨v, vm₁, ⟨U', l2, d2, s2⟩, hW₁, X', ⟨g', mk, t, L, e1, e2, hq, g1, hL, g2, g3⟩, st⟩ := va_callSU X M.1.1 (bytes := bytes) (maxL := maxL) (ret := some .int) M.1.2.2.2.1 (hts _ h1) (hts _ h2) (hts _ h3) (hts _ h4) (hts _ h5) hni hK (by rw [hT]; exact hHb) c2 c3 (g := F0 m pc ls (As.reverse ++ .ref b :: rest)) rfl (hl.trans M.1.2.2.1.symm) (argsL := As) (rest := rest) hlen rfl (lv_room hW) (by rw [M.1.2.1]; exact hdg)
    (fun vm₁ hW₁ => ⟨hf.1, hf.2, tv_preU M w tv_in.nil (T.setVm vm₁) hT hW₁⟩)
  dsimp only [Pt.U, Pt.locs, Pt.cells, Pt.slots] at X' e1 e2 g1 g2 g3 st
  subst g1; subst g2; subst g3
  exact ⟨v, (T.setVm vm₁).calling g' mk (Value.ref b :: As).toArray, t, U', L, hT, X', hL, e1, e2, hq, st⟩
/-- x(..) on an old object of class C, where y is chosen -/
theorem c_iVU {r : Int32} {x : MethodName} {C : String} {bx : ByteArray} {mx : Nat} {rx : Option FieldType} (M : tv_M G A p m c cc nL s args own meth) (w : tv_W G A s S H locs) (hob : va_O C b (fun q => G.2.2.1 ≤ q) s s.heap) (hct : tv_U l y bytes maxL (tv_rm f k) G (.ref b :: As) r)
    (h1 : Cond.methodLink own index x ∈ lw_all) (h2 : Cond.sameMethod x.cls x.cls x.name x.desc ∈ lw_all) (h3 : Cond.instanceMethod x ∈ lw_all) (h4 : Cond.code x bx mx rx ∈ lw_all) (h5 : Cond.selects C x y ∈ lw_all) (h6 : Cond.instanceMethod y ∈ lw_all) (h7 : Cond.code y bytes maxL (some .int) ∈ lw_all) (hd : tv_nm x n) (hR : f + 1 ≤ R.frames ∧ 8 + (maxL + 11) + k ≤ R.locals) (hn : As.length = n) (hl : ls.size = nL)
    (hst : st0 = As.reverse ++ .ref b :: rest) (hW : (rest.map fun v => v.category).sum ≤ 8) (hdg : decode cc pc = .ok (.invokevirtual index, 3)) (hf : cells ≤ R.cells ∧ slots ≤ R.slots)
    (kk : ∀ (H1 : Heap) (locs1 : List Loc), tv_W G A s S H1 locs1 → W p l e R s m args below meth c H1 locs1 cells slots Q (F0 m (pc + 3) ls (.int r :: rest))) : W p l e R s m args below meth c H locs cells slots Q (F0 m pc ls st0) := by
  subst hst
  have hts := M.1.2.2.2.2
  refine tv_coreI (C := []) (C' := []) (av := (Value.ref b :: As).toArray) M w tv_in.nil ?_ kk
  have hK : Back l R p e below s args y 3 8 (PreOf R 0 0 (tv_Pc G [] H.size (.ref b :: As))) (PostOf (tv_QI G (va_A [] H.size) r []) 0 0 (va_A [] H.size)) :=
    backU (bytes := bytes) (maxL := maxL) (ret := some .int) (hct H.size) tv_blind rfl rfl hR.1 (by show 8 + (maxL + 11) + k ≤ _; exact hR.2) (pay_in hts (lw_meth h7)) List.mem_cons_self
  obtain ⟨cellB, c1, c2, c3, c4⟩ := hob
  have hHb : H[b]? = some cellB := by rw [w.2.2.2.1 b (Array.getElem?_eq_some_iff.mp c1).1 (fun z => c4 (M.2.2.2.1 b z))]; exact c1
  intro T hT X
  have hlen : ∀ sig, parseMethodDescriptor x.desc = some sig → As.length = sig.parameters.length := fun sig h => by
    have h9 := hd.2
    rw [h] at h9
    rw [hn]; exact (Option.some.inj h9).symm
  obtain ⟨v, vm₁, ⟨U', l2, d2, s2⟩, hW₁, X', ⟨g', mk, t, L, e1, e2, hq, g1, hL, g2, g3⟩, st⟩ := va_callVU X M.1.1 (C := C) (owner := x.cls) (bytes := bytes) (maxL := maxL) (ret := some .int) M.1.2.2.2.1 (hts _ h1) (hts _ h2) (va_Decl.of (hts _ h3) (hts _ h4)) hd.1 (hts _ h5) (hts _ h6) (hts _ h7) hK (by rw [hT]; exact hHb) c2 c3 (g := F0 m pc ls (As.reverse ++ .ref b :: rest)) rfl (hl.trans M.1.2.2.1.symm) (argsL := As) (rest := rest) hlen rfl (lv_room hW) (by rw [M.1.2.1]; exact hdg)
    (fun vm₁ hW₁ => ⟨hf.1, hf.2, tv_preU M w tv_in.nil (T.setVm vm₁) hT hW₁⟩)
  dsimp only [Pt.U, Pt.locs, Pt.cells, Pt.slots] at X' e1 e2 g1 g2 g3 st
  subst g1; subst g2; subst g3
  exact ⟨v, (T.setVm vm₁).calling g' mk (Value.ref b :: As).toArray, t, U', L, hT, X', hL, e1, e2, hq, st⟩
end CU
