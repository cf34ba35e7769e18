set_option maxRecDepth 100000
/-- the contract of a method with handlers -/
def MCW (G : j_G) (y : MethodName) (cc : ByteArray) (nL : Nat) (ret : Option FieldType) (hh : List (Nat × Nat × Nat × Nat)) (d mc ms : Nat) (args : List Value) (r : Nat → Nat) (h : j_H) (nx : Nat) (Q : j_Q) : Prop :=
  MetFree G.1 y (headSpec (wsW_ y cc nL ret hh) (j_rm d mc ms)) (fun a U => a = args.toArray ∧ j_holds G r h nx U.heap ∧ j_K G U) (fun _ _ _ _ _ => True) (fun a st o t => j_post G Q a st o t ∧ j_fe G st t mc ms)
/-- its table -/
def j_xh (hh : List (Nat × Nat × Nat × Nat)) (c : Code) : Prop := c.exceptionTable.toList.map (fun z => (z.startPc, z.endPc, z.handlerPc, z.catchType)) = hh
theorem MCW.ofJ {G : j_G} {y : MethodName} {cc : ByteArray} {nL : Nat} {ret : Option FieldType} {hh : List (Nat × Nat × Nat × Nat)} {d mc ms : Nat} {vs : List Value} {r : Nat → Nat} {h : j_H} {nx : Nat} {Q : j_Q} (L : List (Option Value)) (hL : j_init vs nL = L) (hn : (lg_sl vs).length ≤ nL) (hy : plainName y.cls = true)
    (k : J G (cc, y.cls, nL, ret, y.name, j_rm d mc ms, j_xh hh) Q mc ms 0 0 r h nx 0 L []) : MCW G y cc nL ret hh d mc ms vs r h nx Q := by
  refine MetFree.of_bodyS (code := cc) (maxLocals := nL) (ret := ret) hy ?_ ?_
  · intro args s m h hn
    obtain ⟨m9, meth, c, hn9, h1, h2, h3, h4, -, h5, h6, -⟩ := Cond.codeWith_spec (atoms_spec (ws := wsW_ y cc nL ret hh) h _ List.mem_cons_self)
    cases hn.symm.trans hn9
    exact ⟨meth, c, h1, h2, h3, h4, h5, h6⟩
  · intro p e s m args below meth c s₁ B hml hP _
    obtain ⟨rfl, hH, hK⟩ := hP
    have hh0 : s₁.heap = s.heap := by rw [B.state]; rfl
    have hts0 := atoms_spec (ws := wsW_ y cc nL ret hh) B.pre
    have hts : ∀ w ∈ lw_all, w.before vs.toArray s = true := fun w h => hts0 w (List.mem_cons_of_mem _ h)
    have X0 : Stand p G.1 e (j_rm d mc ms) s m vs.toArray below meth c s₁ [] 0 0 := Stand.of_body B
    have hxh : j_xh hh c := by
      obtain ⟨m9, meth9, c9, hn9, h1, h2, -, -, h7, -⟩ := Cond.codeWith_spec (hts0 _ List.mem_cons_self)
      cases B.named.symm.trans hn9
      cases B.method.symm.trans h1
      cases X0.code.symm.trans h2
      exact h7
    have hl := lv_entry vs (n := nL) hn
    have hl : j_loc _ nL L := hL ▸ j_loc.init hl
    have hw := k p e s m vs.toArray below meth c ⟨B.exec, B.bytes, B.returns, B.notSynchronized, (name_of_methodNamed B.named B.method).1, hml, findClass_of_methodNamed B.named, hts, hK, hxh⟩ s.heap [] _ hH (fun q hq => by cases hq) hl
    rw [← lg_entry_eq] at hw
    obtain ⟨t, a1, o, b1, b2, b3⟩ := hw s₁ hh0 X0
    exact ⟨t, o, a1, b1, b2, b3⟩
theorem MCW.weak {G : j_G} {y : MethodName} {cc : ByteArray} {nL : Nat} {ret : Option FieldType} {hh : List (Nat × Nat × Nat × Nat)} {d mc ms : Nat} {args : List Value} {r : Nat → Nat} {h : j_H} {nx : Nat} {Q Q' : j_Q} (hM : MCW G y cc nL ret hh d mc ms args r h nx Q) (hQ : ∀ o r h nx, Q o r h nx → Q' o r h nx) : MCW G y cc nL ret hh d mc ms args r h nx Q' := by
  intro p e ha hc hk s m args' below hf happ hP hK
  obtain ⟨n, o, h1, h2, h3, ⟨r', h', nx', a1, a2⟩, h5⟩ := hM p e ha hc hk s m args' below hf happ hP hK
  exact ⟨n, o, h1, h2, h3, ⟨r', h', nx', a1, hQ _ _ _ _ a2⟩, h5⟩
theorem MCW.met {G : j_G} {y : MethodName} {cc : ByteArray} {nL : Nat} {ret : Option FieldType} {hh : List (Nat × Nat × Nat × Nat)} {d mc ms : Nat} {args : List Value} {r : Nat → Nat} {h : j_H} {nx : Nat} {Q : j_Q} (hM : MCW G y cc nL ret hh d mc ms args r h nx Q) (hQ : j_isR Q) : Met G.1 y (wsW_ y cc nL ret hh) (j_rm d mc ms) (fun a U => a = args.toArray ∧ j_holds G r h nx U.heap ∧ j_K G U) (j_post G Q) mc ms (fun q => G.2.2.2.2.1.size ≤ q) := by
  intro p e ha hc hk s m args' below hf happ hP hK
  obtain ⟨n, o, h1, h2, h3, ⟨r', h', nx', a1, a2⟩, L, h5, h6⟩ := hM p e ha hc hk s m args' below hf happ hP hK
  exact ⟨n, o, h1, h2, h3, ⟨r', h', nx', a1, a2⟩, L, ⟨hQ _ _ _ _ a2, h5⟩, h6⟩
theorem vm_refl {vm : Vm} {c : ClassId} : vm.assignable c c = true := by
  show vm.assignableAux (255 + 1) c c = true
  rw [Vm.assignableAux, Bool.or_eq_true]
  exact Or.inl (beq_self_eq_true c)
section JCT
variable {G : j_G} {cc : ByteArray} {own : String} {nL : Nat} {ret : Option FieldType} {nm : String} {R : Room} {xt : Code → Prop} {Q : j_Q} {mc ms cells slots : Nat} {r : Nat → Nat} {h : j_H} {nx pc : Nat} {L : List (Option Value)} {st : List Value}
variable {y : MethodName} {bytes : ByteArray} {maxL d1 mc1 ms1 n index i ci : Nat} {rt : Option FieldType} {As stk fs : List Value} {q0 : vw_C} {Q1 : j_Q}
/-- the search of a method's table whose first entry takes what is thrown; its class may have to be looked up first -/
theorem j_seek {p : Program} {e : Env} {s : State} {m : MethodId} {args : Array Value} {below : List Frame} {meth : Method} {c : Code} {T : State} {locs : List Loc} {k1 k2 : Nat} (X : Stand p G.1 e R s m args below meth c T locs k1 k2) (a : Addr) {g : JFrame} (hg : g.method = m) {C : String} {z : ExceptionTableEntry} {rest : List ExceptionTableEntry} (htb : c.exceptionTable.toList = z :: rest) (hcv : covers z g.pc = true) (h0 : z.catchType ≠ 0) (hown : s.vm.findClass own = some m.cls) (hlink : (Cond.classLink own z.catchType C).before args s = true) {cell : Cell} (hcell : T.heap[a]? = some cell) (hob : cell.vm.isStatics = false) (hC : s.vm.findClass C = some cell.cls) :
    ∃ vm', Stand p G.1 e R s m args below meth c (T.setVm vm') locs k1 k2 ∧ ∀ target, Steps p.tables e below ((T.setVm vm').setTop { g with pc := z.handlerPc, stack := [.ref a] }) target → Steps p.tables e below ((T.setTop g).pushFrame (.throwing a)) target := by
  subst hg
  have hpl : e.platform.magicAccessors = ({} : Platform).magicAccessors := by rw [X.admits.platform]
  obtain ⟨cT, hcT, hcl⟩ := Cond.classLink_spec hown hlink e.platform hpl
  cases hC.symm.trans hcT
  obtain ⟨dk, _, _, kt, hd, _, _, _, _, hkt, _, hopen⟩ := hcl.here
  have hW' : s.WarmedH (T.vm.noted g.method.cls z.catchType (.cls cell.cls)) := X.warmed.noted hd hopen (State.rightAt_cls hcl)
  obtain ⟨kt', hkt', -⟩ := hW'.alike.2.2 _ _ hkt
  have hl := X.warmed.classLinks hcl
  obtain ⟨ha, ht⟩ := (resolveClass_links e.toSetting hl).op (op := VmOp.resolveClass g.method.cls z.catchType) rfl
  refine ⟨_, X.noted hW', fun target hst => ?_⟩
  obtain ⟨S, hS⟩ : ∃ S, S = (T.setTop g).pushFrame (.throwing a) := ⟨_, rfl⟩
  have hSv : S.vm = T.vm := by rw [hS]; exact Stand.throwing_vm T g a
  have hSh : S.heap = T.heap := by rw [hS]; exact Stand.throwing_heap T g a
  obtain ⟨hgo, hw⟩ := X.here.throwing a
  refine Steps.head hgo hw ?_
  rw [stepThread_throwing (frames_entered X.here.top _), ← hS]
  have hobs : ∀ q, cell.vm ≠ .statics q := VmData.ne_statics_of hob
  have hcv2 := hcv
  simp only [covers] at hcv2
  have hfit : (T.vm.noted g.method.cls z.catchType (.cls cell.cls)).assignable cell.cls cell.cls = true := vm_refl
  have hfind : ∀ (Q9 : Handler → Pre) (E9 : CtlPost) (d9 : Bool) (acts : List Action), wp (findHandler g a) Q9 E9 e d9 acts S ↔ Q9 (.found z.handlerPc) d9 acts (S.setVm (T.vm.noted g.method.cls z.catchType (.cls cell.cls))) := by
    intro Q9 E9 d9 acts
    rw [W.findHandler_eq (meth := meth) (code := c) (by rw [hSv]; exact X.method') X.code, htb]
    have hcell9 : S.heap[a]? = some cell := by rw [hSh]; exact hcell
    rw [← hSv] at ha ht hkt' hfit ⊢
    simp [findHandler.go, hcv2, h0, ha, ht, hcell9, hobs, hkt', hfit, VmOp.dirties, VmOp.acts]
  obtain ⟨g0, hg0⟩ := Option.isSome_iff_exists.mp X.here.top
  obtain ⟨r0, hr0⟩ := State.topJava?_eq_some.mp hg0
  have key : (stepThrowing e S a (.java g :: r0)).Is ((S.setVm (T.vm.noted g.method.cls z.catchType (.cls cell.cls))).setFrames (.java { g with pc := z.handlerPc, stack := [.ref a] } :: r0)) [] := by
    simp only [stepThrowing, searchFrame, vmDo]
    generalize hr9 : Sem.go _ e false [] S = res
    obtain ⟨as, rfl, ha9⟩ := Sem.eq_ok_of hr9 (a := Handler.found z.handlerPc) (s' := S.setVm (T.vm.noted g.method.cls z.catchType (.cls cell.cls))) (acts' := []) (by simp [hfind _ _ _ _])
    exact ⟨rfl, ha9⟩
  rw [hr0, List.tail_cons, key.1]
  have hr1 : (T.setVm (T.vm.noted g.method.cls z.catchType (.cls cell.cls))).frames = .java g0 :: r0 := hr0
  rw [State.setTop_of_frames _ hr1] at hst
  have e9 : (S.setVm (T.vm.noted g.method.cls z.catchType (.cls cell.cls))).setFrames (.java { g with pc := z.handlerPc, stack := [.ref a] } :: r0) = (T.setVm (T.vm.noted g.method.cls z.catchType (.cls cell.cls))).setFrames (.java { g with pc := z.handlerPc, stack := [.ref a] } :: r0) := by
    have e1 : ∀ (u : State) (v : Vm) (F1 F2 : List Frame), ((u.setFrames F1).setVm v).setFrames F2 = (u.setVm v).setFrames F2 := fun u v F1 F2 => by
      have h1 : (u.setFrames F1).setVm v = (u.setVm v).setFrames F1 := rfl
      rw [h1, State.setFrames_setFrames]
    rw [hS, State.pushFrame, e1, State.setTop_of_frames _ hr0, e1]
  rw [e9]
  exact hst
/-- invokevirtual of a method that throws an object that a handler of this method takes -/
theorem j_callVC {C : String} {a0 b0 hp ct iF cF : Nat} {hs : List (Nat × Nat × Nat × Nat)} {qF : vw_C} (hM : MC G y bytes maxL rt d1 mc1 ms1 (.ref (r i) :: As) r h nx Q1) (hQ : j_isT Q1) (hQF : ∀ v r' h' nx', Q1 (.threw v) r' h' nx' → v = r' iF ∧ ∃ fs, h' iF = some (.inr (cF, fs))) (hcF : G.2.2.1[cF]? = some qF) (hCF : qF.1 = C) (hx0 : xt = j_xh ((a0, b0, hp, ct) :: hs)) (hpc : a0 ≤ pc ∧ pc < b0) (hct : ct ≠ 0) (hlk0 : Cond.classLink own ct C ∈ lw_all) (hd : decode cc pc = .ok (.invokevirtual index, 3)) (hpm : j_pm y bytes maxL rt n) (hw : Cond.methodLink own index y ∈ lw_all) (hw2 : Cond.instanceMethod y ∈ lw_all) (hw3 : Cond.selects y.cls y y ∈ lw_all) (hi : h i = some (.inr (ci, fs))) (hc : G.2.2.1[ci]? = some q0) (hcl : q0.1 = y.cls) (hst : stk = As.reverse ++ .ref (r i) :: st) (hR : d1 + 1 ≤ R.frames ∧ 8 + (maxL + 11) + 64 * d1 ≤ R.locals) (hf : cells + mc1 ≤ R.cells ∧ slots + ms1 ≤ R.slots) (hn : As.length = n) (hcat : (st.map fun v => v.category).sum ≤ 8)
    (kk : ∀ r' h' nx', Q1 (.threw (r' iF)) r' h' nx' → J G (cc, own, nL, ret, nm, R, xt) Q mc ms (cells + mc1) (slots + ms1) r' h' nx' hp L [.ref (r' iF)]) : J G (cc, own, nL, ret, nm, R, xt) Q mc ms cells slots r h nx pc L stk := by
  intro p e s m args below meth c E H locs ls hH hlo hL
  obtain ⟨hx, hb, hr, hlk, hnm, hml, hown, hts, hK, hxt⟩ := id E
  subst hst
  obtain ⟨p1, p2, p3, p4, p5⟩ := hpm
  obtain ⟨⟨-, -, -, -, hws, -, hcode, hini, hy, hlen, hl⟩, hin, hse⟩ := cwV (R := R) (mc := mc1) (ms := ms1) (rm := j_rm d1 mc1 ms1) n hts (lw_V hw hw2 hw3 p2 p1) rfl rfl rfl ⟨rfl, p3, p4, p5⟩ hR
  intro T hT X
  have hrv := va_recv hK.1 (hH.P1 hi) hc (q0 := 0) rfl
  rw [hcl] at hrv
  obtain ⟨cB, hcB, hoB, hkB⟩ := hrv
  obtain ⟨mk, mM, hnamed, hmM, hsM, habM⟩ := Cond.instanceMethod_spec hin
  obtain ⟨mM', cM, hmM', -, -, -, -, -, -, hsig⟩ := Cond.code_spec hnamed hcode
  cases hmM.symm.trans hmM'
  obtain ⟨c2, r2, m2, q1, q2, q3, q4, kP, hkP, hkPi⟩ := Cond.selects_spec hse
  cases hkB.symm.trans q1
  cases (State.methodFound?_of_named hnamed hy).symm.trans q2
  cases hnamed.symm.trans q3
  obtain ⟨vm1, X1, hs1⟩ := X.invokevirtual hx hown hl hnamed hmM hsM hkP hkPi hy (a := r i) (cell := cB) (by rw [hT]; exact hcB) (fun z hz => by rw [hz] at hoB; cases hoB) (by rw [Launch.admits_selectMethod X.admits]; exact q4) hmM habM hkP hkPi (g := F0 m pc ls (As.reverse ++ .ref (r i) :: st)) rfl (argsL := As) (rest := st) (hn.trans (hlen _ hsig)) rfl (by rw [hb]; exact hd)
  obtain ⟨x, T', L2, r', h', nx', Y, hL2, -, g1, g2, g3⟩ := j_thr X1 (g := F0 m pc ls st) rfl (by show ls.size = _; rw [hml]; exact hL.1) (by rw [hb]; exact hd) (by show 2 * 0 + (List.map (fun v => v.category) st).sum ≤ 8; omega) hM hQ (X1.named hnamed) hR hf (fun w hw9 => hws w hw9 _ _ X1.warmed) (word_at X1.warmed (Or.inl (by first | rfl | simp [Cond.onTables, Cond.keeps, Cond.steady])) hini) (by show j_holds G r h nx T.heap; rw [hT]; exact hH) (hK.warm X1.warmed)
  obtain ⟨hxv, fsF, hFi⟩ := hQF _ _ _ _ g2
  subst hxv
  have hrF := va_recv hK.1 (g1.P1 hFi) hcF (q0 := 0) rfl
  rw [hCF] at hrF
  obtain ⟨cellF, f1, f2, f3⟩ := hrF
  have htb : j_xh ((a0, b0, hp, ct) :: hs) c := hx0 ▸ hxt
  obtain ⟨z, rest, htb1, hz, -⟩ := List.map_eq_cons_iff.mp (show c.exceptionTable.toList.map _ = _ :: _ from htb)
  have z1 : z.startPc = a0 := congrArg (fun q => q.1) hz
  have z2 : z.endPc = b0 := congrArg (fun q => q.2.1) hz
  have z3 : z.handlerPc = hp := congrArg (fun q => q.2.2.1) hz
  have z4 : z.catchType = ct := congrArg (fun q => q.2.2.2) hz
  have hlo2 : ∀ q ∈ locs ++ L2, G.2.2.2.2.1.size ≤ q.base := by
    intro q hq
    rcases List.mem_append.mp hq with z | z
    · exact hlo q z
    · exact hL2 q z
  have hend := kk r' h' nx' g2 p e s m args below meth c E T'.heap (locs ++ L2) ls g1 hlo2 hL
  have hfin : ∀ vm', Stand p G.1 e R s m args below meth c (T'.setVm vm') (locs ++ L2) (cells + mc1) (slots + ms1) → ∃ t, Steps p.tables e below ((T'.setVm vm').setTop (F0 m hp ls [.ref (r' iF)])) t ∧ j_end G Q mc ms below args s t := fun vm' Y' => hend (T'.setVm vm') rfl Y'
  have hcov : covers z pc = true := by
    simp only [covers, Bool.and_eq_true, decide_eq_true_eq]
    omega
  obtain ⟨vm', Y', hgo⟩ := j_seek (own := own) (C := C) Y (r' iF) (g := F0 m pc ls st) rfl htb1 hcov (by rw [z4]; exact hct) hown (by rw [z4]; exact hts _ hlk0) f1 f2 f3
  obtain ⟨t, ht1, ht2⟩ := hfin vm' Y'
  refine ⟨t, hs1 _ fun acts => ?_, ht2⟩
  rw [doInvoke_state]
  refine g3.trans (hgo t ?_)
  rw [z3]
  exact ht1
/-- invokevirtual of a method with handlers -/
theorem j_callVW {hh : List (Nat × Nat × Nat × Nat)} (hM : MCW G y bytes maxL rt hh d1 mc1 ms1 (.ref (r i) :: As) r h nx Q1) (hQ : j_isR Q1) (hd : decode cc pc = .ok (.invokevirtual index, 3)) (hcw : Cond.codeWith y bytes maxL rt hh ∈ lw_all) (hini : Cond.initialized y.cls ∈ lw_all) (hy : y.cls ≠ "java/lang/invoke/MethodHandle" ∧ y.cls ≠ "java/lang/invoke/VarHandle") (hpar : (parseMethodDescriptor y.desc).map (fun d => d.parameters.length) = some n) (hw : Cond.methodLink own index y ∈ lw_all) (hw2 : Cond.instanceMethod y ∈ lw_all) (hw3 : Cond.selects y.cls y y ∈ lw_all) (hi : h i = some (.inr (ci, fs))) (hc : G.2.2.1[ci]? = some q0) (hcl : q0.1 = y.cls) (hst : stk = As.reverse ++ .ref (r i) :: st) (hR : d1 + 1 ≤ R.frames ∧ 8 + (maxL + 11) + 64 * d1 ≤ R.locals) (hf : cells + mc1 ≤ R.cells ∧ slots + ms1 ≤ R.slots) (hn : As.length = n) (hcat : (st.map fun v => v.category).sum ≤ 8)
    (kk : ∀ v r' h' nx', Q1 (.returned v) r' h' nx' → J G (cc, own, nL, ret, nm, R, xt) Q mc ms (cells + mc1) (slots + ms1) r' h' nx' (pc + 3) L (v.toList ++ st)) : J G (cc, own, nL, ret, nm, R, xt) Q mc ms cells slots r h nx pc L stk := by
  intro p e s m args below meth c E H locs ls hH hlo hL
  obtain ⟨hx, hb, hr, hlk, hnm, hml, hown, hts, hK, hxt⟩ := id E
  subst hst
  refine j_run (a := (Value.ref (r i) :: As).toArray) (Q1 := Q1) E hlo hL ?_ kk
  have hK9 : Back G.1 R p e below s args y 3 8 (PreOf R mc1 ms1 (fun a U => a = (Value.ref (r i) :: As).toArray ∧ j_holds G r h nx U.heap ∧ j_K G U)) (PostOf (j_post G Q1) mc1 ms1 (fun q => G.2.2.2.2.1.size ≤ q)) :=
    va_backW (hh := hh) (bytes := bytes) (maxL := maxL) (ret := rt) (hM.met hQ) j_blind rfl rfl hR.1 hR.2 (pay_in hts (lw_methW hcw)) List.mem_cons_self (fun a' U hW => word_at hW (Or.inl (by first | rfl | simp [Cond.onTables, Cond.keeps, Cond.steady])) (hts _ hini))
  intro T hT X
  have hrv := va_recv hK.1 (hH.P1 hi) hc (q0 := 0) rfl
  rw [hcl] at hrv
  obtain ⟨cB, hcB, hoB, hkB⟩ := hrv
  obtain ⟨mk, mM, hnamed, hmM, hsM, habM⟩ := Cond.instanceMethod_spec (hts _ hw2)
  obtain ⟨m9, mM', cM, hn9, hmM', -, -, -, -, -, -, hsig⟩ := Cond.codeWith_spec (hts _ hcw)
  cases hnamed.symm.trans hn9
  cases hmM.symm.trans hmM'
  obtain ⟨c2, r2, m2, q1, q2, q3, q4, kP, hkP, hkPi⟩ := Cond.selects_spec (hts _ hw3)
  cases hkB.symm.trans q1
  cases (State.methodFound?_of_named hnamed hy).symm.trans q2
  cases hnamed.symm.trans q3
  have hlen9 : As.length = mM.sig.parameters.length := by
    rw [hsig] at hpar
    exact hn.trans (Option.some.inj hpar).symm
  obtain ⟨vm1, X1, hs1⟩ := X.invokevirtual hx hown (hts _ hw) hnamed hmM hsM hkP hkPi hy (a := r i) (cell := cB) (by rw [hT]; exact hcB) (fun z hz => by rw [hz] at hoB; cases hoB) (by rw [Launch.admits_selectMethod X.admits]; exact q4) hmM habM hkP hkPi (g := F0 m pc ls (As.reverse ++ .ref (r i) :: st)) rfl (argsL := As) (rest := st) hlen9 rfl (by rw [hb]; exact hd)
  obtain ⟨v, ⟨U', l2, k2, s2⟩, X', ⟨g', mk', t, L2, e1, e2, hq, h1, hL2, h2, h3⟩, hsteps⟩ := hK9 m meth c ⟨T.setVm vm1, locs, cells, slots⟩ (F0 m pc ls st) (.invokevirtual index) mk (Value.ref (r i) :: As).toArray X1 rfl (by show ls.size = _; rw [hml]; exact hL.1) (by rw [hb]; exact hd) (by show 2 * 0 + (List.map (fun v => v.category) st).sum ≤ 8; omega) (X1.named hnamed) ⟨hf.1, hf.2, rfl, (by show j_holds G r h nx T.heap; rw [hT]; exact hH), hK.warm X1.warmed⟩
  dsimp only [Pt.U, Pt.locs, Pt.cells, Pt.slots] at X' e1 e2 h1 h2 h3 hsteps
  subst h1; subst h2; subst h3
  exact ⟨v, (T.setVm vm1).calling g' mk' (Value.ref (r i) :: As).toArray, t, U', L2, hT, X', hL2, e1, e2, hq, fun target h => hs1 _ fun acts => by rw [doInvoke_state]; exact hsteps.trans h⟩
end JCT
