set_option maxRecDepth 100000
/-- it always throws -/
def j_isT (Q : j_Q) : Prop := ∀ o r h nx, Q o r h nx → ∃ v, o = .threw v
section JT
variable {G : j_G} {cc : ByteArray} {own : String} {nL : Nat} {ret : Option FieldType} {nm : String} {R : Room} {xt : Code → Prop} {Q : j_Q} {mc ms cells slots : Nat} {r : Nat → Nat} {h : j_H} {nx pc : Nat} {L : List (Option Value)} {st : List Value}
variable {y : MethodName} {bytes : ByteArray} {maxL d1 mc1 ms1 n index i ci : Nat} {rt : Option FieldType} {As stk fs : List Value} {q0 : vw_C} {Q1 : j_Q}
/-- a callee that throws, from the frame g (its arguments taken off) on: the note lies over g -/
theorem j_thr {p : Program} {e : Env} {s : State} {m : MethodId} {args : Array Value} {below : List Frame} {meth : Method} {c : Code} {U : State} {locs : List Loc} {g : JFrame} {ig : Instr} {mk : MethodId} (X : Stand p G.1 e R s m args below meth c U locs cells slots) (hg : g.method = m) (hsize : g.locals.size = c.maxLocals) (hdg : decode c.code g.pc = .ok (ig, 3)) (hW : 2 * g.monitorRoom + (g.stack.map fun v => v.category).sum ≤ 8) (hM : MC G y bytes maxL rt d1 mc1 ms1 As r h nx Q1) (hT : j_isT Q1) (hnm : U.methodNamed? y = some mk)
    (hR : d1 + 1 ≤ R.frames ∧ 8 + (maxL + 11) + 64 * d1 ≤ R.locals) (hf : cells + mc1 ≤ R.cells ∧ slots + ms1 ≤ R.slots) (hpre : ∀ w ∈ ws_ y bytes maxL rt, w.before As.toArray U = true) (hini : (Cond.initialized y.cls).before As.toArray U = true) (hH : j_holds G r h nx U.heap) (hK : j_K G U) :
    ∃ (x : Addr) (T' : State) (L2 : List Loc) (r' : Nat → Nat) (h' : j_H) (nx' : Nat), Stand p G.1 e R s m args below meth c T' (locs ++ L2) (cells + mc1) (slots + ms1) ∧ (∀ q ∈ L2, G.2.2.2.2.1.size ≤ q.base) ∧ U.WarmedH T'.vm ∧ j_holds G r' h' nx' T'.heap ∧ Q1 (.threw x) r' h' nx' ∧
      Steps p.tables e below (doInvoke e (U.setTop g) [] mk As.toArray).1 ((T'.setTop g).pushFrame (.throwing x)) := by
  have hcd : (Cond.code y bytes maxL rt).before As.toArray U = true := hpre _ List.mem_cons_self
  obtain ⟨methY, cY, hmY, hcY, -, hlY, -, -, -, -⟩ := Cond.code_spec hnm hcd
  obtain ⟨kY, hkY, -⟩ := className_of_methodNamed hnm
  have hiY : kY.init = .initialized := Cond.initialized_spec (findClass_of_methodNamed hnm) hkY hini
  have hAt : At U g.method c below := by rw [hg]; exact X.here
  have happ : (headSpec (ws_ y bytes maxL rt) (j_rm d1 mc1 ms1)).appliesLoose y e.platform (U.calling g mk As.toArray) = true :=
    Spec.appliesLoose_calling hAt hdg hnm hkY hiY (X.room_calling (R' := j_rm d1 mc1 ms1) hsize hmY hcY hR.1 (by rw [hlY]; show 2 * g.monitorRoom + (g.stack.map fun v => v.category).sum + (maxL + 11) + 64 * d1 ≤ R.locals; omega) hf.1 hf.2) (atoms_intro hpre)
  obtain ⟨mid, hmid⟩ := hAt.above
  have hfr : (U.setTop g).frames = (.java g :: mid) ++ below := by rw [State.frames_setTop' g hAt.top, hmid]; rfl
  obtain ⟨o, t, hst, -, hend, ⟨r', h', nx', a1, a2⟩, L2, ⟨b1, b2⟩, b3⟩ := Jvm.Free.Steps.callFree hM p X.admits X.cas X.clock (acts := []) hfr happ ⟨rfl, hH, hK.warm (State.WarmedH.refl U)⟩ trivial
  obtain ⟨x, rfl⟩ := hT _ _ _ _ a2
  rw [State.frames_setTop' g hAt.top, X.tail] at hend
  obtain ⟨T', X', hW', hB, ht⟩ := X.outOfThrown (g := g) hg hend b1 b2
  refine ⟨x, T', L2, r', h', nx', X', b3, hW', ?_, a2, by rw [← ht]; exact hst⟩
  rw [ht, Stand.throwing_heap] at a1
  exact a1
/-- the note goes on down: the method throws -/
theorem j_leaveT {p : Program} {e : Env} {s : State} {m : MethodId} {args : Array Value} {below : List Frame} {meth : Method} {c : Code} {T' : State} {locs : List Loc} {g : JFrame} {x : Addr} {s0 : State} {k1 k2 : Nat} (X : Stand p G.1 e R s m args below meth c T' locs k1 k2) (h1 : k1 ≤ mc) (h2 : k2 ≤ ms) (hlo : ∀ q ∈ locs, G.2.2.2.2.1.size ≤ q.base) (hg : g.method = m) (hlk : g.locked = none) (hen : g.entered = []) (hlocks : meth.locks = false) (hxt : c.exceptionTable.isEmpty = true) (hH : j_holds G r h nx T'.heap) (hq : Q (.threw x) r h nx) (hst : Steps p.tables e below s0 ((T'.setTop g).pushFrame (.throwing x))) : ∃ t, Steps p.tables e below s0 t ∧ j_end G Q mc ms below args s t := by
  have hout : ∀ z ∈ c.exceptionTable.toList, covers z g.pc = false := by
    intro z hz
    have he : c.exceptionTable.toList = [] := by
      have h9 := Array.isEmpty_iff.mp hxt
      rw [h9]
    rw [he] at hz
    cases hz
  obtain ⟨a1, a2, a3, a4, a5⟩ := (stand_widen X h1 h2).leaveThrown x hg hlk hen hout hlocks
  exact ⟨_, hst.trans a1, .threw x, a2, a3, ⟨r, h, nx, hH, hq⟩, locs, ⟨a4, a5⟩, hlo⟩
/-- invokevirtual of a method that throws; no handler stands here -/
theorem j_callVT (hM : MC G y bytes maxL rt d1 mc1 ms1 (.ref (r i) :: As) r h nx Q1) (hQ : j_isT Q1) (hx0 : xt = j_x0) (hd : decode cc pc = .ok (.invokevirtual index, 3)) (hpm : j_pm y bytes maxL rt n) (hw : Cond.methodLink own index y ∈ lw_all) (hw2 : Cond.instanceMethod y ∈ lw_all) (hw3 : Cond.selects y.cls y y ∈ lw_all) (hi : h i = some (.inr (ci, fs))) (hc : G.2.2.1[ci]? = some q0) (hcl : q0.1 = y.cls) (hst : stk = As.reverse ++ .ref (r i) :: st) (hR : d1 + 1 ≤ R.frames ∧ 8 + (maxL + 11) + 64 * d1 ≤ R.locals) (hf : cells + mc1 ≤ R.cells ∧ slots + ms1 ≤ R.slots) (hn : As.length = n) (hcat : (st.map fun v => v.category).sum ≤ 8) (hc2 : cells + mc1 ≤ mc) (hs2 : slots + ms1 ≤ ms)
    (kk : ∀ v r' h' nx', Q1 (.threw v) r' h' nx' → Q (.threw v) r' h' nx') : J G (cc, own, nL, ret, nm, R, xt) Q mc ms cells slots r h nx pc L stk := by
  intro p e s m args below meth c E H locs ls hH hlo hL
  obtain ⟨hx, hb, hr, hlk, hnm, hml, hown, hts, hK, hxt⟩ := id E
  subst hst
  obtain ⟨p1, p2, p3, p4, p5⟩ := hpm
  obtain ⟨⟨-, -, -, -, hws, -, hcode, hini, hy, hlen, hl⟩, hin, hse⟩ := cwV (R := R) (mc := mc1) (ms := ms1) (rm := j_rm d1 mc1 ms1) n hts (lw_V hw hw2 hw3 p2 p1) rfl rfl rfl ⟨rfl, p3, p4, p5⟩ hR
  intro T hT X
  have hrv := va_recv hK.1 (hH.P1 hi) hc (q0 := 0) rfl
  rw [hcl] at hrv
  obtain ⟨cB, hcB, hoB, hkB⟩ := hrv
  obtain ⟨mk, mM, hnamed, hmM, hsM, habM⟩ := Cond.instanceMethod_spec hin
  obtain ⟨mM', cM, hmM', -, -, -, -, -, -, hsig⟩ := Cond.code_spec hnamed hcode
  cases hmM.symm.trans hmM'
  obtain ⟨c2, r2, m2, q1, q2, q3, q4, kP, hkP, hkPi⟩ := Cond.selects_spec hse
  cases hkB.symm.trans q1
  cases (State.methodFound?_of_named hnamed hy).symm.trans q2
  cases hnamed.symm.trans q3
  obtain ⟨vm1, X1, hs1⟩ := X.invokevirtual hx hown hl hnamed hmM hsM hkP hkPi hy (a := r i) (cell := cB) (by rw [hT]; exact hcB) (fun z hz => by rw [hz] at hoB; cases hoB) (by rw [Launch.admits_selectMethod X.admits]; exact q4) hmM habM hkP hkPi (g := F0 m pc ls (As.reverse ++ .ref (r i) :: st)) rfl (argsL := As) (rest := st) (hn.trans (hlen _ hsig)) rfl (by rw [hb]; exact hd)
  obtain ⟨x, T', L2, r', h', nx', Y, hL2, -, g1, g2, g3⟩ := j_thr X1 (g := F0 m pc ls st) rfl (by show ls.size = _; rw [hml]; exact hL.1) (by rw [hb]; exact hd) (by show 2 * 0 + (List.map (fun v => v.category) st).sum ≤ 8; omega) hM hQ (X1.named hnamed) hR hf (fun w hw9 => hws w hw9 _ _ X1.warmed) (word_at X1.warmed (Or.inl (by first | rfl | simp [Cond.onTables, Cond.keeps, Cond.steady])) hini) (by show j_holds G r h nx T.heap; rw [hT]; exact hH) (hK.warm X1.warmed)
  refine j_leaveT (mc := mc) (ms := ms) Y hc2 hs2 ?_ (g := F0 m pc ls st) rfl rfl rfl hlk (show j_x0 c from hx0 ▸ hxt) g1 (kk _ _ _ _ g2) (hs1 _ fun acts => by rw [doInvoke_state]; exact g3)
  intro q hq
  rcases List.mem_append.mp hq with z | z
  · exact hlo q z
  · exact hL2 q z
/-- invokestatic of a method that throws; no handler stands here -/
theorem j_callST (hM : MC G y bytes maxL rt d1 mc1 ms1 As r h nx Q1) (hQ : j_isT Q1) (hx0 : xt = j_x0) (hd : decode cc pc = .ok (.invokestatic index, 3)) (hpm : j_pm y bytes maxL rt n) (hw : Cond.methodLink own index y ∈ lw_all) (hw2 : Cond.static y ∈ lw_all) (hst : stk = As.reverse ++ st) (hR : d1 + 1 ≤ R.frames ∧ 8 + (maxL + 11) + 64 * d1 ≤ R.locals) (hf : cells + mc1 ≤ R.cells ∧ slots + ms1 ≤ R.slots) (hn : As.length = n) (hcat : (st.map fun v => v.category).sum ≤ 8) (hc2 : cells + mc1 ≤ mc) (hs2 : slots + ms1 ≤ ms)
    (kk : ∀ v r' h' nx', Q1 (.threw v) r' h' nx' → Q (.threw v) r' h' nx') : J G (cc, own, nL, ret, nm, R, xt) Q mc ms cells slots r h nx pc L stk := by
  intro p e s m args below meth c E H locs ls hH hlo hL
  obtain ⟨hx, hb, hr, hlk, hnm, hml, hown, hts, hK, hxt⟩ := id E
  subst hst
  obtain ⟨p1, p2, p3, p4, p5⟩ := hpm
  obtain ⟨⟨-, -, -, -, hws, -, hcode, hini, hy, hlen, hl⟩, hstt⟩ := va_cwS (R := R) (mc := mc1) (ms := ms1) (rm := j_rm d1 mc1 ms1) n hts (lw_S hw hw2 p2 p1) rfl rfl rfl ⟨p3, p4, p5⟩ hR
  intro T hT X
  obtain ⟨mk, hnamed⟩ := Cond.code_named hcode
  obtain ⟨mM, cM, hmM, -, -, -, -, -, -, hsig⟩ := Cond.code_spec hnamed hcode
  have hstc : mM.isStatic = true := Cond.static_spec hnamed hmM hstt
  obtain ⟨kP, hkP, -⟩ := className_of_methodNamed hnamed
  have hiP : kP.init = .initialized := Cond.initialized_spec (findClass_of_methodNamed hnamed) hkP hini
  obtain ⟨vm1, X1, hs1⟩ := X.invokestatic hx hown hl hnamed hmM hstc hkP hiP hy (g := F0 m pc ls (As.reverse ++ st)) rfl (argsL := As) (rest := st) (hn.trans (hlen _ hsig)) rfl (by rw [hb]; exact hd)
  obtain ⟨x, T', L2, r', h', nx', Y, hL2, -, g1, g2, g3⟩ := j_thr X1 (g := F0 m pc ls st) rfl (by show ls.size = _; rw [hml]; exact hL.1) (by rw [hb]; exact hd) (by show 2 * 0 + (List.map (fun v => v.category) st).sum ≤ 8; omega) hM hQ (X1.named hnamed) hR hf (fun w hw9 => hws w hw9 _ _ X1.warmed) (word_at X1.warmed (Or.inl (by first | rfl | simp [Cond.onTables, Cond.keeps, Cond.steady])) hini) (by show j_holds G r h nx T.heap; rw [hT]; exact hH) (hK.warm X1.warmed)
  refine j_leaveT (mc := mc) (ms := ms) Y hc2 hs2 ?_ (g := F0 m pc ls st) rfl rfl rfl hlk (show j_x0 c from hx0 ▸ hxt) g1 (kk _ _ _ _ g2) (hs1 _ fun acts => by rw [doInvoke_state]; exact g3)
  intro q hq
  rcases List.mem_append.mp hq with z | z
  · exact hlo q z
  · exact hL2 q z
/-- athrow; no handler stands here -/
theorem j_athrow {a : Nat} (hx0 : xt = j_x0) (hd : decode cc pc = .ok (.athrow, 1)) (hc2 : cells ≤ mc) (hs2 : slots ≤ ms) (hq : Q (.threw a) r h nx) : J G (cc, own, nL, ret, nm, R, xt) Q mc ms cells slots r h nx pc L (.ref a :: st) := by
  intro p e s m args below meth c E H locs ls hH hlo hL
  obtain ⟨hx, hb, hr, hlk, hnm, hml, hown, hts, hK, hxt⟩ := id E
  intro T hT X
  have hout : ∀ z ∈ c.exceptionTable.toList, covers z pc = false := by
    intro z hz
    have he : c.exceptionTable.toList = [] := by
      have h9 := Array.isEmpty_iff.mp (show j_x0 c from hx0 ▸ hxt)
      rw [h9]
    rw [he] at hz
    cases hz
  obtain ⟨a1, a2, a3, a4, a5⟩ := (stand_widen X hc2 hs2).athrowLeaves hx (g := F0 m pc ls (.ref a :: st)) rfl rfl rfl hout rfl (by rw [hb]; exact hd) hlk
  exact ⟨_, a1, .threw a, a2, a3, ⟨r, h, nx, by show j_holds G r h nx T.heap; rw [hT]; exact hH, hq⟩, locs, ⟨a4, a5⟩, hlo⟩
end JT
