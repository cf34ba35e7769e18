set_option maxRecDepth 100000
/-- the outer array when i of its arrays lie behind it (it lies at b) -/
def mgO (cA : ClassId) (b i : Nat) : Cell := arrV cA 5 (fun j => if j < i then .ref (b + 1 + j) else .null)
def mgI (cI : ClassId) : Cell := arrV cI 8 (fun _ => .int 0)
def mgS (T : State) (cA cI : ClassId) : Nat → State
  | 0 => T.pushCell (mgO cA T.heap.size 0)
  | i + 1 => ((mgS T cA cI i).pushCell (mgI cI)).setCell T.heap.size (mgO cA T.heap.size (i + 1))
theorem mgO_set {cA : ClassId} {b i : Nat} : (mgO cA b i).setSlot i (.ref (b + 1 + i)) = mgO cA b (i + 1) := by
  unfold mgO
  rw [arrV_store]
  congr 1
  funext j
  unfold updV
  by_cases e : j = i
  · subst e; rw [if_pos rfl, if_pos (by omega)]
  · rw [if_neg e]
    dsimp only
    by_cases h : j < i
    · rw [if_pos h, if_pos (by omega)]
    · rw [if_neg h, if_neg (by omega)]
theorem mgS_vm {T : State} {cA cI : ClassId} : ∀ i, (mgS T cA cI i).vm = T.vm
  | 0 => rfl
  | i + 1 => mgS_vm i
theorem mgS_sz {T : State} {cA cI : ClassId} : ∀ i, (mgS T cA cI i).heap.size = T.heap.size + 1 + i ∧ (mgS T cA cI i).heap[T.heap.size]? = some (mgO cA T.heap.size i)
  | 0 => ⟨by simp [mgS], by simp [mgS]⟩
  | i + 1 => by
    obtain ⟨h1, h2⟩ := mgS_sz (T := T) (cA := cA) (cI := cI) i
    have hlt : T.heap.size < (mgS T cA cI i).heap.size := by omega
    refine ⟨?_, ?_⟩
    · simp [mgS, State.setCell, h1]; omega
    · exact State.heap_setCell_self (c := mgO cA T.heap.size i) (by rw [State.heap_pushCell_of_lt (h := hlt)]; exact h2)
theorem mgS_sl {T : State} {cA cI : ClassId} : ∀ i, (mgS T cA cI i).slotsUsed = T.slotsUsed + 5 + 8 * i
  | 0 => by simp [mgS, mgO, arrV_size]
  | i + 1 => by
    have h1 := mgS_sl (T := T) (cA := cA) (cI := cI) i
    simp [mgS, mgI, arrV_size, h1]; omega
theorem mgS_top {T : State} {cA cI : ClassId} {f : JFrame} : ∀ i, mgS (T.setTop f) cA cI i = (mgS T cA cI i).setTop f
  | 0 => rfl
  | i + 1 => by simp only [mgS, mgS_top i, State.heap_setTop, State.pushCell_setTop, State.setCell_setTop]
section MGW
variable {E : CtlPost} {e : Env} {d : Bool} {acts : List Action} {s : State}
theorem mg_new {c comp : ClassId} {k : Class} {type : FieldType} {len : Nat} {init : Value} (hk : s.vm.classes[c]? = some k) (hkind : k.kind = .array comp type)
    (hlimit : ¬ len > e.platform.arrayLengthLimit) (hheap : ¬ len * componentBytes type > e.platform.maxHeapBytes) (hfit : fits type init = true) (hdef : init.isDefault = true) {Q : Addr → Pre}
    (h1 : s.heap.size < e.platform.maxCells) (h2 : s.slotsUsed + len ≤ e.platform.maxSlots) (hq : Q s.heap.size d acts (s.pushCell (arrV c len (fun _ => init)))) : wp (Jvm.newArray c len init) Q E e d acts s := by
  rw [← arrV_new] at hq
  have hfits : ∀ i v, (Array.replicate len init)[i]? = some v → s.fitsSlot c .none i v = true := by
    intro i v hv
    rw [Array.getElem?_replicate] at hv
    split at hv
    · cases hv
      simp [State.fitsSlot, State.slotType?, hk, hkind, hfit]
    · cases hv
  have hda : allocActs (Array.replicate len init) s.heap.size acts = acts := by
    unfold allocActs
    rw [if_pos (by rw [Array.all_replicate]; split <;> simp [hdef])]
  simp only [Jvm.newArray, Jvm.arrayFits, wp_bind', W.ask, W.ite, hlimit, if_false, wp_pure', W.theClass, hk, hkind, hheap, W.alloc, W.stop, Option.some.injEq, exists_eq_left', Array.size_replicate, hda]
  rw [if_neg (by omega)]
  exact ⟨h1, h2, hfits, hq⟩
theorem mg_make {cA cI ci : ClassId} {kA kI : Class} (hkA : s.vm.classes[cA]? = some kA) (hA : kA.kind = .array cI (.array .int)) (hkI : s.vm.classes[cI]? = some kI) (hI : kI.kind = .array ci .int)
    (hl : ¬ 8 > e.platform.arrayLengthLimit) (hh : ¬ 32 > e.platform.maxHeapBytes) (hc : s.heap.size + 6 ≤ e.platform.maxCells) (hs : s.slotsUsed + 45 ≤ e.platform.maxSlots) {Q : Addr → Pre} (hq : ∀ d' acts', Q s.heap.size d' acts' (mgS s cA cI 5)) : wp (multianewarray.make cA [5, 8]) Q E e d acts s := by
  have e5 : (5 : Int32).toNatClampNeg = 5 := by decide
  have e8 : (8 : Int32).toNatClampNeg = 8 := by decide
  rw [multianewarray.make]
  simp only [wp_bind', W.ite, show ¬ (5 : Int32) < 0 by decide, if_false, wp_pure', W.theClass, hkA, hA, Option.some.injEq, exists_eq_left', e5]
  refine mg_new hkA hA (by omega) (by show ¬ 5 * 4 > _; omega) rfl rfl (by omega) (by omega) ?_
  rw [show ((5 : Int32) == 0) = false by decide]
  simp only [wp_bind', wp_pure', Bool.false_eq_true, if_false, W.ite]
  rw [Std.Legacy.Range.forIn_eq_forIn_range']
  have hsz : ([:5] : Std.Legacy.Range).size = 5 := by decide
  rw [hsz]
  show wp (forIn (List.range' 0 5 1) PUnit.unit _) _ E e d acts _
  refine wp_forIn_inv (fun rest s' => ∃ i, i ≤ 5 ∧ rest = List.range' i (5 - i) ∧ s' = mgS s cA cI i) _ _ ⟨0, Nat.zero_le _, rfl, rfl⟩ ?_ ?_
  · rintro x rest s' d' acts' Q' ⟨i, hi, hl9, rfl⟩ hnext
    have hlt : i < 5 := by
      refine Nat.lt_of_not_le (fun h => ?_)
      rw [show 5 - i = 0 by omega] at hl9
      cases hl9
    rw [show 5 - i = (5 - (i + 1)) + 1 by omega, List.range'_succ] at hl9
    obtain ⟨rfl, hrest⟩ := List.cons.inj hl9
    obtain ⟨f1, f2⟩ := mgS_sz (T := s) (cA := cA) (cI := cI) x
    have f4 := mgS_sl (T := s) (cA := cA) (cI := cI) x
    have f3 := mgS_vm (T := s) (cA := cA) (cI := cI) x
    have hkI' : (mgS s cA cI x).vm.classes[cI]? = some kI := by rw [f3]; exact hkI
    simp only [wp_bind']
    rw [multianewarray.make]
    simp only [wp_bind', W.ite, show ¬ (8 : Int32) < 0 by decide, if_false, wp_pure', W.theClass, hkI', hI, Option.some.injEq, exists_eq_left', e8]
    refine mg_new hkI' hI hl (by show ¬ 8 * 4 > _; omega) rfl rfl (by omega) (by omega) ?_
    have hlt0 : s.heap.size < (mgS s cA cI x).heap.size := by omega
    simp only [wp_bind', W.writeLoc, wp_pure']
    refine ⟨mgO cA s.heap.size x, by rw [State.heap_pushCell_of_lt (h := hlt0)]; exact f2, by simp [mgO, arrV], by rw [mgO, arrV_size]; exact hlt, ?_, hnext _ _ _ ⟨x + 1, hlt, hrest, ?_⟩⟩
    · have f3' : ((mgS s cA cI x).pushCell (arrV cI 8 (fun _ => defaultValue .int))).vm.classes[cA]? = some kA := by show (mgS s cA cI x).vm.classes[cA]? = _; rw [f3]; exact hkA
      simp [State.fitsSlot, State.slotType?, mgO, arrV, f3, hkA, hA, fits]
    · rw [f1, mgO_set]; rfl
  · rintro s' d' acts' ⟨i, hi, hl9, rfl⟩
    have hi5 : i = 5 := by
      refine Nat.le_antisymm hi (Nat.le_of_not_lt (fun h => ?_))
      rw [show 5 - i = (5 - (i + 1)) + 1 by omega, List.range'_succ] at hl9
      cases hl9
    subst hi5
    simp only [wp_pure']
    exact hq _ _
end MGW
theorem mg_stand {p : Program} {l : Launch} {e : Env} {R : Room} {s : State} {m : MethodId} {args : Array Value} {below : List Frame} {meth : Method} {c : Code} {T : State} {locs : List Loc} {cells slots : Nat} (X : Stand p l e R s m args below meth c T locs cells slots) (cA cI : ClassId) : ∀ i, Stand p l e R s m args below meth c (mgS T cA cI i) (locs ++ (List.range i).map fun j => ⟨T.heap.size, j⟩) (cells + 1 + i) (slots + 5 + 8 * i)
  | 0 => by
    have h := X.pushed (mgO cA T.heap.size 0)
    rw [show (mgO cA T.heap.size 0).slots.size = 5 from arrV_size _ _ _] at h
    simpa [mgS] using h
  | i + 1 => by
    have Xi := mg_stand X cA cI i
    obtain ⟨f1, f2⟩ := mgS_sz (T := T) (cA := cA) (cI := cI) i
    have hlt : T.heap.size < (mgS T cA cI i).heap.size := by omega
    have hcell : ((mgS T cA cI i).pushCell (mgI cI)).heap[T.heap.size]? = some (mgO cA T.heap.size i) := by rw [State.heap_pushCell_of_lt (h := hlt)]; exact f2
    have h := (Xi.pushed (mgI cI)).stored hcell i (.ref (T.heap.size + 1 + i))
    rw [mgO_set, show (mgI cI).slots.size = 8 from arrV_size _ _ _] at h
    have e2 : (locs ++ (List.range (i + 1)).map fun j => (⟨T.heap.size, j⟩ : Loc)) = (locs ++ (List.range i).map fun j => (⟨T.heap.size, j⟩ : Loc)) ++ [⟨T.heap.size, i⟩] := by simp [List.range_succ, List.append_assoc]
    rw [e2, show slots + 5 + 8 * (i + 1) = slots + 5 + 8 * i + 8 by omega]
    exact h
/-- the heap with the outer array under io, its arrays (i so far) from ib on -/
def mgH (dT : Nat → ClassId) (r : Nat → Nat) (h : j_H) (io ib i : Nat) : j_H := fun k => bif Nat.beq k io then some (.inl (dT 6, 5, .inr (.inr (.inr (.inr (fun j => if j < i then some (r (j + ib)) else none)))))) else bif Nat.ble ib k && Nat.blt k (ib + i) then some (.inl (dT 0, 8, .inl (fun _ => 0))) else h k
section MGJ
variable {l : Launch} {D : va_G} {dT : Nat → ClassId} {H0 : Heap} {cc : ByteArray} {own : String} {nL : Nat} {ret : Option FieldType} {nm : String} {R : Room} {xt : Code → Prop} {Q : j_Q} {mc ms cells slots : Nat} {r : Nat → Nat} {h : j_H} {nx pc : Nat} {L : List (Option Value)} {st : List Value}
theorem mg_holds {T : State} {io ib : Nat} (hH : j_holds (gG l D dT H0) r h nx T.heap) (hio : r io = nx) (hib : ∀ j, j < 5 → r (j + ib) = nx + 1 + j) (hdis : io < ib ∨ ib + 5 ≤ io) : ∀ i, i ≤ 5 → j_holds (gG l D dT H0) r (mgH dT r h io ib i) (nx + 1 + i) (mgS T (dT 6) (dT 0) i).heap := by
  have hnx : T.heap.size = nx := hH.1
  have cellEq : ∀ i, i ≤ 5 → mgO (dT 6) T.heap.size i = vp_cell (dT 6) (5, .inr (.inr (.inr (.inr (fun j => if j < i then some (r (j + ib)) else none))))) := by
    intro i hi
    rw [vp_cell_q]
    unfold mgO
    refine arrV_cg (fun j hj => ?_)
    by_cases hji : j < i
    · rw [if_pos hji, if_pos hji, hib j hj, hnx]; rfl
    · rw [if_neg hji, if_neg hji]; rfl
  intro i
  induction i with
  | zero =>
    intro _
    have h1 := hH.push (i := io) (e := .inl (dT 6, 5, .inr (.inr (.inr (.inr (fun j => if j < 0 then some (r (j + ib)) else none)))))) (H1 := (mgS T (dT 6) (dT 0) 0).heap) hio (by
      show (mgS T (dT 6) (dT 0) 0).heap[r io]? = some (vp_cell _ _)
      rw [← cellEq 0 (Nat.zero_le _), hio, ← hnx]
      exact (mgS_sz 0).2) (by rw [(mgS_sz 0).1]) (fun q hq => State.heap_pushCell_of_lt _ _ hq)
    refine h1.sub (fun k e hk => ?_)
    unfold mgH at hk
    by_cases hk0 : k = io
    · subst hk0
      rw [j_beq_t rfl, cond_true] at hk
      rw [j_set_self]; exact hk
    · rw [j_beq_f hk0, cond_false] at hk
      have hb : (Nat.ble ib k && Nat.blt k (ib + 0)) = false := by
        cases hb : (Nat.ble ib k && Nat.blt k (ib + 0)) with
        | false => rfl
        | true =>
          rw [Bool.and_eq_true] at hb
          have h1 := Nat.le_of_ble_eq_true hb.1
          have h2 : k < ib + 0 := by have := hb.2; simp only [Nat.blt_eq] at this; exact this
          omega
      rw [hb, cond_false] at hk
      rw [j_set_ne hk0]; exact hk
  | succ i ih =>
    intro hi
    have hI := ih (by omega)
    obtain ⟨f1, f2⟩ := mgS_sz (T := T) (cA := dT 6) (cI := dT 0) i
    have h1 := hI.push (i := i + ib) (e := .inl (dT 0, 8, .inl (fun _ => 0))) (H1 := ((mgS T (dT 6) (dT 0) i).pushCell (mgI (dT 0))).heap) (hib i (by omega)) (by
      show ((mgS T (dT 6) (dT 0) i).pushCell (mgI (dT 0))).heap[r (i + ib)]? = some (vp_cell _ _)
      rw [hib i (by omega), ← hI.1]
      exact State.heap_pushCell_size _ _) (by simp) (fun q hq => State.heap_pushCell_of_lt _ _ hq)
    have hset : j_set (mgH dT r h io ib i) (i + ib) (.inl (dT 0, 8, .inl (fun _ => 0))) io = some (.inl (dT 6, 5, .inr (.inr (.inr (.inr (fun j => if j < i then some (r (j + ib)) else none)))))) := by
      rw [j_set_ne (by omega)]
      unfold mgH
      rw [j_beq_t rfl, cond_true]
    have h2 := h1.set (i := io) (e := .inl (dT 6, 5, .inr (.inr (.inr (.inr (fun j => if j < i + 1 then some (r (j + ib)) else none)))))) (H1 := (mgS T (dT 6) (dT 0) (i + 1)).heap) hset (by
      show (mgS T (dT 6) (dT 0) (i + 1)).heap[r io]? = some (vp_cell _ _)
      rw [← cellEq (i + 1) (by omega), hio, ← hnx]
      exact (mgS_sz (i + 1)).2) (by rw [(mgS_sz (i + 1)).1]; simp [f1]; omega) (fun q hq => by
      show (((mgS T (dT 6) (dT 0) i).pushCell (mgI (dT 0))).setCell T.heap.size _).heap[q]? = _
      exact State.heap_setCell_other (by rw [hnx, ← hio]; exact Ne.symm hq))
    refine (show j_holds (gG l D dT H0) r _ (nx + 1 + (i + 1)) _ from h2).sub (fun k e hk => ?_)
    unfold mgH at hk
    by_cases hk0 : k = io
    · subst hk0
      rw [j_beq_t rfl, cond_true] at hk
      rw [j_set_self]; exact hk
    · rw [j_beq_f hk0, cond_false] at hk
      rw [j_set_ne hk0]
      by_cases hki : k = i + ib
      · subst hki
        rw [j_set_self]
        rw [show (Nat.ble ib (i + ib) && Nat.blt (i + ib) (ib + (i + 1))) = true by rw [Nat.ble_eq_true_of_le (by omega), blt_t (by omega)]; rfl, cond_true] at hk
        exact hk
      · rw [j_set_ne hki]
        unfold mgH
        rw [j_beq_f hk0, cond_false]
        have hb : (Nat.ble ib k && Nat.blt k (ib + (i + 1))) = (Nat.ble ib k && Nat.blt k (ib + i)) := by
          by_cases hl : ib ≤ k
          · rw [Nat.ble_eq_true_of_le hl]
            by_cases h9 : k < ib + i
            · rw [blt_t h9, blt_t (by omega)]
            · rw [blt_f h9, blt_f (by omega)]
          · have : Nat.ble ib k = false := by
              cases hb : Nat.ble ib k with
              | false => rfl
              | true => exact absurd (Nat.le_of_ble_eq_true hb) hl
            rw [this]; rfl
        rw [hb] at hk
        exact hk
/-- multianewarray of 5 times 8 ints -/
theorem j_multi (io ib : Nat) {index : Nat} (hio : r io = nx) (hib : ∀ j, j < 5 → r (j + ib) = nx + 1 + j) (hdis : io < ib ∨ ib + 5 ≤ io) (hd : decode cc pc = .ok (.multianewarray index 2, 4)) (hw : Cond.classLink own index "[[I" ∈ lw_all) (hwA : Cond.arrayClass .int ∈ lw_all) (hcells : cells + 6 ≤ R.cells) (hslots : slots + 45 ≤ R.slots)
    (kk : J (gG l D dT H0) (cc, own, nL, ret, nm, R, xt) Q mc ms (cells + 6) (slots + 45) r (mgH dT r h io ib 5) (nx + 6) (pc + 4) L (.ref (r io) :: st)) : J (gG l D dT H0) (cc, own, nL, ret, nm, R, xt) Q mc ms cells slots r h nx pc L (.int 8 :: .int 5 :: st) := by
  intro p e s m args below meth c E H locs ls hH hlo hL
  obtain ⟨hx, hb, hr, hlk, hnm, hml, hown, hts, hK, hxt⟩ := id E
  intro T hT X
  subst hT
  have hpl : e.platform.magicAccessors = ({} : Platform).magicAccessors := by rw [X.admits.platform]
  obtain ⟨comp, cA, kA, hcomp, -, hkA, hkindA, hnameA⟩ := arrayOverA_spec (show (Cond.arrayOver (.array .int)).before args s = true from hK.2.1.1 _ qnAI)
  obtain ⟨comp', kC, ccI, hcomp', hkC, hkindC⟩ := Cond.arrayClass_spec (hts _ hwA)
  have ecomp : comp' = comp := Option.some.inj (hcomp'.symm.trans hcomp)
  subst ecomp
  have n6 : s.vm.findClass ("[" ++ (FieldType.array .int).toString) = some (dT 6) := (hK.1.2 6 _ rfl).2
  have n0 : s.vm.findClass ("[" ++ FieldType.int.toString) = some (dT 0) := (hK.1.2 0 _ rfl).2
  cases Option.some.inj (hnameA.symm.trans n6)
  have hc0 : comp' = dT 0 := Option.some.inj (hcomp.symm.trans n0)
  subst hc0
  obtain ⟨c0, hfc0, hcl⟩ := Cond.classLink_spec hown (hts _ hw) e.platform hpl
  have hc6 : c0 = dT 6 := Option.some.inj (hfc0.symm.trans n6)
  subst hc6
  obtain ⟨hg1, hwarm1, hready1⟩ := State.classEntry (e := e) X.warmed hcl
  generalize T.vm.noted m.cls index (.cls (dT 6)) = vm1 at hg1 hwarm1 hready1
  have hal : s.vm.Alike vm1 := hwarm1.alike
  obtain ⟨kA1, hkA1, heA⟩ := hal.2.2 _ _ hkA
  obtain ⟨kC1, hkC1, heC⟩ := hal.2.2 _ _ hkC
  have X1 := X.noted hwarm1
  have XF := mg_stand X1 (dT 6) (dT 0) 5
  obtain ⟨hr1, hr2⟩ := X.roomAbove hcells hslots
  have hnx : T.heap.size = nx := hH.1
  obtain ⟨t, a1, b1⟩ := kk p e s m args below meth c E (mgS (T.setVm vm1) (dT 6) (dT 0) 5).heap (locs ++ (List.range 5).map fun j => ⟨T.heap.size, j⟩) ls (mg_holds (T := T.setVm vm1) hH hio hib hdis 5 (Nat.le_refl _)) (by
    intro q hq
    rcases List.mem_append.mp hq with z | z
    · exact hlo q z
    · obtain ⟨j, -, hj⟩ := List.mem_map.mp z
      rw [← hj]
      show H0.size ≤ T.heap.size
      rw [hnx]; exact hH.2.1) hL (mgS (T.setVm vm1) (dT 6) (dT 0) 5) rfl XF
  refine ⟨t, ?_, b1⟩
  jvm_step X.here [hx, hb, hd]
  simp only [multianewarray.sem, wp_bind', W.resolveClassAt_links (State.method?_setTop (F0 m pc ls (.int 8 :: .int 5 :: st)) X.here.top) hg1]
  rw [W.popN, if_neg (by decide)]
  refine ⟨F0 m pc ls (.int 8 :: .int 5 :: st), State.topJava?_setTop' (s := T.setVm vm1) _ X.here.top, [.int 5, .int 8], st, rfl, rfl, ?_⟩
  simp only [List.mapM_cons, List.mapM_nil, wp_bind', wp_pure']
  refine mg_make (kA := kA1) (kI := kC1) (ci := ccI) hkA1 (by rw [heA]; exact hkindA) hkC1 (by rw [heC]; exact hkindC) (by rw [Launch.admits_arrayLengthLimit X.admits]; decide) (by rw [Launch.admits_maxHeapBytes X.admits]; decide) (by show T.heap.size + 6 ≤ _; omega) (by show T.slotsUsed + 45 ≤ _; omega) (fun d' acts' => ?_)
  have eS : ((T.setTop (F0 m pc ls (.int 8 :: .int 5 :: st))).setVm vm1).setTop { F0 m pc ls (.int 8 :: .int 5 :: st) with stack := st } = (T.setVm vm1).setTop { F0 m pc ls (.int 8 :: .int 5 :: st) with stack := st } := by
    show ((T.setVm vm1).setTop _).setTop _ = _
    rw [State.setTop_setTop]
  rw [eS, mgS_top]
  simp only [wp_bind', W.mark, W.pushRef, State.topJava?_setTop' _ XF.here.top, Option.some.injEq, exists_eq_left', State.setTop_setTop, State.heap_setTop]
  intro acts
  have hadr : (T.setVm vm1).heap.size = r io := by rw [hio]; exact hnx
  rw [hadr]
  simp [jvm, XF.here.top]
  exact a1
end MGJ
