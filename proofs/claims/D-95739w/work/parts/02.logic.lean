/-! ===== THE J-LOGIC: a method's walk over an abstract heap (ids ↦ cells, r: ids ↦ addresses) ===== -/
set_option maxRecDepth 100000
abbrev j_H : Type := Nat → Option va_E
def j_set (h : j_H) (i : Nat) (e : va_E) : j_H := fun k => bif Nat.beq k i then some e else h k
theorem j_set_self {h : j_H} {i : Nat} {e : va_E} : j_set h i e i = some e := by simp [j_set]
theorem j_set_ne {h : j_H} {i k : Nat} {e : va_E} (hk : k ≠ i) : j_set h i e k = h k := by
  have e1 : Nat.beq k i = false := by
    cases hb : Nat.beq k i with
    | false => rfl
    | true => exact absurd (Nat.eq_of_beq_eq_true hb) hk
  simp [j_set, e1]
/-- launch; the classes' numbers and slots; the classes; the arrays' classes; the heap at the law's start; what else the tables say -/
abbrev j_G : Type := Launch × va_G × List vw_C × List (ClassId × FieldType) × Heap × (State → Prop)
def j_ok (G : j_G) : Prop := ∀ s U : State, s.WarmedH U.vm → G.2.2.2.2.2 s → G.2.2.2.2.2 U
def j_K (G : j_G) (U : State) : Prop := va_K G.2.1 G.2.2.1 G.2.2.2.1 U ∧ G.2.2.2.2.2 U ∧ j_ok G
theorem j_K.warm {G : j_G} {s U : State} (h : j_K G s) (hW : s.WarmedH U.vm) : j_K G U := ⟨va_K.moved hW.alike h.1, h.2.2 _ _ hW h.2.1, h.2.2⟩
def j_holds (G : j_G) (r : Nat → Nat) (h : j_H) (nx : Nat) (H : Heap) : Prop :=
  H.size = nx ∧ G.2.2.2.2.1.size ≤ nx ∧ (∀ q : Nat, q < G.2.2.2.2.1.size → H[q]? = G.2.2.2.2.1[q]?) ∧ (∀ (i : Nat) (e : va_E), h i = some e → G.2.2.2.2.1.size ≤ r i ∧ va_at G.2.1 G.2.2.1 (r i, e) H) ∧ ∀ (i j : Nat) (a b : va_E), h i = some a → h j = some b → r i = r j → i = j
theorem j_holds.lt {G : j_G} {r : Nat → Nat} {h : j_H} {nx : Nat} {H : Heap} (hH : j_holds G r h nx H) {i : Nat} {e : va_E} (hi : h i = some e) : r i < nx := by
  rw [← hH.1]
  exact (hH.2.2.2.1 i e hi).2.lt
theorem j_holds.set {G : j_G} {r : Nat → Nat} {h : j_H} {nx : Nat} {H H1 : Heap} (hH : j_holds G r h nx H) {i : Nat} {e0 e : va_E} (hi : h i = some e0) (he : va_at G.2.1 G.2.2.1 (r i, e) H1) (hz : H1.size = H.size) (oq : ∀ q : Nat, q ≠ r i → H1[q]? = H[q]?) : j_holds G r (j_set h i e) nx H1 := by
  obtain ⟨h1, h2, h3, h4, h5⟩ := hH
  have key : ∀ (k : Nat) (x : va_E), j_set h i e k = some x → ∃ y, h k = some y ∧ (k = i ∧ x = e ∨ k ≠ i ∧ x = y) := by
    intro k x hk
    by_cases hki : k = i
    · subst hki
      rw [j_set_self] at hk
      exact ⟨e0, hi, Or.inl ⟨rfl, (Option.some.inj hk).symm⟩⟩
    · rw [j_set_ne hki] at hk
      exact ⟨x, hk, Or.inr ⟨hki, rfl⟩⟩
  refine ⟨hz.trans h1, h2, fun q hq => ?_, fun k x hk => ?_, fun a b x y ha hb => ?_⟩
  · rw [oq q (fun z => by have := (h4 i e0 hi).1; omega)]
    exact h3 q hq
  · obtain ⟨y, hy, ⟨rfl, rfl⟩ | ⟨hki, rfl⟩⟩ := key k x hk
    · exact ⟨(h4 _ _ hi).1, he⟩
    · refine ⟨(h4 k _ hy).1, (h4 k _ hy).2.kept (oq _ fun z => hki ?_)⟩
      exact h5 k i _ _ hy hi z
  · obtain ⟨x', hx', -⟩ := key a x ha
    obtain ⟨y', hy', -⟩ := key b y hb
    exact h5 a b x' y' hx' hy'
/-- a new cell: its id is one of no cell so far, its address the heap's end -/
theorem j_holds.push {G : j_G} {r : Nat → Nat} {h : j_H} {nx : Nat} {H H1 : Heap} (hH : j_holds G r h nx H) {i : Nat} {e : va_E} (hi : r i = nx) (he : va_at G.2.1 G.2.2.1 (r i, e) H1) (hz : H1.size = H.size + 1) (oq : ∀ q : Nat, q < H.size → H1[q]? = H[q]?) : j_holds G r (j_set h i e) (nx + 1) H1 := by
  have hlt : ∀ (k : Nat) (y : va_E), h k = some y → r k < nx := fun k y hk => hH.lt hk
  obtain ⟨h1, h2, h3, h4, h5⟩ := hH
  have key : ∀ (k : Nat) (x : va_E), j_set h i e k = some x → (k = i ∧ x = e) ∨ (k ≠ i ∧ h k = some x) := by
    intro k x hk
    by_cases hki : k = i
    · subst hki
      rw [j_set_self] at hk
      exact Or.inl ⟨rfl, (Option.some.inj hk).symm⟩
    · rw [j_set_ne hki] at hk
      exact Or.inr ⟨hki, hk⟩
  refine ⟨by omega, by omega, fun q hq => ?_, fun k x hk => ?_, fun a b x y ha hb hab => ?_⟩
  · rw [oq q (by omega)]
    exact h3 q hq
  · obtain ⟨rfl, rfl⟩ | ⟨hki, hy⟩ := key k x hk
    · exact ⟨by omega, he⟩
    · exact ⟨(h4 k _ hy).1, (h4 k _ hy).2.kept (oq _ (by have := hlt k _ hy; show r k < H.size; omega))⟩
  · obtain ⟨rfl, rfl⟩ | ⟨hki, hx⟩ := key a x ha
    · obtain ⟨rfl, rfl⟩ | ⟨hkj, hy⟩ := key b y hb
      · rfl
      · have := hlt b _ hy
        omega
    · obtain ⟨rfl, rfl⟩ | ⟨hkj, hy⟩ := key b y hb
      · have := hlt a _ hx
        omega
      · exact h5 a b x y hx hy hab
/-- fewer cells, or the same under other ids -/
theorem j_holds.re {G : j_G} {r r' : Nat → Nat} {h h' : j_H} {nx : Nat} {H : Heap} (hH : j_holds G r h nx H) (f : Nat → Nat) (hf : ∀ i e, h' i = some e → h (f i) = some e ∧ r' i = r (f i)) (hj : ∀ i j a b, h' i = some a → h' j = some b → f i = f j → i = j) : j_holds G r' h' nx H := by
  obtain ⟨h1, h2, h3, h4, h5⟩ := hH
  refine ⟨h1, h2, h3, fun i e hi => ?_, fun i j a b hi hj' hij => ?_⟩
  · obtain ⟨a1, a2⟩ := hf i e hi
    rw [a2]
    exact h4 _ _ a1
  · obtain ⟨a1, a2⟩ := hf i a hi
    obtain ⟨b1, b2⟩ := hf j b hj'
    exact hj i j a b hi hj' (h5 _ _ a b a1 b1 (by rw [← a2, ← b2]; exact hij))
theorem j_holds.sub {G : j_G} {r : Nat → Nat} {h h' : j_H} {nx : Nat} {H : Heap} (hH : j_holds G r h nx H) (hf : ∀ i e, h' i = some e → h i = some e) : j_holds G r h' nx H := hH.re (fun i => i) (fun i e hi => ⟨hf i e hi, rfl⟩) (fun _ _ _ _ _ _ h => h)
/-! the locals, by places -/
def j_loc (ls : Array Slot) (nL : Nat) (L : List (Option Value)) : Prop := ls.size = nL ∧ lv_wf ls ∧ ∀ (k : Nat) (v : Value), L[k]? = some (some v) → ls[k]? = some (.val v)
def j_ent : Nat → List (Option Value) → List (Nat × Value)
  | _, [] => []
  | k, none :: l => j_ent (k + 1) l
  | k, some v :: l => (k, v) :: j_ent (k + 1) l
theorem j_ent_mem : ∀ (L : List (Option Value)) (k : Nat) (q : Nat × Value), q ∈ j_ent k L ↔ k ≤ q.1 ∧ L[q.1 - k]? = some (some q.2)
  | [], k, q => by simp [j_ent]
  | none :: l, k, q => by
    rw [j_ent, j_ent_mem l (k + 1) q]
    constructor
    · rintro ⟨a, b⟩
      refine ⟨by omega, ?_⟩
      rw [show q.1 - k = (q.1 - (k + 1)) + 1 by omega, List.getElem?_cons_succ]
      exact b
    · rintro ⟨a, b⟩
      by_cases hk : q.1 = k
      · rw [hk, Nat.sub_self, List.getElem?_cons_zero] at b
        cases b
      · rw [show q.1 - k = (q.1 - (k + 1)) + 1 by omega, List.getElem?_cons_succ] at b
        exact ⟨by omega, b⟩
  | some v :: l, k, q => by
    rw [j_ent, List.mem_cons, j_ent_mem l (k + 1) q]
    constructor
    · rintro (rfl | ⟨a, b⟩)
      · simp
      · refine ⟨by omega, ?_⟩
        rw [show q.1 - k = (q.1 - (k + 1)) + 1 by omega, List.getElem?_cons_succ]
        exact b
    · rintro ⟨a, b⟩
      by_cases hk : q.1 = k
      · left
        rw [hk, Nat.sub_self, List.getElem?_cons_zero] at b
        obtain ⟨q1, q2⟩ := q
        cases b
        subst hk
        rfl
      · right
        rw [show q.1 - k = (q.1 - (k + 1)) + 1 by omega, List.getElem?_cons_succ] at b
        exact ⟨by omega, b⟩
theorem j_loc.has {ls : Array Slot} {nL : Nat} {L : List (Option Value)} (h : j_loc ls nL L) : lv_has ls nL (j_ent 0 L) := ⟨h.1, h.2.1, fun q hq => h.2.2 q.1 q.2 ((j_ent_mem L 0 q).mp hq).2⟩
/-- no long stands just ahead of the place -/
def j_fr (L : List (Option Value)) : Nat → Bool
  | 0 => true
  | k + 1 => match L[k]? with
    | some (some v) => v.category != 2
    | _ => true
theorem j_fr_spec {L : List (Option Value)} {i : Nat} (h : j_fr L i = true) {k : Nat} {v : Value} (hk : k + 1 = i) (hv : L[k]? = some (some v)) : ¬ v.category = 2 := by
  subst hk
  simpa [j_fr, hv] using h
theorem j_loc.st1 {ls : Array Slot} {nL : Nat} {L : List (Option Value)} {i : Nat} {v : Value} (hfr : j_fr L i = true) (h' : lv_has ls nL ((i, v) :: (j_ent 0 L).filter (fun q => !(q.1 == i) && !(q.1 + 1 == i && q.2.category == 2)))) : j_loc ls nL (L.set i (some v)) := by
  refine ⟨h'.1, h'.2.1, fun k w hk => ?_⟩
  by_cases hki : k = i
  · subst hki
    have hl : k < L.length := by
      have := (List.getElem?_eq_some_iff.mp hk).1
      simpa using this
    rw [List.getElem?_set_self hl] at hk
    cases hk
    exact h'.2.2 (k, v) List.mem_cons_self
  · rw [List.getElem?_set_ne (Ne.symm hki)] at hk
    refine h'.2.2 (k, w) (List.mem_cons_of_mem _ (List.mem_filter.mpr ⟨(j_ent_mem L 0 (k, w)).mpr ⟨Nat.zero_le _, hk⟩, ?_⟩))
    simp only [Bool.and_eq_true, Bool.not_eq_true', beq_eq_false_iff_ne, ne_eq, Bool.and_eq_false_iff]
    refine ⟨hki, ?_⟩
    by_cases hk1 : k + 1 = i
    · exact Or.inr (j_fr_spec hfr hk1 hk)
    · exact Or.inl hk1
theorem j_loc.st2 {ls : Array Slot} {nL : Nat} {L : List (Option Value)} {i : Nat} {v : Value} (hfr : j_fr L i = true) (h' : lv_has ls nL ((i, v) :: (j_ent 0 L).filter (fun q => !(q.1 == i) && (!(q.1 == i + 1) && !(q.1 + 1 == i && q.2.category == 2))))) : j_loc ls nL ((L.set i (some v)).set (i + 1) none) := by
  refine ⟨h'.1, h'.2.1, fun k w hk => ?_⟩
  by_cases hk2 : k = i + 1
  · subst hk2
    by_cases hl : i + 1 < (L.set i (some v)).length
    · rw [List.getElem?_set_self hl] at hk
      cases hk
    · rw [List.getElem?_eq_none (by simpa using hl)] at hk
      cases hk
  · rw [List.getElem?_set_ne (Ne.symm hk2)] at hk
    by_cases hki : k = i
    · subst hki
      have hl : k < L.length := by
        have := (List.getElem?_eq_some_iff.mp hk).1
        simpa using this
      rw [List.getElem?_set_self hl] at hk
      cases hk
      exact h'.2.2 (k, v) List.mem_cons_self
    · rw [List.getElem?_set_ne (Ne.symm hki)] at hk
      refine h'.2.2 (k, w) (List.mem_cons_of_mem _ (List.mem_filter.mpr ⟨(j_ent_mem L 0 (k, w)).mpr ⟨Nat.zero_le _, hk⟩, ?_⟩))
      simp only [Bool.and_eq_true, Bool.not_eq_true', beq_eq_false_iff_ne, ne_eq, Bool.and_eq_false_iff]
      refine ⟨hki, hk2, ?_⟩
      by_cases hk1 : k + 1 = i
      · exact Or.inr (j_fr_spec hfr hk1 hk)
      · exact Or.inl hk1
def j_arg : List Value → List (Option Value)
  | [] => []
  | v :: l => if v.category = 2 then some v :: none :: j_arg l else some v :: j_arg l
def j_init (vs : List Value) (nL : Nat) : List (Option Value) := j_arg vs ++ List.replicate (nL - (j_arg vs).length) none
theorem j_arg_in : ∀ (vs : List Value) (i k : Nat) (v : Value), (j_arg vs)[k]? = some (some v) → (i + k, v) ∈ lv_args i vs
  | [], i, k, v, h => by simp [j_arg] at h
  | w :: l, i, k, v, h => by
    rw [lv_args]
    by_cases hc : w.category = 2
    · rw [j_arg, if_pos hc] at h
      match k, h with
      | 0, h => simp at h; subst h; exact List.mem_cons_self
      | 1, h => simp at h
      | k + 2, h =>
        rw [if_pos hc]
        have := j_arg_in l (i + 2) k v (by simpa using h)
        refine List.mem_cons_of_mem _ ?_
        rw [show i + (k + 2) = i + 2 + k by omega]
        exact this
    · rw [j_arg, if_neg hc] at h
      match k, h with
      | 0, h => simp at h; subst h; exact List.mem_cons_self
      | k + 1, h =>
        rw [if_neg hc]
        have := j_arg_in l (i + 1) k v (by simpa using h)
        refine List.mem_cons_of_mem _ ?_
        rw [show i + (k + 1) = i + 1 + k by omega]
        exact this
theorem j_loc.init {vs : List Value} {n : Nat} {ls : Array Slot} (h : lv_has ls n (lv_args 0 vs)) : j_loc ls n (j_init vs n) := by
  refine ⟨h.1, h.2.1, fun k v hk => ?_⟩
  have hk' : (j_arg vs)[k]? = some (some v) := by
    unfold j_init at hk
    by_cases hl : k < (j_arg vs).length
    · rwa [List.getElem?_append_left hl] at hk
    · rw [List.getElem?_append_right (by omega)] at hk
      have := List.mem_of_getElem? hk
      simp at this
  have := j_arg_in vs 0 k v hk'
  rw [Nat.zero_add] at this
  exact h.2.2 (k, v) this
/-! the judgement -/
/-- code, class, number of locals, answer's type, name, room, what is said of its handlers -/
abbrev j_M : Type := ByteArray × String × Nat × Option FieldType × String × Room × (Code → Prop)
def j_x0 (c : Code) : Prop := c.exceptionTable.isEmpty = true
abbrev j_Q : Type := Outcome → (Nat → Nat) → j_H → Nat → Prop
def j_env (G : j_G) (M : j_M) (p : Program) (s : State) (m : MethodId) (args : Array Value) (meth : Method) (c : Code) : Prop :=
  p.tables.exec = Jvm.exec ∧ c.code = M.1 ∧ meth.sig.returnType = M.2.2.2.1 ∧ meth.locks = false ∧ meth.name = M.2.2.2.2.1 ∧ c.maxLocals = M.2.2.1 ∧ s.vm.findClass M.2.1 = some m.cls ∧ (∀ w ∈ lw_all, w.before args s = true) ∧ j_K G s ∧ M.2.2.2.2.2.2 c
def j_post (G : j_G) (Q : j_Q) : Array Value → State → Outcome → State → Prop := fun _ _ o t => ∃ r h nx, j_holds G r h nx t.heap ∧ Q o r h nx
def j_fe (G : j_G) (s : State) (t : State) (mc ms : Nat) : Prop := ∃ L : List Loc, (s.WarmedH t.vm ∧ s.sameButNew ({ t with vm := s.vm } : State) L mc ms) ∧ ∀ q ∈ L, G.2.2.2.2.1.size ≤ q.base
def j_end (G : j_G) (Q : j_Q) (mc ms : Nat) (below : List Frame) (args : Array Value) (s : State) : State → Prop := fun t =>
  ∃ o, t.status = .running ∧ Ended t below o ∧ j_post G Q args s o t ∧ j_fe G s t mc ms
def J (G : j_G) (M : j_M) (Q : j_Q) (mc ms cells slots : Nat) (r : Nat → Nat) (h : j_H) (nx pc : Nat) (L : List (Option Value)) (st : List Value) : Prop :=
  ∀ (p : Program) (e : Env) (s : State) (m : MethodId) (args : Array Value) (below : List Frame) (meth : Method) (c : Code), j_env G M p s m args meth c →
    ∀ (H : Heap) (locs : List Loc) (ls : Array Slot), j_holds G r h nx H → (∀ q ∈ locs, G.2.2.2.2.1.size ≤ q.base) → j_loc ls M.2.2.1 L →
      W p G.1 e M.2.2.2.2.2.1 s m args below meth c H locs cells slots (j_end G Q mc ms below args s) (F0 m pc ls st)
theorem W.weak {p : Program} {l : Launch} {e : Env} {R : Room} {s : State} {m : MethodId} {args : Array Value} {below : List Frame} {meth : Method} {c : Code} {H : Heap} {locs : List Loc} {cells slots : Nat} {Q Q' : State → Prop} {g : JFrame} (hQ : ∀ t, Q t → Q' t) (h : W p l e R s m args below meth c H locs cells slots Q g) : W p l e R s m args below meth c H locs cells slots Q' g := by
  intro T hT X
  obtain ⟨t, a, b⟩ := h T hT X
  exact ⟨t, a, hQ t b⟩
def j_rm (d mc ms : Nat) : Room := { frames := d, cells := mc, slots := ms, locals := 64 * d }
/-- THE CONTRACT: called with args where the heap holds h, y ends, and Q holds of how and of the heap then -/
def MC (G : j_G) (y : MethodName) (cc : ByteArray) (nL : Nat) (ret : Option FieldType) (d mc ms : Nat) (args : List Value) (r : Nat → Nat) (h : j_H) (nx : Nat) (Q : j_Q) : Prop :=
  MetFree G.1 y (headSpec (ws_ y cc nL ret) (j_rm d mc ms)) (fun a U => a = args.toArray ∧ j_holds G r h nx U.heap ∧ j_K G U) (fun _ _ _ _ _ => True) (fun a st o t => j_post G Q a st o t ∧ j_fe G st t mc ms)
theorem MC.weak {G : j_G} {y : MethodName} {cc : ByteArray} {nL : Nat} {ret : Option FieldType} {d mc ms : Nat} {args : List Value} {r : Nat → Nat} {h : j_H} {nx : Nat} {Q Q' : j_Q} (hM : MC G y cc nL ret d mc ms args r h nx Q) (hQ : ∀ o r h nx, Q o r h nx → Q' o r h nx) : MC G y cc nL ret d mc ms args r h nx Q' := by
  intro p e ha hc hk s m args' below hf happ hP hK
  obtain ⟨n, o, h1, h2, h3, ⟨r', h', nx', a1, a2⟩, h5⟩ := hM p e ha hc hk s m args' below hf happ hP hK
  exact ⟨n, o, h1, h2, h3, ⟨r', h', nx', a1, hQ _ _ _ _ a2⟩, h5⟩
theorem MC.ofJ {G : j_G} {y : MethodName} {cc : ByteArray} {nL : Nat} {ret : Option FieldType} {d mc ms : Nat} {vs : List Value} {r : Nat → Nat} {h : j_H} {nx : Nat} {Q : j_Q} (L : List (Option Value)) (hL : j_init vs nL = L) (hn : (lg_sl vs).length ≤ nL) (hy : plainName y.cls = true)
    (k : J G (cc, y.cls, nL, ret, y.name, j_rm d mc ms, j_x0) Q mc ms 0 0 r h nx 0 L []) : MC G y cc nL ret d mc ms vs r h nx Q := by
  refine MetFree.of_bodyS (code := cc) (maxLocals := nL) (ret := ret) hy ?_ ?_
  · intro args s m h hn
    obtain ⟨meth, c, h1, h2, h3, h4, h5, h6, -, -⟩ := Cond.code_spec hn (atoms_spec (ws := ws_ y cc nL ret) h _ List.mem_cons_self)
    exact ⟨meth, c, h1, h2, h3, h4, h5, h6⟩
  · intro p e s m args below meth c s₁ B hml hP _
    obtain ⟨rfl, hH, hK⟩ := hP
    have hh0 : s₁.heap = s.heap := by rw [B.state]; rfl
    have hts0 := atoms_spec (ws := ws_ y cc nL ret) B.pre
    have hts : ∀ w ∈ lw_all, w.before vs.toArray s = true := fun w h => hts0 w (List.mem_cons_of_mem _ h)
    have hl := lv_entry vs (n := nL) hn
    have hl : j_loc _ nL L := hL ▸ j_loc.init hl
    have hw := k p e s m vs.toArray below meth c ⟨B.exec, B.bytes, B.returns, B.notSynchronized, (name_of_methodNamed B.named B.method).1, hml, findClass_of_methodNamed B.named, hts, hK, B.noHandlers (hts0 _ List.mem_cons_self)⟩ s.heap [] _ hH (fun q hq => by cases hq) hl
    rw [← lg_entry_eq] at hw
    obtain ⟨t, a1, o, b1, b2, b3⟩ := hw s₁ hh0 (Stand.of_body B)
    exact ⟨t, o, a1, b1, b2, b3⟩
section JR
variable {G : j_G} {cc : ByteArray} {own : String} {nL : Nat} {ret : Option FieldType} {nm : String} {R : Room} {xt : Code → Prop} {Q : j_Q} {mc ms cells slots : Nat} {r : Nat → Nat} {h : j_H} {nx pc : Nat} {L : List (Option Value)} {st : List Value}

theorem j_iconst {n : Int} {v : Int32} (hd : decode cc pc = .ok (.iconst n, 1)) (hv : Int32.ofInt n = v) (k : J G (cc, own, nL, ret, nm, R, xt) Q mc ms cells slots r h nx (pc + 1) L (.int v :: st)) : J G (cc, own, nL, ret, nm, R, xt) Q mc ms cells slots r h nx pc L st := by
  intro p e s m args below meth c E H locs ls hH hlo hL
  obtain ⟨hx, hb, hr, hlk, hnm, hml, hown, hts, hK, hxt⟩ := id E
  exact lv_iconst hx hb hd hv (k p e s m args below meth c E H locs ls hH hlo hL)
theorem j_bipush {n : Int} {v : Int32} (hd : decode cc pc = .ok (.bipush n, 2)) (hv : (Int8.ofInt n).toInt32 = v) (k : J G (cc, own, nL, ret, nm, R, xt) Q mc ms cells slots r h nx (pc + 2) L (.int v :: st)) : J G (cc, own, nL, ret, nm, R, xt) Q mc ms cells slots r h nx pc L st := by
  intro p e s m args below meth c E H locs ls hH hlo hL
  obtain ⟨hx, hb, hr, hlk, hnm, hml, hown, hts, hK, hxt⟩ := id E
  exact lv_bipush hx hb hd hv (k p e s m args below meth c E H locs ls hH hlo hL)
theorem j_sipush {n : Int} {v : Int32} (hd : decode cc pc = .ok (.sipush n, 3)) (hv : (Int16.ofInt n).toInt32 = v) (k : J G (cc, own, nL, ret, nm, R, xt) Q mc ms cells slots r h nx (pc + 3) L (.int v :: st)) : J G (cc, own, nL, ret, nm, R, xt) Q mc ms cells slots r h nx pc L st := by
  intro p e s m args below meth c E H locs ls hH hlo hL
  obtain ⟨hx, hb, hr, hlk, hnm, hml, hown, hts, hK, hxt⟩ := id E
  exact lv_sipush hx hb hd hv (k p e s m args below meth c E H locs ls hH hlo hL)
theorem j_lconst {n : Fin 2} {v : Int64} (hd : decode cc pc = .ok (.lconst n, 1)) (hv : Int64.ofNat (n : Nat) = v) (k : J G (cc, own, nL, ret, nm, R, xt) Q mc ms cells slots r h nx (pc + 1) L (.long v :: st)) : J G (cc, own, nL, ret, nm, R, xt) Q mc ms cells slots r h nx pc L st := by
  intro p e s m args below meth c E H locs ls hH hlo hL
  obtain ⟨hx, hb, hr, hlk, hnm, hml, hown, hts, hK, hxt⟩ := id E
  exact lv_lconst hx hb hd hv (k p e s m args below meth c E H locs ls hH hlo hL)
theorem j_null  (hd : decode cc pc = .ok (.aconst_null, 1)) (k : J G (cc, own, nL, ret, nm, R, xt) Q mc ms cells slots r h nx (pc + 1) L (.null :: st)) : J G (cc, own, nL, ret, nm, R, xt) Q mc ms cells slots r h nx pc L st := by
  intro p e s m args below meth c E H locs ls hH hlo hL
  obtain ⟨hx, hb, hr, hlk, hnm, hml, hown, hts, hK, hxt⟩ := id E
  exact lv_null hx hb hd (k p e s m args below meth c E H locs ls hH hlo hL)
theorem j_ldc {index : Nat} {v : Int32} (hd : decode cc pc = .ok (.ldc index, 2)) (hw : Cond.constant own index v ∈ lw_all) (k : J G (cc, own, nL, ret, nm, R, xt) Q mc ms cells slots r h nx (pc + 2) L (.int v :: st)) : J G (cc, own, nL, ret, nm, R, xt) Q mc ms cells slots r h nx pc L st := by
  intro p e s m args below meth c E H locs ls hH hlo hL
  obtain ⟨hx, hb, hr, hlk, hnm, hml, hown, hts, hK, hxt⟩ := id E
  exact lv_ldc hx hb hown (hts _ hw) hd (k p e s m args below meth c E H locs ls hH hlo hL)
theorem j_ldc2 {index : Nat} {v : Int64} (hd : decode cc pc = .ok (.ldc2_w index, 3)) (hw : Cond.constantLong own index v ∈ lw_all) (k : J G (cc, own, nL, ret, nm, R, xt) Q mc ms cells slots r h nx (pc + 3) L (.long v :: st)) : J G (cc, own, nL, ret, nm, R, xt) Q mc ms cells slots r h nx pc L st := by
  intro p e s m args below meth c E H locs ls hH hlo hL
  obtain ⟨hx, hb, hr, hlk, hnm, hml, hown, hts, hK, hxt⟩ := id E
  exact lv_ldc2 hx hb hown (hts _ hw) hd (k p e s m args below meth c E H locs ls hH hlo hL)
theorem j_iload_n {a : Fin 4} {x : Int32} (hd : decode cc pc = .ok (.iload_n a, 1)) (hv : L[(a : Nat)]? = some (some (.int x))) (k : J G (cc, own, nL, ret, nm, R, xt) Q mc ms cells slots r h nx (pc + 1) L (.int x :: st)) : J G (cc, own, nL, ret, nm, R, xt) Q mc ms cells slots r h nx pc L st := by
  intro p e s m args below meth c E H locs ls hH hlo hL
  obtain ⟨hx, hb, hr, hlk, hnm, hml, hown, hts, hK, hxt⟩ := id E
  exact lv_iload_n hx hb hd rfl (hL.2.2 _ _ hv) (k p e s m args below meth c E H locs ls hH hlo hL)
theorem j_iload {a : Nat} {x : Int32} (hd : decode cc pc = .ok (.iload a, 2)) (hv : L[a]? = some (some (.int x))) (k : J G (cc, own, nL, ret, nm, R, xt) Q mc ms cells slots r h nx (pc + 2) L (.int x :: st)) : J G (cc, own, nL, ret, nm, R, xt) Q mc ms cells slots r h nx pc L st := by
  intro p e s m args below meth c E H locs ls hH hlo hL
  obtain ⟨hx, hb, hr, hlk, hnm, hml, hown, hts, hK, hxt⟩ := id E
  exact lv_iload hx hb hd (hL.2.2 _ _ hv) (k p e s m args below meth c E H locs ls hH hlo hL)
theorem j_lload_n {a : Fin 4} {x : Int64} (hd : decode cc pc = .ok (.lload_n a, 1)) (hv : L[(a : Nat)]? = some (some (.long x))) (k : J G (cc, own, nL, ret, nm, R, xt) Q mc ms cells slots r h nx (pc + 1) L (.long x :: st)) : J G (cc, own, nL, ret, nm, R, xt) Q mc ms cells slots r h nx pc L st := by
  intro p e s m args below meth c E H locs ls hH hlo hL
  obtain ⟨hx, hb, hr, hlk, hnm, hml, hown, hts, hK, hxt⟩ := id E
  exact lv_lload_n hx hb hd rfl (hL.2.2 _ _ hv) (k p e s m args below meth c E H locs ls hH hlo hL)
theorem j_lload {a : Nat} {x : Int64} (hd : decode cc pc = .ok (.lload a, 2)) (hv : L[a]? = some (some (.long x))) (k : J G (cc, own, nL, ret, nm, R, xt) Q mc ms cells slots r h nx (pc + 2) L (.long x :: st)) : J G (cc, own, nL, ret, nm, R, xt) Q mc ms cells slots r h nx pc L st := by
  intro p e s m args below meth c E H locs ls hH hlo hL
  obtain ⟨hx, hb, hr, hlk, hnm, hml, hown, hts, hK, hxt⟩ := id E
  exact lv_lload hx hb hd (hL.2.2 _ _ hv) (k p e s m args below meth c E H locs ls hH hlo hL)
theorem j_aload_n {a : Fin 4} {x : Nat} (hd : decode cc pc = .ok (.aload_n a, 1)) (hv : L[(a : Nat)]? = some (some (.ref x))) (k : J G (cc, own, nL, ret, nm, R, xt) Q mc ms cells slots r h nx (pc + 1) L (.ref x :: st)) : J G (cc, own, nL, ret, nm, R, xt) Q mc ms cells slots r h nx pc L st := by
  intro p e s m args below meth c E H locs ls hH hlo hL
  obtain ⟨hx, hb, hr, hlk, hnm, hml, hown, hts, hK, hxt⟩ := id E
  exact lv_aload_n hx hb hd rfl (hL.2.2 _ _ hv) (k p e s m args below meth c E H locs ls hH hlo hL)
theorem j_aload {a : Nat} {x : Nat} (hd : decode cc pc = .ok (.aload a, 2)) (hv : L[a]? = some (some (.ref x))) (k : J G (cc, own, nL, ret, nm, R, xt) Q mc ms cells slots r h nx (pc + 2) L (.ref x :: st)) : J G (cc, own, nL, ret, nm, R, xt) Q mc ms cells slots r h nx pc L st := by
  intro p e s m args below meth c E H locs ls hH hlo hL
  obtain ⟨hx, hb, hr, hlk, hnm, hml, hown, hts, hK, hxt⟩ := id E
  exact lv_aload hx hb hd (hL.2.2 _ _ hv) (k p e s m args below meth c E H locs ls hH hlo hL)
theorem j_istore_n {a : Fin 4} {x : Int32} (hd : decode cc pc = .ok (.istore_n a, 1)) (hn : (a : Nat) < nL) (hfr : j_fr L (a : Nat) = true) (k : J G (cc, own, nL, ret, nm, R, xt) Q mc ms cells slots r h nx (pc + 1) (L.set (a : Nat) (some (.int x))) st) : J G (cc, own, nL, ret, nm, R, xt) Q mc ms cells slots r h nx pc L ((.int x) :: st) := by
  intro p e s m args below meth c E H locs ls hH hlo hL
  obtain ⟨hx, hb, hr, hlk, hnm, hml, hown, hts, hK, hxt⟩ := id E
  exact lv_istore_n hx hb hd rfl hL.has hn rfl (fun ls2 hl2 => k p e s m args below meth c E H locs ls2 hH hlo (j_loc.st1 hfr hl2))
theorem j_istore {a : Nat} {x : Int32} (hd : decode cc pc = .ok (.istore a, 2)) (hn : a < nL) (hfr : j_fr L a = true) (k : J G (cc, own, nL, ret, nm, R, xt) Q mc ms cells slots r h nx (pc + 2) (L.set a (some (.int x))) st) : J G (cc, own, nL, ret, nm, R, xt) Q mc ms cells slots r h nx pc L ((.int x) :: st) := by
  intro p e s m args below meth c E H locs ls hH hlo hL
  obtain ⟨hx, hb, hr, hlk, hnm, hml, hown, hts, hK, hxt⟩ := id E
  exact lv_istore hx hb hd hL.has hn rfl (fun ls2 hl2 => k p e s m args below meth c E H locs ls2 hH hlo (j_loc.st1 hfr hl2))
theorem j_astore_n {a : Fin 4} {x : Nat} (hd : decode cc pc = .ok (.astore_n a, 1)) (hn : (a : Nat) < nL) (hfr : j_fr L (a : Nat) = true) (k : J G (cc, own, nL, ret, nm, R, xt) Q mc ms cells slots r h nx (pc + 1) (L.set (a : Nat) (some (.ref x))) st) : J G (cc, own, nL, ret, nm, R, xt) Q mc ms cells slots r h nx pc L ((.ref x) :: st) := by
  intro p e s m args below meth c E H locs ls hH hlo hL
  obtain ⟨hx, hb, hr, hlk, hnm, hml, hown, hts, hK, hxt⟩ := id E
  exact lv_astore_n hx hb hd rfl hL.has hn rfl (fun ls2 hl2 => k p e s m args below meth c E H locs ls2 hH hlo (j_loc.st1 hfr hl2))
theorem j_astore {a : Nat} {x : Nat} (hd : decode cc pc = .ok (.astore a, 2)) (hn : a < nL) (hfr : j_fr L a = true) (k : J G (cc, own, nL, ret, nm, R, xt) Q mc ms cells slots r h nx (pc + 2) (L.set a (some (.ref x))) st) : J G (cc, own, nL, ret, nm, R, xt) Q mc ms cells slots r h nx pc L ((.ref x) :: st) := by
  intro p e s m args below meth c E H locs ls hH hlo hL
  obtain ⟨hx, hb, hr, hlk, hnm, hml, hown, hts, hK, hxt⟩ := id E
  exact lv_astore hx hb hd hL.has hn rfl (fun ls2 hl2 => k p e s m args below meth c E H locs ls2 hH hlo (j_loc.st1 hfr hl2))
theorem j_lstore_n {a : Fin 4} {x : Int64} (hd : decode cc pc = .ok (.lstore_n a, 1)) (hn : (a : Nat) + 1 < nL) (hfr : j_fr L (a : Nat) = true) (k : J G (cc, own, nL, ret, nm, R, xt) Q mc ms cells slots r h nx (pc + 1) ((L.set (a : Nat) (some (.long x))).set ((a : Nat) + 1) none) st) : J G (cc, own, nL, ret, nm, R, xt) Q mc ms cells slots r h nx pc L ((.long x) :: st) := by
  intro p e s m args below meth c E H locs ls hH hlo hL
  obtain ⟨hx, hb, hr, hlk, hnm, hml, hown, hts, hK, hxt⟩ := id E
  exact lv_lstore_n hx hb hd rfl hL.has hn rfl (fun ls2 hl2 => k p e s m args below meth c E H locs ls2 hH hlo (j_loc.st2 hfr hl2))
theorem j_lstore {a : Nat} {x : Int64} (hd : decode cc pc = .ok (.lstore a, 2)) (hn : a + 1 < nL) (hfr : j_fr L a = true) (k : J G (cc, own, nL, ret, nm, R, xt) Q mc ms cells slots r h nx (pc + 2) ((L.set a (some (.long x))).set (a + 1) none) st) : J G (cc, own, nL, ret, nm, R, xt) Q mc ms cells slots r h nx pc L ((.long x) :: st) := by
  intro p e s m args below meth c E H locs ls hH hlo hL
  obtain ⟨hx, hb, hr, hlk, hnm, hml, hown, hts, hK, hxt⟩ := id E
  exact lv_lstore hx hb hd hL.has hn rfl (fun ls2 hl2 => k p e s m args below meth c E H locs ls2 hH hlo (j_loc.st2 hfr hl2))
theorem j_iinc {a : Nat} {n : Int} {x : Int32} (hd : decode cc pc = .ok (.iinc a n, 3)) (hv : L[a]? = some (some (.int x))) (hn : a < nL) (hfr : j_fr L a = true) (k : J G (cc, own, nL, ret, nm, R, xt) Q mc ms cells slots r h nx (pc + 3) (L.set a (some (.int (x + Int32.ofInt n)))) st) : J G (cc, own, nL, ret, nm, R, xt) Q mc ms cells slots r h nx pc L st := by
  intro p e s m args below meth c E H locs ls hH hlo hL
  obtain ⟨hx, hb, hr, hlk, hnm, hml, hown, hts, hK, hxt⟩ := id E
  obtain ⟨q, hq⟩ := List.getElem?_of_mem ((j_ent_mem L 0 (a, .int x)).mpr ⟨Nat.zero_le _, hv⟩)
  exact lv_iinc hx hb hd hL.has hq rfl hn rfl (fun ls2 hl2 => k p e s m args below meth c E H locs ls2 hH hlo (j_loc.st1 hfr hl2))
theorem j_iadd {x y : Int32} (hd : decode cc pc = .ok (.iadd, 1)) (k : J G (cc, own, nL, ret, nm, R, xt) Q mc ms cells slots r h nx (pc + 1) L (.int (x + y) :: st)) : J G (cc, own, nL, ret, nm, R, xt) Q mc ms cells slots r h nx pc L (.int y :: .int x :: st) := by
  intro p e s m args below meth c E H locs ls hH hlo hL
  obtain ⟨hx, hb, hr, hlk, hnm, hml, hown, hts, hK, hxt⟩ := id E
  exact lv_iadd hx hb hd (k p e s m args below meth c E H locs ls hH hlo hL)
theorem j_isub {x y : Int32} (hd : decode cc pc = .ok (.isub, 1)) (k : J G (cc, own, nL, ret, nm, R, xt) Q mc ms cells slots r h nx (pc + 1) L (.int (x - y) :: st)) : J G (cc, own, nL, ret, nm, R, xt) Q mc ms cells slots r h nx pc L (.int y :: .int x :: st) := by
  intro p e s m args below meth c E H locs ls hH hlo hL
  obtain ⟨hx, hb, hr, hlk, hnm, hml, hown, hts, hK, hxt⟩ := id E
  exact lv_isub hx hb hd (k p e s m args below meth c E H locs ls hH hlo hL)
theorem j_imul {x y : Int32} (hd : decode cc pc = .ok (.imul, 1)) (k : J G (cc, own, nL, ret, nm, R, xt) Q mc ms cells slots r h nx (pc + 1) L (.int (x * y) :: st)) : J G (cc, own, nL, ret, nm, R, xt) Q mc ms cells slots r h nx pc L (.int y :: .int x :: st) := by
  intro p e s m args below meth c E H locs ls hH hlo hL
  obtain ⟨hx, hb, hr, hlk, hnm, hml, hown, hts, hK, hxt⟩ := id E
  exact lv_imul hx hb hd (k p e s m args below meth c E H locs ls hH hlo hL)
theorem j_iand {x y : Int32} (hd : decode cc pc = .ok (.iand, 1)) (k : J G (cc, own, nL, ret, nm, R, xt) Q mc ms cells slots r h nx (pc + 1) L (.int (x &&& y) :: st)) : J G (cc, own, nL, ret, nm, R, xt) Q mc ms cells slots r h nx pc L (.int y :: .int x :: st) := by
  intro p e s m args below meth c E H locs ls hH hlo hL
  obtain ⟨hx, hb, hr, hlk, hnm, hml, hown, hts, hK, hxt⟩ := id E
  exact lv_iand hx hb hd (k p e s m args below meth c E H locs ls hH hlo hL)
theorem j_ior {x y : Int32} (hd : decode cc pc = .ok (.ior, 1)) (k : J G (cc, own, nL, ret, nm, R, xt) Q mc ms cells slots r h nx (pc + 1) L (.int (x ||| y) :: st)) : J G (cc, own, nL, ret, nm, R, xt) Q mc ms cells slots r h nx pc L (.int y :: .int x :: st) := by
  intro p e s m args below meth c E H locs ls hH hlo hL
  obtain ⟨hx, hb, hr, hlk, hnm, hml, hown, hts, hK, hxt⟩ := id E
  exact lv_ior hx hb hd (k p e s m args below meth c E H locs ls hH hlo hL)
theorem j_ixor {x y : Int32} (hd : decode cc pc = .ok (.ixor, 1)) (k : J G (cc, own, nL, ret, nm, R, xt) Q mc ms cells slots r h nx (pc + 1) L (.int (x ^^^ y) :: st)) : J G (cc, own, nL, ret, nm, R, xt) Q mc ms cells slots r h nx pc L (.int y :: .int x :: st) := by
  intro p e s m args below meth c E H locs ls hH hlo hL
  obtain ⟨hx, hb, hr, hlk, hnm, hml, hown, hts, hK, hxt⟩ := id E
  exact lv_ixor hx hb hd (k p e s m args below meth c E H locs ls hH hlo hL)
theorem j_idiv {x y : Int32} (hd : decode cc pc = .ok (.idiv, 1)) (hne : ¬ y = 0) (k : J G (cc, own, nL, ret, nm, R, xt) Q mc ms cells slots r h nx (pc + 1) L (.int (x / y) :: st)) : J G (cc, own, nL, ret, nm, R, xt) Q mc ms cells slots r h nx pc L (.int y :: .int x :: st) := by
  intro p e s m args below meth c E H locs ls hH hlo hL
  obtain ⟨hx, hb, hr, hlk, hnm, hml, hown, hts, hK, hxt⟩ := id E
  exact lv_idiv hx hb hd hne (k p e s m args below meth c E H locs ls hH hlo hL)
theorem j_irem {x y : Int32} (hd : decode cc pc = .ok (.irem, 1)) (hne : ¬ y = 0) (k : J G (cc, own, nL, ret, nm, R, xt) Q mc ms cells slots r h nx (pc + 1) L (.int (x - x / y * y) :: st)) : J G (cc, own, nL, ret, nm, R, xt) Q mc ms cells slots r h nx pc L (.int y :: .int x :: st) := by
  intro p e s m args below meth c E H locs ls hH hlo hL
  obtain ⟨hx, hb, hr, hlk, hnm, hml, hown, hts, hK, hxt⟩ := id E
  exact lv_irem hx hb hd hne (k p e s m args below meth c E H locs ls hH hlo hL)
theorem j_ineg {x : Int32} (hd : decode cc pc = .ok (.ineg, 1)) (k : J G (cc, own, nL, ret, nm, R, xt) Q mc ms cells slots r h nx (pc + 1) L (.int (-x) :: st)) : J G (cc, own, nL, ret, nm, R, xt) Q mc ms cells slots r h nx pc L (.int x :: st) := by
  intro p e s m args below meth c E H locs ls hH hlo hL
  obtain ⟨hx, hb, hr, hlk, hnm, hml, hown, hts, hK, hxt⟩ := id E
  exact lv_ineg hx hb hd (k p e s m args below meth c E H locs ls hH hlo hL)
theorem j_ishl {x y : Int32} (hd : decode cc pc = .ok (.ishl, 1)) (k : J G (cc, own, nL, ret, nm, R, xt) Q mc ms cells slots r h nx (pc + 1) L (.int (x <<< (y &&& 31)) :: st)) : J G (cc, own, nL, ret, nm, R, xt) Q mc ms cells slots r h nx pc L (.int y :: .int x :: st) := by
  intro p e s m args below meth c E H locs ls hH hlo hL
  obtain ⟨hx, hb, hr, hlk, hnm, hml, hown, hts, hK, hxt⟩ := id E
  exact lv_ishl hx hb hd (k p e s m args below meth c E H locs ls hH hlo hL)
theorem j_ishr {x y : Int32} (hd : decode cc pc = .ok (.ishr, 1)) (k : J G (cc, own, nL, ret, nm, R, xt) Q mc ms cells slots r h nx (pc + 1) L (.int (x >>> (y &&& 31)) :: st)) : J G (cc, own, nL, ret, nm, R, xt) Q mc ms cells slots r h nx pc L (.int y :: .int x :: st) := by
  intro p e s m args below meth c E H locs ls hH hlo hL
  obtain ⟨hx, hb, hr, hlk, hnm, hml, hown, hts, hK, hxt⟩ := id E
  exact lv_ishr hx hb hd (k p e s m args below meth c E H locs ls hH hlo hL)
theorem j_iushr {x y v : Int32} (hd : decode cc pc = .ok (.iushr, 1)) (hv : (x.toUInt32 >>> (y.toUInt32 &&& Int32.toUInt32 31)).toInt32 = v) (k : J G (cc, own, nL, ret, nm, R, xt) Q mc ms cells slots r h nx (pc + 1) L (.int v :: st)) : J G (cc, own, nL, ret, nm, R, xt) Q mc ms cells slots r h nx pc L (.int y :: .int x :: st) := by
  intro p e s m args below meth c E H locs ls hH hlo hL
  obtain ⟨hx, hb, hr, hlk, hnm, hml, hown, hts, hK, hxt⟩ := id E
  exact lv_iushr hx hb hd hv (k p e s m args below meth c E H locs ls hH hlo hL)
theorem j_ladd {x y : Int64} (hd : decode cc pc = .ok (.ladd, 1)) (k : J G (cc, own, nL, ret, nm, R, xt) Q mc ms cells slots r h nx (pc + 1) L (.long (x + y) :: st)) : J G (cc, own, nL, ret, nm, R, xt) Q mc ms cells slots r h nx pc L (.long y :: .long x :: st) := by
  intro p e s m args below meth c E H locs ls hH hlo hL
  obtain ⟨hx, hb, hr, hlk, hnm, hml, hown, hts, hK, hxt⟩ := id E
  exact lv_ladd hx hb hd (k p e s m args below meth c E H locs ls hH hlo hL)
theorem j_lsub {x y : Int64} (hd : decode cc pc = .ok (.lsub, 1)) (k : J G (cc, own, nL, ret, nm, R, xt) Q mc ms cells slots r h nx (pc + 1) L (.long (x - y) :: st)) : J G (cc, own, nL, ret, nm, R, xt) Q mc ms cells slots r h nx pc L (.long y :: .long x :: st) := by
  intro p e s m args below meth c E H locs ls hH hlo hL
  obtain ⟨hx, hb, hr, hlk, hnm, hml, hown, hts, hK, hxt⟩ := id E
  exact lv_lsub hx hb hd (k p e s m args below meth c E H locs ls hH hlo hL)
theorem j_lmul {x y : Int64} (hd : decode cc pc = .ok (.lmul, 1)) (k : J G (cc, own, nL, ret, nm, R, xt) Q mc ms cells slots r h nx (pc + 1) L (.long (x * y) :: st)) : J G (cc, own, nL, ret, nm, R, xt) Q mc ms cells slots r h nx pc L (.long y :: .long x :: st) := by
  intro p e s m args below meth c E H locs ls hH hlo hL
  obtain ⟨hx, hb, hr, hlk, hnm, hml, hown, hts, hK, hxt⟩ := id E
  exact lv_lmul hx hb hd (k p e s m args below meth c E H locs ls hH hlo hL)
theorem j_land {x y : Int64} (hd : decode cc pc = .ok (.land, 1)) (k : J G (cc, own, nL, ret, nm, R, xt) Q mc ms cells slots r h nx (pc + 1) L (.long (x &&& y) :: st)) : J G (cc, own, nL, ret, nm, R, xt) Q mc ms cells slots r h nx pc L (.long y :: .long x :: st) := by
  intro p e s m args below meth c E H locs ls hH hlo hL
  obtain ⟨hx, hb, hr, hlk, hnm, hml, hown, hts, hK, hxt⟩ := id E
  exact lv_land hx hb hd (k p e s m args below meth c E H locs ls hH hlo hL)
theorem j_lor {x y : Int64} (hd : decode cc pc = .ok (.lor, 1)) (k : J G (cc, own, nL, ret, nm, R, xt) Q mc ms cells slots r h nx (pc + 1) L (.long (x ||| y) :: st)) : J G (cc, own, nL, ret, nm, R, xt) Q mc ms cells slots r h nx pc L (.long y :: .long x :: st) := by
  intro p e s m args below meth c E H locs ls hH hlo hL
  obtain ⟨hx, hb, hr, hlk, hnm, hml, hown, hts, hK, hxt⟩ := id E
  exact lv_lor hx hb hd (k p e s m args below meth c E H locs ls hH hlo hL)
theorem j_lxor {x y : Int64} (hd : decode cc pc = .ok (.lxor, 1)) (k : J G (cc, own, nL, ret, nm, R, xt) Q mc ms cells slots r h nx (pc + 1) L (.long (x ^^^ y) :: st)) : J G (cc, own, nL, ret, nm, R, xt) Q mc ms cells slots r h nx pc L (.long y :: .long x :: st) := by
  intro p e s m args below meth c E H locs ls hH hlo hL
  obtain ⟨hx, hb, hr, hlk, hnm, hml, hown, hts, hK, hxt⟩ := id E
  exact lv_lxor hx hb hd (k p e s m args below meth c E H locs ls hH hlo hL)
theorem j_ldiv {x y : Int64} (hd : decode cc pc = .ok (.ldiv, 1)) (hne : ¬ y = 0) (k : J G (cc, own, nL, ret, nm, R, xt) Q mc ms cells slots r h nx (pc + 1) L (.long (x / y) :: st)) : J G (cc, own, nL, ret, nm, R, xt) Q mc ms cells slots r h nx pc L (.long y :: .long x :: st) := by
  intro p e s m args below meth c E H locs ls hH hlo hL
  obtain ⟨hx, hb, hr, hlk, hnm, hml, hown, hts, hK, hxt⟩ := id E
  exact lv_ldiv hx hb hd hne (k p e s m args below meth c E H locs ls hH hlo hL)
theorem j_lrem {x y : Int64} (hd : decode cc pc = .ok (.lrem, 1)) (hne : ¬ y = 0) (k : J G (cc, own, nL, ret, nm, R, xt) Q mc ms cells slots r h nx (pc + 1) L (.long (x - x / y * y) :: st)) : J G (cc, own, nL, ret, nm, R, xt) Q mc ms cells slots r h nx pc L (.long y :: .long x :: st) := by
  intro p e s m args below meth c E H locs ls hH hlo hL
  obtain ⟨hx, hb, hr, hlk, hnm, hml, hown, hts, hK, hxt⟩ := id E
  exact lv_lrem hx hb hd hne (k p e s m args below meth c E H locs ls hH hlo hL)
theorem j_lshl {x : Int64} {y : Int32} (hd : decode cc pc = .ok (.lshl, 1)) (k : J G (cc, own, nL, ret, nm, R, xt) Q mc ms cells slots r h nx (pc + 1) L (.long (x <<< (y.toInt64 &&& 63)) :: st)) : J G (cc, own, nL, ret, nm, R, xt) Q mc ms cells slots r h nx pc L (.int y :: .long x :: st) := by
  intro p e s m args below meth c E H locs ls hH hlo hL
  obtain ⟨hx, hb, hr, hlk, hnm, hml, hown, hts, hK, hxt⟩ := id E
  exact lv_lshl hx hb hd rfl (k p e s m args below meth c E H locs ls hH hlo hL)
theorem j_lshr {x : Int64} {y : Int32} (hd : decode cc pc = .ok (.lshr, 1)) (k : J G (cc, own, nL, ret, nm, R, xt) Q mc ms cells slots r h nx (pc + 1) L (.long (x >>> (y.toInt64 &&& 63)) :: st)) : J G (cc, own, nL, ret, nm, R, xt) Q mc ms cells slots r h nx pc L (.int y :: .long x :: st) := by
  intro p e s m args below meth c E H locs ls hH hlo hL
  obtain ⟨hx, hb, hr, hlk, hnm, hml, hown, hts, hK, hxt⟩ := id E
  exact lv_lshr hx hb hd rfl (k p e s m args below meth c E H locs ls hH hlo hL)
theorem j_lcmp {x y : Int64} (hd : decode cc pc = .ok (.lcmp, 1)) (k : J G (cc, own, nL, ret, nm, R, xt) Q mc ms cells slots r h nx (pc + 1) L (.int (lg_cmp x y) :: st)) : J G (cc, own, nL, ret, nm, R, xt) Q mc ms cells slots r h nx pc L (.long y :: .long x :: st) := by
  intro p e s m args below meth c E H locs ls hH hlo hL
  obtain ⟨hx, hb, hr, hlk, hnm, hml, hown, hts, hK, hxt⟩ := id E
  exact W.lcmp hx hb hd (k p e s m args below meth c E H locs ls hH hlo hL)
theorem j_i2l {x : Int32} (hd : decode cc pc = .ok (.i2l, 1)) (k : J G (cc, own, nL, ret, nm, R, xt) Q mc ms cells slots r h nx (pc + 1) L (.long x.toInt64 :: st)) : J G (cc, own, nL, ret, nm, R, xt) Q mc ms cells slots r h nx pc L (.int x :: st) := by
  intro p e s m args below meth c E H locs ls hH hlo hL
  obtain ⟨hx, hb, hr, hlk, hnm, hml, hown, hts, hK, hxt⟩ := id E
  exact lv_i2l hx hb hd rfl (k p e s m args below meth c E H locs ls hH hlo hL)
theorem j_l2i {x : Int64} (hd : decode cc pc = .ok (.l2i, 1)) (k : J G (cc, own, nL, ret, nm, R, xt) Q mc ms cells slots r h nx (pc + 1) L (.int x.toInt32 :: st)) : J G (cc, own, nL, ret, nm, R, xt) Q mc ms cells slots r h nx pc L (.long x :: st) := by
  intro p e s m args below meth c E H locs ls hH hlo hL
  obtain ⟨hx, hb, hr, hlk, hnm, hml, hown, hts, hK, hxt⟩ := id E
  exact lv_l2i hx hb hd rfl (k p e s m args below meth c E H locs ls hH hlo hL)
theorem j_i2b {x : Int32} (hd : decode cc pc = .ok (.i2b, 1)) (k : J G (cc, own, nL, ret, nm, R, xt) Q mc ms cells slots r h nx (pc + 1) L (.int x.toInt8.toInt32 :: st)) : J G (cc, own, nL, ret, nm, R, xt) Q mc ms cells slots r h nx pc L (.int x :: st) := by
  intro p e s m args below meth c E H locs ls hH hlo hL
  obtain ⟨hx, hb, hr, hlk, hnm, hml, hown, hts, hK, hxt⟩ := id E
  exact lv_i2b hx hb hd rfl (k p e s m args below meth c E H locs ls hH hlo hL)
theorem j_i2c {x : Int32} (hd : decode cc pc = .ok (.i2c, 1)) (k : J G (cc, own, nL, ret, nm, R, xt) Q mc ms cells slots r h nx (pc + 1) L (.int (x.toUInt32 % 65536).toInt32 :: st)) : J G (cc, own, nL, ret, nm, R, xt) Q mc ms cells slots r h nx pc L (.int x :: st) := by
  intro p e s m args below meth c E H locs ls hH hlo hL
  obtain ⟨hx, hb, hr, hlk, hnm, hml, hown, hts, hK, hxt⟩ := id E
  exact lv_i2c hx hb hd rfl (k p e s m args below meth c E H locs ls hH hlo hL)
theorem j_dup {va : Value} (hd : decode cc pc = .ok (.dup, 1)) (hva : va.category = 1) (k : J G (cc, own, nL, ret, nm, R, xt) Q mc ms cells slots r h nx (pc + 1) L (va :: va :: st)) : J G (cc, own, nL, ret, nm, R, xt) Q mc ms cells slots r h nx pc L (va :: st) := by
  intro p e s m args below meth c E H locs ls hH hlo hL
  obtain ⟨hx, hb, hr, hlk, hnm, hml, hown, hts, hK, hxt⟩ := id E
  exact lv_dup hx hb hd hva (k p e s m args below meth c E H locs ls hH hlo hL)
theorem j_pop {va : Value} (hd : decode cc pc = .ok (.pop, 1)) (hva : va.category = 1) (k : J G (cc, own, nL, ret, nm, R, xt) Q mc ms cells slots r h nx (pc + 1) L st) : J G (cc, own, nL, ret, nm, R, xt) Q mc ms cells slots r h nx pc L (va :: st) := by
  intro p e s m args below meth c E H locs ls hH hlo hL
  obtain ⟨hx, hb, hr, hlk, hnm, hml, hown, hts, hK, hxt⟩ := id E
  exact lv_pop hx hb hd hva (k p e s m args below meth c E H locs ls hH hlo hL)
theorem j_dup_x1 {va vb : Value} (hd : decode cc pc = .ok (.dup_x1, 1)) (hva : va.category = 1) (hvb : vb.category = 1) (k : J G (cc, own, nL, ret, nm, R, xt) Q mc ms cells slots r h nx (pc + 1) L (va :: vb :: va :: st)) : J G (cc, own, nL, ret, nm, R, xt) Q mc ms cells slots r h nx pc L (va :: vb :: st) := by
  intro p e s m args below meth c E H locs ls hH hlo hL
  obtain ⟨hx, hb, hr, hlk, hnm, hml, hown, hts, hK, hxt⟩ := id E
  exact lv_dup_x1 hx hb hd hva hvb (k p e s m args below meth c E H locs ls hH hlo hL)
theorem j_dup2 {va vb : Value} (hd : decode cc pc = .ok (.dup2, 1)) (hva : va.category = 1) (hvb : vb.category = 1) (k : J G (cc, own, nL, ret, nm, R, xt) Q mc ms cells slots r h nx (pc + 1) L (va :: vb :: va :: vb :: st)) : J G (cc, own, nL, ret, nm, R, xt) Q mc ms cells slots r h nx pc L (va :: vb :: st) := by
  intro p e s m args below meth c E H locs ls hH hlo hL
  obtain ⟨hx, hb, hr, hlk, hnm, hml, hown, hts, hK, hxt⟩ := id E
  exact lv_dup2_11 hx hb hd hva hvb (k p e s m args below meth c E H locs ls hH hlo hL)
theorem j_if_eq {x : Int32} {off : Int} {tgt : Nat} (hd : decode cc pc = .ok (.ifCond .eq off, 3)) (ht : (pc : Int) + off = (tgt : Int)) (kt : x = 0 → J G (cc, own, nL, ret, nm, R, xt) Q mc ms cells slots r h nx tgt L st) (kf : ¬ (x = 0) → J G (cc, own, nL, ret, nm, R, xt) Q mc ms cells slots r h nx (pc + 3) L st) : J G (cc, own, nL, ret, nm, R, xt) Q mc ms cells slots r h nx pc L (.int x :: st) := by
  intro p e s m args below meth c E H locs ls hH hlo hL
  obtain ⟨hx, hb, hr, hlk, hnm, hml, hown, hts, hK, hxt⟩ := id E
  exact lv_if_eq hx hb hd ht (fun z => kt z p e s m args below meth c E H locs ls hH hlo hL) (fun z => kf z p e s m args below meth c E H locs ls hH hlo hL)
theorem j_icmp_eq {x y : Int32} {off : Int} {tgt : Nat} (hd : decode cc pc = .ok (.if_icmp .eq off, 3)) (ht : (pc : Int) + off = (tgt : Int)) (kt : x = y → J G (cc, own, nL, ret, nm, R, xt) Q mc ms cells slots r h nx tgt L st) (kf : ¬ (x = y) → J G (cc, own, nL, ret, nm, R, xt) Q mc ms cells slots r h nx (pc + 3) L st) : J G (cc, own, nL, ret, nm, R, xt) Q mc ms cells slots r h nx pc L (.int y :: .int x :: st) := by
  intro p e s m args below meth c E H locs ls hH hlo hL
  obtain ⟨hx, hb, hr, hlk, hnm, hml, hown, hts, hK, hxt⟩ := id E
  exact lv_icmp_eq hx hb hd ht (fun z => kt z p e s m args below meth c E H locs ls hH hlo hL) (fun z => kf z p e s m args below meth c E H locs ls hH hlo hL)
theorem j_if_ne {x : Int32} {off : Int} {tgt : Nat} (hd : decode cc pc = .ok (.ifCond .ne off, 3)) (ht : (pc : Int) + off = (tgt : Int)) (kt : ¬ x = 0 → J G (cc, own, nL, ret, nm, R, xt) Q mc ms cells slots r h nx tgt L st) (kf : x = 0 → J G (cc, own, nL, ret, nm, R, xt) Q mc ms cells slots r h nx (pc + 3) L st) : J G (cc, own, nL, ret, nm, R, xt) Q mc ms cells slots r h nx pc L (.int x :: st) := by
  intro p e s m args below meth c E H locs ls hH hlo hL
  obtain ⟨hx, hb, hr, hlk, hnm, hml, hown, hts, hK, hxt⟩ := id E
  exact lv_if_ne hx hb hd ht (fun z => kt z p e s m args below meth c E H locs ls hH hlo hL) (fun z => kf z p e s m args below meth c E H locs ls hH hlo hL)
theorem j_icmp_ne {x y : Int32} {off : Int} {tgt : Nat} (hd : decode cc pc = .ok (.if_icmp .ne off, 3)) (ht : (pc : Int) + off = (tgt : Int)) (kt : ¬ x = y → J G (cc, own, nL, ret, nm, R, xt) Q mc ms cells slots r h nx tgt L st) (kf : x = y → J G (cc, own, nL, ret, nm, R, xt) Q mc ms cells slots r h nx (pc + 3) L st) : J G (cc, own, nL, ret, nm, R, xt) Q mc ms cells slots r h nx pc L (.int y :: .int x :: st) := by
  intro p e s m args below meth c E H locs ls hH hlo hL
  obtain ⟨hx, hb, hr, hlk, hnm, hml, hown, hts, hK, hxt⟩ := id E
  exact lv_icmp_ne hx hb hd ht (fun z => kt z p e s m args below meth c E H locs ls hH hlo hL) (fun z => kf z p e s m args below meth c E H locs ls hH hlo hL)
theorem j_if_lt {x : Int32} {off : Int} {tgt : Nat} (hd : decode cc pc = .ok (.ifCond .lt off, 3)) (ht : (pc : Int) + off = (tgt : Int)) (kt : x < 0 → J G (cc, own, nL, ret, nm, R, xt) Q mc ms cells slots r h nx tgt L st) (kf : ¬ (x < 0) → J G (cc, own, nL, ret, nm, R, xt) Q mc ms cells slots r h nx (pc + 3) L st) : J G (cc, own, nL, ret, nm, R, xt) Q mc ms cells slots r h nx pc L (.int x :: st) := by
  intro p e s m args below meth c E H locs ls hH hlo hL
  obtain ⟨hx, hb, hr, hlk, hnm, hml, hown, hts, hK, hxt⟩ := id E
  exact lv_if_lt hx hb hd ht (fun z => kt z p e s m args below meth c E H locs ls hH hlo hL) (fun z => kf z p e s m args below meth c E H locs ls hH hlo hL)
theorem j_icmp_lt {x y : Int32} {off : Int} {tgt : Nat} (hd : decode cc pc = .ok (.if_icmp .lt off, 3)) (ht : (pc : Int) + off = (tgt : Int)) (kt : x < y → J G (cc, own, nL, ret, nm, R, xt) Q mc ms cells slots r h nx tgt L st) (kf : ¬ (x < y) → J G (cc, own, nL, ret, nm, R, xt) Q mc ms cells slots r h nx (pc + 3) L st) : J G (cc, own, nL, ret, nm, R, xt) Q mc ms cells slots r h nx pc L (.int y :: .int x :: st) := by
  intro p e s m args below meth c E H locs ls hH hlo hL
  obtain ⟨hx, hb, hr, hlk, hnm, hml, hown, hts, hK, hxt⟩ := id E
  exact lv_icmp_lt hx hb hd ht (fun z => kt z p e s m args below meth c E H locs ls hH hlo hL) (fun z => kf z p e s m args below meth c E H locs ls hH hlo hL)
theorem j_if_ge {x : Int32} {off : Int} {tgt : Nat} (hd : decode cc pc = .ok (.ifCond .ge off, 3)) (ht : (pc : Int) + off = (tgt : Int)) (kt : 0 ≤ x → J G (cc, own, nL, ret, nm, R, xt) Q mc ms cells slots r h nx tgt L st) (kf : ¬ (0 ≤ x) → J G (cc, own, nL, ret, nm, R, xt) Q mc ms cells slots r h nx (pc + 3) L st) : J G (cc, own, nL, ret, nm, R, xt) Q mc ms cells slots r h nx pc L (.int x :: st) := by
  intro p e s m args below meth c E H locs ls hH hlo hL
  obtain ⟨hx, hb, hr, hlk, hnm, hml, hown, hts, hK, hxt⟩ := id E
  exact lv_if_ge hx hb hd ht (fun z => kt z p e s m args below meth c E H locs ls hH hlo hL) (fun z => kf z p e s m args below meth c E H locs ls hH hlo hL)
theorem j_icmp_ge {x y : Int32} {off : Int} {tgt : Nat} (hd : decode cc pc = .ok (.if_icmp .ge off, 3)) (ht : (pc : Int) + off = (tgt : Int)) (kt : y ≤ x → J G (cc, own, nL, ret, nm, R, xt) Q mc ms cells slots r h nx tgt L st) (kf : ¬ (y ≤ x) → J G (cc, own, nL, ret, nm, R, xt) Q mc ms cells slots r h nx (pc + 3) L st) : J G (cc, own, nL, ret, nm, R, xt) Q mc ms cells slots r h nx pc L (.int y :: .int x :: st) := by
  intro p e s m args below meth c E H locs ls hH hlo hL
  obtain ⟨hx, hb, hr, hlk, hnm, hml, hown, hts, hK, hxt⟩ := id E
  exact lv_icmp_ge hx hb hd ht (fun z => kt z p e s m args below meth c E H locs ls hH hlo hL) (fun z => kf z p e s m args below meth c E H locs ls hH hlo hL)
theorem j_if_gt {x : Int32} {off : Int} {tgt : Nat} (hd : decode cc pc = .ok (.ifCond .gt off, 3)) (ht : (pc : Int) + off = (tgt : Int)) (kt : 0 < x → J G (cc, own, nL, ret, nm, R, xt) Q mc ms cells slots r h nx tgt L st) (kf : ¬ (0 < x) → J G (cc, own, nL, ret, nm, R, xt) Q mc ms cells slots r h nx (pc + 3) L st) : J G (cc, own, nL, ret, nm, R, xt) Q mc ms cells slots r h nx pc L (.int x :: st) := by
  intro p e s m args below meth c E H locs ls hH hlo hL
  obtain ⟨hx, hb, hr, hlk, hnm, hml, hown, hts, hK, hxt⟩ := id E
  exact lv_if_gt hx hb hd ht (fun z => kt z p e s m args below meth c E H locs ls hH hlo hL) (fun z => kf z p e s m args below meth c E H locs ls hH hlo hL)
theorem j_icmp_gt {x y : Int32} {off : Int} {tgt : Nat} (hd : decode cc pc = .ok (.if_icmp .gt off, 3)) (ht : (pc : Int) + off = (tgt : Int)) (kt : y < x → J G (cc, own, nL, ret, nm, R, xt) Q mc ms cells slots r h nx tgt L st) (kf : ¬ (y < x) → J G (cc, own, nL, ret, nm, R, xt) Q mc ms cells slots r h nx (pc + 3) L st) : J G (cc, own, nL, ret, nm, R, xt) Q mc ms cells slots r h nx pc L (.int y :: .int x :: st) := by
  intro p e s m args below meth c E H locs ls hH hlo hL
  obtain ⟨hx, hb, hr, hlk, hnm, hml, hown, hts, hK, hxt⟩ := id E
  exact lv_icmp_gt hx hb hd ht (fun z => kt z p e s m args below meth c E H locs ls hH hlo hL) (fun z => kf z p e s m args below meth c E H locs ls hH hlo hL)
theorem j_if_le {x : Int32} {off : Int} {tgt : Nat} (hd : decode cc pc = .ok (.ifCond .le off, 3)) (ht : (pc : Int) + off = (tgt : Int)) (kt : x ≤ 0 → J G (cc, own, nL, ret, nm, R, xt) Q mc ms cells slots r h nx tgt L st) (kf : ¬ (x ≤ 0) → J G (cc, own, nL, ret, nm, R, xt) Q mc ms cells slots r h nx (pc + 3) L st) : J G (cc, own, nL, ret, nm, R, xt) Q mc ms cells slots r h nx pc L (.int x :: st) := by
  intro p e s m args below meth c E H locs ls hH hlo hL
  obtain ⟨hx, hb, hr, hlk, hnm, hml, hown, hts, hK, hxt⟩ := id E
  exact lv_if_le hx hb hd ht (fun z => kt z p e s m args below meth c E H locs ls hH hlo hL) (fun z => kf z p e s m args below meth c E H locs ls hH hlo hL)
theorem j_icmp_le {x y : Int32} {off : Int} {tgt : Nat} (hd : decode cc pc = .ok (.if_icmp .le off, 3)) (ht : (pc : Int) + off = (tgt : Int)) (kt : x ≤ y → J G (cc, own, nL, ret, nm, R, xt) Q mc ms cells slots r h nx tgt L st) (kf : ¬ (x ≤ y) → J G (cc, own, nL, ret, nm, R, xt) Q mc ms cells slots r h nx (pc + 3) L st) : J G (cc, own, nL, ret, nm, R, xt) Q mc ms cells slots r h nx pc L (.int y :: .int x :: st) := by
  intro p e s m args below meth c E H locs ls hH hlo hL
  obtain ⟨hx, hb, hr, hlk, hnm, hml, hown, hts, hK, hxt⟩ := id E
  exact lv_icmp_le hx hb hd ht (fun z => kt z p e s m args below meth c E H locs ls hH hlo hL) (fun z => kf z p e s m args below meth c E H locs ls hH hlo hL)
theorem j_goto {off : Int} {tgt : Nat} (hd : decode cc pc = .ok (.goto off, 3)) (ht : (pc : Int) + off = (tgt : Int)) (k : J G (cc, own, nL, ret, nm, R, xt) Q mc ms cells slots r h nx tgt L st) : J G (cc, own, nL, ret, nm, R, xt) Q mc ms cells slots r h nx pc L st := by
  intro p e s m args below meth c E H locs ls hH hlo hL
  obtain ⟨hx, hb, hr, hlk, hnm, hml, hown, hts, hK, hxt⟩ := id E
  exact lv_goto hx hb hd ht (k p e s m args below meth c E H locs ls hH hlo hL)
theorem j_ifnonnull {x : Nat} {off : Int} {tgt : Nat} (hd : decode cc pc = .ok (.ifnonnull off, 3)) (ht : (pc : Int) + off = (tgt : Int)) (k : J G (cc, own, nL, ret, nm, R, xt) Q mc ms cells slots r h nx tgt L st) : J G (cc, own, nL, ret, nm, R, xt) Q mc ms cells slots r h nx pc L (.ref x :: st) := by
  intro p e s m args below meth c E H locs ls hH hlo hL
  obtain ⟨hx, hb, hr, hlk, hnm, hml, hown, hts, hK, hxt⟩ := id E
  exact lv_ifnonnull hx hb hd ht (k p e s m args below meth c E H locs ls hH hlo hL)
theorem j_ifnonnullN {off : Int} (hd : decode cc pc = .ok (.ifnonnull off, 3)) (k : J G (cc, own, nL, ret, nm, R, xt) Q mc ms cells slots r h nx (pc + 3) L st) : J G (cc, own, nL, ret, nm, R, xt) Q mc ms cells slots r h nx pc L (.null :: st) := by
  intro p e s m args below meth c E H locs ls hH hlo hL
  obtain ⟨hx, hb, hr, hlk, hnm, hml, hown, hts, hK, hxt⟩ := id E
  exact lv_ifnonnullN hx hb hd (k p e s m args below meth c E H locs ls hH hlo hL)
theorem j_tabO {dflt lo hi : Int} {offs : Array Int} {len : Nat} {x : Int32} {tgt : Nat} (hd : decode cc pc = .ok (.tableswitch dflt lo hi offs, len)) (hq : x.toInt < lo ∨ hi < x.toInt) (ht : (pc : Int) + dflt = (tgt : Int)) (k : J G (cc, own, nL, ret, nm, R, xt) Q mc ms cells slots r h nx tgt L st) : J G (cc, own, nL, ret, nm, R, xt) Q mc ms cells slots r h nx pc L (.int x :: st) := by
  intro p e s m args below meth c E H locs ls hH hlo hL
  obtain ⟨hx, hb, hr, hlk, hnm, hml, hown, hts, hK, hxt⟩ := id E
  exact lv_tableOut hx hb hd hq ht (k p e s m args below meth c E H locs ls hH hlo hL)
theorem j_tabI {dflt lo hi : Int} {offs : Array Int} {len : Nat} {x : Int32} {off : Int} {tgt : Nat} (hd : decode cc pc = .ok (.tableswitch dflt lo hi offs, len)) (h1 : ¬ x.toInt < lo) (h2 : ¬ hi < x.toInt) (ho : offs[(x.toInt - lo).toNat]? = some off) (ht : (pc : Int) + off = (tgt : Int)) (k : J G (cc, own, nL, ret, nm, R, xt) Q mc ms cells slots r h nx tgt L st) : J G (cc, own, nL, ret, nm, R, xt) Q mc ms cells slots r h nx pc L (.int x :: st) := by
  intro p e s m args below meth c E H locs ls hH hlo hL
  obtain ⟨hx, hb, hr, hlk, hnm, hml, hown, hts, hK, hxt⟩ := id E
  exact lv_tableIn hx hb hd h1 h2 ho ht (k p e s m args below meth c E H locs ls hH hlo hL)
theorem j_look {dflt : Int} {ps : Array (Int × Int)} {len : Nat} {x : Int32} {off : Int} {tgt : Nat} (hd : decode cc pc = .ok (.lookupswitch dflt ps, len)) (hp : (ps.toList.zip (ps.toList.drop 1)).all (fun (a, next) => a.1 < next.1) = true) (ho : Op.lookupswitch.offset ps.toList dflt x.toInt = off) (ht : (pc : Int) + off = (tgt : Int)) (k : J G (cc, own, nL, ret, nm, R, xt) Q mc ms cells slots r h nx tgt L st) : J G (cc, own, nL, ret, nm, R, xt) Q mc ms cells slots r h nx pc L (.int x :: st) := by
  intro p e s m args below meth c E H locs ls hH hlo hL
  obtain ⟨hx, hb, hr, hlk, hnm, hml, hown, hts, hK, hxt⟩ := id E
  exact lv_lookup hx hb hd hp ho ht (k p e s m args below meth c E H locs ls hH hlo hL)
/-- names, other forms of the same state -/
theorem j_topi {x : Int32} (k : ∀ y : Int32, y = x → J G (cc, own, nL, ret, nm, R, xt) Q mc ms cells slots r h nx pc L (.int y :: st)) : J G (cc, own, nL, ret, nm, R, xt) Q mc ms cells slots r h nx pc L (.int x :: st) := k x rfl
theorem j_topl {x : Int64} (k : ∀ y : Int64, y = x → J G (cc, own, nL, ret, nm, R, xt) Q mc ms cells slots r h nx pc L (.long y :: st)) : J G (cc, own, nL, ret, nm, R, xt) Q mc ms cells slots r h nx pc L (.long x :: st) := k x rfl
theorem j_re {L' : List (Option Value)} {st' : List Value} {h' : j_H} (e1 : L = L') (e2 : st = st') (e3 : h = h') (k : J G (cc, own, nL, ret, nm, R, xt) Q mc ms cells slots r h' nx pc L' st') : J G (cc, own, nL, ret, nm, R, xt) Q mc ms cells slots r h nx pc L st := by
  subst e1; subst e2; subst e3; exact k
theorem j_heap {h' : j_H} (hf : ∀ i e, h' i = some e → h i = some e) (k : J G (cc, own, nL, ret, nm, R, xt) Q mc ms cells slots r h' nx pc L st) : J G (cc, own, nL, ret, nm, R, xt) Q mc ms cells slots r h nx pc L st := by
  intro p e s m args below meth c E H locs ls hH hlo hL
  obtain ⟨hx, hb, hr, hlk, hnm, hml, hown, hts, hK, hxt⟩ := id E
  exact k p e s m args below meth c E H locs ls (hH.sub hf) hlo hL
theorem j_ids {r' : Nat → Nat} {h' : j_H} (f : Nat → Nat) (hf : ∀ i e, h' i = some e → h (f i) = some e ∧ r' i = r (f i)) (hj : ∀ i j a b, h' i = some a → h' j = some b → f i = f j → i = j) (k : J G (cc, own, nL, ret, nm, R, xt) Q mc ms cells slots r' h' nx pc L st) : J G (cc, own, nL, ret, nm, R, xt) Q mc ms cells slots r h nx pc L st := by
  intro p e s m args below meth c E H locs ls hH hlo hL
  obtain ⟨hx, hb, hr, hlk, hnm, hml, hown, hts, hK, hxt⟩ := id E
  exact k p e s m args below meth c E H locs ls (hH.re f hf hj) hlo hL
theorem j_wide {c' s' : Nat} (h1 : cells ≤ c') (h2 : slots ≤ s') (k : J G (cc, own, nL, ret, nm, R, xt) Q mc ms c' s' r h nx pc L st) : J G (cc, own, nL, ret, nm, R, xt) Q mc ms cells slots r h nx pc L st := by
  intro p e s m args below meth c E H locs ls hH hlo hL
  obtain ⟨hx, hb, hr, hlk, hnm, hml, hown, hts, hK, hxt⟩ := id E
  exact W.widen h1 h2 (k p e s m args below meth c E H locs ls hH hlo hL)
/-- what is known of the heap from its cells: an id's address is new -/
theorem j_base {i : Nat} {a : va_E} (hi : h i = some a) (k : G.2.2.2.2.1.size ≤ r i → r i < nx → J G (cc, own, nL, ret, nm, R, xt) Q mc ms cells slots r h nx pc L st) : J G (cc, own, nL, ret, nm, R, xt) Q mc ms cells slots r h nx pc L st := by
  intro p e s m args below meth c E H locs ls hH hlo hL
  obtain ⟨hx, hb, hr, hlk, hnm, hml, hown, hts, hK, hxt⟩ := id E
  exact k (hH.2.2.2.1 i a hi).1 (hH.lt hi) p e s m args below meth c E H locs ls hH hlo hL
theorem j_iret {v : Int32} {ty : FieldType} (hd : decode cc pc = .ok (.ireturn, 1)) (hrt : ret = some ty) (hn : narrow ty (.int v) = .int v) (hc : cells ≤ mc) (hs : slots ≤ ms) (hq : Q (.returned (some (.int v))) r h nx) : J G (cc, own, nL, ret, nm, R, xt) Q mc ms cells slots r h nx pc L [.int v] := by
  intro p e s m args below meth c E H locs ls hH hlo hL
  obtain ⟨hx, hb, hr, hlk, hnm, hml, hown, hts, hK, hxt⟩ := id E
  refine W.widen hc hs (W.weak ?_ (W.zret (Qc := j_post G Q) (free := fun q => G.2.2.2.2.1.size ≤ q) hx hb (hr.trans hrt) hn (fun t ht _ => ⟨r, h, nx, by rw [ht]; exact hH, hq⟩) hlo hd (hlocks := hlk)))
  rintro t ⟨o, a1, a2, a3, L2, ⟨-, a4⟩, a5⟩
  exact ⟨o, a1, a2, a3, L2, a4, a5⟩
theorem j_lret {v : Int64} (hd : decode cc pc = .ok (.lreturn, 1)) (hrt : ret = some .long) (hc : cells ≤ mc) (hs : slots ≤ ms) (hq : Q (.returned (some (.long v))) r h nx) : J G (cc, own, nL, ret, nm, R, xt) Q mc ms cells slots r h nx pc L [.long v] := by
  intro p e s m args below meth c E H locs ls hH hlo hL
  obtain ⟨hx, hb, hr, hlk, hnm, hml, hown, hts, hK, hxt⟩ := id E
  refine W.widen hc hs (W.weak ?_ (W.lret (Qc := j_post G Q) (free := fun q => G.2.2.2.2.1.size ≤ q) hx hb (hr.trans hrt) (fun t ht _ => ⟨r, h, nx, by rw [ht]; exact hH, hq⟩) hlo hd (hlocks := hlk)))
  rintro t ⟨o, a1, a2, a3, L2, ⟨-, a4⟩, a5⟩
  exact ⟨o, a1, a2, a3, L2, a4, a5⟩
theorem j_vret  (hd : decode cc pc = .ok (.return_, 1)) (hrt : ret = none) (hc : cells ≤ mc) (hs : slots ≤ ms) (hq : Q (.returned none) r h nx) : J G (cc, own, nL, ret, nm, R, xt) Q mc ms cells slots r h nx pc L [] := by
  intro p e s m args below meth c E H locs ls hH hlo hL
  obtain ⟨hx, hb, hr, hlk, hnm, hml, hown, hts, hK, hxt⟩ := id E
  refine W.widen hc hs (W.weak ?_ (W.vret (Qc := j_post G Q) (free := fun q => G.2.2.2.2.1.size ≤ q) hx hb (hr.trans hrt) (fun t ht _ => ⟨r, h, nx, by rw [ht]; exact hH, hq⟩) hlo hd (hlocks := hlk)))
  rintro t ⟨o, a1, a2, a3, L2, ⟨-, a4⟩, a5⟩
  exact ⟨o, a1, a2, a3, L2, a4, a5⟩
theorem j_aret {v : Value} {rt : FieldType} (hd : decode cc pc = .ok (.areturn, 1)) (hrt : ret = some rt) (hro : (∃ n, rt = .object n) ∨ ∃ t, rt = .array t) (hv : v = .null ∨ ∃ a, v = .ref a) (hc : cells ≤ mc) (hs : slots ≤ ms) (hq : Q (.returned (some v)) r h nx) : J G (cc, own, nL, ret, nm, R, xt) Q mc ms cells slots r h nx pc L [v] := by
  intro p e s m args below meth c E H locs ls hH hlo hL
  obtain ⟨hx, hb, hr, hlk, hnm, hml, hown, hts, hK, hxt⟩ := id E
  refine W.widen hc hs (W.weak ?_ (W.aret (Qc := j_post G Q) (free := fun q => G.2.2.2.2.1.size ≤ q) hx hb (hr.trans hrt) hro hv (fun t ht _ => ⟨r, h, nx, by rw [ht]; exact hH, hq⟩) hlo hd (hlocks := hlk)))
  rintro t ⟨o, a1, a2, a3, L2, ⟨-, a4⟩, a5⟩
  exact ⟨o, a1, a2, a3, L2, a4, a5⟩
end JR
