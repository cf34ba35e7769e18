set_option maxRecDepth 100000
section JD
variable {G : j_G} {cc : ByteArray} {own : String} {nL : Nat} {ret : Option FieldType} {nm : String} {R : Room} {xt : Code → Prop} {Q : j_Q} {mc ms cells slots : Nat} {r : Nat → Nat} {h : j_H} {nx pc : Nat} {L : List (Option Value)} {st : List Value} {index : Nat}
theorem j_old {H : Heap} (hH : j_holds G r h nx H) : ∀ a : Nat, a < G.2.2.2.2.1.size → ¬ jA G.2.2.2.2.1 a → H[a]? = G.2.2.2.2.1[a]? := fun a h1 _ => hH.2.2.1 a h1
/-- a static field whose value the heap at the law's start holds -/
theorem j_gets {C n d : String} {v : Value} (hd : decode cc pc = .ok (.getstatic index, 3)) (hw : Cond.fieldLink own index C n d ∈ lw_all) (hZ : ∀ s : State, G.2.2.2.2.2 s → va_Z C n d v (jA G.2.2.2.2.1) s G.2.2.2.2.1) (kk : J G (cc, own, nL, ret, nm, R, xt) Q mc ms cells slots r h nx (pc + 3) L (v :: st)) : J G (cc, own, nL, ret, nm, R, xt) Q mc ms cells slots r h nx pc L st := by
  intro p e s m args below meth c E H locs ls hH hlo hL
  obtain ⟨hx, hb, hr, hlk, hnm, hml, hown, hts, hK, hxt⟩ := id E
  obtain ⟨cf, kf, fi, f, a, cell, h1, h2, h3, h4, h5, h6, h7, h8⟩ := (hZ s hK.2.1).kept (j_old hH)
  exact W.gets hx hb hown (hts _ hw) h1 h2 h3 h4 h5 (fun e => by rw [e] at h6; cases h6) h7 rfl hd (kk p e s m args below meth c E H locs ls hH hlo hL)
/-- a field of an object that lay there at the law's start -/
theorem j_getO {C n d : String} {q : Nat} {v : Value} (hd : decode cc pc = .ok (.getfield index, 3)) (hw : Cond.fieldLink own index C n d ∈ lw_all) (hZ : ∀ s : State, G.2.2.2.2.2 s → va_OF C n d v q (jA G.2.2.2.2.1) s G.2.2.2.2.1) (kk : J G (cc, own, nL, ret, nm, R, xt) Q mc ms cells slots r h nx (pc + 3) L (v :: st)) : J G (cc, own, nL, ret, nm, R, xt) Q mc ms cells slots r h nx pc L (.ref q :: st) := by
  intro p e s m args below meth c E H locs ls hH hlo hL
  obtain ⟨hx, hb, hr, hlk, hnm, hml, hown, hts, hK, hxt⟩ := id E
  obtain ⟨cf, k, fi, f, cell, h1, h2, h3, h4, h5, h6⟩ := (hZ s hK.2.1).kept (j_old hH)
  exact W.getf hx hb hown (hts _ hw) h1 h2 h3 h4 (v := v) h5 rfl rfl hd (kk p e s m args below meth c E H locs ls hH hlo hL)
/-- an array that lay there at the law's start -/
theorem j_olen {ty : FieldType} {t N : Nat} {f : Nat → Value} (hd : decode cc pc = .ok (.arraylength, 1)) (hZ : ∀ s : State, G.2.2.2.2.2 s → va_T ty t N f (jA G.2.2.2.2.1) s G.2.2.2.2.1) (kk : J G (cc, own, nL, ret, nm, R, xt) Q mc ms cells slots r h nx (pc + 1) L (.int (nI N) :: st)) : J G (cc, own, nL, ret, nm, R, xt) Q mc ms cells slots r h nx pc L (.ref t :: st) := by
  intro p e s m args below meth c E H locs ls hH hlo hL
  obtain ⟨hx, hb, hr, hlk, hnm, hml, hown, hts, hK, hxt⟩ := id E
  obtain ⟨cell, h1, h2, h3, h4, h5, h6, h7⟩ := (hZ s hK.2.1).kept (j_old hH)
  exact W.alen (n := Int32.ofNat N) hx hb h1 h2 h5 rfl rfl hd (kk p e s m args below meth c E H locs ls hH hlo hL)
theorem j_obald {t N j : Nat} {f : Nat → Value} {v : Value} {x0 : Int32} (hd : decode cc pc = .ok (.baload, 1)) (hZ : ∀ s : State, G.2.2.2.2.2 s → va_T .byte t N f (jA G.2.2.2.2.1) s G.2.2.2.2.1) (hx0 : x0 = nI j) (hj : j < N) (hn : N < 2 ^ 31) (hv : f j = v) (kk : J G (cc, own, nL, ret, nm, R, xt) Q mc ms cells slots r h nx (pc + 1) L (v :: st)) : J G (cc, own, nL, ret, nm, R, xt) Q mc ms cells slots r h nx pc L (.int x0 :: .ref t :: st) := by
  intro p e s m args below meth c E H locs ls hH hlo hL
  obtain ⟨hx, hb, hr, hlk, hnm, hml, hown, hts, hK, hxt⟩ := id E
  obtain ⟨cell, h1, h2, h3, h4, h5, h6, h7⟩ := (hZ s hK.2.1).kept (j_old hH)
  subst hx0
  have hcl : (nI j).toNatClampNeg = j := nI_clamp (by omega)
  refine W.bald (v := v) hx hb h1 h2 h3 ?_ (by rw [hcl, h6 _ hj, hv]) rfl rfl hd (kk p e s m args below meth c E H locs ls hH hlo hL)
  rintro (q | q)
  · exact absurd q (nI_pos (by omega))
  · rw [hcl] at q; omega
/-- a String constant -/
theorem j_ldcS {tx : String} {q : Nat} (hd : decode cc pc = .ok (.ldc index, 2)) (hZ : ∀ s : State, G.2.2.2.2.2 s → vk_R own index tx q s) (kk : J G (cc, own, nL, ret, nm, R, xt) Q mc ms cells slots r h nx (pc + 2) L (.ref q :: st)) : J G (cc, own, nL, ret, nm, R, xt) Q mc ms cells slots r h nx pc L st := by
  intro p e s m args below meth c E H locs ls hH hlo hL
  obtain ⟨hx, hb, hr, hlk, hnm, hml, hown, hts, hK, hxt⟩ := id E
  exact va_ldcS hx hb hown (hZ s hK.2.1) hd (kk p e s m args below meth c E H locs ls hH hlo hL)
theorem j_instO {C : String} {q : Nat} (hd : decode cc pc = .ok (.instanceof index, 3)) (hw : Cond.classLink own index C ∈ lw_all) (hZ : ∀ s : State, G.2.2.2.2.2 s → va_O C q (jA G.2.2.2.2.1) s G.2.2.2.2.1) (kk : J G (cc, own, nL, ret, nm, R, xt) Q mc ms cells slots r h nx (pc + 3) L (.int 1 :: st)) : J G (cc, own, nL, ret, nm, R, xt) Q mc ms cells slots r h nx pc L (.ref q :: st) := by
  intro p e s m args below meth c E H locs ls hH hlo hL
  obtain ⟨hx, hb, hr, hlk, hnm, hml, hown, hts, hK, hxt⟩ := id E
  obtain ⟨cell, h1, h2, h3, -⟩ := (hZ s hK.2.1).kept (j_old hH)
  exact va_instE hx hb hown (hts _ hw) ⟨cell, h1, h2, h3⟩ hd (kk p e s m args below meth c E H locs ls hH hlo hL)
theorem j_castO {C : String} {q : Nat} (hd : decode cc pc = .ok (.checkcast index, 3)) (hw : Cond.classLink own index C ∈ lw_all) (hZ : ∀ s : State, G.2.2.2.2.2 s → va_O C q (jA G.2.2.2.2.1) s G.2.2.2.2.1) (kk : J G (cc, own, nL, ret, nm, R, xt) Q mc ms cells slots r h nx (pc + 3) L (.ref q :: st)) : J G (cc, own, nL, ret, nm, R, xt) Q mc ms cells slots r h nx pc L (.ref q :: st) := by
  intro p e s m args below meth c E H locs ls hH hlo hL
  obtain ⟨hx, hb, hr, hlk, hnm, hml, hown, hts, hK, hxt⟩ := id E
  obtain ⟨cell, h1, h2, h3, -⟩ := (hZ s hK.2.1).kept (j_old hH)
  exact va_castE hx hb hown (hts _ hw) ⟨cell, h1, h2, h3⟩ hd (kk p e s m args below meth c E H locs ls hH hlo hL)
/-- a byte array of ours is cast to its own class -/
theorem j_castB (t0 : Nat) {i : Nat} {cA : ClassId} {x : vp_A} (hd : decode cc pc = .ok (.checkcast index, 3)) (hw : Cond.classLink own index "[B" ∈ lw_all) (hi : h i = some (.inl (cA, x))) (ht : G.2.2.2.1[t0]? = some (cA, .byte)) (kk : J G (cc, own, nL, ret, nm, R, xt) Q mc ms cells slots r h nx (pc + 3) L (.ref (r i) :: st)) : J G (cc, own, nL, ret, nm, R, xt) Q mc ms cells slots r h nx pc L (.ref (r i) :: st) := by
  intro p e s m args below meth c E H locs ls hH hlo hL
  obtain ⟨hx, hb, hr, hlk, hnm, hml, hown, hts, hK, hxt⟩ := id E
  refine va_castA hx hb hown (hts _ hw) (hH.P1 hi) 0 rfl ?_ hd (kk p e s m args below meth c E H locs ls hH hlo hL)
  have h3 : s.vm.findClass ("[" ++ FieldType.byte.toString) = some cA := (hK.1.2 t0 _ ht).2
  exact h3
/-- a byte array of ours is cloned: the new one under the id i2, whose address is to be the heap's end -/
theorem j_cloneB (i2 t0 : Nat) {i n : Nat} {cA : ClassId} {f : Nat → Int32} (hq : r i2 = nx) (hd : decode cc pc = .ok (.invokevirtual index, 3)) (hw1 : Cond.methodLink own index ⟨"[B", "clone", "()Ljava/lang/Object;"⟩ ∈ lw_all) (hw2 : Cond.sameMethod "[B" "java/lang/Object" "clone" "()Ljava/lang/Object;" ∈ lw_all) (hw3 : Cond.native ⟨"java/lang/Object", "clone", "()Ljava/lang/Object;"⟩ ∈ lw_all) (hw4 : Cond.instanceMethod ⟨"java/lang/Object", "clone", "()Ljava/lang/Object;"⟩ ∈ lw_all) (hw5 : Cond.selects "[B" ⟨"[B", "clone", "()Ljava/lang/Object;"⟩ ⟨"java/lang/Object", "clone", "()Ljava/lang/Object;"⟩ ∈ lw_all) (hcl : ∀ s : State, G.2.2.2.2.2 s → va_Nw (.castable "[B" "java/lang/Cloneable") s)
    (hi : h i = some (.inl (cA, n, .inl f))) (ht : G.2.2.2.1[t0]? = some (cA, .byte)) (hfit : ∀ j, j < n → fits .byte (.int (f j)) = true) (hR : 1 ≤ R.frames ∧ (st.map fun v => v.category).sum + 14 ≤ R.locals) (hcells : cells + 1 ≤ R.cells) (hslots : slots + n ≤ R.slots) (kk : J G (cc, own, nL, ret, nm, R, xt) Q mc ms (cells + 1) (slots + n) r (j_set h i2 (.inl (cA, n, .inl f))) (nx + 1) (pc + 3) L (.ref (r i2) :: st)) : J G (cc, own, nL, ret, nm, R, xt) Q mc ms cells slots r h nx pc L (.ref (r i) :: st) := by
  intro p e s m args below meth c E H locs ls hH hlo hL
  obtain ⟨hx, hb, hr, hlk, hnm, hml, hown, hts, hK, hxt⟩ := id E
  have hnm : s.vm.findClass ("[" ++ FieldType.byte.toString) = some cA := (hK.1.2 t0 _ ht).2
  have hnm2 : s.vm.findClass "[B" = some cA := hnm
  have hat := (hH.2.2.2.1 i _ hi).2
  have hcell : H[r i]? = some (vp_cell cA (n, .inl f)) := hat
  have hsz : (vp_cell cA (n, .inl f)).slots.size = n := arrV_size _ _ _
  obtain ⟨c0, t9, f1, f2, f3⟩ := Cond.castable_spec (va_Nw.use (A := args) rfl (hcl s hK.2.1))
  cases hnm2.symm.trans f1
  intro T hT X
  obtain ⟨-, kA, hkA, comp, hkind⟩ := State.isArrayOf_alike X.warmed.alike ((hK.1.2 t0 _ ht).1 0 (fun _ => .null))
  obtain ⟨-, kS, hkS, compS, hkindS⟩ := (hK.1.2 t0 _ ht).1 0 (fun _ => .null)
  obtain ⟨vm', X', st9⟩ := X.cloneArray hx hown (hts _ hw1) (hts _ hw2) (hts _ hw3) (hts _ hw4) (hts _ hw5) (a := r i) (cell := vp_cell cA (n, .inl f)) (by rw [hT]; exact hcell) (fun k hk => by cases hk) (fun hk => by cases hk) hnm2 f2 f3
    (fun k v hv => by
      have hk' : T.vm.classes[cA]? = some kA := hkA
      have hv2 : fits .byte v = true := by
        by_cases hkn : k < n
        · have h9 : (vp_cell cA (n, .inl f)).slots[k]? = some (.int (f k)) := arrV_read _ _ hkn
          rw [h9] at hv
          cases hv
          exact hfit k hkn
        · rw [Array.getElem?_eq_none (by rw [hsz]; omega)] at hv
          cases hv
      show T.fitsSlot cA .none k v = true
      simpa [State.fitsSlot, State.slotType?, hk', hkind] using hv2)
    (g := F0 m pc ls (.ref (r i) :: st)) rfl (by show ls.size = _; rw [hml]; exact hL.1) rfl (by rw [hb]; exact hd) hR.1 (by show 2 * 0 + (List.map (fun v => v.category) st).sum + 14 ≤ R.locals; have := hR.2; omega) hcells (by rw [hsz]; exact hslots) (hloader := Vm.clonesLoader_of_array hkS hkindS)
  have hcE : ({ cls := (vp_cell cA (n, .inl f)).cls, slots := (vp_cell cA (n, .inl f)).slots } : Cell) = vp_cell cA (n, .inl f) := rfl
  rw [hcE, hsz] at X'
  have hsize : T.heap.size = nx := by rw [hT]; exact hH.1
  have hH2 : j_holds G r (j_set h i2 (.inl (cA, n, .inl f))) (nx + 1) (H.push (vp_cell cA (n, .inl f))) := hH.push hq (show (H.push (vp_cell cA (n, .inl f)))[r i2]? = some (vp_cell cA (n, .inl f)) by rw [hq, ← hH.1, Array.getElem?_push_size]) (Array.size_push ..) (fun q hqq => by rw [Array.getElem?_push, if_neg (Nat.ne_of_lt hqq)])
  obtain ⟨t, b1, b2⟩ := kk p e s m args below meth c E (H.push (vp_cell cA (n, .inl f))) locs ls hH2 hlo hL ((T.setVm vm').pushCell (vp_cell cA (n, .inl f))) (by rw [← hT]; rfl) X'
  refine ⟨t, st9 t ?_, b2⟩
  rw [hcE, hsize, ← hq]
  exact b1
theorem j_acmp_ne {a b : Nat} {off : Int} {tgt : Nat} (hd : decode cc pc = .ok (.if_acmp .ne off, 3)) (ht : (pc : Int) + off = (tgt : Int)) (hne : ¬ a = b) (kk : J G (cc, own, nL, ret, nm, R, xt) Q mc ms cells slots r h nx tgt L st) : J G (cc, own, nL, ret, nm, R, xt) Q mc ms cells slots r h nx pc L (.ref b :: .ref a :: st) := by
  intro p e s m args below meth c E H locs ls hH hlo hL
  obtain ⟨hx, hb, hr, hlk, hnm, hml, hown, hts, hK, hxt⟩ := id E
  exact lv_acmp_ne (rx := some a) (ry := some b) hx hb hd ht (fun _ => kk p e s m args below meth c E H locs ls hH hlo hL) (fun q => absurd (Option.some.inj q) hne)
end JD
