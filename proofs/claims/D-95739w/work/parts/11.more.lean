set_option maxRecDepth 100000
/-- the heap h with the cells of l renewed -/
def j_ov (h : j_H) : List (Nat × va_E) → j_H
  | [] => h
  | (i, e) :: l => fun k => bif Nat.beq k i then some e else j_ov h l k
def j_upd : List (Nat × va_E) → Nat → va_E → List (Nat × va_E)
  | [], i, e => [(i, e)]
  | (j, x) :: l, i, e => bif Nat.beq j i then (i, e) :: l else (j, x) :: j_upd l i e
def j_mrg (l : List (Nat × va_E)) : List (Nat × va_E) → List (Nat × va_E)
  | [] => l
  | (i, e) :: l1 => j_upd (j_mrg l l1) i e
theorem j_beq_t {a b : Nat} (h : a = b) : Nat.beq a b = true := by subst h; exact Nat.beq_refl a
theorem j_beq_f {a b : Nat} (h : a ≠ b) : Nat.beq a b = false := by
  cases hb : Nat.beq a b with
  | false => rfl
  | true => exact absurd (Nat.eq_of_beq_eq_true hb) h
theorem j_ov_cons (h : j_H) (i : Nat) (e : va_E) (l : List (Nat × va_E)) : j_ov h ((i, e) :: l) = j_set (j_ov h l) i e := rfl
theorem j_set_set (h : j_H) (i : Nat) (e e' : va_E) : j_set (j_set h i e) i e' = j_set h i e' := by
  funext k
  by_cases hk : k = i
  · subst hk; rw [j_set_self, j_set_self]
  · rw [j_set_ne hk, j_set_ne hk, j_set_ne hk]
theorem j_set_comm (h : j_H) {i j : Nat} (e e' : va_E) (hij : i ≠ j) : j_set (j_set h i e) j e' = j_set (j_set h j e') i e := by
  funext k
  by_cases hk : k = i
  · subst hk; rw [j_set_ne hij, j_set_self, j_set_self]
  · by_cases hj : k = j
    · subst hj; rw [j_set_self, j_set_ne hk, j_set_self]
    · rw [j_set_ne hj, j_set_ne hk, j_set_ne hk, j_set_ne hj]
theorem j_set_id {h : j_H} {i : Nat} {e : va_E} (hi : h i = some e) : j_set h i e = h := by
  funext k
  by_cases hk : k = i
  · subst hk; rw [j_set_self, hi]
  · rw [j_set_ne hk]
theorem j_ov_set (h : j_H) (i : Nat) (e : va_E) : ∀ l, j_set (j_ov h l) i e = j_ov h (j_upd l i e)
  | [] => rfl
  | (j, x) :: l => by
    by_cases hj : j = i
    · subst hj
      rw [j_upd, j_beq_t rfl, cond_true, j_ov_cons, j_ov_cons, j_set_set]
    · rw [j_upd, j_beq_f hj, cond_false, j_ov_cons, j_ov_cons, ← j_ov_set h i e l, j_set_comm _ _ _ hj]
theorem j_ov_ov (h : j_H) (l : List (Nat × va_E)) : ∀ l1, j_ov (j_ov h l) l1 = j_ov h (j_mrg l l1)
  | [] => rfl
  | (i, e) :: l1 => by rw [j_ov_cons, j_ov_ov h l l1, j_mrg, j_ov_set]
section JM
variable {G : j_G} {cc : ByteArray} {own : String} {nL : Nat} {ret : Option FieldType} {nm : String} {R : Room} {xt : Code → Prop} {Q : j_Q} {mc ms cells slots : Nat} {r : Nat → Nat} {h : j_H} {nx pc : Nat} {L : List (Option Value)} {st : List Value}

theorem j_ov0 (k : J G (cc, own, nL, ret, nm, R, xt) Q mc ms cells slots r (j_ov h []) nx pc L st) : J G (cc, own, nL, ret, nm, R, xt) Q mc ms cells slots r h nx pc L st := k
theorem j_ovs {l : List (Nat × va_E)} {i : Nat} {e : va_E} (k : J G (cc, own, nL, ret, nm, R, xt) Q mc ms cells slots r (j_ov h (j_upd l i e)) nx pc L st) : J G (cc, own, nL, ret, nm, R, xt) Q mc ms cells slots r (j_set (j_ov h l) i e) nx pc L st := by rw [j_ov_set]; exact k
theorem j_ovm {l l1 : List (Nat × va_E)} (k : J G (cc, own, nL, ret, nm, R, xt) Q mc ms cells slots r (j_ov h (j_mrg l l1)) nx pc L st) : J G (cc, own, nL, ret, nm, R, xt) Q mc ms cells slots r (j_ov (j_ov h l) l1) nx pc L st := by rw [j_ov_ov]; exact k
theorem j_ov1 {i : Nat} {e : va_E} (hi : h i = some e) (k : J G (cc, own, nL, ret, nm, R, xt) Q mc ms cells slots r (j_ov h [(i, e)]) nx pc L st) : J G (cc, own, nL, ret, nm, R, xt) Q mc ms cells slots r h nx pc L st := by
  have e1 : j_ov h [(i, e)] = h := j_set_id hi
  rw [e1] at k
  exact k
/-- a cell that stands in the heap comes into the overlay -/
theorem j_ovi {l : List (Nat × va_E)} {i : Nat} {e : va_E} (hi : j_ov h l i = some e) (k : J G (cc, own, nL, ret, nm, R, xt) Q mc ms cells slots r (j_ov h (j_upd l i e)) nx pc L st) : J G (cc, own, nL, ret, nm, R, xt) Q mc ms cells slots r (j_ov h l) nx pc L st := by
  rw [← j_ov_set, j_set_id hi] at k
  exact k
/-- branches that meet again with a number on the stack -/
theorem j_join {tgt : Nat} (P : Int32 → Prop) (k : ∀ v, P v → J G (cc, own, nL, ret, nm, R, xt) Q mc ms cells slots r h nx tgt L (.int v :: st)) (main : (∀ v, P v → J G (cc, own, nL, ret, nm, R, xt) Q mc ms cells slots r h nx tgt L (.int v :: st)) → J G (cc, own, nL, ret, nm, R, xt) Q mc ms cells slots r h nx pc L st) : J G (cc, own, nL, ret, nm, R, xt) Q mc ms cells slots r h nx pc L st := main k
theorem j_max {index : Nat} {x y : Int32} (hd : decode cc pc = .ok (.invokestatic index, 3)) (hw : Cond.methodLink own index Lib.Math.max.name ∈ lw_all) (hR : 1 ≤ R.frames ∧ (st.map fun v => v.category).sum + 13 ≤ R.locals ∧ cells ≤ R.cells ∧ slots ≤ R.slots) (kk : J G (cc, own, nL, ret, nm, R, xt) Q mc ms cells slots r h nx (pc + 3) L (.int (if x < y then y else x) :: st)) : J G (cc, own, nL, ret, nm, R, xt) Q mc ms cells slots r h nx pc L (.int y :: .int x :: st) := by
  intro p e s m args below meth c E H locs ls hH hlo hL
  obtain ⟨hx, hb, hr, hlk, hnm, hml, hown, hts, hK, hxt⟩ := id E
  exact va_mmax hx hb (hml.trans hL.1.symm) hown (hts _ hw) (hts _ q321) (hts _ q71) (hts _ q322) hR.1 hR.2.1 hR.2.2.1 hR.2.2.2 hd (kk p e s m args below meth c E H locs ls hH hlo hL)
theorem j_min {index : Nat} {x y : Int32} (hd : decode cc pc = .ok (.invokestatic index, 3)) (hw : Cond.methodLink own index Lib.Math.min.name ∈ lw_all) (hR : 1 ≤ R.frames ∧ (st.map fun v => v.category).sum + 13 ≤ R.locals ∧ cells ≤ R.cells ∧ slots ≤ R.slots) (kk : J G (cc, own, nL, ret, nm, R, xt) Q mc ms cells slots r h nx (pc + 3) L (.int (if y < x then y else x) :: st)) : J G (cc, own, nL, ret, nm, R, xt) Q mc ms cells slots r h nx pc L (.int y :: .int x :: st) := by
  intro p e s m args below meth c E H locs ls hH hlo hL
  obtain ⟨hx, hb, hr, hlk, hnm, hml, hown, hts, hK, hxt⟩ := id E
  exact va_mmin hx hb (hml.trans hL.1.symm) hown (hts _ hw) (hts _ q339) (hts _ q71) (hts _ q340) hR.1 hR.2.1 hR.2.2.1 hR.2.2.2 hd (kk p e s m args below meth c E H locs ls hH hlo hL)
theorem j_abs {index : Nat} {x : Int32} (hd : decode cc pc = .ok (.invokestatic index, 3)) (hw : Cond.methodLink own index Lib.Math.abs.name ∈ lw_all) (hR : 1 ≤ R.frames ∧ (st.map fun v => v.category).sum + 13 ≤ R.locals ∧ cells ≤ R.cells ∧ slots ≤ R.slots) (kk : J G (cc, own, nL, ret, nm, R, xt) Q mc ms cells slots r h nx (pc + 3) L (.int (if 0 ≤ x then x else 0 - x) :: st)) : J G (cc, own, nL, ret, nm, R, xt) Q mc ms cells slots r h nx pc L (.int x :: st) := by
  intro p e s m args below meth c E H locs ls hH hlo hL
  obtain ⟨hx, hb, hr, hlk, hnm, hml, hown, hts, hK, hxt⟩ := id E
  exact va_mabs hx hb (hml.trans hL.1.symm) hown (hts _ hw) (hts _ q1014) (hts _ q71) (hts _ q1015) hR.1 hR.2.1 hR.2.2.1 hR.2.2.2 hd (kk p e s m args below meth c E H locs ls hH hlo hL)
/-- System.arraycopy of ints, bytes, booleans -/
theorem j_copy {index i0 i1 sp dp n n0 n1 t0 : Nat} {c0 c1 : ClassId} {ty : FieldType} {f g : Nat → Int32} {xs xd xn : Int32} (hd : decode cc pc = .ok (.invokestatic index, 3)) (hw : Cond.methodLink own index arraycopyName ∈ lw_all) (hi0 : h i0 = some (.inl (c0, n0, .inl f))) (hi1 : h i1 = some (.inl (c1, n1, .inl g))) (ht0 : G.2.2.2.1[t0]? = some (c0, ty)) (ht1 : G.2.2.2.1[t0]? = some (c1, ty)) (hprim : refKind ty = false) (e1 : xs = nI sp) (e2 : xd = nI dp) (e3 : xn = nI n) (h4 : sp + n ≤ n0) (h5 : dp + n ≤ n1) (hn0 : n0 < 2 ^ 31) (hn1 : n1 < 2 ^ 31) (hfit : ∀ i, i < n → fits ty (.int (f (sp + i))) = true)
    (hR : 1 ≤ R.frames ∧ (st.map fun v => v.category).sum + (nativeFrameWords "java/lang/System" "arraycopy" 5 + 11) ≤ R.locals) (kk : J G (cc, own, nL, ret, nm, R, xt) Q mc ms cells slots r (j_set h i1 (.inl (c1, n1, .inl (va_cpy f g sp dp n)))) nx (pc + 3) L st) : J G (cc, own, nL, ret, nm, R, xt) Q mc ms cells slots r h nx pc L (.int xn :: .int xd :: .ref (r i1) :: .int xs :: .ref (r i0) :: st) := by
  intro p e s m args below meth c E H locs ls hH hlo hL
  obtain ⟨hx, hb, hr, hlk, hnm, hml, hown, hts, hK, hxt⟩ := id E
  subst e1; subst e2; subst e3
  have k1 : (nI sp).toNatClampNeg = sp := nI_clamp (by omega)
  have k2 : (nI dp).toNatClampNeg = dp := nI_clamp (by omega)
  have k3 : (nI n).toNatClampNeg = n := nI_clamp (by omega)
  have b1 : ¬ nI sp < 0 := nI_pos (by omega)
  have b2 : ¬ nI dp < 0 := nI_pos (by omega)
  have b3 : ¬ nI n < 0 := nI_pos (by omega)
  have v1 : (nI sp).toInt = (sp : Int) := nI_toInt (by omega)
  have v2 : (nI dp).toInt = (dp : Int) := nI_toInt (by omega)
  have v3 : (nI n).toInt = (n : Int) := nI_toInt (by omega)
  intro T hT X
  have hat := hH.2.2.2.1 i1 _ hi1
  have hc0 : H[r i0]? = some (vp_cell c0 (n0, .inl f)) := (hH.2.2.2.1 i0 _ hi0).2
  have hc1 : H[r i1]? = some (vp_cell c1 (n1, .inl g)) := hat.2
  obtain ⟨-, k0, hk0, cm0, hkk0⟩ := (hK.1.2 t0 _ ht0).1 n0 (fun j => .int (f j))
  obtain ⟨-, k4, hk1, cm1, hkk1⟩ := (hK.1.2 t0 _ ht1).1 n1 (fun j => .int (g j))
  obtain ⟨vm', X', step⟩ := X.arraycopy hx hown (hts _ hw) (hts _ q343) (hts _ q342) (hts _ q73) (src := r i0) (dst := r i1) (cs := vp_cell c0 (n0, .inl f)) (cd := vp_cell c1 (n1, .inl g)) (srcPos := nI sp) (destPos := nI dp) (n := nI n) (by rw [hT]; exact hc0) (by rw [hT]; exact hc1)
    (fun _ h => by cases h) (fun _ h => by cases h) (fun h => by cases h) (fun h => by cases h) hk0 hk1 hkk0 hkk1 (by simp [hprim]) b1 b2 b3
    (by rw [v1, v3]; show ¬ _ > ((arrV c0 n0 (fun j => .int (f j))).slots.size : Int); rw [arrV_size]; omega)
    (by rw [v2, v3]; show ¬ _ > ((arrV c1 n1 (fun j => .int (g j))).slots.size : Int); rw [arrV_size]; omega)
    (fun vm₁ _ i hi => by
      rw [k3] at hi
      have e : (vp_cell c0 (n0, .inl f)).slots.getD ((nI sp).toNatClampNeg + i) .null = .int (f (sp + i)) := by
        show (arrV c0 n0 (fun j => .int (f j))).slots.getD _ _ = _
        rw [Array.getD_eq_getD_getElem?, k1, arrV_read _ _ (by omega)]
        rfl
      refine ⟨?_, ?_⟩
      · rw [e]
        exact hfit i hi
      · rw [e]
        exact trivial)
    (g := F0 m pc ls (.int (nI n) :: .int (nI dp) :: .ref (r i1) :: .int (nI sp) :: .ref (r i0) :: st)) rfl (by rw [hml]; exact hL.1) (rest := st) rfl (by rw [hb]; exact hd) hR.1 (by show 2 * 0 + (List.map (fun v => v.category) st).sum + _ ≤ R.locals; have := hR.2; omega)
  have e1 : copied (vp_cell c0 (n0, .inl f)) (vp_cell c1 (n1, .inl g)) (nI sp) (nI dp) (nI n) = vp_cell c1 (n1, .inl (va_cpy f g sp dp n)) := by
    show (arrV c1 n1 (fun j => Value.int (g j))).storeRun (nI dp).toNatClampNeg ((arrV c0 n0 (fun j => Value.int (f j))).stretch (nI sp).toNatClampNeg (nI n).toNatClampNeg) = _
    rw [k1, k2, k3]
    exact va_copied (fun z => Value.int z) c0 c1 f g h4
  rw [e1] at X' step
  have hl : r i1 < H.size := (Array.getElem?_eq_some_iff.mp hc1).1
  have hheap : ((T.setVm vm').setCell (r i1) (vp_cell c1 (n1, .inl (va_cpy f g sp dp n)))).heap = H.setIfInBounds (r i1) (vp_cell c1 (n1, .inl (va_cpy f g sp dp n))) := by rw [← hT]; rfl
  have oq : ∀ q : Nat, q ≠ r i1 → (H.setIfInBounds (r i1) (vp_cell c1 (n1, .inl (va_cpy f g sp dp n))))[q]? = H[q]? := fun q hq => by simp [Array.getElem?_setIfInBounds, Ne.symm hq]
  obtain ⟨t, a1, b9⟩ := kk p e s m args below meth c E _ _ ls (hH.set hi1 (show (H.setIfInBounds (r i1) _)[r i1]? = some _ by simp [Array.getElem?_setIfInBounds, hl]) (by simp) oq) (fun q hq => by
      rcases List.mem_append.mp hq with h | h
      · exact hlo q h
      · obtain ⟨z, -, hz⟩ := List.mem_map.mp h
        rw [← hz]
        exact hat.1) hL _ hheap X'
  exact ⟨t, step t a1, b9⟩
end JM
section JLP
variable {G : j_G} {cc : ByteArray} {own : String} {nL : Nat} {ret : Option FieldType} {nm : String} {R : Room} {xt : Code → Prop} {Q : j_Q} {mc ms cells slots : Nat} {r : Nat → Nat} {nx pc : Nat} {st : List Value}
theorem j_lp1 {A1 : Type} (hF : A1 → j_H) (LF : A1 → List (Option Value)) (I : A1 → Prop) (μ : A1 → Nat) (hs : ∀ (a1 : A1), I a1 → (∀ (b1 : A1), I b1 → μ b1 < μ a1 → J G (cc, own, nL, ret, nm, R, xt) Q mc ms cells slots r (hF b1) nx pc (LF b1) st) → J G (cc, own, nL, ret, nm, R, xt) Q mc ms cells slots r (hF a1) nx pc (LF a1) st) (a1 : A1) (h0 : I a1) : J G (cc, own, nL, ret, nm, R, xt) Q mc ms cells slots r (hF a1) nx pc (LF a1) st := by
  have key : ∀ (k : Nat) (a1 : A1), μ a1 < k → I a1 → J G (cc, own, nL, ret, nm, R, xt) Q mc ms cells slots r (hF a1) nx pc (LF a1) st := by
    intro k
    induction k with
    | zero => intro a1 hk; exact absurd hk (Nat.not_lt_zero _)
    | succ k ih =>
      intro a1 hk hI
      exact hs a1 hI (fun b1 hb hm => ih b1 (by omega) hb)
  exact key (μ a1 + 1) a1 (by omega) h0
theorem j_lp2 {A1 A2 : Type} (hF : A1 → A2 → j_H) (LF : A1 → A2 → List (Option Value)) (I : A1 → A2 → Prop) (μ : A1 → A2 → Nat) (hs : ∀ (a1 : A1) (a2 : A2), I a1 a2 → (∀ (b1 : A1) (b2 : A2), I b1 b2 → μ b1 b2 < μ a1 a2 → J G (cc, own, nL, ret, nm, R, xt) Q mc ms cells slots r (hF b1 b2) nx pc (LF b1 b2) st) → J G (cc, own, nL, ret, nm, R, xt) Q mc ms cells slots r (hF a1 a2) nx pc (LF a1 a2) st) (a1 : A1) (a2 : A2) (h0 : I a1 a2) : J G (cc, own, nL, ret, nm, R, xt) Q mc ms cells slots r (hF a1 a2) nx pc (LF a1 a2) st := by
  have key : ∀ (k : Nat) (a1 : A1) (a2 : A2), μ a1 a2 < k → I a1 a2 → J G (cc, own, nL, ret, nm, R, xt) Q mc ms cells slots r (hF a1 a2) nx pc (LF a1 a2) st := by
    intro k
    induction k with
    | zero => intro a1 a2 hk; exact absurd hk (Nat.not_lt_zero _)
    | succ k ih =>
      intro a1 a2 hk hI
      exact hs a1 a2 hI (fun b1 b2 hb hm => ih b1 b2 (by omega) hb)
  exact key (μ a1 a2 + 1) a1 a2 (by omega) h0
theorem j_lp3 {A1 A2 A3 : Type} (hF : A1 → A2 → A3 → j_H) (LF : A1 → A2 → A3 → List (Option Value)) (I : A1 → A2 → A3 → Prop) (μ : A1 → A2 → A3 → Nat) (hs : ∀ (a1 : A1) (a2 : A2) (a3 : A3), I a1 a2 a3 → (∀ (b1 : A1) (b2 : A2) (b3 : A3), I b1 b2 b3 → μ b1 b2 b3 < μ a1 a2 a3 → J G (cc, own, nL, ret, nm, R, xt) Q mc ms cells slots r (hF b1 b2 b3) nx pc (LF b1 b2 b3) st) → J G (cc, own, nL, ret, nm, R, xt) Q mc ms cells slots r (hF a1 a2 a3) nx pc (LF a1 a2 a3) st) (a1 : A1) (a2 : A2) (a3 : A3) (h0 : I a1 a2 a3) : J G (cc, own, nL, ret, nm, R, xt) Q mc ms cells slots r (hF a1 a2 a3) nx pc (LF a1 a2 a3) st := by
  have key : ∀ (k : Nat) (a1 : A1) (a2 : A2) (a3 : A3), μ a1 a2 a3 < k → I a1 a2 a3 → J G (cc, own, nL, ret, nm, R, xt) Q mc ms cells slots r (hF a1 a2 a3) nx pc (LF a1 a2 a3) st := by
    intro k
    induction k with
    | zero => intro a1 a2 a3 hk; exact absurd hk (Nat.not_lt_zero _)
    | succ k ih =>
      intro a1 a2 a3 hk hI
      exact hs a1 a2 a3 hI (fun b1 b2 b3 hb hm => ih b1 b2 b3 (by omega) hb)
  exact key (μ a1 a2 a3 + 1) a1 a2 a3 (by omega) h0
theorem j_lp4 {A1 A2 A3 A4 : Type} (hF : A1 → A2 → A3 → A4 → j_H) (LF : A1 → A2 → A3 → A4 → List (Option Value)) (I : A1 → A2 → A3 → A4 → Prop) (μ : A1 → A2 → A3 → A4 → Nat) (hs : ∀ (a1 : A1) (a2 : A2) (a3 : A3) (a4 : A4), I a1 a2 a3 a4 → (∀ (b1 : A1) (b2 : A2) (b3 : A3) (b4 : A4), I b1 b2 b3 b4 → μ b1 b2 b3 b4 < μ a1 a2 a3 a4 → J G (cc, own, nL, ret, nm, R, xt) Q mc ms cells slots r (hF b1 b2 b3 b4) nx pc (LF b1 b2 b3 b4) st) → J G (cc, own, nL, ret, nm, R, xt) Q mc ms cells slots r (hF a1 a2 a3 a4) nx pc (LF a1 a2 a3 a4) st) (a1 : A1) (a2 : A2) (a3 : A3) (a4 : A4) (h0 : I a1 a2 a3 a4) : J G (cc, own, nL, ret, nm, R, xt) Q mc ms cells slots r (hF a1 a2 a3 a4) nx pc (LF a1 a2 a3 a4) st := by
  have key : ∀ (k : Nat) (a1 : A1) (a2 : A2) (a3 : A3) (a4 : A4), μ a1 a2 a3 a4 < k → I a1 a2 a3 a4 → J G (cc, own, nL, ret, nm, R, xt) Q mc ms cells slots r (hF a1 a2 a3 a4) nx pc (LF a1 a2 a3 a4) st := by
    intro k
    induction k with
    | zero => intro a1 a2 a3 a4 hk; exact absurd hk (Nat.not_lt_zero _)
    | succ k ih =>
      intro a1 a2 a3 a4 hk hI
      exact hs a1 a2 a3 a4 hI (fun b1 b2 b3 b4 hb hm => ih b1 b2 b3 b4 (by omega) hb)
  exact key (μ a1 a2 a3 a4 + 1) a1 a2 a3 a4 (by omega) h0
theorem j_lp5 {A1 A2 A3 A4 A5 : Type} (hF : A1 → A2 → A3 → A4 → A5 → j_H) (LF : A1 → A2 → A3 → A4 → A5 → List (Option Value)) (I : A1 → A2 → A3 → A4 → A5 → Prop) (μ : A1 → A2 → A3 → A4 → A5 → Nat) (hs : ∀ (a1 : A1) (a2 : A2) (a3 : A3) (a4 : A4) (a5 : A5), I a1 a2 a3 a4 a5 → (∀ (b1 : A1) (b2 : A2) (b3 : A3) (b4 : A4) (b5 : A5), I b1 b2 b3 b4 b5 → μ b1 b2 b3 b4 b5 < μ a1 a2 a3 a4 a5 → J G (cc, own, nL, ret, nm, R, xt) Q mc ms cells slots r (hF b1 b2 b3 b4 b5) nx pc (LF b1 b2 b3 b4 b5) st) → J G (cc, own, nL, ret, nm, R, xt) Q mc ms cells slots r (hF a1 a2 a3 a4 a5) nx pc (LF a1 a2 a3 a4 a5) st) (a1 : A1) (a2 : A2) (a3 : A3) (a4 : A4) (a5 : A5) (h0 : I a1 a2 a3 a4 a5) : J G (cc, own, nL, ret, nm, R, xt) Q mc ms cells slots r (hF a1 a2 a3 a4 a5) nx pc (LF a1 a2 a3 a4 a5) st := by
  have key : ∀ (k : Nat) (a1 : A1) (a2 : A2) (a3 : A3) (a4 : A4) (a5 : A5), μ a1 a2 a3 a4 a5 < k → I a1 a2 a3 a4 a5 → J G (cc, own, nL, ret, nm, R, xt) Q mc ms cells slots r (hF a1 a2 a3 a4 a5) nx pc (LF a1 a2 a3 a4 a5) st := by
    intro k
    induction k with
    | zero => intro a1 a2 a3 a4 a5 hk; exact absurd hk (Nat.not_lt_zero _)
    | succ k ih =>
      intro a1 a2 a3 a4 a5 hk hI
      exact hs a1 a2 a3 a4 a5 hI (fun b1 b2 b3 b4 b5 hb hm => ih b1 b2 b3 b4 b5 (by omega) hb)
  exact key (μ a1 a2 a3 a4 a5 + 1) a1 a2 a3 a4 a5 (by omega) h0
theorem j_lp6 {A1 A2 A3 A4 A5 A6 : Type} (hF : A1 → A2 → A3 → A4 → A5 → A6 → j_H) (LF : A1 → A2 → A3 → A4 → A5 → A6 → List (Option Value)) (I : A1 → A2 → A3 → A4 → A5 → A6 → Prop) (μ : A1 → A2 → A3 → A4 → A5 → A6 → Nat) (hs : ∀ (a1 : A1) (a2 : A2) (a3 : A3) (a4 : A4) (a5 : A5) (a6 : A6), I a1 a2 a3 a4 a5 a6 → (∀ (b1 : A1) (b2 : A2) (b3 : A3) (b4 : A4) (b5 : A5) (b6 : A6), I b1 b2 b3 b4 b5 b6 → μ b1 b2 b3 b4 b5 b6 < μ a1 a2 a3 a4 a5 a6 → J G (cc, own, nL, ret, nm, R, xt) Q mc ms cells slots r (hF b1 b2 b3 b4 b5 b6) nx pc (LF b1 b2 b3 b4 b5 b6) st) → J G (cc, own, nL, ret, nm, R, xt) Q mc ms cells slots r (hF a1 a2 a3 a4 a5 a6) nx pc (LF a1 a2 a3 a4 a5 a6) st) (a1 : A1) (a2 : A2) (a3 : A3) (a4 : A4) (a5 : A5) (a6 : A6) (h0 : I a1 a2 a3 a4 a5 a6) : J G (cc, own, nL, ret, nm, R, xt) Q mc ms cells slots r (hF a1 a2 a3 a4 a5 a6) nx pc (LF a1 a2 a3 a4 a5 a6) st := by
  have key : ∀ (k : Nat) (a1 : A1) (a2 : A2) (a3 : A3) (a4 : A4) (a5 : A5) (a6 : A6), μ a1 a2 a3 a4 a5 a6 < k → I a1 a2 a3 a4 a5 a6 → J G (cc, own, nL, ret, nm, R, xt) Q mc ms cells slots r (hF a1 a2 a3 a4 a5 a6) nx pc (LF a1 a2 a3 a4 a5 a6) st := by
    intro k
    induction k with
    | zero => intro a1 a2 a3 a4 a5 a6 hk; exact absurd hk (Nat.not_lt_zero _)
    | succ k ih =>
      intro a1 a2 a3 a4 a5 a6 hk hI
      exact hs a1 a2 a3 a4 a5 a6 hI (fun b1 b2 b3 b4 b5 b6 hb hm => ih b1 b2 b3 b4 b5 b6 (by omega) hb)
  exact key (μ a1 a2 a3 a4 a5 a6 + 1) a1 a2 a3 a4 a5 a6 (by omega) h0
theorem j_lp7 {A1 A2 A3 A4 A5 A6 A7 : Type} (hF : A1 → A2 → A3 → A4 → A5 → A6 → A7 → j_H) (LF : A1 → A2 → A3 → A4 → A5 → A6 → A7 → List (Option Value)) (I : A1 → A2 → A3 → A4 → A5 → A6 → A7 → Prop) (μ : A1 → A2 → A3 → A4 → A5 → A6 → A7 → Nat) (hs : ∀ (a1 : A1) (a2 : A2) (a3 : A3) (a4 : A4) (a5 : A5) (a6 : A6) (a7 : A7), I a1 a2 a3 a4 a5 a6 a7 → (∀ (b1 : A1) (b2 : A2) (b3 : A3) (b4 : A4) (b5 : A5) (b6 : A6) (b7 : A7), I b1 b2 b3 b4 b5 b6 b7 → μ b1 b2 b3 b4 b5 b6 b7 < μ a1 a2 a3 a4 a5 a6 a7 → J G (cc, own, nL, ret, nm, R, xt) Q mc ms cells slots r (hF b1 b2 b3 b4 b5 b6 b7) nx pc (LF b1 b2 b3 b4 b5 b6 b7) st) → J G (cc, own, nL, ret, nm, R, xt) Q mc ms cells slots r (hF a1 a2 a3 a4 a5 a6 a7) nx pc (LF a1 a2 a3 a4 a5 a6 a7) st) (a1 : A1) (a2 : A2) (a3 : A3) (a4 : A4) (a5 : A5) (a6 : A6) (a7 : A7) (h0 : I a1 a2 a3 a4 a5 a6 a7) : J G (cc, own, nL, ret, nm, R, xt) Q mc ms cells slots r (hF a1 a2 a3 a4 a5 a6 a7) nx pc (LF a1 a2 a3 a4 a5 a6 a7) st := by
  have key : ∀ (k : Nat) (a1 : A1) (a2 : A2) (a3 : A3) (a4 : A4) (a5 : A5) (a6 : A6) (a7 : A7), μ a1 a2 a3 a4 a5 a6 a7 < k → I a1 a2 a3 a4 a5 a6 a7 → J G (cc, own, nL, ret, nm, R, xt) Q mc ms cells slots r (hF a1 a2 a3 a4 a5 a6 a7) nx pc (LF a1 a2 a3 a4 a5 a6 a7) st := by
    intro k
    induction k with
    | zero => intro a1 a2 a3 a4 a5 a6 a7 hk; exact absurd hk (Nat.not_lt_zero _)
    | succ k ih =>
      intro a1 a2 a3 a4 a5 a6 a7 hk hI
      exact hs a1 a2 a3 a4 a5 a6 a7 hI (fun b1 b2 b3 b4 b5 b6 b7 hb hm => ih b1 b2 b3 b4 b5 b6 b7 (by omega) hb)
  exact key (μ a1 a2 a3 a4 a5 a6 a7 + 1) a1 a2 a3 a4 a5 a6 a7 (by omega) h0
theorem j_lp8 {A1 A2 A3 A4 A5 A6 A7 A8 : Type} (hF : A1 → A2 → A3 → A4 → A5 → A6 → A7 → A8 → j_H) (LF : A1 → A2 → A3 → A4 → A5 → A6 → A7 → A8 → List (Option Value)) (I : A1 → A2 → A3 → A4 → A5 → A6 → A7 → A8 → Prop) (μ : A1 → A2 → A3 → A4 → A5 → A6 → A7 → A8 → Nat) (hs : ∀ (a1 : A1) (a2 : A2) (a3 : A3) (a4 : A4) (a5 : A5) (a6 : A6) (a7 : A7) (a8 : A8), I a1 a2 a3 a4 a5 a6 a7 a8 → (∀ (b1 : A1) (b2 : A2) (b3 : A3) (b4 : A4) (b5 : A5) (b6 : A6) (b7 : A7) (b8 : A8), I b1 b2 b3 b4 b5 b6 b7 b8 → μ b1 b2 b3 b4 b5 b6 b7 b8 < μ a1 a2 a3 a4 a5 a6 a7 a8 → J G (cc, own, nL, ret, nm, R, xt) Q mc ms cells slots r (hF b1 b2 b3 b4 b5 b6 b7 b8) nx pc (LF b1 b2 b3 b4 b5 b6 b7 b8) st) → J G (cc, own, nL, ret, nm, R, xt) Q mc ms cells slots r (hF a1 a2 a3 a4 a5 a6 a7 a8) nx pc (LF a1 a2 a3 a4 a5 a6 a7 a8) st) (a1 : A1) (a2 : A2) (a3 : A3) (a4 : A4) (a5 : A5) (a6 : A6) (a7 : A7) (a8 : A8) (h0 : I a1 a2 a3 a4 a5 a6 a7 a8) : J G (cc, own, nL, ret, nm, R, xt) Q mc ms cells slots r (hF a1 a2 a3 a4 a5 a6 a7 a8) nx pc (LF a1 a2 a3 a4 a5 a6 a7 a8) st := by
  have key : ∀ (k : Nat) (a1 : A1) (a2 : A2) (a3 : A3) (a4 : A4) (a5 : A5) (a6 : A6) (a7 : A7) (a8 : A8), μ a1 a2 a3 a4 a5 a6 a7 a8 < k → I a1 a2 a3 a4 a5 a6 a7 a8 → J G (cc, own, nL, ret, nm, R, xt) Q mc ms cells slots r (hF a1 a2 a3 a4 a5 a6 a7 a8) nx pc (LF a1 a2 a3 a4 a5 a6 a7 a8) st := by
    intro k
    induction k with
    | zero => intro a1 a2 a3 a4 a5 a6 a7 a8 hk; exact absurd hk (Nat.not_lt_zero _)
    | succ k ih =>
      intro a1 a2 a3 a4 a5 a6 a7 a8 hk hI
      exact hs a1 a2 a3 a4 a5 a6 a7 a8 hI (fun b1 b2 b3 b4 b5 b6 b7 b8 hb hm => ih b1 b2 b3 b4 b5 b6 b7 b8 (by omega) hb)
  exact key (μ a1 a2 a3 a4 a5 a6 a7 a8 + 1) a1 a2 a3 a4 a5 a6 a7 a8 (by omega) h0
theorem j_lp9 {A1 A2 A3 A4 A5 A6 A7 A8 A9 : Type} (hF : A1 → A2 → A3 → A4 → A5 → A6 → A7 → A8 → A9 → j_H) (LF : A1 → A2 → A3 → A4 → A5 → A6 → A7 → A8 → A9 → List (Option Value)) (I : A1 → A2 → A3 → A4 → A5 → A6 → A7 → A8 → A9 → Prop) (μ : A1 → A2 → A3 → A4 → A5 → A6 → A7 → A8 → A9 → Nat) (hs : ∀ (a1 : A1) (a2 : A2) (a3 : A3) (a4 : A4) (a5 : A5) (a6 : A6) (a7 : A7) (a8 : A8) (a9 : A9), I a1 a2 a3 a4 a5 a6 a7 a8 a9 → (∀ (b1 : A1) (b2 : A2) (b3 : A3) (b4 : A4) (b5 : A5) (b6 : A6) (b7 : A7) (b8 : A8) (b9 : A9), I b1 b2 b3 b4 b5 b6 b7 b8 b9 → μ b1 b2 b3 b4 b5 b6 b7 b8 b9 < μ a1 a2 a3 a4 a5 a6 a7 a8 a9 → J G (cc, own, nL, ret, nm, R, xt) Q mc ms cells slots r (hF b1 b2 b3 b4 b5 b6 b7 b8 b9) nx pc (LF b1 b2 b3 b4 b5 b6 b7 b8 b9) st) → J G (cc, own, nL, ret, nm, R, xt) Q mc ms cells slots r (hF a1 a2 a3 a4 a5 a6 a7 a8 a9) nx pc (LF a1 a2 a3 a4 a5 a6 a7 a8 a9) st) (a1 : A1) (a2 : A2) (a3 : A3) (a4 : A4) (a5 : A5) (a6 : A6) (a7 : A7) (a8 : A8) (a9 : A9) (h0 : I a1 a2 a3 a4 a5 a6 a7 a8 a9) : J G (cc, own, nL, ret, nm, R, xt) Q mc ms cells slots r (hF a1 a2 a3 a4 a5 a6 a7 a8 a9) nx pc (LF a1 a2 a3 a4 a5 a6 a7 a8 a9) st := by
  have key : ∀ (k : Nat) (a1 : A1) (a2 : A2) (a3 : A3) (a4 : A4) (a5 : A5) (a6 : A6) (a7 : A7) (a8 : A8) (a9 : A9), μ a1 a2 a3 a4 a5 a6 a7 a8 a9 < k → I a1 a2 a3 a4 a5 a6 a7 a8 a9 → J G (cc, own, nL, ret, nm, R, xt) Q mc ms cells slots r (hF a1 a2 a3 a4 a5 a6 a7 a8 a9) nx pc (LF a1 a2 a3 a4 a5 a6 a7 a8 a9) st := by
    intro k
    induction k with
    | zero => intro a1 a2 a3 a4 a5 a6 a7 a8 a9 hk; exact absurd hk (Nat.not_lt_zero _)
    | succ k ih =>
      intro a1 a2 a3 a4 a5 a6 a7 a8 a9 hk hI
      exact hs a1 a2 a3 a4 a5 a6 a7 a8 a9 hI (fun b1 b2 b3 b4 b5 b6 b7 b8 b9 hb hm => ih b1 b2 b3 b4 b5 b6 b7 b8 b9 (by omega) hb)
  exact key (μ a1 a2 a3 a4 a5 a6 a7 a8 a9 + 1) a1 a2 a3 a4 a5 a6 a7 a8 a9 (by omega) h0
theorem j_lp10 {A1 A2 A3 A4 A5 A6 A7 A8 A9 A10 : Type} (hF : A1 → A2 → A3 → A4 → A5 → A6 → A7 → A8 → A9 → A10 → j_H) (LF : A1 → A2 → A3 → A4 → A5 → A6 → A7 → A8 → A9 → A10 → List (Option Value)) (I : A1 → A2 → A3 → A4 → A5 → A6 → A7 → A8 → A9 → A10 → Prop) (μ : A1 → A2 → A3 → A4 → A5 → A6 → A7 → A8 → A9 → A10 → Nat) (hs : ∀ (a1 : A1) (a2 : A2) (a3 : A3) (a4 : A4) (a5 : A5) (a6 : A6) (a7 : A7) (a8 : A8) (a9 : A9) (a10 : A10), I a1 a2 a3 a4 a5 a6 a7 a8 a9 a10 → (∀ (b1 : A1) (b2 : A2) (b3 : A3) (b4 : A4) (b5 : A5) (b6 : A6) (b7 : A7) (b8 : A8) (b9 : A9) (b10 : A10), I b1 b2 b3 b4 b5 b6 b7 b8 b9 b10 → μ b1 b2 b3 b4 b5 b6 b7 b8 b9 b10 < μ a1 a2 a3 a4 a5 a6 a7 a8 a9 a10 → J G (cc, own, nL, ret, nm, R, xt) Q mc ms cells slots r (hF b1 b2 b3 b4 b5 b6 b7 b8 b9 b10) nx pc (LF b1 b2 b3 b4 b5 b6 b7 b8 b9 b10) st) → J G (cc, own, nL, ret, nm, R, xt) Q mc ms cells slots r (hF a1 a2 a3 a4 a5 a6 a7 a8 a9 a10) nx pc (LF a1 a2 a3 a4 a5 a6 a7 a8 a9 a10) st) (a1 : A1) (a2 : A2) (a3 : A3) (a4 : A4) (a5 : A5) (a6 : A6) (a7 : A7) (a8 : A8) (a9 : A9) (a10 : A10) (h0 : I a1 a2 a3 a4 a5 a6 a7 a8 a9 a10) : J G (cc, own, nL, ret, nm, R, xt) Q mc ms cells slots r (hF a1 a2 a3 a4 a5 a6 a7 a8 a9 a10) nx pc (LF a1 a2 a3 a4 a5 a6 a7 a8 a9 a10) st := by
  have key : ∀ (k : Nat) (a1 : A1) (a2 : A2) (a3 : A3) (a4 : A4) (a5 : A5) (a6 : A6) (a7 : A7) (a8 : A8) (a9 : A9) (a10 : A10), μ a1 a2 a3 a4 a5 a6 a7 a8 a9 a10 < k → I a1 a2 a3 a4 a5 a6 a7 a8 a9 a10 → J G (cc, own, nL, ret, nm, R, xt) Q mc ms cells slots r (hF a1 a2 a3 a4 a5 a6 a7 a8 a9 a10) nx pc (LF a1 a2 a3 a4 a5 a6 a7 a8 a9 a10) st := by
    intro k
    induction k with
    | zero => intro a1 a2 a3 a4 a5 a6 a7 a8 a9 a10 hk; exact absurd hk (Nat.not_lt_zero _)
    | succ k ih =>
      intro a1 a2 a3 a4 a5 a6 a7 a8 a9 a10 hk hI
      exact hs a1 a2 a3 a4 a5 a6 a7 a8 a9 a10 hI (fun b1 b2 b3 b4 b5 b6 b7 b8 b9 b10 hb hm => ih b1 b2 b3 b4 b5 b6 b7 b8 b9 b10 (by omega) hb)
  exact key (μ a1 a2 a3 a4 a5 a6 a7 a8 a9 a10 + 1) a1 a2 a3 a4 a5 a6 a7 a8 a9 a10 (by omega) h0
theorem j_lp11 {A1 A2 A3 A4 A5 A6 A7 A8 A9 A10 A11 : Type} (hF : A1 → A2 → A3 → A4 → A5 → A6 → A7 → A8 → A9 → A10 → A11 → j_H) (LF : A1 → A2 → A3 → A4 → A5 → A6 → A7 → A8 → A9 → A10 → A11 → List (Option Value)) (I : A1 → A2 → A3 → A4 → A5 → A6 → A7 → A8 → A9 → A10 → A11 → Prop) (μ : A1 → A2 → A3 → A4 → A5 → A6 → A7 → A8 → A9 → A10 → A11 → Nat) (hs : ∀ (a1 : A1) (a2 : A2) (a3 : A3) (a4 : A4) (a5 : A5) (a6 : A6) (a7 : A7) (a8 : A8) (a9 : A9) (a10 : A10) (a11 : A11), I a1 a2 a3 a4 a5 a6 a7 a8 a9 a10 a11 → (∀ (b1 : A1) (b2 : A2) (b3 : A3) (b4 : A4) (b5 : A5) (b6 : A6) (b7 : A7) (b8 : A8) (b9 : A9) (b10 : A10) (b11 : A11), I b1 b2 b3 b4 b5 b6 b7 b8 b9 b10 b11 → μ b1 b2 b3 b4 b5 b6 b7 b8 b9 b10 b11 < μ a1 a2 a3 a4 a5 a6 a7 a8 a9 a10 a11 → J G (cc, own, nL, ret, nm, R, xt) Q mc ms cells slots r (hF b1 b2 b3 b4 b5 b6 b7 b8 b9 b10 b11) nx pc (LF b1 b2 b3 b4 b5 b6 b7 b8 b9 b10 b11) st) → J G (cc, own, nL, ret, nm, R, xt) Q mc ms cells slots r (hF a1 a2 a3 a4 a5 a6 a7 a8 a9 a10 a11) nx pc (LF a1 a2 a3 a4 a5 a6 a7 a8 a9 a10 a11) st) (a1 : A1) (a2 : A2) (a3 : A3) (a4 : A4) (a5 : A5) (a6 : A6) (a7 : A7) (a8 : A8) (a9 : A9) (a10 : A10) (a11 : A11) (h0 : I a1 a2 a3 a4 a5 a6 a7 a8 a9 a10 a11) : J G (cc, own, nL, ret, nm, R, xt) Q mc ms cells slots r (hF a1 a2 a3 a4 a5 a6 a7 a8 a9 a10 a11) nx pc (LF a1 a2 a3 a4 a5 a6 a7 a8 a9 a10 a11) st := by
  have key : ∀ (k : Nat) (a1 : A1) (a2 : A2) (a3 : A3) (a4 : A4) (a5 : A5) (a6 : A6) (a7 : A7) (a8 : A8) (a9 : A9) (a10 : A10) (a11 : A11), μ a1 a2 a3 a4 a5 a6 a7 a8 a9 a10 a11 < k → I a1 a2 a3 a4 a5 a6 a7 a8 a9 a10 a11 → J G (cc, own, nL, ret, nm, R, xt) Q mc ms cells slots r (hF a1 a2 a3 a4 a5 a6 a7 a8 a9 a10 a11) nx pc (LF a1 a2 a3 a4 a5 a6 a7 a8 a9 a10 a11) st := by
    intro k
    induction k with
    | zero => intro a1 a2 a3 a4 a5 a6 a7 a8 a9 a10 a11 hk; exact absurd hk (Nat.not_lt_zero _)
    | succ k ih =>
      intro a1 a2 a3 a4 a5 a6 a7 a8 a9 a10 a11 hk hI
      exact hs a1 a2 a3 a4 a5 a6 a7 a8 a9 a10 a11 hI (fun b1 b2 b3 b4 b5 b6 b7 b8 b9 b10 b11 hb hm => ih b1 b2 b3 b4 b5 b6 b7 b8 b9 b10 b11 (by omega) hb)
  exact key (μ a1 a2 a3 a4 a5 a6 a7 a8 a9 a10 a11 + 1) a1 a2 a3 a4 a5 a6 a7 a8 a9 a10 a11 (by omega) h0
theorem j_lp12 {A1 A2 A3 A4 A5 A6 A7 A8 A9 A10 A11 A12 : Type} (hF : A1 → A2 → A3 → A4 → A5 → A6 → A7 → A8 → A9 → A10 → A11 → A12 → j_H) (LF : A1 → A2 → A3 → A4 → A5 → A6 → A7 → A8 → A9 → A10 → A11 → A12 → List (Option Value)) (I : A1 → A2 → A3 → A4 → A5 → A6 → A7 → A8 → A9 → A10 → A11 → A12 → Prop) (μ : A1 → A2 → A3 → A4 → A5 → A6 → A7 → A8 → A9 → A10 → A11 → A12 → Nat) (hs : ∀ (a1 : A1) (a2 : A2) (a3 : A3) (a4 : A4) (a5 : A5) (a6 : A6) (a7 : A7) (a8 : A8) (a9 : A9) (a10 : A10) (a11 : A11) (a12 : A12), I a1 a2 a3 a4 a5 a6 a7 a8 a9 a10 a11 a12 → (∀ (b1 : A1) (b2 : A2) (b3 : A3) (b4 : A4) (b5 : A5) (b6 : A6) (b7 : A7) (b8 : A8) (b9 : A9) (b10 : A10) (b11 : A11) (b12 : A12), I b1 b2 b3 b4 b5 b6 b7 b8 b9 b10 b11 b12 → μ b1 b2 b3 b4 b5 b6 b7 b8 b9 b10 b11 b12 < μ a1 a2 a3 a4 a5 a6 a7 a8 a9 a10 a11 a12 → J G (cc, own, nL, ret, nm, R, xt) Q mc ms cells slots r (hF b1 b2 b3 b4 b5 b6 b7 b8 b9 b10 b11 b12) nx pc (LF b1 b2 b3 b4 b5 b6 b7 b8 b9 b10 b11 b12) st) → J G (cc, own, nL, ret, nm, R, xt) Q mc ms cells slots r (hF a1 a2 a3 a4 a5 a6 a7 a8 a9 a10 a11 a12) nx pc (LF a1 a2 a3 a4 a5 a6 a7 a8 a9 a10 a11 a12) st) (a1 : A1) (a2 : A2) (a3 : A3) (a4 : A4) (a5 : A5) (a6 : A6) (a7 : A7) (a8 : A8) (a9 : A9) (a10 : A10) (a11 : A11) (a12 : A12) (h0 : I a1 a2 a3 a4 a5 a6 a7 a8 a9 a10 a11 a12) : J G (cc, own, nL, ret, nm, R, xt) Q mc ms cells slots r (hF a1 a2 a3 a4 a5 a6 a7 a8 a9 a10 a11 a12) nx pc (LF a1 a2 a3 a4 a5 a6 a7 a8 a9 a10 a11 a12) st := by
  have key : ∀ (k : Nat) (a1 : A1) (a2 : A2) (a3 : A3) (a4 : A4) (a5 : A5) (a6 : A6) (a7 : A7) (a8 : A8) (a9 : A9) (a10 : A10) (a11 : A11) (a12 : A12), μ a1 a2 a3 a4 a5 a6 a7 a8 a9 a10 a11 a12 < k → I a1 a2 a3 a4 a5 a6 a7 a8 a9 a10 a11 a12 → J G (cc, own, nL, ret, nm, R, xt) Q mc ms cells slots r (hF a1 a2 a3 a4 a5 a6 a7 a8 a9 a10 a11 a12) nx pc (LF a1 a2 a3 a4 a5 a6 a7 a8 a9 a10 a11 a12) st := by
    intro k
    induction k with
    | zero => intro a1 a2 a3 a4 a5 a6 a7 a8 a9 a10 a11 a12 hk; exact absurd hk (Nat.not_lt_zero _)
    | succ k ih =>
      intro a1 a2 a3 a4 a5 a6 a7 a8 a9 a10 a11 a12 hk hI
      exact hs a1 a2 a3 a4 a5 a6 a7 a8 a9 a10 a11 a12 hI (fun b1 b2 b3 b4 b5 b6 b7 b8 b9 b10 b11 b12 hb hm => ih b1 b2 b3 b4 b5 b6 b7 b8 b9 b10 b11 b12 (by omega) hb)
  exact key (μ a1 a2 a3 a4 a5 a6 a7 a8 a9 a10 a11 a12 + 1) a1 a2 a3 a4 a5 a6 a7 a8 a9 a10 a11 a12 (by omega) h0
end JLP
