set_option maxRecDepth 100000
section JNQ
variable {G : j_G} {cc : ByteArray} {own : String} {nL : Nat} {ret : Option FieldType} {nm : String} {R : Room} {xt : Code → Prop} {Q : j_Q} {mc ms cells slots : Nat} {r : Nat → Nat} {h : j_H} {nx pc : Nat} {L : List (Option Value)} {st : List Value} {index n : Nat} {cA : ClassId}
/-- a new array of references (all null) under the id i, whose address is to be the heap's end -/
theorem j_newq (i t0 : Nat) (hq : r i = nx) {C : String} {x : Int32} (hd : decode cc pc = .ok (.anewarray index, 3)) (hw : Cond.classLink own index C ∈ lw_all) (hover : ∀ s : State, G.2.2.2.2.2 s → va_AO C s) (ht : G.2.2.2.1[t0]? = some (cA, .object C)) (hx0 : x = nI n) (hn : n < 2 ^ 31) (hbytes : n * 4 ≤ 536870912) (hcells : cells + 1 ≤ R.cells) (hslots : slots + n ≤ R.slots)
    (kk : J G (cc, own, nL, ret, nm, R, xt) Q mc ms (cells + 1) (slots + n) r (j_set h i (.inl (cA, n, .inr (.inr (.inr (.inr (fun _ => none))))))) (nx + 1) (pc + 3) L (.ref (r i) :: st)) : J G (cc, own, nL, ret, nm, R, xt) Q mc ms cells slots r h nx pc L (.int x :: st) := by
  intro p e s m args below meth c E H locs ls hH hlo hL
  obtain ⟨hx, hb, hr, hlk, hnm, hml, hown, hts, hK, hxt⟩ := id E
  have hcl : x.toNatClampNeg = n := by rw [hx0]; exact nI_clamp hn
  have hneg : ¬ x < 0 := by rw [hx0]; exact nI_pos hn
  refine W.anew hx hb hown (hts _ hw) (va_AO.use (hover s hK.2.1)) rfl hd rfl hneg (by rw [hcl]; exact hbytes) hcells (by rw [hcl]; exact hslots) fun c1 kA comp f1 f2 f3 f4 => ?_
  rw [hcl]
  obtain ⟨kB, cmB, k1, k2, k3, k4⟩ := (hK.1.2 t0 _ ht).2
  have hcA : c1 = cA := Option.some.inj (f1.symm.trans k4)
  subst hcA
  generalize hH1 : H.push ({ cls := c1, slots := Array.replicate n .null, vm := .none } : Cell) = H1
  have z1 : H1.size = H.size + 1 := by rw [← hH1, Array.size_push]
  have e1 : H1[H.size]? = some (arrV c1 n (fun _ => .null)) := by rw [← hH1, Array.getElem?_push_size, ← arrV_new]
  have o1 : ∀ q : Nat, q < H.size → H1[q]? = H[q]? := fun q hq => by rw [← hH1, Array.getElem?_push, if_neg (Nat.ne_of_lt hq)]
  have hsz : H.size = r i := by rw [hH.1, hq]
  rw [hsz] at e1 ⊢
  exact kk p e s m args below meth c E H1 locs ls (hH.push hq (show H1[r i]? = some (vp_cell _ _) by rw [vp_cell_q]; exact e1) z1 o1) hlo hL
end JNQ
set_option maxHeartbeats 4000000 in
theorem c_iReck {l : Launch} {D : va_G} {dT : Nat → ClassId} {H0 : Heap} {r : Nat → Nat} {h : j_H} {nx : Nat} (i j : Nat) (hij : i ≠ j) (hi : h i = some (.inr (1, [.null, .null, .int 0]))) (hj : r j = nx) : MC (gG l D dT H0) yX1_init cX1_init 1 none 1 1 9 [.ref (r i)] r h nx (jq_v r (j_set (j_set h j (.inl (dT 4, 9, .inr (.inr (.inr (.inr (fun _ => none))))))) i (rcell .null (r j) 0)) (nx + 1)) := by
  refine MC.ofJ [some (.ref (r i))] rfl (Nat.le_of_ble_eq_true rfl) (by decide) ?_
  refine j_aload_n dX1_init_0 rfl ?_
  refine j_objInit dX1_init_1 q101 q94 q95 (Nat.le_of_ble_eq_true rfl) (Nat.le_of_ble_eq_true rfl) ?_
  refine j_aload_n dX1_init_4 rfl ?_
  refine j_bipush (v := 9) dX1_init_5 (by decide) ?_
  refine j_newq (n := 9) j 4 hj dX1_init_7 q102 (fun _ hs => hs.2.1) rfl rfl (by decide) (by decide) (Nat.le_of_ble_eq_true rfl) (Nat.le_of_ble_eq_true rfl) ?_
  refine j_putF 1 dX1_init_10 (by rw [j_set_ne hij]; exact hi) in_X1 tyX1_ok nmX1 rfl (by decide) q106 rfl rfl rfl rfl rfl (by first | decide | simp) ?_
  refine j_vret dX1_init_13 rfl (Nat.le_of_ble_eq_true rfl) (Nat.le_of_ble_eq_true rfl) ?_
  exact jr_v rfl
set_option maxHeartbeats 4000000 in
theorem r_init {l : Launch} {D : va_G} {dT : Nat → ClassId} {H0 : Heap} {r : Nat → Nat} {h : j_H} {nx : Nat} (b n : Nat) (h200 : h 200 = some (.inr (4, [.null, .int 0, .null, .int 0, .int 0]))) (h1 : r 201 = nx) (h3 : r 203 = nx + 1) : MC (gG l D dT H0) yX4_init cX4_init 3 none 2 2 12 [.ref (r 200), .ref b, .int (nI n)] r h nx (jq_v r (j_set (j_set (j_set h 203 (.inl (dT 4, 9, .inr (.inr (.inr (.inr (fun _ => none))))))) 201 (rcell .null (r 203) 0)) 200 (rdC b n (r 201) 0 0)) (nx + 2)) := by
  refine MC.ofJ [some (.ref (r 200)), some (.ref b), some (.int (nI n))] rfl (Nat.le_of_ble_eq_true rfl) (by decide) ?_
  refine j_aload_n dX4_init_0 rfl ?_
  refine j_objInit dX4_init_1 q235 q94 q95 (Nat.le_of_ble_eq_true rfl) (Nat.le_of_ble_eq_true rfl) ?_
  refine j_aload_n dX4_init_4 rfl ?_
  refine j_new (ci := 1) (fs := [.null, .null, .int 0]) 201 h1 dX4_init_5 in_X1 tyX1_ok rfl q236 q97 q62 (fun j hj => by
    have hj3 : j = 0 ∨ j = 1 ∨ j = 2 := by have hj4 : j < 3 := hj; omega
    rcases hj3 with rfl | rfl | rfl <;> rfl) (Nat.le_of_ble_eq_true rfl) (Nat.le_of_ble_eq_true rfl) ?_
  refine j_dup dX4_init_8 rfl ?_
  refine j_callINv (c_iReck 201 203 (by decide) j_set_self h3) dX4_init_9 pmX1_init (fun _ hs => hs.1 _ qn237) q99 rfl rfl ⟨Nat.le_of_ble_eq_true rfl, Nat.le_of_ble_eq_true rfl⟩ ⟨Nat.le_of_ble_eq_true rfl, Nat.le_of_ble_eq_true rfl⟩ rfl (Nat.le_of_ble_eq_true rfl) ?_
  refine j_re rfl rfl (h' := (j_set (j_set (j_set h 203 (.inl (dT 4, 9, .inr (.inr (.inr (.inr (fun _ => none))))))) 201 (rcell .null (r 203) 0)) 200 (.inr (4, [.null, .int 0, .null, .int 0, .int 0])))) (by rw [← j_set_id h200]; exact (by
    funext i9
    by_cases e200 : i9 = 200
    · subst e200; rfl
    by_cases e201 : i9 = 201
    · subst e201; rfl
    by_cases e203 : i9 = 203
    · subst e203; rfl
    simp only [j_ov, j_set, j_beq_f e200, j_beq_f e201, j_beq_f e203, cond_false])) ?_
  refine j_putF 2 dX4_init_12 j_set_self in_X4 tyX4_ok nmX4 rfl (by decide) q240 rfl rfl rfl rfl rfl (by first | decide | simp) ?_
  refine j_aload_n dX4_init_15 rfl ?_
  refine j_aload_n dX4_init_16 rfl ?_
  refine j_putF 0 dX4_init_17 j_set_self in_X4 tyX4_ok nmX4 rfl (by decide) q238 rfl rfl rfl rfl rfl (by first | decide | simp) ?_
  refine j_aload_n dX4_init_20 rfl ?_
  refine j_iload_n dX4_init_21 rfl ?_
  refine j_putF 1 dX4_init_22 j_set_self in_X4 tyX4_ok nmX4 rfl (by decide) q239 rfl rfl rfl rfl rfl (by first | decide | simp) ?_
  refine j_vret dX4_init_25 rfl (Nat.le_of_ble_eq_true rfl) (Nat.le_of_ble_eq_true rfl) ?_
  exact jr_v (by
    funext i9
    by_cases e200 : i9 = 200
    · subst e200; rfl
    by_cases e201 : i9 = 201
    · subst e201; rfl
    by_cases e203 : i9 = 203
    · subst e203; rfl
    simp only [j_ov, j_set, j_beq_f e200, j_beq_f e201, j_beq_f e203, cond_false])
