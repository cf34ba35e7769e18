set_option maxRecDepth 100000
section JN
variable {G : j_G} {cc : ByteArray} {own : String} {nL : Nat} {ret : Option FieldType} {nm : String} {R : Room} {xt : Code → Prop} {Q : j_Q} {mc ms cells slots : Nat} {r : Nat → Nat} {h : j_H} {nx pc : Nat} {L : List (Option Value)} {st : List Value}
theorem j_aload_nN {a : Fin 4} (hd : decode cc pc = .ok (.aload_n a, 1)) (hv : L[(a : Nat)]? = some (some .null)) (k : J G (cc, own, nL, ret, nm, R, xt) Q mc ms cells slots r h nx (pc + 1) L (.null :: st)) : J G (cc, own, nL, ret, nm, R, xt) Q mc ms cells slots r h nx pc L st := by
  intro p e s m args below meth c E H locs ls hH hlo hL
  obtain ⟨hx, hb, hr, hlk, hnm, hml, hown, hts, hK, hxt⟩ := id E
  exact lv_aload_nN hx hb hd rfl (hL.2.2 _ _ hv) (k p e s m args below meth c E H locs ls hH hlo hL)
end JN
set_option maxHeartbeats 4000000 in
theorem c_iThr {l : Launch} {D : va_G} {dT : Nat → ClassId} {H0 : Heap} {r : Nat → Nat} {h : j_H} {nx : Nat} (i : Nat) (hi : h i = some (.inr (5, [.null, .null, .null, .null, .null, .int 0, .int 0, .int 0]))) : MC (gG l D dT H0) yJ9_init_2 cJ9_init_2 5 none 1 0 0 [.ref (r i), .null, .null, .int 0, .int 0] r h nx (jq_v r (j_ov h [(i, .inr (5, [.null, .null, .null, .null, .null, .int 0, .int 0, .int 0]))]) nx) := by
  refine MC.ofJ [some (.ref (r i)), some (.null), some (.null), some (.int 0), some (.int 0)] rfl (Nat.le_of_ble_eq_true rfl) (by decide) ?_
  refine j_aload_n dJ9_init_2_0 rfl ?_
  refine j_objInit dJ9_init_2_1 q495 q94 q95 (Nat.le_of_ble_eq_true rfl) (Nat.le_of_ble_eq_true rfl) ?_
  refine j_ov1 hi ?_
  refine j_aload_n dJ9_init_2_4 rfl ?_
  refine j_aload_n dJ9_init_2_5 rfl ?_
  refine j_put 0 dJ9_init_2_6 ov_hd in_X5 tyX5_ok nmX5 rfl (by decide) q524 rfl rfl rfl (by first | decide | simp) ?_
  refine j_ovs ?_
  refine j_re rfl rfl (by rw [j_upd, j_beq_t rfl, cond_true]) ?_
  refine j_aload_n dJ9_init_2_9 rfl ?_
  refine j_gets dJ9_init_2_10 q496 (fun _ hs => hs.2.2.2.2.2.1) ?_
  refine j_put 1 dJ9_init_2_13 ov_hd in_X5 tyX5_ok nmX5 rfl (by decide) q525 rfl rfl rfl (by first | decide | simp) ?_
  refine j_ovs ?_
  refine j_re rfl rfl (by rw [j_upd, j_beq_t rfl, cond_true]) ?_
  refine j_aload_n dJ9_init_2_16 rfl ?_
  refine j_gets dJ9_init_2_17 q498 (fun _ hs => hs.2.2.2.2.2.2.1) ?_
  refine j_put 2 dJ9_init_2_20 ov_hd in_X5 tyX5_ok nmX5 rfl (by decide) q526 rfl rfl rfl (by first | decide | simp) ?_
  refine j_ovs ?_
  refine j_re rfl rfl (by rw [j_upd, j_beq_t rfl, cond_true]) ?_
  refine j_iload dJ9_init_2_23 rfl ?_
  refine j_if_eq (tgt := 36) dJ9_init_2_25 (by decide) (fun c25 => ?_) (fun c25 => absurd rfl c25)
  refine j_aload_n dJ9_init_2_36 rfl ?_
  refine j_null dJ9_init_2_37 ?_
  refine j_put 1 dJ9_init_2_38 ov_hd in_X5 tyX5_ok nmX5 rfl (by decide) q525 rfl rfl rfl (by first | decide | simp) ?_
  refine j_ovs ?_
  refine j_re rfl rfl (by rw [j_upd, j_beq_t rfl, cond_true]) ?_
  refine j_aload_n dJ9_init_2_41 rfl ?_
  refine j_aload_nN dJ9_init_2_42 rfl ?_
  refine j_put 3 dJ9_init_2_43 ov_hd in_X5 tyX5_ok nmX5 rfl (by decide) q523 rfl rfl rfl (by first | decide | simp) ?_
  refine j_ovs ?_
  refine j_re rfl rfl (by rw [j_upd, j_beq_t rfl, cond_true]) ?_
  refine j_aload_n dJ9_init_2_46 rfl ?_
  refine j_aload_nN dJ9_init_2_47 rfl ?_
  refine j_put 0 dJ9_init_2_48 ov_hd in_X5 tyX5_ok nmX5 rfl (by decide) q524 rfl rfl rfl (by first | decide | simp) ?_
  refine j_ovs ?_
  refine j_re rfl rfl (by rw [j_upd, j_beq_t rfl, cond_true]) ?_
  refine j_iload_n dJ9_init_2_51 rfl ?_
  refine j_if_ne (tgt := 60) dJ9_init_2_52 (by decide) (fun c52 => absurd rfl c52) (fun c52 => ?_)
  refine j_aload_n dJ9_init_2_55 rfl ?_
  refine j_null dJ9_init_2_56 ?_
  refine j_put 2 dJ9_init_2_57 ov_hd in_X5 tyX5_ok nmX5 rfl (by decide) q526 rfl rfl rfl (by first | decide | simp) ?_
  refine j_ovs ?_
  refine j_re rfl rfl (by rw [j_upd, j_beq_t rfl, cond_true]) ?_
  refine j_vret dJ9_init_2_60 rfl (Nat.le_refl _) (Nat.le_refl _) ?_
  exact jr_v rfl
set_option maxHeartbeats 4000000 in
theorem c_iExc {l : Launch} {D : va_G} {dT : Nat → ClassId} {H0 : Heap} {r : Nat → Nat} {h : j_H} {nx : Nat} (i : Nat) (hi : h i = some (.inr (5, [.null, .null, .null, .null, .null, .int 0, .int 0, .int 0]))) : MC (gG l D dT H0) yJ10_init cJ10_init 5 none 2 0 0 [.ref (r i), .null, .null, .int 0, .int 0] r h nx (jq_v r (j_ov h [(i, .inr (5, [.null, .null, .null, .null, .null, .int 0, .int 0, .int 0]))]) nx) := by
  refine MC.ofJ [some (.ref (r i)), some (.null), some (.null), some (.int 0), some (.int 0)] rfl (Nat.le_of_ble_eq_true rfl) (by decide) ?_
  refine j_aload_n dJ10_init_0 rfl ?_
  refine j_aload_nN dJ10_init_1 rfl ?_
  refine j_aload_nN dJ10_init_2 rfl ?_
  refine j_iload_n dJ10_init_3 rfl ?_
  refine j_iload dJ10_init_4 rfl ?_
  refine j_callIv (c_iThr i hi) dJ10_init_6 pmJ9_init_2 q515 q516 rfl rfl ⟨Nat.le_of_ble_eq_true rfl, Nat.le_of_ble_eq_true rfl⟩ ⟨Nat.le_of_ble_eq_true rfl, Nat.le_of_ble_eq_true rfl⟩ rfl (Nat.le_of_ble_eq_true rfl) ?_
  refine j_vret dJ10_init_9 rfl (Nat.le_refl _) (Nat.le_refl _) ?_
  exact jr_v rfl
set_option maxHeartbeats 4000000 in
theorem c_iFault {l : Launch} {D : va_G} {dT : Nat → ClassId} {H0 : Heap} {r : Nat → Nat} {h : j_H} {nx : Nat} (i : Nat) (f x : Int32) (hi : h i = some (.inr (5, [.null, .null, .null, .null, .null, .int 0, .int 0, .int 0]))) : MC (gG l D dT H0) yX5_init cX5_init 3 none 3 0 0 [.ref (r i), .int f, .int x] r h nx (jq_v r (j_ov h [(i, .inr (5, [.null, .null, .null, .null, .null, .int 0, .int f, .int x]))]) nx) := by
  refine MC.ofJ [some (.ref (r i)), some (.int f), some (.int x)] rfl (Nat.le_of_ble_eq_true rfl) (by decide) ?_
  refine j_aload_n dX5_init_0 rfl ?_
  refine j_null dX5_init_1 ?_
  refine j_null dX5_init_2 ?_
  refine j_iconst (v := 0) dX5_init_3 (by decide) ?_
  refine j_iconst (v := 0) dX5_init_4 (by decide) ?_
  refine j_callIv (c_iExc i hi) dX5_init_5 pmJ10_init q512 q513 rfl rfl ⟨Nat.le_of_ble_eq_true rfl, Nat.le_of_ble_eq_true rfl⟩ ⟨Nat.le_of_ble_eq_true rfl, Nat.le_of_ble_eq_true rfl⟩ rfl (Nat.le_of_ble_eq_true rfl) ?_
  refine j_aload_n dX5_init_8 rfl ?_
  refine j_iload_n dX5_init_9 rfl ?_
  refine j_putF 6 dX5_init_10 ov_hd in_X5 tyX5_ok nmX5 rfl (by decide) q518 rfl rfl rfl rfl rfl (by first | decide | simp) ?_
  refine j_ovs ?_
  refine j_re rfl rfl (by rw [j_upd, j_beq_t rfl, cond_true]) ?_
  refine j_aload_n dX5_init_13 rfl ?_
  refine j_iload_n dX5_init_14 rfl ?_
  refine j_putF 7 dX5_init_15 ov_hd in_X5 tyX5_ok nmX5 rfl (by decide) q520 rfl rfl rfl rfl rfl (by first | decide | simp) ?_
  refine j_ovs ?_
  refine j_re rfl rfl (by rw [j_upd, j_beq_t rfl, cond_true]) ?_
  refine j_vret dX5_init_18 rfl (Nat.le_refl _) (Nat.le_refl _) ?_
  exact jr_v rfl
set_option maxHeartbeats 4000000 in
theorem r_want1 {l : Launch} {D : va_G} {dT : Nat → ClassId} {H0 : Heap} {r : Nat → Nat} {h : j_H} {nx : Nat} (f x : Int32) : MC (gG l D dT H0) yX4_want cX4_want 3 none 4 0 0 [.int 1, .int f, .int x] r h nx (jq_v r h nx) := by
  refine MC.ofJ [some (.int 1), some (.int f), some (.int x)] rfl (Nat.le_of_ble_eq_true rfl) (by decide) ?_
  refine j_iload_n dX4_want_0 rfl ?_
  refine j_if_ne (tgt := 14) dX4_want_1 (by decide) (fun c1 => ?_) (fun c1 => absurd c1 (by decide))
  refine j_vret dX4_want_14 rfl (Nat.le_refl _) (Nat.le_refl _) ?_
  exact jr_v rfl
/-- a Fault is thrown: it lies under the id i -/
def jq_t (i : Nat) (f x : Int32) (r : Nat → Nat) (h : j_H) (nx : Nat) : j_Q := fun o r' h' nx' => o = .threw (r i) ∧ r' = r ∧ h' = j_set h i (.inr (5, [.null, .null, .null, .null, .null, .int 0, .int f, .int x])) ∧ nx' = nx + 1
theorem jq_t.isT {i : Nat} {f x : Int32} {r : Nat → Nat} {h : j_H} {nx : Nat} : j_isT (jq_t i f x r h nx) := fun _ _ _ _ hq => ⟨_, hq.1⟩
set_option maxHeartbeats 4000000 in
theorem r_want0 {l : Launch} {D : va_G} {dT : Nat → ClassId} {H0 : Heap} {r : Nat → Nat} {h : j_H} {nx : Nat} (f x : Int32) (i : Nat) (hrn : r i = nx) : MC (gG l D dT H0) yX4_want cX4_want 3 none 4 1 8 [.int 0, .int f, .int x] r h nx (jq_t i f x r h nx) := by
  refine MC.ofJ [some (.int 0), some (.int f), some (.int x)] rfl (Nat.le_of_ble_eq_true rfl) (by decide) ?_
  refine j_iload_n dX4_want_0 rfl ?_
  refine j_if_ne (tgt := 14) dX4_want_1 (by decide) (fun c1 => absurd rfl c1) (fun c1 => ?_)
  refine j_new (ci := 5) (fs := [.null, .null, .null, .null, .null, .int 0, .int 0, .int 0]) i hrn dX4_want_4 in_X5 tyX5_ok rfl q472 q473 q78 (fun j hj => by
      have hj3 : j = 0 ∨ j = 1 ∨ j = 2 ∨ j = 3 ∨ j = 4 ∨ j = 5 ∨ j = 6 ∨ j = 7 := by have hj4 : j < 8 := hj; omega
      rcases hj3 with rfl | rfl | rfl | rfl | rfl | rfl | rfl | rfl <;> rfl) (Nat.le_of_ble_eq_true rfl) (Nat.le_of_ble_eq_true rfl) ?_
  refine j_dup dX4_want_7 rfl ?_
  refine j_iload_n dX4_want_8 rfl ?_
  refine j_iload_n dX4_want_9 rfl ?_
  refine j_callIv (c_iFault i f x j_set_self) dX4_want_10 pmX5_init q509 q510 rfl rfl ⟨Nat.le_of_ble_eq_true rfl, Nat.le_of_ble_eq_true rfl⟩ ⟨Nat.le_of_ble_eq_true rfl, Nat.le_of_ble_eq_true rfl⟩ rfl (Nat.le_of_ble_eq_true rfl) ?_
  refine j_athrow rfl dX4_want_13 (Nat.le_of_ble_eq_true rfl) (Nat.le_of_ble_eq_true rfl) ?_
  exact ⟨rfl, rfl, (by show j_set (j_set h i _) i _ = _; exact j_set2), rfl⟩
