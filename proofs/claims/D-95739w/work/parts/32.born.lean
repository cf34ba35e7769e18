set_option maxRecDepth 100000
section BRN
variable {G : j_G} {cc : ByteArray} {own : String} {nL : Nat} {ret : Option FieldType} {nm : String} {R : Room} {xt : Code → Prop} {Q : j_Q} {mc ms : Nat} {pc : Nat} {st : List Value}
theorem j_reH {cells slots : Nat} {r r' : Nat → Nat} {h h' : j_H} {nx : Nat} {L : List (Option Value)} (hh : ∀ H, j_holds G r h nx H → j_holds G r' h' nx H) (k : J G (cc, own, nL, ret, nm, R, xt) Q mc ms cells slots r' h' nx pc L st) : J G (cc, own, nL, ret, nm, R, xt) Q mc ms cells slots r h nx pc L st := by
  intro p e s m args below meth c E H locs ls hH hlo hL
  exact k p e s m args below meth c E H locs ls (hh H hH) hlo hL
/-- a loop in which all may change -/
theorem j_lpX {A : Type} (S : A → (Nat × Nat) × (Nat → Nat) × j_H × Nat × List (Option Value)) (I : A → Prop) (μ : A → Nat) (hs : ∀ a : A, I a → (∀ b : A, I b → μ b < μ a → J G (cc, own, nL, ret, nm, R, xt) Q mc ms (S b).1.1 (S b).1.2 (S b).2.1 (S b).2.2.1 (S b).2.2.2.1 pc (S b).2.2.2.2 st) → J G (cc, own, nL, ret, nm, R, xt) Q mc ms (S a).1.1 (S a).1.2 (S a).2.1 (S a).2.2.1 (S a).2.2.2.1 pc (S a).2.2.2.2 st) (a : A) (h0 : I a) : J G (cc, own, nL, ret, nm, R, xt) Q mc ms (S a).1.1 (S a).1.2 (S a).2.1 (S a).2.2.1 (S a).2.2.2.1 pc (S a).2.2.2.2 st := by
  have key : ∀ (k : Nat) (a : A), μ a < k → I a → J G (cc, own, nL, ret, nm, R, xt) Q mc ms (S a).1.1 (S a).1.2 (S a).2.1 (S a).2.2.1 (S a).2.2.2.1 pc (S a).2.2.2.2 st := by
    intro k
    induction k with
    | zero => intro a hk; exact absurd hk (Nat.not_lt_zero _)
    | succ k ih =>
      intro a hk hI
      exact hs a hI (fun b hb hm => ih b (by omega) hb)
  exact key (μ a + 1) a (by omega) h0
end BRN
theorem arrV_cg {c : ClassId} {n : Nat} {f f' : Nat → Value} (h : ∀ j, j < n → f j = f' j) : arrV c n f = arrV c n f' := by
  have e : (fun j : Fin n => f j.val) = (fun j : Fin n => f' j.val) := funext fun j => h j.val j.isLt
  unfold arrV
  rw [e]
theorem vpr_cg {c : ClassId} {n : Nat} {f f' : Nat → Option Nat} (h : ∀ j, j < n → f j = f' j) : vp_cell c (n, .inr (.inr (.inr (.inr f)))) = vp_cell c (n, .inr (.inr (.inr (.inr f')))) := by
  show arrV c n (fun j => va_rf (f j)) = arrV c n (fun j => va_rf (f' j))
  exact arrV_cg (fun j hj => by rw [h j hj])
theorem ov_hd {h : j_H} {i : Nat} {e : va_E} {l : List (Nat × va_E)} : j_ov h ((i, e) :: l) i = some e := by
  show (bif Nat.beq i i then some e else _) = _
  rw [j_beq_t rfl, cond_true]
/-- FewKeys' cells do not know of other addresses than theirs -/
theorem fkG_re {D : va_G} {cl : List vw_C} {H : Heap} {r r' : Nat → Nat} {dT : Nat → ClassId} {F : Nat → Nat} {i a : Nat} {f : Nat → Int32} {e' : va_E} (hr : ∀ k, k < 32 ∨ k = 60 → r' k = r k) (he : fkG r' dT F i f = some e') : ∃ e, fkG r dT F i f = some e ∧ (va_at D cl (a, e) H → va_at D cl (a, e') H) := by
  unfold fkG at he ⊢
  split at he
  all_goals first
    | (cases he; done)
    | (cases he; exact ⟨_, rfl, id⟩)
    | (refine ⟨_, rfl, fun h => ?_⟩; cases he; simp only [hr _ (Or.inr rfl), hr 0 (Or.inl (by decide)), hr 1 (Or.inl (by decide)), hr 2 (Or.inl (by decide)), hr 3 (Or.inl (by decide)), hr 4 (Or.inl (by decide)), hr 5 (Or.inl (by decide)), hr 6 (Or.inl (by decide)), hr 7 (Or.inl (by decide)), hr 8 (Or.inl (by decide)), hr 9 (Or.inl (by decide)), hr 10 (Or.inl (by decide)), hr 11 (Or.inl (by decide)), hr 12 (Or.inl (by decide)), hr 13 (Or.inl (by decide)), hr 14 (Or.inl (by decide)), hr 15 (Or.inl (by decide)), hr 16 (Or.inl (by decide)), hr 17 (Or.inl (by decide)), hr 18 (Or.inl (by decide)), hr 19 (Or.inl (by decide)), hr 20 (Or.inl (by decide)), hr 21 (Or.inl (by decide)), hr 22 (Or.inl (by decide)), hr 23 (Or.inl (by decide)), hr 24 (Or.inl (by decide)), hr 25 (Or.inl (by decide)), hr 26 (Or.inl (by decide)), hr 27 (Or.inl (by decide)), hr 28 (Or.inl (by decide)), hr 29 (Or.inl (by decide)), hr 30 (Or.inl (by decide)), hr 31 (Or.inl (by decide))]; exact h)
    | (cases he; exact ⟨_, rfl, fun h => Eq.trans h (congrArg some (vpr_cg (fun j hj => congrArg some (hr (j + 22) (Or.inl (Nat.lt_of_lt_of_le (Nat.add_lt_add_right hj 22) (Nat.le_of_ble_eq_true rfl)))).symm)))⟩)
    | (cases he; exact ⟨_, rfl, fun h => Eq.trans h (congrArg some (vpr_cg (fun j hj => congrArg some (hr (j + 27) (Or.inl (Nat.lt_of_lt_of_le (Nat.add_lt_add_right hj 27) (Nat.le_of_ble_eq_true rfl)))).symm)))⟩)
    | (cases he; exact ⟨_, rfl, fun h => Eq.trans h (congrArg some (vpr_cg (fun j hj => congrArg some (hr (2 * j + 18) (Or.inl (Nat.lt_of_lt_of_le (Nat.add_lt_add_right (Nat.mul_lt_mul_of_pos_left hj Nat.zero_lt_two) 18) (Nat.le_of_ble_eq_true rfl)))).symm)))⟩)
theorem fkS_re {G : j_G} {H : Heap} {r r' : Nat → Nat} {dT : Nat → ClassId} {g g' : j_H} {F : Nat → Nat} {V : Nat → Nat → Int32} {nx : Nat} (hr : ∀ k, k < 32 ∨ k = 60 → r' k = r k) (hg : ∀ i e, 32 ≤ i → g' i = some e → g i = some e ∧ r' i = r i) (h : j_holds G r (fkS r dT g F V) nx H) : j_holds G r' (fkS r' dT g' F V) nx H := by
  have key : ∀ i e', fkS r' dT g' F V i = some e' → ∃ e, fkS r dT g F V i = some e ∧ r' i = r i ∧ (va_at G.2.1 G.2.2.1 (r i, e) H → va_at G.2.1 G.2.2.1 (r i, e') H) := by
    intro i e' hi
    by_cases h32 : i < 32
    · rw [fkS_lo h32] at hi ⊢
      obtain ⟨e, h1, h2⟩ := fkG_re (D := G.2.1) (cl := G.2.2.1) (H := H) (a := r i) hr hi
      exact ⟨e, h1, hr i (Or.inl h32), h2⟩
    · rw [fkS_hi (by omega)] at hi ⊢
      obtain ⟨h1, h2⟩ := hg i e' (by omega) hi
      exact ⟨e', h1, h2, id⟩
  obtain ⟨h1, h2, h3, h4, h5⟩ := h
  refine ⟨h1, h2, h3, fun i e' hi => ?_, fun i j a b hi hj hij => ?_⟩
  · obtain ⟨e, k1, k2, k3⟩ := key i e' hi
    rw [k2]
    exact ⟨(h4 i e k1).1, k3 (h4 i e k1).2⟩
  · obtain ⟨e, k1, k2, -⟩ := key i a hi
    obtain ⟨e2, l1, l2, -⟩ := key j b hj
    exact h5 i j e e2 k1 l1 (by rw [← k2, ← l2]; exact hij)
set_option maxHeartbeats 4000000 in
theorem c_iKey8 {l : Launch} {D : va_G} {dT : Nat → ClassId} {H0 : Heap} {r : Nat → Nat} {h : j_H} {nx : Nat} (i a : Nat) (c : Int32) (w0 : Value) (hi : h i = some (.inr (8, [.null, .int 0, w0]))) : MC (gG l D dT H0) yX7_init cX7_init 3 none 1 0 0 [.ref (r i), .ref a, .int c] r h nx (jq_v r (j_ov h [(i, .inr (8, [.ref a, .int c, w0]))]) nx) := by
  refine MC.ofJ [some (.ref (r i)), some (.ref a), some (.int c)] rfl (Nat.le_of_ble_eq_true rfl) (by decide) ?_
  refine j_aload_n dX7_init_0 rfl ?_
  refine j_objInit dX7_init_1 q659 q94 q95 (Nat.le_of_ble_eq_true rfl) (Nat.le_of_ble_eq_true rfl) ?_
  refine j_ov1 hi ?_
  refine j_aload_n dX7_init_4 rfl ?_
  refine j_aload_n dX7_init_5 rfl ?_
  refine j_putF 0 dX7_init_6 ov_hd in_X8 tyX8_ok nmX8 rfl (by decide) q661 rfl rfl rfl rfl rfl (by first | decide | simp) ?_
  refine j_ovs ?_
  refine j_re rfl rfl (by rw [j_upd, j_beq_t rfl, cond_true]) ?_
  refine j_aload_n dX7_init_9 rfl ?_
  refine j_iload_n dX7_init_10 rfl ?_
  refine j_putF 1 dX7_init_11 ov_hd in_X8 tyX8_ok nmX8 rfl (by decide) q672 rfl rfl rfl rfl rfl (by first | decide | simp) ?_
  refine j_ovs ?_
  refine j_re rfl rfl (by rw [j_upd, j_beq_t rfl, cond_true]) ?_
  refine j_vret dX7_init_14 rfl (Nat.le_refl _) (Nat.le_refl _) ?_
  exact jr_v rfl
set_option maxHeartbeats 4000000 in
theorem c_iKey9 {l : Launch} {D : va_G} {dT : Nat → ClassId} {H0 : Heap} {r : Nat → Nat} {h : j_H} {nx : Nat} (i a : Nat) (c : Int32) (hi : h i = some (.inr (9, [.null, .int 0]))) : MC (gG l D dT H0) yX7_init cX7_init 3 none 1 0 0 [.ref (r i), .ref a, .int c] r h nx (jq_v r (j_ov h [(i, .inr (9, [.ref a, .int c]))]) nx) := by
  refine MC.ofJ [some (.ref (r i)), some (.ref a), some (.int c)] rfl (Nat.le_of_ble_eq_true rfl) (by decide) ?_
  refine j_aload_n dX7_init_0 rfl ?_
  refine j_objInit dX7_init_1 q659 q94 q95 (Nat.le_of_ble_eq_true rfl) (Nat.le_of_ble_eq_true rfl) ?_
  refine j_ov1 hi ?_
  refine j_aload_n dX7_init_4 rfl ?_
  refine j_aload_n dX7_init_5 rfl ?_
  refine j_putF 0 dX7_init_6 ov_hd in_X9 tyX9_ok nmX9 rfl (by decide) q661 rfl rfl rfl rfl rfl (by first | decide | simp) ?_
  refine j_ovs ?_
  refine j_re rfl rfl (by rw [j_upd, j_beq_t rfl, cond_true]) ?_
  refine j_aload_n dX7_init_9 rfl ?_
  refine j_iload_n dX7_init_10 rfl ?_
  refine j_putF 1 dX7_init_11 ov_hd in_X9 tyX9_ok nmX9 rfl (by decide) q672 rfl rfl rfl rfl rfl (by first | decide | simp) ?_
  refine j_ovs ?_
  refine j_re rfl rfl (by rw [j_upd, j_beq_t rfl, cond_true]) ?_
  refine j_vret dX7_init_14 rfl (Nat.le_refl _) (Nat.le_refl _) ?_
  exact jr_v rfl
set_option maxHeartbeats 4000000 in
theorem c_iKey10 {l : Launch} {D : va_G} {dT : Nat → ClassId} {H0 : Heap} {r : Nat → Nat} {h : j_H} {nx : Nat} (i a : Nat) (c : Int32) (hi : h i = some (.inr (10, [.null, .int 0]))) : MC (gG l D dT H0) yX7_init cX7_init 3 none 1 0 0 [.ref (r i), .ref a, .int c] r h nx (jq_v r (j_ov h [(i, .inr (10, [.ref a, .int c]))]) nx) := by
  refine MC.ofJ [some (.ref (r i)), some (.ref a), some (.int c)] rfl (Nat.le_of_ble_eq_true rfl) (by decide) ?_
  refine j_aload_n dX7_init_0 rfl ?_
  refine j_objInit dX7_init_1 q659 q94 q95 (Nat.le_of_ble_eq_true rfl) (Nat.le_of_ble_eq_true rfl) ?_
  refine j_ov1 hi ?_
  refine j_aload_n dX7_init_4 rfl ?_
  refine j_aload_n dX7_init_5 rfl ?_
  refine j_putF 0 dX7_init_6 ov_hd in_X10 tyX10_ok nmX10 rfl (by decide) q661 rfl rfl rfl rfl rfl (by first | decide | simp) ?_
  refine j_ovs ?_
  refine j_re rfl rfl (by rw [j_upd, j_beq_t rfl, cond_true]) ?_
  refine j_aload_n dX7_init_9 rfl ?_
  refine j_iload_n dX7_init_10 rfl ?_
  refine j_putF 1 dX7_init_11 ov_hd in_X10 tyX10_ok nmX10 rfl (by decide) q672 rfl rfl rfl rfl rfl (by first | decide | simp) ?_
  refine j_ovs ?_
  refine j_re rfl rfl (by rw [j_upd, j_beq_t rfl, cond_true]) ?_
  refine j_vret dX7_init_14 rfl (Nat.le_refl _) (Nat.le_refl _) ?_
  exact jr_v rfl
set_option maxHeartbeats 4000000 in
theorem c_iKey11 {l : Launch} {D : va_G} {dT : Nat → ClassId} {H0 : Heap} {r : Nat → Nat} {h : j_H} {nx : Nat} (i a : Nat) (c : Int32) (w0 w1 : Value) (hi : h i = some (.inr (11, [.null, .int 0, w0, w1]))) : MC (gG l D dT H0) yX7_init cX7_init 3 none 1 0 0 [.ref (r i), .ref a, .int c] r h nx (jq_v r (j_ov h [(i, .inr (11, [.ref a, .int c, w0, w1]))]) nx) := by
  refine MC.ofJ [some (.ref (r i)), some (.ref a), some (.int c)] rfl (Nat.le_of_ble_eq_true rfl) (by decide) ?_
  refine j_aload_n dX7_init_0 rfl ?_
  refine j_objInit dX7_init_1 q659 q94 q95 (Nat.le_of_ble_eq_true rfl) (Nat.le_of_ble_eq_true rfl) ?_
  refine j_ov1 hi ?_
  refine j_aload_n dX7_init_4 rfl ?_
  refine j_aload_n dX7_init_5 rfl ?_
  refine j_putF 0 dX7_init_6 ov_hd in_X11 tyX11_ok nmX11 rfl (by decide) q661 rfl rfl rfl rfl rfl (by first | decide | simp) ?_
  refine j_ovs ?_
  refine j_re rfl rfl (by rw [j_upd, j_beq_t rfl, cond_true]) ?_
  refine j_aload_n dX7_init_9 rfl ?_
  refine j_iload_n dX7_init_10 rfl ?_
  refine j_putF 1 dX7_init_11 ov_hd in_X11 tyX11_ok nmX11 rfl (by decide) q672 rfl rfl rfl rfl rfl (by first | decide | simp) ?_
  refine j_ovs ?_
  refine j_re rfl rfl (by rw [j_upd, j_beq_t rfl, cond_true]) ?_
  refine j_vret dX7_init_14 rfl (Nat.le_refl _) (Nat.le_refl _) ?_
  exact jr_v rfl
set_option maxHeartbeats 4000000 in
theorem c_iKey12 {l : Launch} {D : va_G} {dT : Nat → ClassId} {H0 : Heap} {r : Nat → Nat} {h : j_H} {nx : Nat} (i a : Nat) (c : Int32) (w0 w1 : Value) (hi : h i = some (.inr (12, [.null, .int 0, w0, w1]))) : MC (gG l D dT H0) yX7_init cX7_init 3 none 1 0 0 [.ref (r i), .ref a, .int c] r h nx (jq_v r (j_ov h [(i, .inr (12, [.ref a, .int c, w0, w1]))]) nx) := by
  refine MC.ofJ [some (.ref (r i)), some (.ref a), some (.int c)] rfl (Nat.le_of_ble_eq_true rfl) (by decide) ?_
  refine j_aload_n dX7_init_0 rfl ?_
  refine j_objInit dX7_init_1 q659 q94 q95 (Nat.le_of_ble_eq_true rfl) (Nat.le_of_ble_eq_true rfl) ?_
  refine j_ov1 hi ?_
  refine j_aload_n dX7_init_4 rfl ?_
  refine j_aload_n dX7_init_5 rfl ?_
  refine j_putF 0 dX7_init_6 ov_hd in_X12 tyX12_ok nmX12 rfl (by decide) q661 rfl rfl rfl rfl rfl (by first | decide | simp) ?_
  refine j_ovs ?_
  refine j_re rfl rfl (by rw [j_upd, j_beq_t rfl, cond_true]) ?_
  refine j_aload_n dX7_init_9 rfl ?_
  refine j_iload_n dX7_init_10 rfl ?_
  refine j_putF 1 dX7_init_11 ov_hd in_X12 tyX12_ok nmX12 rfl (by decide) q672 rfl rfl rfl rfl rfl (by first | decide | simp) ?_
  refine j_ovs ?_
  refine j_re rfl rfl (by rw [j_upd, j_beq_t rfl, cond_true]) ?_
  refine j_vret dX7_init_14 rfl (Nat.le_refl _) (Nat.le_refl _) ?_
  exact jr_v rfl
set_option maxHeartbeats 4000000 in
theorem c_iKey13 {l : Launch} {D : va_G} {dT : Nat → ClassId} {H0 : Heap} {r : Nat → Nat} {h : j_H} {nx : Nat} (i a : Nat) (c : Int32) (w0 : Value) (hi : h i = some (.inr (13, [.null, .int 0, w0]))) : MC (gG l D dT H0) yX7_init cX7_init 3 none 1 0 0 [.ref (r i), .ref a, .int c] r h nx (jq_v r (j_ov h [(i, .inr (13, [.ref a, .int c, w0]))]) nx) := by
  refine MC.ofJ [some (.ref (r i)), some (.ref a), some (.int c)] rfl (Nat.le_of_ble_eq_true rfl) (by decide) ?_
  refine j_aload_n dX7_init_0 rfl ?_
  refine j_objInit dX7_init_1 q659 q94 q95 (Nat.le_of_ble_eq_true rfl) (Nat.le_of_ble_eq_true rfl) ?_
  refine j_ov1 hi ?_
  refine j_aload_n dX7_init_4 rfl ?_
  refine j_aload_n dX7_init_5 rfl ?_
  refine j_putF 0 dX7_init_6 ov_hd in_X13 tyX13_ok nmX13 rfl (by decide) q661 rfl rfl rfl rfl rfl (by first | decide | simp) ?_
  refine j_ovs ?_
  refine j_re rfl rfl (by rw [j_upd, j_beq_t rfl, cond_true]) ?_
  refine j_aload_n dX7_init_9 rfl ?_
  refine j_iload_n dX7_init_10 rfl ?_
  refine j_putF 1 dX7_init_11 ov_hd in_X13 tyX13_ok nmX13 rfl (by decide) q672 rfl rfl rfl rfl rfl (by first | decide | simp) ?_
  refine j_ovs ?_
  refine j_re rfl rfl (by rw [j_upd, j_beq_t rfl, cond_true]) ?_
  refine j_vret dX7_init_14 rfl (Nat.le_refl _) (Nat.le_refl _) ?_
  exact jr_v rfl
set_option maxHeartbeats 4000000 in
theorem c_iFigure {l : Launch} {D : va_G} {dT : Nat → ClassId} {H0 : Heap} {r : Nat → Nat} {h : j_H} {nx : Nat} (i a : Nat) (c x : Int32) (hi : h i = some (.inr (8, [.null, .int 0, .int 0]))) : MC (gG l D dT H0) yX8_init cX8_init 4 none 2 0 0 [.ref (r i), .ref a, .int x, .int c] r h nx (jq_v r (j_ov h [(i, .inr (8, [.ref a, .int c, .int x]))]) nx) := by
  refine MC.ofJ [some (.ref (r i)), some (.ref a), some (.int x), some (.int c)] rfl (Nat.le_of_ble_eq_true rfl) (by decide) ?_
  refine j_aload_n dX8_init_0 rfl ?_
  refine j_aload_n dX8_init_1 rfl ?_
  refine j_iload_n dX8_init_2 rfl ?_
  refine j_callIv (c_iKey8 i a c (.int 0) hi) dX8_init_3 pmX7_init q656 q657 rfl rfl ⟨Nat.le_of_ble_eq_true rfl, Nat.le_of_ble_eq_true rfl⟩ ⟨Nat.le_of_ble_eq_true rfl, Nat.le_of_ble_eq_true rfl⟩ rfl (Nat.le_of_ble_eq_true rfl) ?_
  refine j_aload_n dX8_init_6 rfl ?_
  refine j_iload_n dX8_init_7 rfl ?_
  refine j_putF 2 dX8_init_8 ov_hd in_X8 tyX8_ok nmX8 rfl (by decide) q660 rfl rfl rfl rfl rfl (by first | decide | simp) ?_
  refine j_ovs ?_
  refine j_re rfl rfl (by rw [j_upd, j_beq_t rfl, cond_true]) ?_
  refine j_vret dX8_init_11 rfl (Nat.le_refl _) (Nat.le_refl _) ?_
  exact jr_v rfl
set_option maxHeartbeats 4000000 in
theorem c_iFig12 {l : Launch} {D : va_G} {dT : Nat → ClassId} {H0 : Heap} {r : Nat → Nat} {h : j_H} {nx : Nat} (i a : Nat) (c x : Int32) (hi : h i = some (.inr (12, [.null, .int 0, .int 0, .int 0]))) : MC (gG l D dT H0) yX8_init cX8_init 4 none 2 0 0 [.ref (r i), .ref a, .int x, .int c] r h nx (jq_v r (j_ov h [(i, .inr (12, [.ref a, .int c, .int x, .int 0]))]) nx) := by
  refine MC.ofJ [some (.ref (r i)), some (.ref a), some (.int x), some (.int c)] rfl (Nat.le_of_ble_eq_true rfl) (by decide) ?_
  refine j_aload_n dX8_init_0 rfl ?_
  refine j_aload_n dX8_init_1 rfl ?_
  refine j_iload_n dX8_init_2 rfl ?_
  refine j_callIv (c_iKey12 i a c (.int 0) (.int 0) hi) dX8_init_3 pmX7_init q656 q657 rfl rfl ⟨Nat.le_of_ble_eq_true rfl, Nat.le_of_ble_eq_true rfl⟩ ⟨Nat.le_of_ble_eq_true rfl, Nat.le_of_ble_eq_true rfl⟩ rfl (Nat.le_of_ble_eq_true rfl) ?_
  refine j_aload_n dX8_init_6 rfl ?_
  refine j_iload_n dX8_init_7 rfl ?_
  refine j_putF 2 dX8_init_8 ov_hd in_X12 tyX12_ok nmX12 rfl (by decide) q660 rfl rfl rfl rfl rfl (by first | decide | simp) ?_
  refine j_ovs ?_
  refine j_re rfl rfl (by rw [j_upd, j_beq_t rfl, cond_true]) ?_
  refine j_vret dX8_init_11 rfl (Nat.le_refl _) (Nat.le_refl _) ?_
  exact jr_v rfl
set_option maxHeartbeats 4000000 in
theorem c_iSign {l : Launch} {D : va_G} {dT : Nat → ClassId} {H0 : Heap} {r : Nat → Nat} {h : j_H} {nx : Nat} (i a : Nat) (c x : Int32) (hi : h i = some (.inr (13, [.null, .int 0, .int 0]))) : MC (gG l D dT H0) yX13_init cX13_init 4 none 2 0 0 [.ref (r i), .ref a, .int x, .int c] r h nx (jq_v r (j_ov h [(i, .inr (13, [.ref a, .int c, .int x]))]) nx) := by
  refine MC.ofJ [some (.ref (r i)), some (.ref a), some (.int x), some (.int c)] rfl (Nat.le_of_ble_eq_true rfl) (by decide) ?_
  refine j_aload_n dX13_init_0 rfl ?_
  refine j_aload_n dX13_init_1 rfl ?_
  refine j_iload_n dX13_init_2 rfl ?_
  refine j_callIv (c_iKey13 i a c (.int 0) hi) dX13_init_3 pmX7_init q744 q657 rfl rfl ⟨Nat.le_of_ble_eq_true rfl, Nat.le_of_ble_eq_true rfl⟩ ⟨Nat.le_of_ble_eq_true rfl, Nat.le_of_ble_eq_true rfl⟩ rfl (Nat.le_of_ble_eq_true rfl) ?_
  refine j_aload_n dX13_init_6 rfl ?_
  refine j_iload_n dX13_init_7 rfl ?_
  refine j_putF 2 dX13_init_8 ov_hd in_X13 tyX13_ok nmX13 rfl (by decide) q745 rfl rfl rfl rfl rfl (by first | decide | simp) ?_
  refine j_ovs ?_
  refine j_re rfl rfl (by rw [j_upd, j_beq_t rfl, cond_true]) ?_
  refine j_vret dX13_init_11 rfl (Nat.le_refl _) (Nat.le_refl _) ?_
  exact jr_v rfl
set_option maxHeartbeats 4000000 in
theorem c_iIs {l : Launch} {D : va_G} {dT : Nat → ClassId} {H0 : Heap} {r : Nat → Nat} {h : j_H} {nx : Nat} (i a : Nat) (c : Int32) (hi : h i = some (.inr (9, [.null, .int 0]))) : MC (gG l D dT H0) yX9_init cX9_init 3 none 2 0 0 [.ref (r i), .ref a, .int c] r h nx (jq_v r (j_ov h [(i, .inr (9, [.ref a, .int c]))]) nx) := by
  refine MC.ofJ [some (.ref (r i)), some (.ref a), some (.int c)] rfl (Nat.le_of_ble_eq_true rfl) (by decide) ?_
  refine j_aload_n dX9_init_0 rfl ?_
  refine j_aload_n dX9_init_1 rfl ?_
  refine j_iload_n dX9_init_2 rfl ?_
  refine j_callIv (c_iKey9 i a c hi) dX9_init_3 pmX7_init q686 q657 rfl rfl ⟨Nat.le_of_ble_eq_true rfl, Nat.le_of_ble_eq_true rfl⟩ ⟨Nat.le_of_ble_eq_true rfl, Nat.le_of_ble_eq_true rfl⟩ rfl (Nat.le_of_ble_eq_true rfl) ?_
  refine j_vret dX9_init_6 rfl (Nat.le_refl _) (Nat.le_refl _) ?_
  exact jr_v rfl
set_option maxHeartbeats 4000000 in
theorem c_iClear {l : Launch} {D : va_G} {dT : Nat → ClassId} {H0 : Heap} {r : Nat → Nat} {h : j_H} {nx : Nat} (i a : Nat) (c : Int32) (hi : h i = some (.inr (10, [.null, .int 0]))) : MC (gG l D dT H0) yX10_init cX10_init 3 none 2 0 0 [.ref (r i), .ref a, .int c] r h nx (jq_v r (j_ov h [(i, .inr (10, [.ref a, .int c]))]) nx) := by
  refine MC.ofJ [some (.ref (r i)), some (.ref a), some (.int c)] rfl (Nat.le_of_ble_eq_true rfl) (by decide) ?_
  refine j_aload_n dX10_init_0 rfl ?_
  refine j_aload_n dX10_init_1 rfl ?_
  refine j_iload_n dX10_init_2 rfl ?_
  refine j_callIv (c_iKey10 i a c hi) dX10_init_3 pmX7_init q695 q657 rfl rfl ⟨Nat.le_of_ble_eq_true rfl, Nat.le_of_ble_eq_true rfl⟩ ⟨Nat.le_of_ble_eq_true rfl, Nat.le_of_ble_eq_true rfl⟩ rfl (Nat.le_of_ble_eq_true rfl) ?_
  refine j_vret dX10_init_6 rfl (Nat.le_refl _) (Nat.le_refl _) ?_
  exact jr_v rfl
set_option maxHeartbeats 4000000 in
theorem c_iNow {l : Launch} {D : va_G} {dT : Nat → ClassId} {H0 : Heap} {r : Nat → Nat} {h : j_H} {nx : Nat} (i a : Nat) (c x y : Int32) (hi : h i = some (.inr (11, [.null, .int 0, .int 0, .int 0]))) : MC (gG l D dT H0) yX11_init cX11_init 5 none 2 0 0 [.ref (r i), .ref a, .int x, .int y, .int c] r h nx (jq_v r (j_ov h [(i, .inr (11, [.ref a, .int c, .int x, .int y]))]) nx) := by
  refine MC.ofJ [some (.ref (r i)), some (.ref a), some (.int x), some (.int y), some (.int c)] rfl (Nat.le_of_ble_eq_true rfl) (by decide) ?_
  refine j_aload_n dX11_init_0 rfl ?_
  refine j_aload_n dX11_init_1 rfl ?_
  refine j_iload dX11_init_2 rfl ?_
  refine j_callIv (c_iKey11 i a c (.int 0) (.int 0) hi) dX11_init_4 pmX7_init q712 q657 rfl rfl ⟨Nat.le_of_ble_eq_true rfl, Nat.le_of_ble_eq_true rfl⟩ ⟨Nat.le_of_ble_eq_true rfl, Nat.le_of_ble_eq_true rfl⟩ rfl (Nat.le_of_ble_eq_true rfl) ?_
  refine j_aload_n dX11_init_7 rfl ?_
  refine j_iload_n dX11_init_8 rfl ?_
  refine j_putF 2 dX11_init_9 ov_hd in_X11 tyX11_ok nmX11 rfl (by decide) q713 rfl rfl rfl rfl rfl (by first | decide | simp) ?_
  refine j_ovs ?_
  refine j_re rfl rfl (by rw [j_upd, j_beq_t rfl, cond_true]) ?_
  refine j_aload_n dX11_init_12 rfl ?_
  refine j_iload_n dX11_init_13 rfl ?_
  refine j_putF 3 dX11_init_14 ov_hd in_X11 tyX11_ok nmX11 rfl (by decide) q714 rfl rfl rfl rfl rfl (by first | decide | simp) ?_
  refine j_ovs ?_
  refine j_re rfl rfl (by rw [j_upd, j_beq_t rfl, cond_true]) ?_
  refine j_vret dX11_init_17 rfl (Nat.le_refl _) (Nat.le_refl _) ?_
  exact jr_v rfl
set_option maxHeartbeats 4000000 in
theorem c_iStuck {l : Launch} {D : va_G} {dT : Nat → ClassId} {H0 : Heap} {r : Nat → Nat} {h : j_H} {nx : Nat} (i a : Nat) (c x y : Int32) (hi : h i = some (.inr (12, [.null, .int 0, .int 0, .int 0]))) : MC (gG l D dT H0) yX12_init cX12_init 5 none 3 0 0 [.ref (r i), .ref a, .int x, .int y, .int c] r h nx (jq_v r (j_ov h [(i, .inr (12, [.ref a, .int c, .int x, .int y]))]) nx) := by
  refine MC.ofJ [some (.ref (r i)), some (.ref a), some (.int x), some (.int y), some (.int c)] rfl (Nat.le_of_ble_eq_true rfl) (by decide) ?_
  refine j_aload_n dX12_init_0 rfl ?_
  refine j_aload_n dX12_init_1 rfl ?_
  refine j_iload_n dX12_init_2 rfl ?_
  refine j_iload dX12_init_3 rfl ?_
  refine j_callIv (c_iFig12 i a c x hi) dX12_init_5 pmX8_init q731 q654 rfl rfl ⟨Nat.le_of_ble_eq_true rfl, Nat.le_of_ble_eq_true rfl⟩ ⟨Nat.le_of_ble_eq_true rfl, Nat.le_of_ble_eq_true rfl⟩ rfl (Nat.le_of_ble_eq_true rfl) ?_
  refine j_aload_n dX12_init_8 rfl ?_
  refine j_iload_n dX12_init_9 rfl ?_
  refine j_putF 3 dX12_init_10 ov_hd in_X12 tyX12_ok nmX12 rfl (by decide) q732 rfl rfl rfl rfl rfl (by first | decide | simp) ?_
  refine j_ovs ?_
  refine j_re rfl rfl (by rw [j_upd, j_beq_t rfl, cond_true]) ?_
  refine j_vret dX12_init_13 rfl (Nat.le_refl _) (Nat.le_refl _) ?_
  exact jr_v rfl
