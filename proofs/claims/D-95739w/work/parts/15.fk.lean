set_option maxRecDepth 100000
/-- FewKeys' cells: F: 0 state 1 spent 2 targets 3 seed 4 written 5 size 6 fault+1; images 10..14, 20..24 (state, spent, targets, seed, kept); f: the contents of the array with this id -/
def fkG (r : Nat → Nat) (dT : Nat → ClassId) (F : Nat → Nat) (i : Nat) (f : Nat → Int32) : Option va_E := match i with
  | 0 => some (.inr (0, [.ref (r 60), .ref (r 1), .ref (r 3), .ref (r 4), .int (nI (F 4)), .ref (r 5), .int (nI (F 5)), .int (nI (F 6) - 1), .ref (r 6), .ref (r 7), .ref (r 8), .ref (r 9), .ref (r 10), .ref (r 11), .ref (r 12), .ref (r 13), .ref (r 14), .ref (r 15), .ref (r 16), .ref (r 17)]))
  | 1 => some (.inr (2, [.int (nI (F 0)), .int (nI (F 1)), .ref (r 2), .int (nI (F 2)), .int (nI (F 3)), .int 0]))
  | 2 => some (.inl (dT 0, 6, .inl f))
  | 3 => some (.inl (dT 0, 40, .inl f))
  | 4 => some (.inl (dT 0, 40, .inl f))
  | 5 => some (.inl (dT 1, 400, .inl f))
  | 6 => some (.inl (dT 0, 80000, .inl f))
  | 7 => some (.inl (dT 0, 80000, .inl f))
  | 8 => some (.inl (dT 0, 80000, .inl f))
  | 9 => some (.inl (dT 1, 80000, .inl f))
  | 10 => some (.inl (dT 0, 100, .inl f))
  | 11 => some (.inl (dT 0, 80000, .inl f))
  | 12 => some (.inl (dT 2, 80000, .inl f))
  | 13 => some (.inl (dT 0, 80000, .inl f))
  | 14 => some (.inl (dT 0, 80000, .inl f))
  | 15 => some (.inl (dT 6, 5, .inr (.inr (.inr (.inr (fun j => some (r (j + 22))))))))
  | 16 => some (.inl (dT 6, 5, .inr (.inr (.inr (.inr (fun j => some (r (j + 27))))))))
  | 17 => some (.inl (dT 5, 2, .inr (.inr (.inr (.inr (fun j => some (r (2 * j + 18))))))))
  | 18 => some (.inr (2, [.int (nI (F 10)), .int (nI (F 11)), .ref (r 19), .int (nI (F 12)), .int (nI (F 13)), .int (nI (F 14))]))
  | 19 => some (.inl (dT 0, 6, .inl f))
  | 20 => some (.inr (2, [.int (nI (F 20)), .int (nI (F 21)), .ref (r 21), .int (nI (F 22)), .int (nI (F 23)), .int (nI (F 24))]))
  | 21 => some (.inl (dT 0, 6, .inl f))
  | 22 => some (.inl (dT 0, 8, .inl f))
  | 23 => some (.inl (dT 0, 8, .inl f))
  | 24 => some (.inl (dT 0, 8, .inl f))
  | 25 => some (.inl (dT 0, 8, .inl f))
  | 26 => some (.inl (dT 0, 8, .inl f))
  | 27 => some (.inl (dT 0, 8, .inl f))
  | 28 => some (.inl (dT 0, 8, .inl f))
  | 29 => some (.inl (dT 0, 8, .inl f))
  | 30 => some (.inl (dT 0, 8, .inl f))
  | 31 => some (.inl (dT 0, 8, .inl f))
  | _ => none
def fkS (r : Nat → Nat) (dT : Nat → ClassId) (g : j_H) (F : Nat → Nat) (V : Nat → Nat → Int32) : j_H := fun i => bif Nat.blt i 32 then fkG r dT F i (V i) else g i
theorem blt_t {a b : Nat} (h : a < b) : Nat.blt a b = true := by simp only [Nat.blt_eq]; exact h
theorem blt_f {a b : Nat} (h : ¬ a < b) : Nat.blt a b = false := by
  cases hb : Nat.blt a b with
  | false => rfl
  | true => simp only [Nat.blt_eq] at hb; exact absurd hb h
theorem fkS_lo {r : Nat → Nat} {dT : Nat → ClassId} {g : j_H} {F : Nat → Nat} {V : Nat → Nat → Int32} {i : Nat} (h : i < 32) : fkS r dT g F V i = fkG r dT F i (V i) := by
  unfold fkS; rw [blt_t h, cond_true]
theorem fkS_hi {r : Nat → Nat} {dT : Nat → ClassId} {g : j_H} {F : Nat → Nat} {V : Nat → Nat → Int32} {i : Nat} (h : 32 ≤ i) : fkS r dT g F V i = g i := by
  unfold fkS; rw [blt_f (by omega), cond_false]
theorem fkS_V {r : Nat → Nat} {dT : Nat → ClassId} {g : j_H} {F : Nat → Nat} {V : Nat → Nat → Int32} {i : Nat} {f : Nat → Int32} {e : va_E} (hi : i < 32) (he : fkG r dT F i f = some e) : j_set (fkS r dT g F V) i e = fkS r dT g F (va_up V i f) := by
  funext k
  by_cases hk : k = i
  · subst hk
    rw [j_set_self, fkS_lo hi, va_up_self, he]
  · rw [j_set_ne hk]
    unfold fkS
    rw [va_up_ne _ _ hk]
theorem fkS_F {r : Nat → Nat} {dT : Nat → ClassId} {g : j_H} {F F' : Nat → Nat} {V : Nat → Nat → Int32} {i : Nat} {e : va_E} (hi : i < 32) (ho : ∀ j f, j ≠ i → fkG r dT F' j f = fkG r dT F j f) (he : fkG r dT F' i (V i) = some e) : j_set (fkS r dT g F V) i e = fkS r dT g F' V := by
  funext k
  by_cases hk : k = i
  · subst hk
    rw [j_set_self, fkS_lo hi, he]
  · rw [j_set_ne hk]
    unfold fkS
    rw [ho k _ hk]
section FKR
variable {G : j_G} {cc : ByteArray} {own : String} {nL : Nat} {ret : Option FieldType} {nm : String} {R : Room} {xt : Code → Prop} {Q : j_Q} {mc ms cells slots : Nat} {r : Nat → Nat} {nx pc : Nat} {L : List (Option Value)} {st : List Value} {dT : Nat → ClassId} {g : j_H} {F : Nat → Nat} {V : Nat → Nat → Int32} {i : Nat} {e : va_E}
theorem j_fkV {f : Nat → Int32} (hi : i < 32) (he : fkG r dT F i f = some e) (k : J G (cc, own, nL, ret, nm, R, xt) Q mc ms cells slots r (fkS r dT g F (va_up V i f)) nx pc L st) : J G (cc, own, nL, ret, nm, R, xt) Q mc ms cells slots r (j_set (fkS r dT g F V) i e) nx pc L st := by
  rw [fkS_V hi he]; exact k
theorem j_fkF {F' : Nat → Nat} (hi : i < 32) (ho : ∀ j f, j ≠ i → fkG r dT F' j f = fkG r dT F j f) (he : fkG r dT F' i (V i) = some e) (k : J G (cc, own, nL, ret, nm, R, xt) Q mc ms cells slots r (fkS r dT g F' V) nx pc L st) : J G (cc, own, nL, ret, nm, R, xt) Q mc ms cells slots r (j_set (fkS r dT g F V) i e) nx pc L st := by
  rw [fkS_F hi ho he]; exact k
end FKR

theorem fo0 {r : Nat → Nat} {dT : Nat → ClassId} {F : Nat → Nat} {y : Nat} : ∀ (j : Nat) (f : Nat → Int32), j ≠ 1 → fkG r dT (va_up F 0 y) j f = fkG r dT F j f := by
  intro j f hj
  unfold fkG
  split <;> first | rfl | exact absurd rfl hj
theorem fo1 {r : Nat → Nat} {dT : Nat → ClassId} {F : Nat → Nat} {y : Nat} : ∀ (j : Nat) (f : Nat → Int32), j ≠ 1 → fkG r dT (va_up F 1 y) j f = fkG r dT F j f := by
  intro j f hj
  unfold fkG
  split <;> first | rfl | exact absurd rfl hj
theorem fo2 {r : Nat → Nat} {dT : Nat → ClassId} {F : Nat → Nat} {y : Nat} : ∀ (j : Nat) (f : Nat → Int32), j ≠ 1 → fkG r dT (va_up F 2 y) j f = fkG r dT F j f := by
  intro j f hj
  unfold fkG
  split <;> first | rfl | exact absurd rfl hj
theorem fo3 {r : Nat → Nat} {dT : Nat → ClassId} {F : Nat → Nat} {y : Nat} : ∀ (j : Nat) (f : Nat → Int32), j ≠ 1 → fkG r dT (va_up F 3 y) j f = fkG r dT F j f := by
  intro j f hj
  unfold fkG
  split <;> first | rfl | exact absurd rfl hj
theorem fo4 {r : Nat → Nat} {dT : Nat → ClassId} {F : Nat → Nat} {y : Nat} : ∀ (j : Nat) (f : Nat → Int32), j ≠ 0 → fkG r dT (va_up F 4 y) j f = fkG r dT F j f := by
  intro j f hj
  unfold fkG
  split <;> first | rfl | exact absurd rfl hj
theorem fo5 {r : Nat → Nat} {dT : Nat → ClassId} {F : Nat → Nat} {y : Nat} : ∀ (j : Nat) (f : Nat → Int32), j ≠ 0 → fkG r dT (va_up F 5 y) j f = fkG r dT F j f := by
  intro j f hj
  unfold fkG
  split <;> first | rfl | exact absurd rfl hj
theorem fo6 {r : Nat → Nat} {dT : Nat → ClassId} {F : Nat → Nat} {y : Nat} : ∀ (j : Nat) (f : Nat → Int32), j ≠ 0 → fkG r dT (va_up F 6 y) j f = fkG r dT F j f := by
  intro j f hj
  unfold fkG
  split <;> first | rfl | exact absurd rfl hj
theorem fo10 {r : Nat → Nat} {dT : Nat → ClassId} {F : Nat → Nat} {y : Nat} : ∀ (j : Nat) (f : Nat → Int32), j ≠ 18 → fkG r dT (va_up F 10 y) j f = fkG r dT F j f := by
  intro j f hj
  unfold fkG
  split <;> first | rfl | exact absurd rfl hj
theorem fo11 {r : Nat → Nat} {dT : Nat → ClassId} {F : Nat → Nat} {y : Nat} : ∀ (j : Nat) (f : Nat → Int32), j ≠ 18 → fkG r dT (va_up F 11 y) j f = fkG r dT F j f := by
  intro j f hj
  unfold fkG
  split <;> first | rfl | exact absurd rfl hj
theorem fo12 {r : Nat → Nat} {dT : Nat → ClassId} {F : Nat → Nat} {y : Nat} : ∀ (j : Nat) (f : Nat → Int32), j ≠ 18 → fkG r dT (va_up F 12 y) j f = fkG r dT F j f := by
  intro j f hj
  unfold fkG
  split <;> first | rfl | exact absurd rfl hj
theorem fo13 {r : Nat → Nat} {dT : Nat → ClassId} {F : Nat → Nat} {y : Nat} : ∀ (j : Nat) (f : Nat → Int32), j ≠ 18 → fkG r dT (va_up F 13 y) j f = fkG r dT F j f := by
  intro j f hj
  unfold fkG
  split <;> first | rfl | exact absurd rfl hj
theorem fo14 {r : Nat → Nat} {dT : Nat → ClassId} {F : Nat → Nat} {y : Nat} : ∀ (j : Nat) (f : Nat → Int32), j ≠ 18 → fkG r dT (va_up F 14 y) j f = fkG r dT F j f := by
  intro j f hj
  unfold fkG
  split <;> first | rfl | exact absurd rfl hj
theorem fo20 {r : Nat → Nat} {dT : Nat → ClassId} {F : Nat → Nat} {y : Nat} : ∀ (j : Nat) (f : Nat → Int32), j ≠ 20 → fkG r dT (va_up F 20 y) j f = fkG r dT F j f := by
  intro j f hj
  unfold fkG
  split <;> first | rfl | exact absurd rfl hj
theorem fo21 {r : Nat → Nat} {dT : Nat → ClassId} {F : Nat → Nat} {y : Nat} : ∀ (j : Nat) (f : Nat → Int32), j ≠ 20 → fkG r dT (va_up F 21 y) j f = fkG r dT F j f := by
  intro j f hj
  unfold fkG
  split <;> first | rfl | exact absurd rfl hj
theorem fo22 {r : Nat → Nat} {dT : Nat → ClassId} {F : Nat → Nat} {y : Nat} : ∀ (j : Nat) (f : Nat → Int32), j ≠ 20 → fkG r dT (va_up F 22 y) j f = fkG r dT F j f := by
  intro j f hj
  unfold fkG
  split <;> first | rfl | exact absurd rfl hj
theorem fo23 {r : Nat → Nat} {dT : Nat → ClassId} {F : Nat → Nat} {y : Nat} : ∀ (j : Nat) (f : Nat → Int32), j ≠ 20 → fkG r dT (va_up F 23 y) j f = fkG r dT F j f := by
  intro j f hj
  unfold fkG
  split <;> first | rfl | exact absurd rfl hj
theorem fo24 {r : Nat → Nat} {dT : Nat → ClassId} {F : Nat → Nat} {y : Nat} : ∀ (j : Nat) (f : Nat → Int32), j ≠ 20 → fkG r dT (va_up F 24 y) j f = fkG r dT F j f := by
  intro j f hj
  unfold fkG
  split <;> first | rfl | exact absurd rfl hj
/-- the reckoner: its dial (a reference or null), the keys' array, how many -/
abbrev rcell (d : Value) (a nk : Nat) : va_E := .inr (1, [d, .ref a, .int (nI nk)])
/-- the dial and kn keys (those that are, or one more) -/
def fkK (r : Nat → Nat) (dT : Nat → ClassId) (g : j_H) (kd bs fg m kn : Nat) (ks : Nat → KY) : Prop :=
  g 61 = some (dcell kd bs fg m) ∧ okD kd bs m ∧ kn ≤ 9 ∧ ∃ ka : Nat → Option Nat, g 62 = some (.inl (dT 4, 9, .inr (.inr (.inr (.inr ka))))) ∧ ∀ k, k < kn → ka k = some (r (k + 63)) ∧ g (k + 63) = some (kcell (r 61) (ks k)) ∧ okK bs m (ks k)
theorem fkK.less {r : Nat → Nat} {dT : Nat → ClassId} {g : j_H} {kd bs fg m kn kn' : Nat} {ks : Nat → KY} (h : fkK r dT g kd bs fg m kn ks) (hk : kn' ≤ kn) : fkK r dT g kd bs fg m kn' ks := by
  obtain ⟨h1, h2, h3, ka, h4, h5⟩ := h
  exact ⟨h1, h2, by omega, ka, h4, fun k hk' => h5 k (by omega)⟩
theorem okD.pos {kd bs m : Nat} (h : okD kd bs m) : 0 < m := by have := h.2.1; have := h.2.2.2.1; omega
theorem okD.le {kd bs m : Nat} (h : okD kd bs m) : m ≤ 100 := h.2.2.2.2

set_option maxHeartbeats 4000000 in
theorem f_isNone1 {l : Launch} {D : va_G} {dT : Nat → ClassId} {H0 : Heap} {r : Nat → Nat} {nx : Nat} {g : j_H} {F : Nat → Nat} {V : Nat → Nat → Int32} {a nk : Nat} (h60 : g 60 = some (rcell (.ref (r 61)) a nk)) : MC (gG l D dT H0) yX0_isNone cX0_isNone 1 (some .boolean) 0 0 0 [.ref (r 0)] r (fkS r dT g F V) nx (jq_i (0) r (fkS r dT g F V) nx) := by
  refine MC.ofJ [some (.ref (r 0))] rfl (Nat.le_of_ble_eq_true rfl) (by decide) ?_
  refine j_aload_n dX0_isNone_0 rfl ?_
  refine j_get 0 dX0_isNone_1 (by first | rfl | assumption) in_X0 rfl (by decide) q153 rfl ?_
  refine j_getN 0 dX0_isNone_4 (by first | rfl | assumption) in_X1 rfl (by decide) (fun _ hs => hs.1 _ qn104) rfl ?_
  refine j_ifnonnull (tgt := 14) dX0_isNone_7 (by decide) ?_
  refine j_iconst (v := 0) dX0_isNone_14 (by decide) ?_
  refine j_iret dX0_isNone_15 rfl rfl (Nat.le_refl _) (Nat.le_refl _) ?_
  exact jr_i rfl
set_option maxHeartbeats 4000000 in
theorem f_isNone0 {l : Launch} {D : va_G} {dT : Nat → ClassId} {H0 : Heap} {r : Nat → Nat} {nx : Nat} {g : j_H} {F : Nat → Nat} {V : Nat → Nat → Int32} {a nk : Nat} (h60 : g 60 = some (rcell .null a nk)) : MC (gG l D dT H0) yX0_isNone cX0_isNone 1 (some .boolean) 0 0 0 [.ref (r 0)] r (fkS r dT g F V) nx (jq_i (1) r (fkS r dT g F V) nx) := by
  refine MC.ofJ [some (.ref (r 0))] rfl (Nat.le_of_ble_eq_true rfl) (by decide) ?_
  refine j_aload_n dX0_isNone_0 rfl ?_
  refine j_get 0 dX0_isNone_1 (by first | rfl | assumption) in_X0 rfl (by decide) q153 rfl ?_
  refine j_getN 0 dX0_isNone_4 (by first | rfl | assumption) in_X1 rfl (by decide) (fun _ hs => hs.1 _ qn104) rfl ?_
  refine j_ifnonnullN dX0_isNone_7 ?_
  refine j_iconst (v := 1) dX0_isNone_10 (by decide) ?_
  refine j_goto (tgt := 15) dX0_isNone_11 (by decide) ?_
  refine j_iret dX0_isNone_15 rfl rfl (Nat.le_refl _) (Nat.le_refl _) ?_
  exact jr_i rfl
set_option maxHeartbeats 4000000 in
theorem f_many1 {l : Launch} {D : va_G} {dT : Nat → ClassId} {H0 : Heap} {r : Nat → Nat} {nx : Nat} {g : j_H} {F : Nat → Nat} {V : Nat → Nat → Int32} {a nk : Nat} (h60 : g 60 = some (rcell (.ref (r 61)) a nk)) {kd bs fg m : Nat} (h61 : g 61 = some (dcell kd bs fg m)) (hm : 0 < m) (hm2 : m ≤ 100) : MC (gG l D dT H0) yX0_many cX0_many 1 (some .int) 1 0 0 [.ref (r 0)] r (fkS r dT g F V) nx (jq_i (nI m) r (fkS r dT g F V) nx) := by
  refine MC.ofJ [some (.ref (r 0))] rfl (Nat.le_of_ble_eq_true rfl) (by decide) ?_
  refine j_aload_n dX0_many_0 rfl ?_
  refine j_callVi (f_isNone1 h60) dX0_many_1 pmX0_isNone q759 q761 qs13 (by first | rfl | assumption) rfl rfl rfl ⟨Nat.le_of_ble_eq_true rfl, Nat.le_of_ble_eq_true rfl⟩ ⟨Nat.le_of_ble_eq_true rfl, Nat.le_of_ble_eq_true rfl⟩ rfl (Nat.le_of_ble_eq_true rfl) ?_
  refine j_if_eq (tgt := 11) dX0_many_4 (by decide) (fun c4 => ?_) (fun c4 => absurd rfl c4)
  refine j_aload_n dX0_many_11 rfl ?_
  refine j_get 0 dX0_many_12 (by first | rfl | assumption) in_X0 rfl (by decide) q153 rfl ?_
  refine j_getN 0 dX0_many_15 (by first | rfl | assumption) in_X1 rfl (by decide) (fun _ hs => hs.1 _ qn104) rfl ?_
  refine j_getN 3 dX0_many_18 (by first | rfl | assumption) in_X6 rfl (by decide) (fun _ hs => hs.1 _ qn560) rfl ?_
  refine j_iret dX0_many_21 rfl rfl (Nat.le_refl _) (Nat.le_refl _) ?_
  exact jr_i rfl
set_option maxHeartbeats 4000000 in
theorem f_many0 {l : Launch} {D : va_G} {dT : Nat → ClassId} {H0 : Heap} {r : Nat → Nat} {nx : Nat} {g : j_H} {F : Nat → Nat} {V : Nat → Nat → Int32} {a nk : Nat} (h60 : g 60 = some (rcell .null a nk)) : MC (gG l D dT H0) yX0_many cX0_many 1 (some .int) 1 0 0 [.ref (r 0)] r (fkS r dT g F V) nx (jq_i (nI 0) r (fkS r dT g F V) nx) := by
  refine MC.ofJ [some (.ref (r 0))] rfl (Nat.le_of_ble_eq_true rfl) (by decide) ?_
  refine j_aload_n dX0_many_0 rfl ?_
  refine j_callVi (f_isNone0 h60) dX0_many_1 pmX0_isNone q759 q761 qs13 (by first | rfl | assumption) rfl rfl rfl ⟨Nat.le_of_ble_eq_true rfl, Nat.le_of_ble_eq_true rfl⟩ ⟨Nat.le_of_ble_eq_true rfl, Nat.le_of_ble_eq_true rfl⟩ rfl (Nat.le_of_ble_eq_true rfl) ?_
  refine j_if_eq (tgt := 11) dX0_many_4 (by decide) (fun c4 => absurd c4 (by decide)) (fun c4 => ?_)
  refine j_iconst (v := 0) dX0_many_7 (by decide) ?_
  refine j_goto (tgt := 21) dX0_many_8 (by decide) ?_
  refine j_iret dX0_many_21 rfl rfl (Nat.le_refl _) (Nat.le_refl _) ?_
  exact jr_i rfl
set_option maxHeartbeats 4000000 in
theorem f_isNumber1 {l : Launch} {D : va_G} {dT : Nat → ClassId} {H0 : Heap} {r : Nat → Nat} {nx : Nat} {g : j_H} {F : Nat → Nat} {V : Nat → Nat → Int32} {a nk : Nat} (h60 : g 60 = some (rcell (.ref (r 61)) a nk)) {kd bs fg m : Nat} (h61 : g 61 = some (dcell kd bs fg m)) (hm : 0 < m) (hm2 : m ≤ 100) (v : Int32) : MC (gG l D dT H0) yX0_isNumber cX0_isNumber 2 (some .boolean) 2 0 0 [.ref (r 0), .int v] r (fkS r dT g F V) nx (jq_i (j_b (0 ≤ v ∧ v ≤ nI m - 1)) r (fkS r dT g F V) nx) := by
  refine MC.ofJ [some (.ref (r 0)), some (.int v)] rfl (Nat.le_of_ble_eq_true rfl) (by decide) ?_
  refine j_iload_n dX0_isNumber_0 rfl ?_
  refine j_iconst (v := 0) dX0_isNumber_1 (by decide) ?_
  refine j_aload_n dX0_isNumber_2 rfl ?_
  refine j_callVi (f_many1 h60 h61 hm hm2) dX0_isNumber_3 pmX0_many q755 q757 qs12 (by first | rfl | assumption) rfl rfl rfl ⟨Nat.le_of_ble_eq_true rfl, Nat.le_of_ble_eq_true rfl⟩ ⟨Nat.le_of_ble_eq_true rfl, Nat.le_of_ble_eq_true rfl⟩ rfl (Nat.le_of_ble_eq_true rfl) ?_
  refine j_iconst (v := 1) dX0_isNumber_6 (by decide) ?_
  refine j_isub dX0_isNumber_7 ?_
  refine j_callSi (c_X0_isIn _ _ _) dX0_isNumber_8 pmX0_isIn q220 q221 rfl ⟨Nat.le_of_ble_eq_true rfl, Nat.le_of_ble_eq_true rfl⟩ ⟨Nat.le_of_ble_eq_true rfl, Nat.le_of_ble_eq_true rfl⟩ rfl (Nat.le_of_ble_eq_true rfl) ?_
  refine j_iret dX0_isNumber_11 rfl (by unfold j_b; split <;> rfl) (Nat.le_refl _) (Nat.le_refl _) ?_
  exact jr_i rfl
set_option maxHeartbeats 4000000 in
theorem f_isNumber0 {l : Launch} {D : va_G} {dT : Nat → ClassId} {H0 : Heap} {r : Nat → Nat} {nx : Nat} {g : j_H} {F : Nat → Nat} {V : Nat → Nat → Int32} {a nk : Nat} (h60 : g 60 = some (rcell .null a nk)) (v : Int32) : MC (gG l D dT H0) yX0_isNumber cX0_isNumber 2 (some .boolean) 2 0 0 [.ref (r 0), .int v] r (fkS r dT g F V) nx (jq_i (j_b (0 ≤ v ∧ v ≤ nI 0 - 1)) r (fkS r dT g F V) nx) := by
  refine MC.ofJ [some (.ref (r 0)), some (.int v)] rfl (Nat.le_of_ble_eq_true rfl) (by decide) ?_
  refine j_iload_n dX0_isNumber_0 rfl ?_
  refine j_iconst (v := 0) dX0_isNumber_1 (by decide) ?_
  refine j_aload_n dX0_isNumber_2 rfl ?_
  refine j_callVi (f_many0 h60) dX0_isNumber_3 pmX0_many q755 q757 qs12 (by first | rfl | assumption) rfl rfl rfl ⟨Nat.le_of_ble_eq_true rfl, Nat.le_of_ble_eq_true rfl⟩ ⟨Nat.le_of_ble_eq_true rfl, Nat.le_of_ble_eq_true rfl⟩ rfl (Nat.le_of_ble_eq_true rfl) ?_
  refine j_iconst (v := 1) dX0_isNumber_6 (by decide) ?_
  refine j_isub dX0_isNumber_7 ?_
  refine j_callSi (c_X0_isIn _ _ _) dX0_isNumber_8 pmX0_isIn q220 q221 rfl ⟨Nat.le_of_ble_eq_true rfl, Nat.le_of_ble_eq_true rfl⟩ ⟨Nat.le_of_ble_eq_true rfl, Nat.le_of_ble_eq_true rfl⟩ rfl (Nat.le_of_ble_eq_true rfl) ?_
  refine j_iret dX0_isNumber_11 rfl (by unfold j_b; split <;> rfl) (Nat.le_refl _) (Nat.le_refl _) ?_
  exact jr_i rfl
set_option maxHeartbeats 4000000 in
theorem f_isKey {l : Launch} {D : va_G} {dT : Nat → ClassId} {H0 : Heap} {r : Nat → Nat} {nx : Nat} {g : j_H} {F : Nat → Nat} {V : Nat → Nat → Int32} {d0 : Value} {a nk : Nat} (h60 : g 60 = some (rcell d0 a nk)) (v : Int32) : MC (gG l D dT H0) yX0_isKey cX0_isKey 2 (some .boolean) 1 0 0 [.ref (r 0), .int v] r (fkS r dT g F V) nx (jq_i (j_b (0 ≤ v ∧ v ≤ nI nk - 1)) r (fkS r dT g F V) nx) := by
  refine MC.ofJ [some (.ref (r 0)), some (.int v)] rfl (Nat.le_of_ble_eq_true rfl) (by decide) ?_
  refine j_iload_n dX0_isKey_0 rfl ?_
  refine j_iconst (v := 0) dX0_isKey_1 (by decide) ?_
  refine j_aload_n dX0_isKey_2 rfl ?_
  refine j_get 0 dX0_isKey_3 (by first | rfl | assumption) in_X0 rfl (by decide) q153 rfl ?_
  refine j_getN 2 dX0_isKey_6 (by first | rfl | assumption) in_X1 rfl (by decide) (fun _ hs => hs.1 _ qn109) rfl ?_
  refine j_iconst (v := 1) dX0_isKey_9 (by decide) ?_
  refine j_isub dX0_isKey_10 ?_
  refine j_callSi (c_X0_isIn _ _ _) dX0_isKey_11 pmX0_isIn q220 q221 rfl ⟨Nat.le_of_ble_eq_true rfl, Nat.le_of_ble_eq_true rfl⟩ ⟨Nat.le_of_ble_eq_true rfl, Nat.le_of_ble_eq_true rfl⟩ rfl (Nat.le_of_ble_eq_true rfl) ?_
  refine j_iret dX0_isKey_14 rfl (by unfold j_b; split <;> rfl) (Nat.le_refl _) (Nat.le_refl _) ?_
  exact jr_i rfl
set_option maxHeartbeats 4000000 in
theorem f_shown1 {l : Launch} {D : va_G} {dT : Nat → ClassId} {H0 : Heap} {r : Nat → Nat} {nx : Nat} {g : j_H} {F : Nat → Nat} {V : Nat → Nat → Int32} {a nk : Nat} (h60 : g 60 = some (rcell (.ref (r 61)) a nk)) {kd bs fg m : Nat} (h61 : g 61 = some (dcell kd bs fg m)) (hm : 0 < m) (hm2 : m ≤ 100) (s : Nat) (hs : s < 80000) : MC (gG l D dT H0) yX0_shown cX0_shown 2 (some .int) 1 0 0 [.ref (r 0), .int (nI s)] r (fkS r dT g F V) nx (jq_i (nI (sS m s)) r (fkS r dT g F V) nx) := by
  refine MC.ofJ [some (.ref (r 0)), some (.int (nI s))] rfl (Nat.le_of_ble_eq_true rfl) (by decide) ?_
  refine j_aload_n dX0_shown_0 rfl ?_
  refine j_callVi (f_isNone1 h60) dX0_shown_1 pmX0_isNone q759 q761 qs13 (by first | rfl | assumption) rfl rfl rfl ⟨Nat.le_of_ble_eq_true rfl, Nat.le_of_ble_eq_true rfl⟩ ⟨Nat.le_of_ble_eq_true rfl, Nat.le_of_ble_eq_true rfl⟩ rfl (Nat.le_of_ble_eq_true rfl) ?_
  refine j_if_eq (tgt := 11) dX0_shown_4 (by decide) (fun c4 => ?_) (fun c4 => absurd rfl c4)
  refine j_aload_n dX0_shown_11 rfl ?_
  refine j_get 0 dX0_shown_12 (by first | rfl | assumption) in_X0 rfl (by decide) q153 rfl ?_
  refine j_getN 0 dX0_shown_15 (by first | rfl | assumption) in_X1 rfl (by decide) (fun _ hs => hs.1 _ qn104) rfl ?_
  refine j_iload_n dX0_shown_18 rfl ?_
  refine j_callVi (c_shown 61 kd bs fg m (by exact h61) hm hm2 s hs) dX0_shown_19 pmX6_shown q775 q776 q777 (by first | rfl | assumption) rfl rfl rfl ⟨Nat.le_of_ble_eq_true rfl, Nat.le_of_ble_eq_true rfl⟩ ⟨Nat.le_of_ble_eq_true rfl, Nat.le_of_ble_eq_true rfl⟩ rfl (Nat.le_of_ble_eq_true rfl) ?_
  refine j_iret dX0_shown_22 rfl rfl (Nat.le_refl _) (Nat.le_refl _) ?_
  exact jr_i rfl
set_option maxHeartbeats 4000000 in
theorem f_shown0 {l : Launch} {D : va_G} {dT : Nat → ClassId} {H0 : Heap} {r : Nat → Nat} {nx : Nat} {g : j_H} {F : Nat → Nat} {V : Nat → Nat → Int32} {a nk : Nat} (h60 : g 60 = some (rcell .null a nk)) (v : Int32) : MC (gG l D dT H0) yX0_shown cX0_shown 2 (some .int) 1 0 0 [.ref (r 0), .int v] r (fkS r dT g F V) nx (jq_i (0) r (fkS r dT g F V) nx) := by
  refine MC.ofJ [some (.ref (r 0)), some (.int v)] rfl (Nat.le_of_ble_eq_true rfl) (by decide) ?_
  refine j_aload_n dX0_shown_0 rfl ?_
  refine j_callVi (f_isNone0 h60) dX0_shown_1 pmX0_isNone q759 q761 qs13 (by first | rfl | assumption) rfl rfl rfl ⟨Nat.le_of_ble_eq_true rfl, Nat.le_of_ble_eq_true rfl⟩ ⟨Nat.le_of_ble_eq_true rfl, Nat.le_of_ble_eq_true rfl⟩ rfl (Nat.le_of_ble_eq_true rfl) ?_
  refine j_if_eq (tgt := 11) dX0_shown_4 (by decide) (fun c4 => absurd c4 (by decide)) (fun c4 => ?_)
  refine j_iconst (v := 0) dX0_shown_7 (by decide) ?_
  refine j_goto (tgt := 22) dX0_shown_8 (by decide) ?_
  refine j_iret dX0_shown_22 rfl rfl (Nat.le_refl _) (Nat.le_refl _) ?_
  exact jr_i rfl
set_option maxHeartbeats 4000000 in
theorem f_fault {l : Launch} {D : va_G} {dT : Nat → ClassId} {H0 : Heap} {r : Nat → Nat} {nx : Nat} {g : j_H} {F : Nat → Nat} {V : Nat → Nat → Int32}  : MC (gG l D dT H0) yX0_fault cX0_fault 1 (some .int) 0 0 0 [.ref (r 0)] r (fkS r dT g F V) nx (jq_i (nI (F 6) - 1) r (fkS r dT g F V) nx) := by
  refine MC.ofJ [some (.ref (r 0))] rfl (Nat.le_of_ble_eq_true rfl) (by decide) ?_
  refine j_aload_n dX0_fault_0 rfl ?_
  refine j_get 7 dX0_fault_1 (by first | rfl | assumption) in_X0 rfl (by decide) q160 rfl ?_
  refine j_iret dX0_fault_4 rfl rfl (Nat.le_refl _) (Nat.le_refl _) ?_
  exact jr_i rfl
set_option maxHeartbeats 4000000 in
theorem f_tear {l : Launch} {D : va_G} {dT : Nat → ClassId} {H0 : Heap} {r : Nat → Nat} {nx : Nat} {g : j_H} {F : Nat → Nat} {V : Nat → Nat → Int32}  : MC (gG l D dT H0) yX0_tear cX0_tear 2 (some .int) 0 0 0 [.ref (r 0)] r (fkS r dT g F V) nx (jq_i (nI (F 4)) r (fkS r dT g (va_up F 4 0) V) nx) := by
  refine MC.ofJ [some (.ref (r 0)), none] rfl (Nat.le_of_ble_eq_true rfl) (by decide) ?_
  refine j_aload_n dX0_tear_0 rfl ?_
  refine j_get 4 dX0_tear_1 (by first | rfl | assumption) in_X0 rfl (by decide) q157 rfl ?_
  refine j_istore_n dX0_tear_4 (by decide) rfl ?_
  refine j_aload_n dX0_tear_5 rfl ?_
  refine j_iconst (v := 0) dX0_tear_6 (by decide) ?_
  refine j_eqi (show (0 : Int32) = nI 0 from rfl) ?_
  refine j_put 4 dX0_tear_7 (by first | rfl | assumption) in_X0 tyX0_ok nmX0 rfl (by decide) q157 rfl rfl rfl (by first | decide | simp) ?_
  refine j_fkF (F' := va_up F 4 0) (by decide) fo4 rfl ?_
  refine j_iload_n dX0_tear_10 rfl ?_
  refine j_iret dX0_tear_11 rfl rfl (Nat.le_refl _) (Nat.le_refl _) ?_
  exact jr_i rfl
set_option maxHeartbeats 4000000 in
theorem f_forget {l : Launch} {D : va_G} {dT : Nat → ClassId} {H0 : Heap} {r : Nat → Nat} {nx : Nat} {g : j_H} {F : Nat → Nat} {V : Nat → Nat → Int32}  : MC (gG l D dT H0) yX0_forget cX0_forget 2 (some .int) 0 0 0 [.ref (r 0)] r (fkS r dT g F V) nx (jq_i (nI (F 2)) r (fkS r dT g (va_up F 2 0) V) nx) := by
  refine MC.ofJ [some (.ref (r 0)), none] rfl (Nat.le_of_ble_eq_true rfl) (by decide) ?_
  refine j_aload_n dX0_forget_0 rfl ?_
  refine j_get 1 dX0_forget_1 (by first | rfl | assumption) in_X0 rfl (by decide) q154 rfl ?_
  refine j_getN 3 dX0_forget_4 (by first | rfl | assumption) in_X2 rfl (by decide) (fun _ hs => hs.1 _ qn131) rfl ?_
  refine j_istore_n dX0_forget_7 (by decide) rfl ?_
  refine j_aload_n dX0_forget_8 rfl ?_
  refine j_get 1 dX0_forget_9 (by first | rfl | assumption) in_X0 rfl (by decide) q154 rfl ?_
  refine j_iconst (v := 0) dX0_forget_12 (by decide) ?_
  refine j_eqi (show (0 : Int32) = nI 0 from rfl) ?_
  refine j_putN 3 dX0_forget_13 (by first | rfl | assumption) in_X2 tyX2_ok nmX2 rfl (by decide) (fun _ hs => hs.1 _ qn131) rfl rfl rfl (by first | decide | simp) ?_
  refine j_fkF (F' := va_up F 2 0) (by decide) fo2 rfl ?_
  refine j_iload_n dX0_forget_16 rfl ?_
  refine j_iret dX0_forget_17 rfl rfl (Nat.le_refl _) (Nat.le_refl _) ?_
  exact jr_i rfl
set_option maxHeartbeats 4000000 in
theorem f_seed1 {l : Launch} {D : va_G} {dT : Nat → ClassId} {H0 : Heap} {r : Nat → Nat} {nx : Nat} {g : j_H} {F : Nat → Nat} {V : Nat → Nat → Int32} (v : Nat) (hv : v < 2 ^ 31) : MC (gG l D dT H0) yX0_seed cX0_seed 3 (some .int) 0 0 0 [.ref (r 0), .int (nI v)] r (fkS r dT g F V) nx (jq_i (nI (F 3)) r (fkS r dT g (va_up F 3 v) V) nx) := by
  refine MC.ofJ [some (.ref (r 0)), some (.int (nI v)), none] rfl (Nat.le_of_ble_eq_true rfl) (by decide) ?_
  refine j_iload_n dX0_seed_0 rfl ?_
  refine j_if_ge (tgt := 7) dX0_seed_1 (by decide) (fun c1 => ?_) (fun c1 => absurd (nI_pos' hv) c1)
  refine j_aload_n dX0_seed_7 rfl ?_
  refine j_get 1 dX0_seed_8 (by first | rfl | assumption) in_X0 rfl (by decide) q154 rfl ?_
  refine j_getN 4 dX0_seed_11 (by first | rfl | assumption) in_X2 rfl (by decide) (fun _ hs => hs.1 _ qn133) rfl ?_
  refine j_istore_n dX0_seed_14 (by decide) rfl ?_
  refine j_aload_n dX0_seed_15 rfl ?_
  refine j_get 1 dX0_seed_16 (by first | rfl | assumption) in_X0 rfl (by decide) q154 rfl ?_
  refine j_iload_n dX0_seed_19 rfl ?_
  refine j_putN 4 dX0_seed_20 (by first | rfl | assumption) in_X2 tyX2_ok nmX2 rfl (by decide) (fun _ hs => hs.1 _ qn133) rfl rfl rfl (by first | decide | simp) ?_
  refine j_fkF (F' := va_up F 3 v) (by decide) fo3 rfl ?_
  refine j_iload_n dX0_seed_23 rfl ?_
  refine j_iret dX0_seed_24 rfl rfl (Nat.le_refl _) (Nat.le_refl _) ?_
  exact jr_i rfl
set_option maxHeartbeats 4000000 in
theorem f_seed0 {l : Launch} {D : va_G} {dT : Nat → ClassId} {H0 : Heap} {r : Nat → Nat} {nx : Nat} {g : j_H} {F : Nat → Nat} {V : Nat → Nat → Int32} (v : Int32) (hv : ¬ 0 ≤ v) : MC (gG l D dT H0) yX0_seed cX0_seed 3 (some .int) 0 0 0 [.ref (r 0), .int v] r (fkS r dT g F V) nx (jq_i (-1000000002) r (fkS r dT g F V) nx) := by
  refine MC.ofJ [some (.ref (r 0)), some (.int v), none] rfl (Nat.le_of_ble_eq_true rfl) (by decide) ?_
  refine j_iload_n dX0_seed_0 rfl ?_
  refine j_if_ge (tgt := 7) dX0_seed_1 (by decide) (fun c1 => absurd c1 hv) (fun c1 => ?_)
  refine j_ldc dX0_seed_4 q223 ?_
  refine j_iret dX0_seed_6 rfl rfl (Nat.le_refl _) (Nat.le_refl _) ?_
  exact jr_i rfl
set_option maxHeartbeats 4000000 in
theorem f_begin1 {l : Launch} {D : va_G} {dT : Nat → ClassId} {H0 : Heap} {r : Nat → Nat} {nx : Nat} {g : j_H} {F : Nat → Nat} {V : Nat → Nat → Int32} {a nk : Nat} (h60 : g 60 = some (rcell (.ref (r 61)) a nk)) {kd bs fg m : Nat} (h61 : g 61 = some (dcell kd bs fg m)) (hm : 0 < m) (hm2 : m ≤ 100) (hs : F 0 < 80000) : MC (gG l D dT H0) yX0_begin cX0_begin 2 (some .int) 2 0 0 [.ref (r 0)] r (fkS r dT g F V) nx (jq_i (nI (sS m (F 0))) r (fkS r dT g (va_up F 0 0) V) nx) := by
  refine MC.ofJ [some (.ref (r 0)), none] rfl (Nat.le_of_ble_eq_true rfl) (by decide) ?_
  refine j_aload_n dX0_begin_0 rfl ?_
  refine j_aload_n dX0_begin_1 rfl ?_
  refine j_get 1 dX0_begin_2 (by first | rfl | assumption) in_X0 rfl (by decide) q154 rfl ?_
  refine j_getN 0 dX0_begin_5 (by first | rfl | assumption) in_X2 rfl (by decide) (fun _ hs => hs.1 _ qn125) rfl ?_
  refine j_callVi (f_shown1 h60 h61 hm hm2 (F 0) hs) dX0_begin_8 pmX0_shown q771 q773 qs14 (by first | rfl | assumption) rfl rfl rfl ⟨Nat.le_of_ble_eq_true rfl, Nat.le_of_ble_eq_true rfl⟩ ⟨Nat.le_of_ble_eq_true rfl, Nat.le_of_ble_eq_true rfl⟩ rfl (Nat.le_of_ble_eq_true rfl) ?_
  refine j_istore_n dX0_begin_11 (by decide) rfl ?_
  refine j_aload_n dX0_begin_12 rfl ?_
  refine j_get 1 dX0_begin_13 (by first | rfl | assumption) in_X0 rfl (by decide) q154 rfl ?_
  refine j_iconst (v := 0) dX0_begin_16 (by decide) ?_
  refine j_eqi (show (0 : Int32) = nI 0 from rfl) ?_
  refine j_putN 0 dX0_begin_17 (by first | rfl | assumption) in_X2 tyX2_ok nmX2 rfl (by decide) (fun _ hs => hs.1 _ qn125) rfl rfl rfl (by first | decide | simp) ?_
  refine j_fkF (F' := va_up F 0 0) (by decide) fo0 rfl ?_
  refine j_iload_n dX0_begin_20 rfl ?_
  refine j_iret dX0_begin_21 rfl rfl (Nat.le_refl _) (Nat.le_refl _) ?_
  exact jr_i rfl
set_option maxHeartbeats 4000000 in
theorem f_begin0 {l : Launch} {D : va_G} {dT : Nat → ClassId} {H0 : Heap} {r : Nat → Nat} {nx : Nat} {g : j_H} {F : Nat → Nat} {V : Nat → Nat → Int32} {a nk : Nat} (h60 : g 60 = some (rcell .null a nk)) : MC (gG l D dT H0) yX0_begin cX0_begin 2 (some .int) 2 0 0 [.ref (r 0)] r (fkS r dT g F V) nx (jq_i (0) r (fkS r dT g (va_up F 0 0) V) nx) := by
  refine MC.ofJ [some (.ref (r 0)), none] rfl (Nat.le_of_ble_eq_true rfl) (by decide) ?_
  refine j_aload_n dX0_begin_0 rfl ?_
  refine j_aload_n dX0_begin_1 rfl ?_
  refine j_get 1 dX0_begin_2 (by first | rfl | assumption) in_X0 rfl (by decide) q154 rfl ?_
  refine j_getN 0 dX0_begin_5 (by first | rfl | assumption) in_X2 rfl (by decide) (fun _ hs => hs.1 _ qn125) rfl ?_
  refine j_callVi (f_shown0 h60 _) dX0_begin_8 pmX0_shown q771 q773 qs14 (by first | rfl | assumption) rfl rfl rfl ⟨Nat.le_of_ble_eq_true rfl, Nat.le_of_ble_eq_true rfl⟩ ⟨Nat.le_of_ble_eq_true rfl, Nat.le_of_ble_eq_true rfl⟩ rfl (Nat.le_of_ble_eq_true rfl) ?_
  refine j_istore_n dX0_begin_11 (by decide) rfl ?_
  refine j_aload_n dX0_begin_12 rfl ?_
  refine j_get 1 dX0_begin_13 (by first | rfl | assumption) in_X0 rfl (by decide) q154 rfl ?_
  refine j_iconst (v := 0) dX0_begin_16 (by decide) ?_
  refine j_eqi (show (0 : Int32) = nI 0 from rfl) ?_
  refine j_putN 0 dX0_begin_17 (by first | rfl | assumption) in_X2 tyX2_ok nmX2 rfl (by decide) (fun _ hs => hs.1 _ qn125) rfl rfl rfl (by first | decide | simp) ?_
  refine j_fkF (F' := va_up F 0 0) (by decide) fo0 rfl ?_
  refine j_iload_n dX0_begin_20 rfl ?_
  refine j_iret dX0_begin_21 rfl rfl (Nat.le_refl _) (Nat.le_refl _) ?_
  exact jr_i rfl
