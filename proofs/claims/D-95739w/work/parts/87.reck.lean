set_option maxRecDepth 100000
theorem fkG_rn {D : va_G} {cl : List vw_C} {H : Heap} {r r' : Nat → Nat} {dT : Nat → ClassId} {F : Nat → Nat} {i a : Nat} {f : Nat → Int32} {e' : va_E} (hr : ∀ k, k < 32 → r' k = r k) (h0 : i ≠ 0) (he : fkG r' dT F i f = some e') : ∃ e, fkG r dT F i f = some e ∧ (va_at D cl (a, e) H → va_at D cl (a, e') H) := by
  unfold fkG at he ⊢
  split at he
  all_goals first
    | (cases he; done)
    | exact absurd rfl h0
    | (cases he; exact ⟨_, rfl, id⟩)
    | (refine ⟨_, rfl, fun h => ?_⟩; cases he; simp only [hr 0 (by decide), hr 1 (by decide), hr 2 (by decide), hr 3 (by decide), hr 4 (by decide), hr 5 (by decide), hr 6 (by decide), hr 7 (by decide), hr 8 (by decide), hr 9 (by decide), hr 10 (by decide), hr 11 (by decide), hr 12 (by decide), hr 13 (by decide), hr 14 (by decide), hr 15 (by decide), hr 16 (by decide), hr 17 (by decide), hr 18 (by decide), hr 19 (by decide), hr 20 (by decide), hr 21 (by decide), hr 22 (by decide), hr 23 (by decide), hr 24 (by decide), hr 25 (by decide), hr 26 (by decide), hr 27 (by decide), hr 28 (by decide), hr 29 (by decide), hr 30 (by decide), hr 31 (by decide)]; exact h)
    | (cases he; exact ⟨_, rfl, fun h => Eq.trans h (congrArg some (vpr_cg (fun j hj => congrArg some (hr (j + 22) (Nat.lt_of_lt_of_le (Nat.add_lt_add_right hj 22) (Nat.le_of_ble_eq_true rfl))).symm)))⟩)
    | (cases he; exact ⟨_, rfl, fun h => Eq.trans h (congrArg some (vpr_cg (fun j hj => congrArg some (hr (j + 27) (Nat.lt_of_lt_of_le (Nat.add_lt_add_right hj 27) (Nat.le_of_ble_eq_true rfl))).symm)))⟩)
    | (cases he; exact ⟨_, rfl, fun h => Eq.trans h (congrArg some (vpr_cg (fun j hj => congrArg some (hr (2 * j + 18) (Nat.lt_of_lt_of_le (Nat.add_lt_add_right (Nat.mul_lt_mul_of_pos_left hj Nat.zero_lt_two) 18) (Nat.le_of_ble_eq_true rfl))).symm)))⟩)
/-- FewKeys' cells are found again behind the reader -/
theorem fk_in {G : j_G} {H : Heap} {r1 r2 : Nat → Nat} {dT : Nat → ClassId} {h2 : j_H} {F : Nat → Nat} {V : Nat → Nat → Int32} {nx : Nat} (hlo : ∀ i, i < 32 → h2 i = fkG r1 dT F i (V i)) (hr : ∀ k, k < 32 ∨ k = 60 → r2 k = r1 k) (h : j_holds G r2 h2 nx H) : j_holds G r2 (fkS r2 dT h2 F V) nx H := by
  have key : ∀ i e', fkS r2 dT h2 F V i = some e' → ∃ e, h2 i = some e ∧ (va_at G.2.1 G.2.2.1 (r2 i, e) H → va_at G.2.1 G.2.2.1 (r2 i, e') H) := by
    intro i e' hi
    by_cases h32 : i < 32
    · rw [fkS_lo h32] at hi
      obtain ⟨e, k1, k2⟩ := fkG_re (D := G.2.1) (cl := G.2.2.1) (H := H) (a := r2 i) hr hi
      exact ⟨e, by rw [hlo i h32]; exact k1, k2⟩
    · rw [fkS_hi (by omega)] at hi
      exact ⟨e', hi, id⟩
  obtain ⟨h1, h2', h3, h4, h5⟩ := h
  refine ⟨h1, h2', h3, fun i e' hi => ?_, fun i j a b hi hj hij => ?_⟩
  · obtain ⟨e, k1, k2⟩ := key i e' hi
    exact ⟨(h4 i e k1).1, k2 (h4 i e k1).2⟩
  · obtain ⟨e, k1, -⟩ := key i a hi
    obtain ⟨e2, l1, -⟩ := key j b hj
    exact h5 i j e e2 k1 l1 hij
/-- where the new reckoner lies -/
def rkI (i : Nat) : Nat := if i = 60 then 201 else if i = 61 then 202 else if i = 62 then 203 else if 63 ≤ i ∧ i < 72 then i + 157 else i
def rkR (r : Nat → Nat) : Nat → Nat := fun i => r (rkI i)
def rkG (h : j_H) : j_H := fun i => if i < 200 then h (rkI i) else none
theorem rkI_lo {i : Nat} (h : i < 60 ∨ 72 ≤ i) : rkI i = i := by
  unfold rkI
  rw [if_neg (by omega), if_neg (by omega), if_neg (by omega), if_neg (by omega)]
theorem rkI_ge {i : Nat} (h : 32 ≤ i) : 32 ≤ rkI i := by
  unfold rkI
  repeat' split
  all_goals omega
theorem rkI_inj {i j : Nat} (hi : i < 200) (hj : j < 200) (h : rkI i = rkI j) : i = j := by
  unfold rkI at h
  repeat' split at h
  all_goals omega
theorem rkI_k {k : Nat} (h : k < 9) : rkI (k + 63) = k + 220 := by
  unfold rkI
  rw [if_neg (by omega), if_neg (by omega), if_neg (by omega), if_pos (by omega)]
theorem fk_out {G : j_G} {H : Heap} {r : Nat → Nat} {dT : Nat → ClassId} {h2 : j_H} {F : Nat → Nat} {V : Nat → Nat → Int32} {nx : Nat} (h : j_holds G r (j_set (fkS r dT h2 F V) 0 (.inr (0, [.ref (r 201), .ref (r 1), .ref (r 3), .ref (r 4), .int (nI (F 4)), .ref (r 5), .int (nI (F 5)), .int (nI (F 6) - 1), .ref (r 6), .ref (r 7), .ref (r 8), .ref (r 9), .ref (r 10), .ref (r 11), .ref (r 12), .ref (r 13), .ref (r 14), .ref (r 15), .ref (r 16), .ref (r 17)]))) nx H) : j_holds G (rkR r) (fkS (rkR r) dT (rkG h2) F V) nx H := by
  have key : ∀ i e', fkS (rkR r) dT (rkG h2) F V i = some e' → i < 200 ∧ ∃ e, (j_set (fkS r dT h2 F V) 0 (.inr (0, [.ref (r 201), .ref (r 1), .ref (r 3), .ref (r 4), .int (nI (F 4)), .ref (r 5), .int (nI (F 5)), .int (nI (F 6) - 1), .ref (r 6), .ref (r 7), .ref (r 8), .ref (r 9), .ref (r 10), .ref (r 11), .ref (r 12), .ref (r 13), .ref (r 14), .ref (r 15), .ref (r 16), .ref (r 17)]))) (rkI i) = some e ∧ (va_at G.2.1 G.2.2.1 (r (rkI i), e) H → va_at G.2.1 G.2.2.1 (r (rkI i), e') H) := by
    intro i e' hi
    by_cases h32 : i < 32
    · rw [fkS_lo h32] at hi
      rw [rkI_lo (Or.inl (by omega))]
      refine ⟨by omega, ?_⟩
      by_cases h0 : i = 0
      · subst h0
        cases hi
        exact ⟨_, j_set_self, id⟩
      · obtain ⟨e, k1, k2⟩ := fkG_rn (D := G.2.1) (cl := G.2.2.1) (H := H) (a := r i) (r := r) (fun k hk => congrArg r (rkI_lo (Or.inl (by omega)))) h0 hi
        exact ⟨e, by rw [j_set_ne h0, fkS_lo h32]; exact k1, k2⟩
    · rw [fkS_hi (by omega)] at hi
      unfold rkG at hi
      split at hi
      · rename_i hl
        have hg := rkI_ge (i := i) (by omega)
        exact ⟨hl, e', by rw [j_set_ne (by omega), fkS_hi hg]; exact hi, id⟩
      · cases hi
  obtain ⟨h1, h2', h3, h4, h5⟩ := h
  refine ⟨h1, h2', h3, fun i e' hi => ?_, fun i j a b hi hj hij => ?_⟩
  · obtain ⟨-, e, k1, k2⟩ := key i e' hi
    exact ⟨(h4 _ e k1).1, k2 (h4 _ e k1).2⟩
  · obtain ⟨hi2, e, k1, -⟩ := key i a hi
    obtain ⟨hj2, e2, l1, -⟩ := key j b hj
    exact rkI_inj hi2 hj2 (h5 _ _ e e2 k1 l1 hij)
/-! what has been read is in order -/
theorem pDial_pw {T : Nat → Nat} {n p : Nat} (hp : p ≤ n) (h : (pDial T n p).1 = 0) : (pDial T n p).2.2.1.2.2.2 = (pDial T n p).2.2.1.2.1 ^ (pDial T n p).2.2.1.2.2.1 ∧ 1 ≤ (pDial T n p).2.2.1.2.2.1 ∧ (pDial T n p).2.2.1.2.2.1 ≤ 6 := by
  have hw2 : we T n (sk T n p) ≤ n := rgE_le (rgE_le hp)
  unfold pDial at h ⊢
  by_cases hc : 2 ≤ wK T n (sk T n p) ∧ wK T n (sk T n p) ≤ 3
  · rw [if_pos hc] at h ⊢
    by_cases hf : (pNum T n (we T n (sk T n p)) 2 10).1 = 0
    · rw [pNm_1 hf] at h ⊢
      obtain ⟨a1, a2, a3, a4, a5⟩ := pNum_pos hw2 hf
      by_cases hg : (pNum T n (pNum T n (we T n (sk T n p)) 2 10).2.2 1 6).1 = 0
      · rw [pNm_1 hg] at h ⊢
        obtain ⟨c1, c2, c3, c4, c5⟩ := pNum_pos a3 hg
        by_cases hm : (pNum T n (we T n (sk T n p)) 2 10).2.1 ^ (pNum T n (pNum T n (we T n (sk T n p)) 2 10).2.2 1 6).2.1 ≤ 100
        · rw [if_pos hm] at h ⊢
          by_cases he : (pEnd T n (pNum T n (pNum T n (we T n (sk T n p)) 2 10).2.2 1 6).2.2).1 = 0
          · rw [if_pos he] at h ⊢
            exact ⟨rfl, c4, c5⟩
          · rw [if_neg he] at h
            exact absurd h he
        · rw [if_neg hm] at h
          exact absurd h (fun q => by cases q)
      · rw [pNm_0 hg] at h
        exact absurd h hg
    · rw [pNm_0 hf] at h
      exact absurd h hf
  · rw [if_neg hc] at h
    exact absurd h (fun q => by cases q)
theorem pKeys_ok {T : Nat → Nat} {n bs m : Nat} (hb : 1 ≤ bs) (hm : 1 ≤ m) : ∀ k p (l : List KY), p ≤ n → (∀ e, e ∈ l → okK bs m e ∧ 1 ≤ e.2.1) → l.length ≤ 8 → (pKeys T n bs m k p l).1 = 0 → (∀ e, e ∈ (pKeys T n bs m k p l).2.2 → okK bs m e ∧ 1 ≤ e.2.1) ∧ (pKeys T n bs m k p l).2.2.length ≤ 8
  | 0, p, l, hp, h1, h2, _ => ⟨h1, h2⟩
  | k + 1, p, l, hp, h1, h2, h => by
    rw [pKeys_step] at h ⊢
    by_cases hz : n ≤ sk T n p
    · rw [if_pos hz]; exact ⟨h1, h2⟩
    · rw [if_neg hz] at h ⊢
      by_cases hk : (pK1 T n bs m l.length (sk T n p)).1 = 0
      · rw [if_pos hk] at h ⊢
        obtain ⟨b1, b2, b3, b4, b5⟩ := pK1_ok (rgE_le hp) hb hm hk
        refine pKeys_ok hb hm k _ _ b2 (fun e he => ?_) (by rw [List.length_append]; show l.length + 1 ≤ 8; omega) h
        rcases List.mem_append.mp he with z | z
        · exact h1 e z
        · rw [List.mem_singleton] at z
          rw [z]; exact ⟨b3, b4⟩
      · rw [if_neg hk] at h
        exact absurd h hk
theorem pAll_ok {T : Nat → Nat} {n : Nat} (h : (pAll T n).1 = 0) : ((pAll T n).2.2.1 = none → (pAll T n).2.2.2 = []) ∧ (pAll T n).2.2.2.length ≤ 8 ∧ ∀ d, (pAll T n).2.2.1 = some d → okD d.1 d.2.1 d.2.2.2 ∧ d.2.2.2 = d.2.1 ^ d.2.2.1 ∧ (1 ≤ d.2.2.1 ∧ d.2.2.1 ≤ 6) ∧ ∀ e, e ∈ (pAll T n).2.2.2 → okK d.2.1 d.2.2.2 e ∧ 1 ≤ e.2.1 := by
  have hw : we T n (sk T n 0) ≤ n := rgE_le (rgE_le (Nat.zero_le _))
  unfold pAll at h ⊢
  by_cases h0 : n ≤ sk T n 0
  · rw [if_pos h0]; exact ⟨fun _ => rfl, Nat.zero_le _, fun d hd => by cases hd⟩
  · rw [if_neg h0] at h ⊢
    by_cases h1 : wK T n (sk T n 0) = 1
    · rw [if_pos h1] at h ⊢
      by_cases hd : (pDial T n (we T n (sk T n 0))).1 = 0
      · rw [if_pos hd] at h ⊢
        obtain ⟨o1, o2, o3⟩ := pDial_ok hw hd
        have hpw := pDial_pw hw hd
        obtain ⟨k1, k2⟩ := pKeys_ok (by have := o3.2.1; omega) o3.pos n _ [] o2 (fun e he => by cases he) (Nat.zero_le _) h
        refine ⟨(fun q => by cases q), k2, fun d hd => ?_⟩
        cases hd
        exact ⟨o3, hpw.1, hpw.2, k1⟩
      · rw [if_neg hd] at h
        exact absurd h hd
    · rw [if_neg h1] at h
      exact absurd h (fun q => by cases q)
/-- the new reckoner as it lies in the heap -/
def rkNw (D9 : Option (Nat × Nat × Nat × Nat)) (l : List KY) (dT : Nat → ClassId) (r : Nat → Nat) (g : j_H) : Prop := ∃ ka : Nat → Option Nat, g 62 = some (.inl (dT 4, 9, .inr (.inr (.inr (.inr ka))))) ∧ (D9 = none → g 60 = some (rcell .null (r 62) 0)) ∧ ∀ d, D9 = some d → g 60 = some (rcell (.ref (r 61)) (r 62) l.length) ∧ g 61 = some (dcell d.1 d.2.1 d.2.2.1 d.2.2.2) ∧ l.length ≤ 8 ∧ ∀ i e, l[i]? = some e → ka i = some (r (i + 63)) ∧ g (i + 63) = some (kcell (r 61) e)
theorem rkAll.N {D9 : Option (Nat × Nat × Nat × Nat)} {l : List KY} {dT : Nat → ClassId} {r : Nat → Nat} {h : j_H} (h9 : rkAll D9 l dT r h) : rkNw D9 l dT (rkR r) (rkG h) := by
  obtain ⟨ka, k1, k2, k3⟩ := h9
  refine ⟨ka, k1, k2, fun d hd => ?_⟩
  obtain ⟨a1, a2, a3, a4⟩ := k3 d hd
  refine ⟨a1, a2, a3, fun i e he => ?_⟩
  have hi : i < l.length := (List.getElem?_eq_some_iff.mp he).1
  obtain ⟨b1, b2⟩ := a4 i e he
  refine ⟨?_, ?_⟩
  · rw [b1]; unfold rkR; rw [rkI_k (by omega)]
  · unfold rkG; rw [if_pos (by omega), rkI_k (by omega)]; exact b2
/-- FewKeys behind reckoner() -/
def q_fr (res : pRA) (dT : Nat → ClassId) (r : Nat → Nat) (g : j_H) (F : Nat → Nat) (V : Nat → Nat → Int32) : j_Q := fun o r' h' _ => ∃ (g' : j_H) (F' : Nat → Nat), h' = fkS r' dT g' F' V ∧ (∀ i, 200 ≤ i → g' i = none) ∧ (∀ i, i < 200 → i < 60 ∨ 72 ≤ i → r' i = r i ∧ (32 ≤ i → g' i = g i)) ∧ (¬ res.1 = 0 → o = .returned (some (.int (-10 - nI res.1))) ∧ (∀ i, i < 200 → r' i = r i ∧ (32 ≤ i → g' i = g i)) ∧ F' = va_up (va_up (va_up F 6 0) 6 (res.2.1 + 1)) 5 0) ∧ (res.1 = 0 → o = .returned (some (.int (nI (match res.2.2.1 with | none => 0 | some d => d.2.2.2)))) ∧ rkNw res.2.2.1 res.2.2.2 dT r' g' ∧ F' = va_up (va_up (va_up (va_up (va_up (va_up (va_up (va_up F 6 0) 5 0) 0 0) 1 0) 2 0) 4 0) 14 0) 24 0)
theorem q_fr.isR {res : pRA} {dT : Nat → ClassId} {r : Nat → Nat} {g : j_H} {F : Nat → Nat} {V : Nat → Nat → Int32} : j_isR (q_fr res dT r g F V) := by
  rintro o r' h' nx' ⟨g', F', -, -, -, a, b⟩
  by_cases hz : res.1 = 0
  · exact ⟨_, (b hz).1⟩
  · exact ⟨_, (a hz).1⟩
set_option maxHeartbeats 4000000 in
theorem f_reckoner {l : Launch} {D : va_G} {dT : Nat → ClassId} {H0 : Heap} {r : Nat → Nat} {nx : Nat} {g : j_H} {F : Nat → Nat} {V : Nat → Nat → Int32} {T : Nat → Nat} (hsb : sbR (V 5) (F 5) T) (hn4 : F 5 ≤ 400) (hg : ∀ i, 200 ≤ i → g i = none) : MCW (gG l D dT H0) yX0_reckoner cX0_reckoner 4 (some .int) [(5, 27, 35, 97), (5, 27, 59, 0), (35, 52, 59, 0)] 10 260 34100 [.ref (r 0)] r (fkS r dT g F V) nx (q_fr (pAll T (F 5)) dT r g F V) := by
  refine MCW.ofJ [some (.ref (r 0)), none, none, none] rfl (Nat.le_of_ble_eq_true rfl) (by decide) ?_
  refine j_aload_n dX0_reckoner_0 rfl ?_
  refine j_iconst (v := (-1)) dX0_reckoner_1 (by decide) ?_
  refine j_eqi (show (-1 : Int32) = nI 0 - 1 by decide) ?_
  refine j_put 7 dX0_reckoner_2 (by first | rfl | assumption) in_X0 tyX0_ok nmX0 rfl (by decide) q160 rfl rfl rfl (by first | decide | simp) ?_
  refine j_fkF (F' := (va_up F 6 0)) (by decide) fo6 rfl ?_
  obtain ⟨r1, hr1, q200, q201, q203⟩ : ∃ r1 : Nat → Nat, (∀ i, i ≠ 200 → i ≠ 201 → i ≠ 203 → r1 i = r i) ∧ r1 200 = nx ∧ r1 201 = nx + 1 ∧ r1 203 = nx + 2 := ⟨va_up (va_up (va_up r 200 nx) 201 (nx + 1)) 203 (nx + 2), fun i h1 h2 h3 => by rw [va_up_ne _ _ h3, va_up_ne _ _ h2, va_up_ne _ _ h1], by rw [va_up_ne _ _ (by decide), va_up_ne _ _ (by decide), va_up_self], by rw [va_up_ne _ _ (by decide), va_up_self], va_up_self _ _ _⟩
  refine j_reH (r' := r1) (h' := fkS r1 dT g (va_up F 6 0) V) (fun H hH => fkS_re (fun k hk => hr1 k (by omega) (by omega) (by omega)) (fun i e hi he => ⟨he, hr1 i (fun z => by rw [z, hg 200 (by decide)] at he; cases he) (fun z => by rw [z, hg 201 (by decide)] at he; cases he) (fun z => by rw [z, hg 203 (by decide)] at he; cases he)⟩) hH) ?_
  refine j_re (L' := [some (.ref (r1 0)), none, none, none]) (by rw [hr1 0 (by decide) (by decide) (by decide)]) rfl rfl ?_
  refine j_aload_n dX0_reckoner_5 rfl ?_
  refine j_new (ci := 4) (fs := [.null, .int 0, .null, .int 0, .int 0]) 200 q200 dX0_reckoner_6 in_X4 tyX4_ok rfl q230 q231 q65 (fun j hj => by
    have hj3 : j = 0 ∨ j = 1 ∨ j = 2 ∨ j = 3 ∨ j = 4 := by have hj4 : j < 5 := hj; omega
    rcases hj3 with rfl | rfl | rfl | rfl | rfl <;> rfl) (Nat.le_of_ble_eq_true rfl) (Nat.le_of_ble_eq_true rfl) ?_
  refine j_fkg (by decide) ?_
  refine j_dup dX0_reckoner_9 rfl ?_
  refine j_aload_n dX0_reckoner_10 rfl ?_
  refine j_get 5 dX0_reckoner_11 (by first | rfl | assumption) in_X0 rfl (by decide) q158 rfl ?_
  refine j_aload_n dX0_reckoner_14 rfl ?_
  refine j_get 6 dX0_reckoner_15 (by first | rfl | assumption) in_X0 rfl (by decide) q159 rfl ?_
  refine j_callIv (r_init (r1 5) (F 5) (by rw [fkS_hi (by decide)]; exact j_set_self) q201 q203) dX0_reckoner_18 pmX4_init q232 q233 rfl rfl ⟨Nat.le_of_ble_eq_true rfl, Nat.le_of_ble_eq_true rfl⟩ ⟨Nat.le_of_ble_eq_true rfl, Nat.le_of_ble_eq_true rfl⟩ rfl (Nat.le_of_ble_eq_true rfl) ?_
  have e200 : (j_set (j_set (j_set (fkS r1 dT (j_set g 200 (.inr (4, [.null, .int 0, .null, .int 0, .int 0]))) (va_up F 6 0) V) 203 (.inl (dT 4, 9, .inr (.inr (.inr (.inr (fun _ => none))))))) 201 (rcell .null (r1 203) 0)) 200 (rdC (r1 5) (F 5) (r1 201) 0 0)) 200 = some (rdC (r1 5) (F 5) (r1 201) 0 0) := j_set_self
  have e201 : (j_set (j_set (j_set (fkS r1 dT (j_set g 200 (.inr (4, [.null, .int 0, .null, .int 0, .int 0]))) (va_up F 6 0) V) 203 (.inl (dT 4, 9, .inr (.inr (.inr (.inr (fun _ => none))))))) 201 (rcell .null (r1 203) 0)) 200 (rdC (r1 5) (F 5) (r1 201) 0 0)) 201 = some (rcell .null (r1 203) 0) := by rw [j_set_ne (by decide)]; exact j_set_self
  have e203 : (j_set (j_set (j_set (fkS r1 dT (j_set g 200 (.inr (4, [.null, .int 0, .null, .int 0, .int 0]))) (va_up F 6 0) V) 203 (.inl (dT 4, 9, .inr (.inr (.inr (.inr (fun _ => none))))))) 201 (rcell .null (r1 203) 0)) 200 (rdC (r1 5) (F 5) (r1 201) 0 0)) 203 = some (.inl (dT 4, 9, .inr (.inr (.inr (.inr (fun _ => none)))))) := by rw [j_set_ne (by decide), j_set_ne (by decide)]; exact j_set_self
  have eo : ∀ i, i ≠ 200 → i ≠ 201 → i ≠ 203 → (j_set (j_set (j_set (fkS r1 dT (j_set g 200 (.inr (4, [.null, .int 0, .null, .int 0, .int 0]))) (va_up F 6 0) V) 203 (.inl (dT 4, 9, .inr (.inr (.inr (.inr (fun _ => none))))))) 201 (rcell .null (r1 203) 0)) 200 (rdC (r1 5) (F 5) (r1 201) 0 0)) i = fkS r1 dT g (va_up F 6 0) V i := fun i h1 h2 h3 => by
    rw [j_set_ne h1, j_set_ne h2, j_set_ne h3]
    by_cases h32 : i < 32
    · rw [fkS_lo h32, fkS_lo h32]
    · rw [fkS_hi (by omega), fkS_hi (by omega), j_set_ne h1]
  generalize (j_set (j_set (j_set (fkS r1 dT (j_set g 200 (.inr (4, [.null, .int 0, .null, .int 0, .int 0]))) (va_up F 6 0) V) 203 (.inl (dT 4, 9, .inr (.inr (.inr (.inr (fun _ => none))))))) 201 (rcell .null (r1 203) 0)) 200 (rdC (r1 5) (F 5) (r1 201) 0 0)) = h1 at e200 e201 e203 eo ⊢
  have e5 : h1 5 = some (txC dT (V 5)) := (eo 5 (by decide) (by decide) (by decide)).trans rfl
  have en : ∀ i, 200 ≤ i → i ≠ 200 → i ≠ 201 → i ≠ 203 → h1 i = none := fun i a b c d => by rw [eo i b c d, fkS_hi (by omega)]; exact hg i a
  have ALL := r_all (l := l) (D := D) (H0 := H0) (nx := nx + 3) e5 hsb hn4 e200 e201 (en 202 (by decide) (by decide) (by decide) (by decide)) e203 (fun i hi => en _ (by omega) (by omega) (by omega) (by omega)) (en 240 (by decide) (by decide) (by decide) (by decide)) (fun i a b => en i (by omega) (by omega) (by omega) (by omega))
  by_cases hok : (pAll T (F 5)).1 = 0
  · skip
    refine j_callV (ALL.weak (fun _ _ _ _ hq => q_allR.ok hok hq)) q_all1.isR dX0_reckoner_21 pmX4_all q254 q255 q256 e200 rfl rfl rfl ⟨Nat.le_of_ble_eq_true rfl, Nat.le_of_ble_eq_true rfl⟩ ⟨Nat.le_of_ble_eq_true rfl, Nat.le_of_ble_eq_true rfl⟩ rfl (Nat.le_of_ble_eq_true rfl) ?_
    rintro v9 r2 h2 nx2 ⟨e9, fr2, hrk⟩
    cases e9
    refine j_re (L' := [some (.ref (r2 0)), none, none, none]) (st' := [.ref (r2 201), .ref (r2 0)]) (by rw [(fr2 0 (by decide)).1]) (by rw [(fr2 0 (by decide)).1]; first | done | rfl) rfl ?_
    refine j_reH (r' := r2) (h' := fkS r2 dT h2 (va_up F 6 0) V) (fun H hH => fk_in (r1 := r1) (fun i hi => (fr2 i (by omega)).2.trans ((eo i (by omega) (by omega) (by omega)).trans (fkS_lo hi))) (fun k hk => (fr2 k (by omega)).1) hH) ?_
    refine j_put 0 dX0_reckoner_24 (by first | rfl | assumption) in_X0 tyX0_ok nmX0 rfl (by decide) q153 rfl rfl rfl (by first | decide | simp) ?_
    refine j_reH (r' := rkR r2) (h' := fkS (rkR r2) dT (rkG h2) (va_up F 6 0) V) (fun H hH => fk_out hH) ?_
    refine j_re (L' := [some (.ref (rkR r2 0)), none, none, none]) rfl rfl rfl ?_
    have hN := hrk.N
    have r3r : ∀ i, i < 200 → i < 60 ∨ 72 ≤ i → rkR r2 i = r i ∧ (32 ≤ i → rkG h2 i = g i) := fun i hi h2i => ⟨by unfold rkR; rw [rkI_lo h2i, (fr2 i hi).1]; exact hr1 i (by omega) (by omega) (by omega), fun h3 => by unfold rkG; rw [if_pos hi, rkI_lo h2i, (fr2 i hi).2, eo i (by omega) (by omega) (by omega), fkS_hi h3]⟩
    have g3n : ∀ i, 200 ≤ i → rkG h2 i = none := fun i hi => if_neg (by omega)
    generalize rkR r2 = r3 at hN r3r ⊢
    generalize rkG h2 = g3 at hN r3r g3n ⊢
    refine j_aload_n dX0_reckoner_27 rfl ?_
    refine j_iconst (v := 0) dX0_reckoner_28 (by decide) ?_
    refine j_eqi (show (0 : Int32) = nI 0 from rfl) ?_
    refine j_put 6 dX0_reckoner_29 (by first | rfl | assumption) in_X0 tyX0_ok nmX0 rfl (by decide) q159 rfl rfl rfl (by first | decide | simp) ?_
    refine j_fkF (F' := (va_up (va_up F 6 0) 5 0)) (by decide) fo5 rfl ?_
    refine j_goto (tgt := 67) dX0_reckoner_32 (by decide) ?_
    refine j_aload_n dX0_reckoner_67 rfl ?_
    refine j_get 1 dX0_reckoner_68 (by first | rfl | assumption) in_X0 rfl (by decide) q154 rfl ?_
    refine j_callVv f_dbegin dX0_reckoner_71 pmX2_begin q751 q752 q753 (by first | rfl | assumption) rfl rfl rfl ⟨Nat.le_of_ble_eq_true rfl, Nat.le_of_ble_eq_true rfl⟩ ⟨Nat.le_of_ble_eq_true rfl, Nat.le_of_ble_eq_true rfl⟩ rfl (Nat.le_of_ble_eq_true rfl) ?_
    refine j_aload_n dX0_reckoner_74 rfl ?_
    refine j_iconst (v := 0) dX0_reckoner_75 (by decide) ?_
    refine j_eqi (show (0 : Int32) = nI 0 from rfl) ?_
    refine j_put 4 dX0_reckoner_76 (by first | rfl | assumption) in_X0 tyX0_ok nmX0 rfl (by decide) q157 rfl rfl rfl (by first | decide | simp) ?_
    refine j_fkF (F' := (va_up (va_up (va_up (va_up (va_up (va_up F 6 0) 5 0) 0 0) 1 0) 2 0) 4 0)) (by decide) fo4 rfl ?_
    refine j_aload_n dX0_reckoner_79 rfl ?_
    refine j_get 19 dX0_reckoner_80 (by first | rfl | assumption) in_X0 rfl (by decide) q172 rfl ?_
    refine j_iconst (v := 0) dX0_reckoner_83 (by decide) ?_
    refine j_aald (w := .ref (r3 18)) 5 0 dX0_reckoner_84 (by first | rfl | assumption) rfl rfl rfl (by decide) (by decide) rfl ?_
    refine j_iconst (v := 0) dX0_reckoner_85 (by decide) ?_
    refine j_eqi (show (0 : Int32) = nI 0 from rfl) ?_
    refine j_putN 5 dX0_reckoner_86 (by first | rfl | assumption) in_X2 tyX2_ok nmX2 rfl (by decide) (fun _ hs => hs.1 _ qn134) rfl rfl rfl (by first | decide | simp) ?_
    refine j_fkF (F' := (va_up (va_up (va_up (va_up (va_up (va_up (va_up F 6 0) 5 0) 0 0) 1 0) 2 0) 4 0) 14 0)) (by decide) fo14 rfl ?_
    refine j_aload_n dX0_reckoner_89 rfl ?_
    refine j_get 19 dX0_reckoner_90 (by first | rfl | assumption) in_X0 rfl (by decide) q172 rfl ?_
    refine j_iconst (v := 1) dX0_reckoner_93 (by decide) ?_
    refine j_aald (w := .ref (r3 20)) 5 1 dX0_reckoner_94 (by first | rfl | assumption) rfl rfl rfl (by decide) (by decide) rfl ?_
    refine j_iconst (v := 0) dX0_reckoner_95 (by decide) ?_
    refine j_eqi (show (0 : Int32) = nI 0 from rfl) ?_
    refine j_putN 5 dX0_reckoner_96 (by first | rfl | assumption) in_X2 tyX2_ok nmX2 rfl (by decide) (fun _ hs => hs.1 _ qn134) rfl rfl rfl (by first | decide | simp) ?_
    refine j_fkF (F' := (va_up (va_up (va_up (va_up (va_up (va_up (va_up (va_up F 6 0) 5 0) 0 0) 1 0) 2 0) 4 0) 14 0) 24 0)) (by decide) fo24 rfl ?_
    cases hD9 : (pAll T (F 5)).2.2.1 with
    | none =>
      have h60 : g3 60 = some (rcell .null (r3 62) 0) := by obtain ⟨ka, -, k2, -⟩ := hN; exact k2 hD9
      refine j_aload_n dX0_reckoner_99 rfl ?_
      refine j_callVi (f_many0 h60) dX0_reckoner_100 pmX0_many q755 q757 qs12 (by first | rfl | assumption) rfl rfl rfl ⟨Nat.le_of_ble_eq_true rfl, Nat.le_of_ble_eq_true rfl⟩ ⟨Nat.le_of_ble_eq_true rfl, Nat.le_of_ble_eq_true rfl⟩ rfl (Nat.le_of_ble_eq_true rfl) ?_
      refine j_iret dX0_reckoner_103 rfl rfl (Nat.le_of_ble_eq_true rfl) (Nat.le_of_ble_eq_true rfl) ?_
      exact ⟨g3, _, rfl, g3n, r3r, fun q => absurd hok q, fun _ => ⟨by rw [hD9], by rw [hD9] at hN ⊢; exact hN, rfl⟩⟩
    | some d =>
      obtain ⟨h60, h61⟩ : g3 60 = some (rcell (.ref (r3 61)) (r3 62) (pAll T (F 5)).2.2.2.length) ∧ g3 61 = some (dcell d.1 d.2.1 d.2.2.1 d.2.2.2) := by obtain ⟨ka, -, -, k3⟩ := hN; exact ⟨(k3 d hD9).1, (k3 d hD9).2.1⟩
      have hoD := ((pAll_ok hok).2.2 d hD9).1
      refine j_aload_n dX0_reckoner_99 rfl ?_
      refine j_callVi (f_many1 h60 h61 hoD.pos hoD.le) dX0_reckoner_100 pmX0_many q755 q757 qs12 (by first | rfl | assumption) rfl rfl rfl ⟨Nat.le_of_ble_eq_true rfl, Nat.le_of_ble_eq_true rfl⟩ ⟨Nat.le_of_ble_eq_true rfl, Nat.le_of_ble_eq_true rfl⟩ rfl (Nat.le_of_ble_eq_true rfl) ?_
      refine j_iret dX0_reckoner_103 rfl rfl (Nat.le_of_ble_eq_true rfl) (Nat.le_of_ble_eq_true rfl) ?_
      exact ⟨g3, _, rfl, g3n, r3r, fun q => absurd hok q, fun _ => ⟨by rw [hD9], by rw [hD9] at hN ⊢; exact hN, rfl⟩⟩
  · skip
    refine j_callVC (iF := 240) (cF := 5) (C := "FewKeys$Fault") (ALL.weak (fun _ _ _ _ hq => q_allR.no hok hq)) q_T.isT (fun v r' h' nx' hq => ⟨Outcome.threw.inj hq.1, _, hq.2.1⟩) rfl rfl rfl (by decide) (by decide) q229 dX0_reckoner_21 pmX4_all q254 q255 q256 e200 rfl rfl rfl ⟨(Nat.le_of_ble_eq_true rfl), (Nat.le_of_ble_eq_true rfl)⟩ ⟨(Nat.le_of_ble_eq_true rfl), (Nat.le_of_ble_eq_true rfl)⟩ rfl (Nat.le_of_ble_eq_true rfl) ?_
    rintro r2 h2 nx2 ⟨-, q240, fr2⟩
    have r2r : ∀ i, i < 200 → r2 i = r i := fun i hi => (fr2 i hi).1.trans (hr1 i (by omega) (by omega) (by omega))
    have g2g : ∀ i, i < 200 → 32 ≤ i → (fun i => if i < 200 then h2 i else none) i = g i := fun i hi h3 => by
      show (if i < 200 then h2 i else none) = g i
      rw [if_pos hi, (fr2 i hi).2, eo i (by omega) (by omega) (by omega), fkS_hi h3]
    refine j_re (L' := [some (.ref (r2 0)), none, none, none]) (by rw [(fr2 0 (by decide)).1]) rfl rfl ?_
    refine j_reH (r' := r2) (h' := fkS r2 dT h2 (va_up F 6 0) V) (fun H hH => fk_in (r1 := r1) (fun i hi => (fr2 i (by omega)).2.trans ((eo i (by omega) (by omega) (by omega)).trans (fkS_lo hi))) (fun k hk => (fr2 k (by omega)).1) hH) ?_
    refine j_astore_n dX0_reckoner_35 (by decide) rfl ?_
    refine j_aload_n dX0_reckoner_36 rfl ?_
    refine j_aload_n dX0_reckoner_37 rfl ?_
    refine j_getN 7 dX0_reckoner_38 (by rw [fkS_hi (by decide)]; exact q240) in_X5 rfl (by decide) (fun _ hs => hs.1 _ qn521) rfl ?_
    refine j_eqi (show _ = nI ((pAll T (F 5)).2.1 + 1) - 1 by rw [show (1 : Int32) = nI 1 from rfl, nI_sub (by omega)]; rfl) ?_
    refine j_put 7 dX0_reckoner_41 (by first | rfl | assumption) in_X0 tyX0_ok nmX0 rfl (by decide) q160 rfl rfl rfl (by first | decide | simp) ?_
    refine j_fkF (F' := (va_up (va_up F 6 0) 6 ((pAll T (F 5)).2.1 + 1))) (by decide) fo6 rfl ?_
    refine j_bipush (v := (-10)) dX0_reckoner_44 (by decide) ?_
    refine j_aload_n dX0_reckoner_46 rfl ?_
    refine j_getN 6 dX0_reckoner_47 (by rw [fkS_hi (by decide)]; exact q240) in_X5 rfl (by decide) (fun _ hs => hs.1 _ qn519) rfl ?_
    refine j_isub dX0_reckoner_50 ?_
    refine j_istore_n dX0_reckoner_51 (by decide) rfl ?_
    refine j_aload_n dX0_reckoner_52 rfl ?_
    refine j_iconst (v := 0) dX0_reckoner_53 (by decide) ?_
    refine j_eqi (show (0 : Int32) = nI 0 from rfl) ?_
    refine j_put 6 dX0_reckoner_54 (by first | rfl | assumption) in_X0 tyX0_ok nmX0 rfl (by decide) q159 rfl rfl rfl (by first | decide | simp) ?_
    refine j_fkF (F' := (va_up (va_up (va_up F 6 0) 6 ((pAll T (F 5)).2.1 + 1)) 5 0)) (by decide) fo5 rfl ?_
    refine j_heap (h' := fkS r2 dT (fun i => if i < 200 then h2 i else none) (va_up (va_up (va_up F 6 0) 6 ((pAll T (F 5)).2.1 + 1)) 5 0) V) (fun i e hi => ?_) ?_
    · by_cases h32 : i < 32
      · rw [fkS_lo h32] at hi ⊢; exact hi
      · rw [fkS_hi (by omega)] at hi ⊢
        by_cases h2i : i < 200
        · rw [if_pos h2i] at hi; exact hi
        · rw [if_neg h2i] at hi; cases hi
    refine j_iload_n dX0_reckoner_57 rfl ?_
    refine j_iret dX0_reckoner_58 rfl rfl (Nat.le_of_ble_eq_true rfl) (Nat.le_of_ble_eq_true rfl) ?_
    refine ⟨_, _, rfl, fun i hi => if_neg (by omega), fun i hi _ => ⟨r2r i hi, fun h3 => g2g i hi h3⟩, fun _ => ⟨rfl, fun i hi => ⟨r2r i hi, fun h3 => g2g i hi h3⟩, rfl⟩, fun q => absurd q hok⟩
