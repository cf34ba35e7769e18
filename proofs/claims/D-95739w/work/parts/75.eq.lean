set_option maxRecDepth 100000
/-- a string whose hash has been asked -/
def strH (b : Nat) (x : Int32) : va_E := .inr (14, [.ref b, .int 0, .int x, .int 0])
theorem jLw_is {i : Nat} (h1 : 1 ≤ i) (h2 : i ≤ 11) : jLw i = wLs.getD i [] := by
  have ck : i = 1 ∨ i = 2 ∨ i = 3 ∨ i = 4 ∨ i = 5 ∨ i = 6 ∨ i = 7 ∨ i = 8 ∨ i = 9 ∨ i = 10 ∨ i = 11 := by omega
  rcases ck with rfl | rfl | rfl | rfl | rfl | rfl | rfl | rfl | rfl | rfl | rfl <;> rfl
theorem jLw_lo {i : Nat} (h1 : 1 ≤ i) (h2 : i ≤ 11) : (jLw i).length ≤ 6 ∧ ∀ j, (jLw i).getD j 0 < 128 := by
  have ck : i = 1 ∨ i = 2 ∨ i = 3 ∨ i = 4 ∨ i = 5 ∨ i = 6 ∨ i = 7 ∨ i = 8 ∨ i = 9 ∨ i = 10 ∨ i = 11 := by omega
  have key : ∀ l : List Nat, l.all (fun x => decide (x < 128)) = true → ∀ j, l.getD j 0 < 128 := by
    intro l hl j
    rw [List.getD_eq_getElem?_getD]
    cases e : l[j]? with
    | none => exact Nat.zero_lt_succ _
    | some x => exact of_decide_eq_true (List.all_eq_true.mp hl x (List.mem_of_getElem? e))
  rcases ck with rfl | rfl | rfl | rfl | rfl | rfl | rfl | rfl | rfl | rfl | rfl <;> exact ⟨by decide, key _ (by decide)⟩
theorem wrd_eq {T : Nat → Nat} {q w : Nat} {l : List Nat} : wrd T q w = l ↔ w = l.length ∧ ∀ j, j < w → T (q + j) = l.getD j 0 := by
  constructor
  · intro h
    subst h
    refine ⟨by simp [wrd], fun j hj => ?_⟩
    simp [wrd, List.getD_eq_getElem?_getD, hj]
  · rintro ⟨h1, h2⟩
    apply List.ext_getElem?
    intro j
    by_cases hj : j < w
    · have hj2 : j < l.length := by omega
      have := h2 j hj
      rw [List.getD_eq_getElem?_getD, List.getElem?_eq_getElem hj2] at this
      rw [List.getElem?_eq_getElem hj2]
      simp [wrd, hj, this]
    · have hL : (wrd T q w).length = w := by simp [wrd]
      rw [List.getElem?_eq_none (by omega), List.getElem?_eq_none (by omega)]
section ACM
variable {G : j_G} {cc : ByteArray} {own : String} {nL : Nat} {ret : Option FieldType} {nm : String} {R : Room} {xt : Code → Prop} {Q : j_Q} {mc ms cells slots : Nat} {r : Nat → Nat} {h : j_H} {nx pc : Nat} {L : List (Option Value)} {st : List Value}
/-- an object of ours isn't one of the start's -/
theorem j_acmpO {i b : Nat} {C : String} {e0 : va_E} {off : Int} {tgt : Nat} (hd : decode cc pc = .ok (.if_acmp .ne off, 3)) (ht : (pc : Int) + off = (tgt : Int)) (hi : h i = some e0) (hZ : ∀ s : State, G.2.2.2.2.2 s → va_O C b (jA G.2.2.2.2.1) s G.2.2.2.2.1) (kk : J G (cc, own, nL, ret, nm, R, xt) Q mc ms cells slots r h nx tgt L st) : J G (cc, own, nL, ret, nm, R, xt) Q mc ms cells slots r h nx pc L (.ref b :: .ref (r i) :: st) := by
  intro p e s m args below meth c E H locs ls hH hlo hL
  obtain ⟨hx, hb, hr, hlk, hnm, hml, hown, hts, hK, hxt⟩ := id E
  have h1 := (hH.2.2.2.1 i _ hi).1
  obtain ⟨cell, -, -, -, h2⟩ := hZ s hK.2.1
  have hne : ¬ r i = b := fun q => h2 (by rw [← q]; exact h1)
  exact lv_acmp_ne (rx := some (r i)) (ry := some b) hx hb hd ht (fun _ => kk p e s m args below meth c E H locs ls hH hlo hL) (fun q => absurd (Option.some.inj q) hne)
end ACM
set_option maxHeartbeats 4000000 in
theorem b_eqB {l : Launch} {D : va_G} {dT : Nat → ClassId} {H0 : Heap} {r : Nat → Nat} {h : j_H} {nx : Nat} {T : Nat → Nat} {q w i : Nat} {g : Nat → Int32} (h214 : h 214 = some (byC dT w g)) (hg : ∀ j, j < w → g j = nI (T (q + j)) ∧ T (q + j) < 128) (hw : w < 2 ^ 30) (h1 : 1 ≤ i) (h2 : i ≤ 11) : MC (gG l D dT H0) yJ7_equals cJ7_equals 3 (some .boolean) 0 0 0 [.ref (r 214), .ref (dT (i + 200))] r h nx (jq_i (j_b (wrd T q w = jLw i)) r h nx) := by
  refine MC.ofJ [some (.ref (r 214)), some (.ref (dT (i + 200))), none] rfl (Nat.le_of_ble_eq_true rfl) (by decide) ?_
  refine j_aload_n dJ7_equals_0 rfl ?_
  refine j_alen 1 dJ7_equals_1 h214 rfl ?_
  refine j_aload_n dJ7_equals_2 rfl ?_
  refine j_olen dJ7_equals_3 (fun _ hs => (hs.2.2.2.1 i h1 h2).2.2.2.1) ?_
  refine j_icmp_ne (tgt := 34) dJ7_equals_4 (by decide) (fun c4 => ?_) (fun c4 => ?_)
  · skip
    have e9 : ¬ wrd T q w = jLw i := fun z => c4 (by rw [(wrd_eq.mp z).1])
    refine j_iconst (v := 0) dJ7_equals_34 (by decide) ?_
    skip
    refine j_iret dJ7_equals_35 rfl rfl (Nat.le_refl _) (Nat.le_refl _) ?_
    rw [j_b_f e9]; exact ⟨rfl, rfl, rfl, rfl⟩
  · skip
    have hlen : w = (jLw i).length := nI_inj (by omega) (by have := (jLw_lo h1 h2).1; omega) c4
    refine j_iconst (v := 0) dJ7_equals_7 (by decide) ?_
    refine j_istore_n dJ7_equals_8 (by decide) rfl ?_
    refine j_lp1 (fun (j : Nat) => h) (fun j => [some (.ref (r 214)), some (.ref (dT (i + 200))), some (.int (nI j))]) (fun j => j ≤ w ∧ ∀ t, t < j → T (q + t) = (jLw i).getD t 0) (fun j => w - j) ?_ 0 ⟨Nat.zero_le _, fun t ht => absurd ht (Nat.not_lt_zero _)⟩
    intro j hj kk
    refine j_iload_n dJ7_equals_9 rfl ?_
    refine j_aload_n dJ7_equals_10 rfl ?_
    refine j_alen 1 dJ7_equals_11 h214 rfl ?_
    refine j_icmp_ge (tgt := 32) dJ7_equals_12 (by decide) (fun c12 => ?_) (fun c12 => ?_)
    · skip
      have e8 : wrd T q w = jLw i := wrd_eq.mpr ⟨hlen, fun t ht => hj.2 t (Nat.lt_of_lt_of_le ht ((nI_leI (by omega) (by omega)).mp c12))⟩
      refine j_iconst (v := 1) dJ7_equals_32 (by decide) ?_
      refine j_iret dJ7_equals_33 rfl rfl (Nat.le_refl _) (Nat.le_refl _) ?_
      rw [j_b_t e8]; exact ⟨rfl, rfl, rfl, rfl⟩
    · skip
      have hjw : j < w := Nat.lt_of_not_le (fun z => c12 (nI_le z (by omega)))
      refine j_aload_n dJ7_equals_15 rfl ?_
      refine j_iload_n dJ7_equals_16 rfl ?_
      refine j_bald 1 j dJ7_equals_17 h214 rfl rfl hjw (by omega) ?_
      refine j_eqi (hg j hjw).1 ?_
      refine j_aload_n dJ7_equals_18 rfl ?_
      refine j_iload_n dJ7_equals_19 rfl ?_
      refine j_obald (j := j) dJ7_equals_20 (fun _ hs => (hs.2.2.2.1 i h1 h2).2.2.2.1) rfl (by omega) (by have := (jLw_lo h1 h2).1; omega) rfl ?_
      refine j_icmp_eq (tgt := 26) dJ7_equals_21 (by decide) (fun c21 => ?_) (fun c21 => ?_)
      · skip
        have e7 : T (q + j) = (jLw i).getD j 0 := nI_inj (by have := (hg j hjw).2; omega) (by have := (jLw_lo h1 h2).2 j; omega) c21
        refine j_iinc dJ7_equals_26 rfl (by decide) rfl ?_
        refine j_re (L' := [some (.ref (r 214)), some (.ref (dT (i + 200))), some (.int (nI (j + 1)))]) (by rw [← nI_1 j]; rfl) rfl rfl ?_
        refine j_goto (tgt := 9) dJ7_equals_29 (by decide) ?_
        exact kk (j + 1) ⟨hjw, fun t ht => by
          by_cases z : t = j
          · rw [z]; exact e7
          · exact hj.2 t (by omega)⟩ (by omega)
      · skip
        have e6 : ¬ wrd T q w = jLw i := fun z => c21 (by rw [(wrd_eq.mp z).2 j hjw])
        refine j_iconst (v := 0) dJ7_equals_24 (by decide) ?_
        refine j_iret dJ7_equals_25 rfl rfl (Nat.le_refl _) (Nat.le_refl _) ?_
        rw [j_b_f e6]; exact ⟨rfl, rfl, rfl, rfl⟩
set_option maxHeartbeats 4000000 in
theorem b_eqA {l : Launch} {D : va_G} {dT : Nat → ClassId} {H0 : Heap} {r : Nat → Nat} {h : j_H} {nx : Nat} {hv : Int32} (h213 : h 213 = some (strH (r 214) hv)) {T : Nat → Nat} {q w i : Nat} {g : Nat → Int32} (h214 : h 214 = some (byC dT w g)) (hg : ∀ j, j < w → g j = nI (T (q + j)) ∧ T (q + j) < 128) (hw : w < 2 ^ 30) (h1 : 1 ≤ i) (h2 : i ≤ 11) : MC (gG l D dT H0) yJ2_equals cJ2_equals 3 (some .boolean) 1 0 0 [.ref (r 213), .ref (dT (i + 100))] r h nx (jq_i (j_b (wrd T q w = jLw i)) r h nx) := by
  refine MC.ofJ [some (.ref (r 213)), some (.ref (dT (i + 100))), none] rfl (Nat.le_of_ble_eq_true rfl) (by decide) ?_
  refine j_aload_n dJ2_equals_0 rfl ?_
  refine j_aload_n dJ2_equals_1 rfl ?_
  refine j_acmpO (tgt := 7) dJ2_equals_2 (by decide) h213 (fun _ hs => (hs.2.2.2.1 i h1 h2).1) ?_
  refine j_aload_n dJ2_equals_7 rfl ?_
  refine j_instO dJ2_equals_8 q465 (fun _ hs => (hs.2.2.2.1 i h1 h2).1) ?_
  refine j_if_eq (tgt := 54) dJ2_equals_11 (by decide) (fun c11 => absurd c11 (by decide)) (fun c11 => ?_)
  refine j_aload_n dJ2_equals_14 rfl ?_
  refine j_castO dJ2_equals_15 q465 (fun _ hs => (hs.2.2.2.1 i h1 h2).1) ?_
  refine j_astore_n dJ2_equals_18 (by decide) rfl ?_
  refine j_gets dJ2_equals_19 q433 (fun _ hs => hs.2.2.2.2.1) ?_
  refine j_if_eq (tgt := 36) dJ2_equals_22 (by decide) (fun c22 => absurd c22 (by decide)) (fun c22 => ?_)
  refine j_aload_n dJ2_equals_25 rfl ?_
  refine j_get 1 dJ2_equals_26 h213 in_J2 rfl (by decide) q448 rfl ?_
  refine j_aload_n dJ2_equals_29 rfl ?_
  refine j_getO dJ2_equals_30 q448 (fun _ hs => (hs.2.2.2.1 i h1 h2).2.1) ?_
  refine j_icmp_ne (tgt := 54) dJ2_equals_33 (by decide) (fun c33 => absurd rfl c33) (fun c33 => ?_)
  refine j_aload_n dJ2_equals_36 rfl ?_
  refine j_get 0 dJ2_equals_37 h213 in_J2 rfl (by decide) q447 rfl ?_
  refine j_aload_n dJ2_equals_40 rfl ?_
  refine j_getO dJ2_equals_41 q447 (fun _ hs => (hs.2.2.2.1 i h1 h2).2.2.1) ?_
  refine j_callSi (b_eqB h214 hg hw h1 h2) dJ2_equals_44 pmJ7_equals q466 q467 rfl ⟨Nat.le_of_ble_eq_true rfl, Nat.le_of_ble_eq_true rfl⟩ ⟨Nat.le_of_ble_eq_true rfl, Nat.le_of_ble_eq_true rfl⟩ rfl (Nat.le_of_ble_eq_true rfl) ?_
  refine j_ifb_eq (tgt := 54) dJ2_equals_47 (by decide) (fun c47 => ?_) (fun c47 => ?_)
  · skip
    refine j_iconst (v := 0) dJ2_equals_54 (by decide) ?_
    refine j_iret dJ2_equals_55 rfl rfl (Nat.le_refl _) (Nat.le_refl _) ?_
    rw [j_b_f c47]; exact ⟨rfl, rfl, rfl, rfl⟩
  · skip
    refine j_iconst (v := 1) dJ2_equals_50 (by decide) ?_
    refine j_goto (tgt := 55) dJ2_equals_51 (by decide) ?_
    refine j_iret dJ2_equals_55 rfl rfl (Nat.le_refl _) (Nat.le_refl _) ?_
    rw [j_b_t c47]; exact ⟨rfl, rfl, rfl, rfl⟩
/-- which literal the string is -/
theorem b_eq {l : Launch} {D : va_G} {dT : Nat → ClassId} {H0 : Heap} {r : Nat → Nat} {h : j_H} {nx : Nat} (i : Nat) {hv : Int32} (h213 : h 213 = some (strH (r 214) hv)) {T : Nat → Nat} {q w : Nat} {g : Nat → Int32} (h214 : h 214 = some (byC dT w g)) (hg : ∀ j, j < w → g j = nI (T (q + j)) ∧ T (q + j) < 128) (hw : w < 2 ^ 30) (h1 : 1 ≤ i) (h2 : i ≤ 11) : MC (gG l D dT H0) yJ2_equals cJ2_equals 3 (some .boolean) 1 0 0 [.ref (r 213), .ref (dT (i + 100))] r h nx (jq_i (j_b (wIx (wrd T q w) = i)) r h nx) := by
  have e : j_b (wIx (wrd T q w) = i) = j_b (wrd T q w = jLw i) := by
    rw [jLw_is h1 h2]
    by_cases z : wIx (wrd T q w) = i
    · rw [j_b_t z, j_b_t ((wIx_is ⟨h1, h2⟩).mp z)]
    · rw [j_b_f z, j_b_f (fun y => z ((wIx_is ⟨h1, h2⟩).mpr y))]
  rw [e]
  exact b_eqA h213 h214 hg hw h1 h2
