set_option maxRecDepth 100000
/-- the hash of bytes -/
def hsF (g : Nat → Int32) : Nat → Int32
  | 0 => 0
  | k + 1 => 31 * hsF g k + (g k &&& 255)
def hsL (l : List Nat) : Int32 := l.foldl (fun a x => 31 * a + (nI x &&& 255)) 0
theorem hsF_eq {g : Nat → Int32} {T : Nat → Nat} {q : Nat} : ∀ w, (∀ j, j < w → g j = nI (T (q + j))) → hsF g w = hsL (wrd T q w)
  | 0, _ => rfl
  | w + 1, h => by
    rw [hsF, hsF_eq w (fun j hj => h j (by omega)), wrd_succ, h w (by omega)]
    unfold hsL
    rw [List.foldl_append]
    rfl
theorem hs_off {w : Nat} (h2 : 2 ≤ w) (h6 : w ≤ 6) : Op.lookupswitch.offset [((0 : Int), (26 : Int)), (1, 30)] 40 (nI w).toInt = 40 := by
  have ck : w = 2 ∨ w = 3 ∨ w = 4 ∨ w = 5 ∨ w = 6 := by omega
  rcases ck with rfl | rfl | rfl | rfl | rfl <;> decide
set_option maxHeartbeats 4000000 in
theorem b_shash {l : Launch} {D : va_G} {dT : Nat → ClassId} {H0 : Heap} {r : Nat → Nat} {h : j_H} {nx : Nat} {w : Nat} {g : Nat → Int32} (h214 : h 214 = some (byC dT w g)) (hw2 : 2 ≤ w) (hw6 : w ≤ 6) : MC (gG l D dT H0) yJ4_signedHashCode cJ4_signedHashCode 6 (some .int) 0 0 0 [.int 0, .ref (r 214), .int 0, .int (nI w)] r h nx (jq_i (hsF g w) r h nx) := by
  refine MC.ofJ [some (.int 0), some (.ref (r 214)), some (.int 0), some (.int (nI w)), none, none] rfl (Nat.le_of_ble_eq_true rfl) (by decide) ?_
  refine j_iload_n dJ4_signedHashCode_0 rfl ?_
  refine j_iload_n dJ4_signedHashCode_1 rfl ?_
  refine j_iadd dJ4_signedHashCode_2 ?_
  refine j_eqi (show _ = nI w from Int32.zero_add _) ?_
  refine j_istore dJ4_signedHashCode_3 (by decide) rfl ?_
  refine j_iload_n dJ4_signedHashCode_5 rfl ?_
  refine j_istore dJ4_signedHashCode_6 (by decide) rfl ?_
  refine j_less (L' := [some (.int (hsF g 0)), some (.ref (r 214)), some (.int 0), some (.int (nI w)), some (.int (nI w)), some (.int (nI 0))]) ⟨Or.inr rfl, Or.inr rfl, Or.inr rfl, Or.inr rfl, Or.inr rfl, Or.inr rfl, trivial⟩ ?_
  refine j_lp1 (fun (_ : Nat) => h) (fun k => [some (.int (hsF g k)), some (.ref (r 214)), some (.int 0), some (.int (nI w)), some (.int (nI w)), some (.int (nI k))]) (fun k => k ≤ w) (fun k => w - k) ?_ 0 (Nat.zero_le _)
  intro k hk ih
  refine j_iload dJ4_signedHashCode_8 rfl ?_
  refine j_iload dJ4_signedHashCode_10 rfl ?_
  refine j_icmp_ge (tgt := 35) dJ4_signedHashCode_12 (by decide) (fun c12 => ?_) (fun c12 => ?_)
  · skip
    have hke : k = w := by
      have := (nI_leI (by omega) (by omega)).mp c12
      omega
    refine j_iload_n dJ4_signedHashCode_35 rfl ?_
    refine j_iret dJ4_signedHashCode_36 rfl rfl (Nat.le_refl _) (Nat.le_refl _) ?_
    subst hke; exact jr_i rfl
  · skip
    have hkl : k < w := Nat.lt_of_not_le (fun z => c12 (nI_le z (by omega)))
    refine j_bipush (v := 31) dJ4_signedHashCode_15 (by decide) ?_
    refine j_iload_n dJ4_signedHashCode_17 rfl ?_
    refine j_imul dJ4_signedHashCode_18 ?_
    refine j_aload_n dJ4_signedHashCode_19 rfl ?_
    refine j_iload dJ4_signedHashCode_20 rfl ?_
    refine j_bald 1 k dJ4_signedHashCode_22 h214 rfl rfl hkl (by omega) ?_
    refine j_sipush (v := 255) dJ4_signedHashCode_23 (by decide) ?_
    refine j_iand dJ4_signedHashCode_26 ?_
    refine j_iadd dJ4_signedHashCode_27 ?_
    refine j_istore_n dJ4_signedHashCode_28 (by decide) rfl ?_
    refine j_iinc dJ4_signedHashCode_29 rfl (by decide) rfl ?_
    refine j_goto (tgt := 8) dJ4_signedHashCode_32 (by decide) ?_
    refine j_less (L' := [some (.int (hsF g (k + 1))), some (.ref (r 214)), some (.int 0), some (.int (nI w)), some (.int (nI w)), some (.int (nI (k + 1)))]) ⟨Or.inr rfl, Or.inr rfl, Or.inr rfl, Or.inr rfl, Or.inr rfl, Or.inr (by rw [← nI_inc]), trivial⟩ ?_
    exact ih (k + 1) (by omega) (by omega)
set_option maxHeartbeats 4000000 in
theorem b_vhash {l : Launch} {D : va_G} {dT : Nat → ClassId} {H0 : Heap} {r : Nat → Nat} {h : j_H} {nx : Nat} {w : Nat} {g : Nat → Int32} (h214 : h 214 = some (byC dT w g)) (hw2 : 2 ≤ w) (hw6 : w ≤ 6) : MC (gG l D dT H0) yJ4_vectorizedHashCode cJ4_vectorizedHashCode 5 (some .int) 1 0 0 [.ref (r 214), .int 0, .int (nI w), .int 0, .int 4] r h nx (jq_i (hsF g w) r h nx) := by
  refine MC.ofJ [some (.ref (r 214)), some (.int 0), some (.int (nI w)), some (.int 0), some (.int 4)] rfl (Nat.le_of_ble_eq_true rfl) (by decide) ?_
  refine j_iload dJ4_vectorizedHashCode_0 rfl ?_
  refine j_tabI (tgt := 44) dJ4_vectorizedHashCode_2 (by decide) (by decide) rfl (by decide) ?_
  refine j_iload_n dJ4_vectorizedHashCode_44 rfl ?_
  refine j_aload_n dJ4_vectorizedHashCode_45 rfl ?_
  refine j_castB 1 dJ4_vectorizedHashCode_46 q604 h214 rfl ?_
  refine j_iload_n dJ4_vectorizedHashCode_49 rfl ?_
  refine j_iload_n dJ4_vectorizedHashCode_50 rfl ?_
  refine j_callSi (b_shash h214 hw2 hw6) dJ4_vectorizedHashCode_51 pmJ4_signedHashCode q605 q606 rfl ⟨Nat.le_of_ble_eq_true rfl, Nat.le_of_ble_eq_true rfl⟩ ⟨Nat.le_of_ble_eq_true rfl, Nat.le_of_ble_eq_true rfl⟩ rfl (Nat.le_of_ble_eq_true rfl) ?_
  refine j_goto (tgt := 157) dJ4_vectorizedHashCode_54 (by decide) ?_
  refine j_iret dJ4_vectorizedHashCode_157 rfl rfl (Nat.le_refl _) (Nat.le_refl _) ?_
  exact jr_i rfl
set_option maxHeartbeats 4000000 in
theorem b_lhash {l : Launch} {D : va_G} {dT : Nat → ClassId} {H0 : Heap} {r : Nat → Nat} {h : j_H} {nx : Nat} {w : Nat} {g : Nat → Int32} (h214 : h 214 = some (byC dT w g)) (hw2 : 2 ≤ w) (hw6 : w ≤ 6) : MC (gG l D dT H0) yJ7_hashCode cJ7_hashCode 1 (some .int) 2 0 0 [.ref (r 214)] r h nx (jq_i (hsF g w) r h nx) := by
  refine MC.ofJ [some (.ref (r 214))] rfl (Nat.le_of_ble_eq_true rfl) (by decide) ?_
  refine j_aload_n dJ7_hashCode_0 rfl ?_
  refine j_alen 1 dJ7_hashCode_1 h214 rfl ?_
  refine j_look (tgt := 42) dJ7_hashCode_2 (by decide) (hs_off hw2 hw6) (by decide) ?_
  refine j_aload_n dJ7_hashCode_42 rfl ?_
  refine j_iconst (v := 0) dJ7_hashCode_43 (by decide) ?_
  refine j_aload_n dJ7_hashCode_44 rfl ?_
  refine j_alen 1 dJ7_hashCode_45 h214 rfl ?_
  refine j_iconst (v := 0) dJ7_hashCode_46 (by decide) ?_
  refine j_iconst (v := 4) dJ7_hashCode_47 (by decide) ?_
  refine j_callSi (b_vhash h214 hw2 hw6) dJ7_hashCode_48 pmJ4_vectorizedHashCode q601 q602 rfl ⟨Nat.le_of_ble_eq_true rfl, Nat.le_of_ble_eq_true rfl⟩ ⟨Nat.le_of_ble_eq_true rfl, Nat.le_of_ble_eq_true rfl⟩ rfl (Nat.le_of_ble_eq_true rfl) ?_
  refine j_iret dJ7_hashCode_51 rfl rfl (Nat.le_refl _) (Nat.le_refl _) ?_
  exact jr_i rfl
set_option maxHeartbeats 4000000 in
theorem b_slat {l : Launch} {D : va_G} {dT : Nat → ClassId} {H0 : Heap} {r : Nat → Nat} {h : j_H} {nx : Nat} {b : Nat} (h213 : h 213 = some (strC b)) : MC (gG l D dT H0) yJ2_isLatin1 cJ2_isLatin1 1 (some .boolean) 0 0 0 [.ref (r 213)] r h nx (jq_i 1 r h nx) := by
  refine MC.ofJ [some (.ref (r 213))] rfl (Nat.le_of_ble_eq_true rfl) (by decide) ?_
  refine j_gets dJ2_isLatin1_0 q433 (fun _ hs => hs.2.2.2.2.1) ?_
  refine j_if_eq (tgt := 17) dJ2_isLatin1_3 (by decide) (fun c3 => absurd c3 (by decide)) (fun c3 => ?_)
  refine j_aload_n dJ2_isLatin1_6 rfl ?_
  refine j_get 1 dJ2_isLatin1_7 h213 in_J2 rfl (by decide) q448 rfl ?_
  refine j_if_ne (tgt := 17) dJ2_isLatin1_10 (by decide) (fun c10 => absurd rfl c10) (fun c10 => ?_)
  refine j_iconst (v := 1) dJ2_isLatin1_13 (by decide) ?_
  refine j_goto (tgt := 18) dJ2_isLatin1_14 (by decide) ?_
  refine j_iret dJ2_isLatin1_18 rfl rfl (Nat.le_refl _) (Nat.le_refl _) ?_
  exact ⟨rfl, rfl, rfl, rfl⟩
set_option maxHeartbeats 4000000 in
theorem b_hash {l : Launch} {D : va_G} {dT : Nat → ClassId} {H0 : Heap} {r : Nat → Nat} {h : j_H} {nx : Nat} (h213 : h 213 = some (strC (r 214))) {w : Nat} {g : Nat → Int32} (h214 : h 214 = some (byC dT w g)) (hw2 : 2 ≤ w) (hw6 : w ≤ 6) (hne : ¬ hsF g w = 0) : MC (gG l D dT H0) yJ2_hashCode cJ2_hashCode 2 (some .int) 3 0 0 [.ref (r 213)] r h nx (jq_i (hsF g w) r (j_set h 213 (strH (r 214) (hsF g w))) nx) := by
  refine MC.ofJ [some (.ref (r 213)), none] rfl (Nat.le_of_ble_eq_true rfl) (by decide) ?_
  refine j_aload_n dJ2_hashCode_0 rfl ?_
  refine j_get 2 dJ2_hashCode_1 h213 in_J2 rfl (by decide) q449 rfl ?_
  refine j_istore_n dJ2_hashCode_4 (by decide) rfl ?_
  refine j_iload_n dJ2_hashCode_5 rfl ?_
  refine j_if_ne (tgt := 58) dJ2_hashCode_6 (by decide) (fun c6 => absurd rfl c6) (fun c6 => ?_)
  refine j_aload_n dJ2_hashCode_9 rfl ?_
  refine j_get 3 dJ2_hashCode_10 h213 in_J2 rfl (by decide) q450 rfl ?_
  refine j_if_ne (tgt := 58) dJ2_hashCode_13 (by decide) (fun c13 => absurd rfl c13) (fun c13 => ?_)
  refine j_aload_n dJ2_hashCode_16 rfl ?_
  refine j_callVi (b_slat h213) dJ2_hashCode_17 pmJ2_isLatin1 q594 q595 q596 h213 rfl rfl rfl ⟨Nat.le_of_ble_eq_true rfl, Nat.le_of_ble_eq_true rfl⟩ ⟨Nat.le_of_ble_eq_true rfl, Nat.le_of_ble_eq_true rfl⟩ rfl (Nat.le_of_ble_eq_true rfl) ?_
  refine j_if_eq (tgt := 33) dJ2_hashCode_20 (by decide) (fun c20 => absurd c20 (by decide)) (fun c20 => ?_)
  refine j_aload_n dJ2_hashCode_23 rfl ?_
  refine j_get 0 dJ2_hashCode_24 h213 in_J2 rfl (by decide) q447 rfl ?_
  refine j_callSi (b_lhash h214 hw2 hw6) dJ2_hashCode_27 pmJ7_hashCode q598 q599 rfl ⟨Nat.le_of_ble_eq_true rfl, Nat.le_of_ble_eq_true rfl⟩ ⟨Nat.le_of_ble_eq_true rfl, Nat.le_of_ble_eq_true rfl⟩ rfl (Nat.le_of_ble_eq_true rfl) ?_
  refine j_goto (tgt := 40) dJ2_hashCode_30 (by decide) ?_
  refine j_istore_n dJ2_hashCode_40 (by decide) rfl ?_
  refine j_iload_n dJ2_hashCode_41 rfl ?_
  refine j_if_ne (tgt := 53) dJ2_hashCode_42 (by decide) (fun c42 => ?_) (fun c42 => absurd c42 hne)
  refine j_aload_n dJ2_hashCode_53 rfl ?_
  refine j_iload_n dJ2_hashCode_54 rfl ?_
  refine j_put 2 dJ2_hashCode_55 h213 in_J2 tyJ2_ok nmJ2 rfl (by decide) q449 rfl rfl rfl (by first | decide | simp) ?_
  refine j_iload_n dJ2_hashCode_58 rfl ?_
  refine j_iret dJ2_hashCode_59 rfl rfl (Nat.le_refl _) (Nat.le_refl _) ?_
  exact jr_i rfl
