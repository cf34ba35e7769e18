set_option maxRecDepth 100000
/-- a byte as FewKeys holds it -/
def sbI (t : Nat) : Int32 := if t < 128 then nI t else nI t - 256
theorem sb_and : ∀ t, t < 256 → sbI t &&& 255 = nI t := by decide +kernel
theorem sb_eq : ∀ t, t < 256 → ∀ c, c < 128 → (sbI t = nI c ↔ t = c) := by decide +kernel
theorem sb_in : ∀ t, t < 256 → ((97 ≤ sbI t ∧ sbI t ≤ 122) ↔ (97 ≤ t ∧ t ≤ 122)) ∧ ((48 ≤ sbI t ∧ sbI t ≤ 57) ↔ (48 ≤ t ∧ t ≤ 57)) ∧ (t < 128 → sbI t = nI t) := by decide +kernel
/-- the Reader's cell: size, where it is, where the last token began -/
def rdC (tx sz td a f : Nat) : va_E := .inr (4, [.ref tx, .int (nI sz), .ref td, .int (nI a), .int (nI f)])
/-- the text's cell -/
def txC (dT : Nat → ClassId) (f : Nat → Int32) : va_E := .inl (dT 1, 400, .inl f)
def sbR (f : Nat → Int32) (n : Nat) (T : Nat → Nat) : Prop := ∀ j, j < n → f j = sbI (T j) ∧ T j < 256
set_option maxHeartbeats 4000000 in
theorem r_here {l : Launch} {D : va_G} {dT : Nat → ClassId} {H0 : Heap} {r : Nat → Nat} {h : j_H} {nx : Nat} {dTx : Nat → Int32} {T : Nat → Nat} {n td a fr : Nat} (h5 : h 5 = some (txC dT dTx)) (hsb : sbR dTx n T) (hn4 : n ≤ 400) (ha : a ≤ n)  : MC (gG l D dT H0) yX4_here cX4_here 1 (some .int) 0 0 0 [.ref (r 200)] r (j_set h 200 (rdC (r 5) n td a fr)) nx (jq_i (if sk T n a < n then nI (T (sk T n a)) else -1) r (j_set h 200 (rdC (r 5) n td (sk T n a) fr)) nx) := by
  refine MC.ofJ [some (.ref (r 200))] rfl (Nat.le_of_ble_eq_true rfl) (by decide) ?_
  refine j_cut (tgt := 38) (fun b => b = sk T n a) (fun b => (j_set h 200 (rdC (r 5) n td b fr))) (fun _ => [some (.ref (r 200))]) ?_ (fun kc0 => ?_)
  · skip
    intro b hb
    have hbn : b ≤ n := by rw [hb]; exact rgE_le ha
    rw [← hb]
    refine j_aload_n dX4_here_38 rfl ?_
    refine j_get 3 dX4_here_39 j_set_self in_X4 rfl (by decide) q241 rfl ?_
    refine j_aload_n dX4_here_42 rfl ?_
    refine j_get 1 dX4_here_43 j_set_self in_X4 rfl (by decide) q239 rfl ?_
    refine j_icmp_ge (tgt := 65) dX4_here_46 (by decide) (fun c46 => ?_) (fun c46 => ?_)
    · skip
      have h46 : ¬ b < n := fun q => absurd ((nI_leI (by omega) (by omega)).mp c46) (by omega)
      refine j_iconst (v := (-1)) dX4_here_65 (by decide) ?_
      refine j_iret dX4_here_66 rfl rfl (Nat.le_refl _) (Nat.le_refl _) ?_
      exact jr_i (if_neg h46).symm
    · skip
      have h46 : b < n := Nat.lt_of_not_le (fun q => c46 (nI_le q (by omega)))
      obtain ⟨e1, e2⟩ := hsb b h46
      refine j_aload_n dX4_here_49 rfl ?_
      refine j_get 0 dX4_here_50 j_set_self in_X4 rfl (by decide) q238 rfl ?_
      refine j_aload_n dX4_here_53 rfl ?_
      refine j_get 3 dX4_here_54 j_set_self in_X4 rfl (by decide) q241 rfl ?_
      refine j_bald 1 b dX4_here_57 (by rw [j_set_ne (by decide)]; exact h5) rfl rfl (by omega) (by decide) ?_
      refine j_eqi (show _ = sbI (T b) from e1) ?_
      refine j_sipush (v := 255) dX4_here_58 (by decide) ?_
      refine j_iand dX4_here_61 ?_
      refine j_eqi (sb_and _ e2) ?_
      refine j_goto (tgt := 66) dX4_here_62 (by decide) ?_
      refine j_iret dX4_here_66 rfl rfl (Nat.le_refl _) (Nat.le_refl _) ?_
      exact jr_i (if_pos h46).symm
  · skip
    refine j_lp1 (fun (b : Nat) => (j_set h 200 (rdC (r 5) n td b fr))) (fun _ => [some (.ref (r 200))]) (fun b => b ≤ n ∧ sk T n b = sk T n a) (fun b => n - b) ?_ a ⟨ha, rfl⟩
    intro b ⟨hb, hsk⟩ ih
    refine j_aload_n dX4_here_0 rfl ?_
    refine j_get 3 dX4_here_1 j_set_self in_X4 rfl (by decide) q241 rfl ?_
    refine j_aload_n dX4_here_4 rfl ?_
    refine j_get 1 dX4_here_5 j_set_self in_X4 rfl (by decide) q239 rfl ?_
    refine j_icmp_ge (tgt := 38) dX4_here_8 (by decide) (fun c8 => ?_) (fun c8 => ?_)
    · skip
      have h8 : n ≤ b := (nI_leI (by omega) (by omega)).mp c8
      have hout : b = sk T n b := (rgE_end h8).symm
      exact kc0 b (by rw [← hsk]; exact hout)
    · skip
      have h8 : b < n := Nat.lt_of_not_le (fun q => c8 (nI_le q (by omega)))
      obtain ⟨e1, e2⟩ := hsb b h8
      refine j_aload_n dX4_here_11 rfl ?_
      refine j_get 0 dX4_here_12 j_set_self in_X4 rfl (by decide) q238 rfl ?_
      refine j_aload_n dX4_here_15 rfl ?_
      refine j_get 3 dX4_here_16 j_set_self in_X4 rfl (by decide) q241 rfl ?_
      refine j_bald 1 b dX4_here_19 (by rw [j_set_ne (by decide)]; exact h5) rfl rfl (by omega) (by decide) ?_
      refine j_eqi (show _ = sbI (T b) from e1) ?_
      refine j_bipush (v := 32) dX4_here_20 (by decide) ?_
      refine j_icmp_ne (tgt := 38) dX4_here_22 (by decide) (fun c22 => ?_) (fun c22 => ?_)
      · skip
        have h22 : ¬ T b = 32 := fun q => c22 ((sb_eq (T b) e2 32 (by decide)).mpr q)
        have hout : b = sk T n b := (rgE_out (fun q => h22 (by omega))).symm
        exact kc0 b (by rw [← hsk]; exact hout)
      · skip
        have h22 : T b = 32 := (sb_eq (T b) e2 32 (by decide)).mp c22
        have hgo : sk T n b = sk T n (b + 1) := rgE_go h8 (by omega)
        refine j_aload_n dX4_here_25 rfl ?_
        refine j_dup dX4_here_26 rfl ?_
        refine j_get 3 dX4_here_27 j_set_self in_X4 rfl (by decide) q241 rfl ?_
        refine j_iconst (v := 1) dX4_here_30 (by decide) ?_
        refine j_iadd dX4_here_31 ?_
        refine j_eqi (show _ = nI (b + 1) from nI_1 _) ?_
        refine j_put 3 dX4_here_32 j_set_self in_X4 tyX4_ok nmX4 rfl (by decide) q241 rfl rfl rfl (by first | decide | simp) ?_
        refine j_re rfl rfl (h' := (j_set h 200 (rdC (r 5) n td (b + 1) fr))) j_set2 ?_
        refine j_goto (tgt := 0) dX4_here_35 (by decide) ?_
        exact ih (b + 1) ⟨by omega, by rw [← hgo]; exact hsk⟩ (by omega)
