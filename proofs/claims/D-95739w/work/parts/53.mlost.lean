set_option maxRecDepth 100000
set_option maxHeartbeats 4000000 in
theorem m_bits {l : Launch} {D : va_G} {dT : Nat → ClassId} {H0 : Heap} {r : Nat → Nat} {h : j_H} {nx : Nat} (S : Nat) (hS : S < 256) : MC (gG l D dT H0) yX3_bits cX3_bits 3 (some .int) 0 0 0 [.int (nI S)] r h nx (jq_i (nI (pcN S)) r h nx) := by
  refine MC.ofJ [some (.int (nI S)), none, none] rfl (Nat.le_of_ble_eq_true rfl) (by decide) ?_
  refine j_iconst (v := 0) dX3_bits_0 (by decide) ?_
  refine j_istore_n dX3_bits_1 (by decide) rfl ?_
  refine j_iconst (v := 0) dX3_bits_2 (by decide) ?_
  refine j_istore_n dX3_bits_3 (by decide) rfl ?_
  refine j_less (L' := [some (.int (nI S)), some (.int (nI (fb_sm (fun i => if S.testBit i = true then 1 else 0) 0))), some (.int (nI 0))]) ⟨Or.inr rfl, Or.inr rfl, Or.inr rfl, trivial⟩ ?_
  refine j_lp1 (fun (k : Nat) => h) (fun k => [some (.int (nI S)), some (.int (nI (fb_sm (fun i => if S.testBit i = true then 1 else 0) k))), some (.int (nI k))]) (fun k => k ≤ 8) (fun k => 8 - k) ?_ 0 (Nat.zero_le _)
  intro k hk ih
  refine j_iload_n dX3_bits_4 rfl ?_
  refine j_bipush (v := 8) dX3_bits_5 (by decide) ?_
  refine j_icmp_ge (tgt := 24) dX3_bits_7 (by decide) (fun c7 => ?_) (fun c7 => ?_)
  · skip
    have hk8 : k = 8 := by
      have := (nI_leI (by decide) (by omega)).mp (show nI 8 ≤ nI k from c7)
      omega
    subst hk8
    refine j_iload_n dX3_bits_24 rfl ?_
    refine j_iret dX3_bits_25 rfl rfl (Nat.le_refl _) (Nat.le_refl _) ?_
    exact jr_i rfl
  · skip
    have hk8 : k < 8 := Nat.lt_of_not_le (fun q => c7 (show nI 8 ≤ nI k from nI_le q (by omega)))
    refine j_iload_n dX3_bits_10 rfl ?_
    refine j_iload_n dX3_bits_11 rfl ?_
    refine j_iload_n dX3_bits_12 rfl ?_
    refine j_ishr dX3_bits_13 ?_
    refine j_iconst (v := 1) dX3_bits_14 (by decide) ?_
    refine j_iand dX3_bits_15 ?_
    refine j_eqi (bit_eq S hS k hk8) ?_
    refine j_iadd dX3_bits_16 ?_
    refine j_eqi (show _ = nI (fb_sm (fun i => if S.testBit i = true then 1 else 0) (k + 1)) from nI_add _ _) ?_
    refine j_istore_n dX3_bits_17 (by decide) rfl ?_
    refine j_iinc dX3_bits_18 rfl (by decide) rfl ?_
    refine j_goto (tgt := 4) dX3_bits_21 (by decide) ?_
    refine j_less (L' := [some (.int (nI S)), some (.int (nI (fb_sm (fun i => if S.testBit i = true then 1 else 0) (k + 1)))), some (.int (nI (k + 1)))]) ⟨Or.inr rfl, Or.inr rfl, Or.inr (by rw [← nI_inc]), trivial⟩ ?_
    exact ih (k + 1) (by omega) (by omega)
def q_sh (v : Nat) (r : Nat → Nat) (dT : Nat → ClassId) (g : j_H) (kI : Int32) (bs fg m nk : Nat) (F : Nat → Nat) (tk : Int64) (V : Nat → Nat → Int32) (nx : Nat) : j_Q := fun o r' h' nx' => o = .returned (some (.long (lN v))) ∧ r' = r ∧ nx' = nx ∧ ∃ b : A4, okA m b ∧ h' = (mdS r dT g kI bs fg m nk b.1 b.2.1 b.2.2.1 b.2.2.2 F tk V)
theorem q_sh.isR {v : Nat} {r : Nat → Nat} {dT : Nat → ClassId} {g : j_H} {kI : Int32} {bs fg m nk : Nat} {F : Nat → Nat} {tk : Int64} {V : Nat → Nat → Int32} {nx : Nat} : j_isR (q_sh v r dT g kI bs fg m nk F tk V nx) := fun _ _ _ _ hq => ⟨_, hq.1⟩
def q_tl (P : Prop) (r : Nat → Nat) (dT : Nat → ClassId) (g : j_H) (kI : Int32) (bs fg m nk : Nat) (F : Nat → Nat) (tk : Int64) (V : Nat → Nat → Int32) (nx : Nat) : j_Q := fun o r' h' nx' => ∃ tb : Bool, o = .returned (some (.int (bI tb))) ∧ (tb = true ↔ P) ∧ r' = r ∧ nx' = nx ∧ ∃ b : A4, okA m b ∧ h' = (mdS r dT g kI bs fg m nk b.1 b.2.1 b.2.2.1 b.2.2.2 F tk V)
theorem q_tl.isR {P : Prop} {r : Nat → Nat} {dT : Nat → ClassId} {g : j_H} {kI : Int32} {bs fg m nk : Nat} {F : Nat → Nat} {tk : Int64} {V : Nat → Nat → Int32} {nx : Nat} : j_isR (q_tl P r dT g kI bs fg m nk F tk V nx) := fun _ _ _ _ ⟨_, hq⟩ => ⟨_, hq.1⟩
set_option maxHeartbeats 4000000 in
theorem m_shownBy {l : Launch} {D : va_G} {dT : Nat → ClassId} {H0 : Heap} {r : Nat → Nat} {nx : Nat} {g : j_H} {kd bs fg m nk : Nat} {a : A4} {F : Nat → Nat} {tk : Int64} {V : Nat → Nat → Int32} (hD : okD kd bs m) (ha : okA m a) {ks : Nat → KY} (hks : mdKs (V 101) bs m nk ks) (hn8 : nk ≤ 8) (row n as : Nat) (hrow : row < 2 ^ 31) (hn : n ≤ 4) (has : as < nk) : MC (gG l D dT H0) yX3_shownBy cX3_shownBy 9 (some .long) 4 0 0 [.ref (r 100), .int (nI row), .int (nI n), .int (nI as)] r (mdS r dT g (nI kd) bs fg m nk a.1 a.2.1 a.2.2.1 a.2.2.2 F tk V) nx (q_sh (shB (fun k a => stk kd bs m (ks k) a) nk as n row a 0) r dT g (nI kd) bs fg m nk F tk V nx) := by
  have hm := hD.pos
  have hm2 := hD.le
  have hm3 : 2 ≤ m := by have := hD.2.1; have := hD.2.2.2.1; omega
  have hkd := hD.1
  have hokS : ∀ z k, okA m z → k < nk → okA m (stk kd bs m (ks k) z) := fun z k hz hk => stk_ok hD (hks k hk).2 hz
  have h100 : ∀ z, okA m z → z.2.2.1 < 100 := fun z hz => by have := hz.2.2.1; omega
  refine MC.ofJ [some (.ref (r 100)), some (.int (nI row)), some (.int (nI n)), some (.int (nI as)), none, none, none, none, none] rfl (Nat.le_of_ble_eq_true rfl) (by decide) ?_
  refine j_lconst (v := 0) dX3_shownBy_0 (by decide) ?_
  refine j_lstore dX3_shownBy_1 (by decide) rfl ?_
  refine j_iload_n dX3_shownBy_3 rfl ?_
  refine j_istore dX3_shownBy_4 (by decide) rfl ?_
  refine j_iconst (v := 0) dX3_shownBy_6 (by decide) ?_
  refine j_istore dX3_shownBy_7 (by decide) rfl ?_
  refine j_less (L' := [some (.ref (r 100)), some (.int (nI row)), some (.int (nI n)), some (.int (nI as)), some (.long (lN 0)), none, some (.int (nI row)), some (.int (nI 0)), none]) ⟨Or.inr rfl, Or.inr rfl, Or.inr rfl, Or.inr rfl, Or.inr rfl, Or.inr rfl, Or.inr rfl, Or.inr rfl, Or.inl rfl, trivial⟩ ?_
  refine j_lp4 (fun (i w : Nat) (b : A4) (v : Nat) => (mdS r dT g (nI kd) bs fg m nk b.1 b.2.1 b.2.2.1 b.2.2.2 F tk V)) (fun i w _ v => [some (.ref (r 100)), some (.int (nI row)), some (.int (nI n)), some (.int (nI as)), some (.long (lN v)), none, some (.int (nI w)), some (.int (nI i)), none]) (fun i w b v => i ≤ n ∧ w < 2 ^ 31 ∧ okA m b ∧ v < 100 ^ i ∧ shB (fun k a => stk kd bs m (ks k) a) nk as (n - i) w b v = shB (fun k a => stk kd bs m (ks k) a) nk as n row a 0) (fun i _ _ _ => n - i) ?_ 0 row a 0 ⟨Nat.zero_le _, hrow, ha, by decide, rfl⟩
  intro i w b v ⟨hi, hw, hb, hv, hsh⟩ ih
  refine j_iload dX3_shownBy_9 rfl ?_
  refine j_iload_n dX3_shownBy_11 rfl ?_
  refine j_icmp_ge (tgt := 76) dX3_shownBy_12 (by decide) (fun c12 => ?_) (fun c12 => ?_)
  · skip
    have hin : i = n := by
      have := (nI_leI (by omega) (by omega)).mp c12
      omega
    rw [hin, Nat.sub_self, shB] at hsh
    refine j_lload dX3_shownBy_76 rfl ?_
    refine j_lret dX3_shownBy_78 rfl (Nat.le_refl _) (Nat.le_refl _) ?_
    exact ⟨by rw [hsh], rfl, rfl, b, hb, rfl⟩
  · skip
    have hin : i < n := Nat.lt_of_not_le (fun q => c12 (nI_le q (by omega)))
    rw [show n - i = (n - (i + 1)) + 1 by omega, shB] at hsh
    have hkl : (if w % (nk + 1) = nk then as else w % (nk + 1)) < nk := by
      have : w % (nk + 1) < nk + 1 := Nat.mod_lt w (Nat.succ_pos nk)
      split <;> omega
    have hso := hokS b _ hb hkl
    have hs1 := h100 _ hso
    refine j_iload dX3_shownBy_15 rfl ?_
    refine j_aload_n dX3_shownBy_17 rfl ?_
    refine j_get 4 dX3_shownBy_18 (by first | rfl | assumption) in_X3 rfl (by decide) q1103 rfl ?_
    refine j_iconst (v := 1) dX3_shownBy_21 (by decide) ?_
    refine j_iadd dX3_shownBy_22 ?_
    refine j_eqi (show _ = nI (nk + 1) from nI_1 _) ?_
    refine j_irem dX3_shownBy_23 (nI_ne (by omega) (by omega)) ?_
    refine j_eqi (show _ = nI (w % (nk + 1)) from pk_rem hw (by omega) (by omega)) ?_
    refine j_istore dX3_shownBy_24 (by decide) rfl ?_
    refine j_iload dX3_shownBy_26 rfl ?_
    refine j_aload_n dX3_shownBy_28 rfl ?_
    refine j_get 4 dX3_shownBy_29 (by first | rfl | assumption) in_X3 rfl (by decide) q1103 rfl ?_
    refine j_iconst (v := 1) dX3_shownBy_32 (by decide) ?_
    refine j_iadd dX3_shownBy_33 ?_
    refine j_eqi (show _ = nI (nk + 1) from nI_1 _) ?_
    refine j_idiv dX3_shownBy_34 (nI_ne (by omega) (by omega)) ?_
    refine j_eqi (show _ = nI (w / (nk + 1)) from pk_div hw (by omega) (by omega)) ?_
    refine j_istore dX3_shownBy_35 (by decide) rfl ?_
    refine j_aload_n dX3_shownBy_37 rfl ?_
    refine j_join (tgt := 53) (fun x => x = nI (if w % (nk + 1) = nk then as else w % (nk + 1))) (fun v38 hv38 => ?_) (fun kj38 => ?_)
    · skip
      subst hv38
      generalize hKK : (if w % (nk + 1) = nk then as else w % (nk + 1)) = kk at hkl hso hsh hs1 ⊢
      refine j_callVv (m_doStroke hD hb kk (by omega) (ks kk) (hks _ hkl).2 (hks _ hkl).1.w) dX3_shownBy_53 pmX3_doStroke q1312 q1314 qs37 (by first | rfl | assumption) rfl rfl rfl ⟨Nat.le_of_ble_eq_true rfl, Nat.le_of_ble_eq_true rfl⟩ ⟨Nat.le_of_ble_eq_true rfl, Nat.le_of_ble_eq_true rfl⟩ rfl (Nat.le_of_ble_eq_true rfl) ?_
      generalize hbe : stk kd bs m (ks kk) b = b2 at hso hsh hs1 ⊢
      refine j_ldc2 dX3_shownBy_56 q1459 ?_
      refine j_lload dX3_shownBy_59 rfl ?_
      refine j_lmul dX3_shownBy_61 ?_
      refine j_aload_n dX3_shownBy_62 rfl ?_
      refine j_get 21 dX3_shownBy_63 (by first | rfl | assumption) in_X3 rfl (by decide) q1120 rfl ?_
      refine j_i2l dX3_shownBy_66 ?_
      refine j_ladd dX3_shownBy_67 ?_
      refine j_eql (show _ = lN (100 * v + b2.2.2.1) by rw [nI_l (by omega), show (100 : Int64) = lN 100 from rfl, lN_mul, lN_add]) ?_
      refine j_lstore dX3_shownBy_68 (by decide) rfl ?_
      refine j_iinc dX3_shownBy_70 rfl (by decide) rfl ?_
      refine j_goto (tgt := 9) dX3_shownBy_73 (by decide) ?_
      refine j_less (L' := [some (.ref (r 100)), some (.int (nI row)), some (.int (nI n)), some (.int (nI as)), some (.long (lN (100 * v + b2.2.2.1))), none, some (.int (nI (w / (nk + 1)))), some (.int (nI (i + 1))), none]) ⟨Or.inr rfl, Or.inr rfl, Or.inr rfl, Or.inr rfl, Or.inr rfl, Or.inr rfl, Or.inr rfl, Or.inr (by rw [← nI_inc]), Or.inl rfl, trivial⟩ ?_
      exact ih (i + 1) _ b2 _ ⟨by omega, Nat.lt_of_le_of_lt (Nat.div_le_self _ _) hw, hso, by rw [Nat.pow_succ]; omega, hsh⟩ (by omega)
    · skip
      refine j_iload dX3_shownBy_38 rfl ?_
      refine j_aload_n dX3_shownBy_40 rfl ?_
      refine j_get 4 dX3_shownBy_41 (by first | rfl | assumption) in_X3 rfl (by decide) q1103 rfl ?_
      refine j_icmp_ne (tgt := 51) dX3_shownBy_44 (by decide) (fun c44 => ?_) (fun c44 => ?_)
      · skip
        have hj : nI (w % (nk + 1)) = nI (if w % (nk + 1) = nk then as else w % (nk + 1)) := by rw [if_neg (fun q => c44 (by rw [q]))]
        refine j_iload dX3_shownBy_51 rfl ?_
        exact kj38 _ hj
      · skip
        have hj : nI as = nI (if w % (nk + 1) = nk then as else w % (nk + 1)) := by
          have h1 : w % (nk + 1) < 2 ^ 31 := Nat.lt_of_le_of_lt (Nat.mod_le _ _) hw
          rw [if_pos ((nI_eq h1 (by omega)).mp c44)]
        refine j_iload_n dX3_shownBy_47 rfl ?_
        refine j_goto (tgt := 53) dX3_shownBy_48 (by decide) ?_
        exact kj38 _ hj
set_option maxHeartbeats 4000000 in
theorem m_tells {l : Launch} {D : va_G} {dT : Nat → ClassId} {H0 : Heap} {r : Nat → Nat} {nx : Nat} {g : j_H} {kd bs fg m nk : Nat} {a : A4} {F : Nat → Nat} {tk : Int64} {V : Nat → Nat → Int32} (hD : okD kd bs m) (ha : okA m a) {ks : Nat → KY} (hks : mdKs (V 101) bs m nk ks) (hn8 : nk ≤ 8) (row n S now : Nat) (hrow : row < 2 ^ 31) (hn : n ≤ 4) (hS : S < 256) (hnow : now < 8 * m * m) : MC (gG l D dT H0) yX3_tells cX3_tells 10 (some .boolean) 5 0 0 [.ref (r 100), .int (nI row), .int (nI n), .int (nI S), .int (nI now)] r (mdS r dT g (nI kd) bs fg m nk a.1 a.2.1 a.2.2.1 a.2.2.2 F tk V) nx (q_tl (telP (fun k a => stk kd bs m (ks k) a) nk S n row (fun _ => decM m now) (fun _ => 0)) r dT g (nI kd) bs fg m nk F tk V nx) := by
  have hm := hD.pos
  have hm2 := hD.le
  have hm3 : 2 ≤ m := by have := hD.2.1; have := hD.2.2.2.1; omega
  have hkd := hD.1
  have hmm := mm_le hm2
  have hdn := decM_ok hm hnow
  have hokS : ∀ z k, okA m z → k < nk → okA m (stk kd bs m (ks k) z) := fun z k hz hk => stk_ok hD (hks k hk).2 hz
  have h100 : ∀ z, okA m z → z.2.2.1 < 100 := fun z hz => by have := hz.2.2.1; omega
  have hlt : ∀ x, x < nk → shB (fun k a => stk kd bs m (ks k) a) nk x n row (decM m now) 0 < 2 ^ 31 := fun x hx => Nat.lt_of_lt_of_le (shB_lt hokS h100 hx n row (decM m now) 0 0 hdn (by decide)) (Nat.le_trans (Nat.pow_le_pow_right (by decide) (show 0 + n ≤ 4 by omega)) (by decide))
  refine MC.ofJ [some (.ref (r 100)), some (.int (nI row)), some (.int (nI n)), some (.int (nI S)), some (.int (nI now)), none, none, none, none, none] rfl (Nat.le_of_ble_eq_true rfl) (by decide) ?_
  refine j_iconst (v := 1) dX3_tells_0 (by decide) ?_
  refine j_istore dX3_tells_1 (by decide) rfl ?_
  refine j_iconst (v := 0) dX3_tells_3 (by decide) ?_
  refine j_istore dX3_tells_4 (by decide) rfl ?_
  refine j_less (L' := [some (.ref (r 100)), some (.int (nI row)), some (.int (nI n)), some (.int (nI S)), some (.int (nI now)), some (.int (bI true)), some (.int (nI 0)), none, none, none]) ⟨Or.inr rfl, Or.inr rfl, Or.inr rfl, Or.inr rfl, Or.inr rfl, Or.inr rfl, Or.inr rfl, Or.inl rfl, Or.inl rfl, Or.inl rfl, trivial⟩ ?_
  refine j_lp3 (fun (x : Nat) (tb : Bool) (b : A4) => (mdS r dT g (nI kd) bs fg m nk b.1 b.2.1 b.2.2.1 b.2.2.2 F tk V)) (fun x tb _ => [some (.ref (r 100)), some (.int (nI row)), some (.int (nI n)), some (.int (nI S)), some (.int (nI now)), some (.int (bI tb)), some (.int (nI x)), none, none, none]) (fun x tb b => x ≤ nk ∧ okA m b ∧ (tb = true ↔ (∀ a b, a < x → b < a → (S.testBit a = true → S.testBit b = true → shB (fun k a => stk kd bs m (ks k) a) nk a n row (decM m now) 0 ≠ shB (fun k a => stk kd bs m (ks k) a) nk b n row (decM m now) 0)))) (fun x _ _ => nk - x) ?_ 0 true a ⟨Nat.zero_le _, ha, fun _ a b h => absurd h (Nat.not_lt_zero _), fun _ => rfl⟩
  intro x tb b ⟨hx, hb, htb⟩ ih
  refine j_iload dX3_tells_6 rfl ?_
  refine j_aload_n dX3_tells_8 rfl ?_
  refine j_get 4 dX3_tells_9 (by first | rfl | assumption) in_X3 rfl (by decide) q1103 rfl ?_
  refine j_icmp_ge (tgt := 108) dX3_tells_12 (by decide) (fun c12 => ?_) (fun c12 => ?_)
  · skip
    have hxe : x = nk := by
      have := (nI_leI (by omega) (by omega)).mp c12
      omega
    refine j_iload dX3_tells_108 rfl ?_
    refine j_iret dX3_tells_110 rfl (bI_nar _) (Nat.le_refl _) (Nat.le_refl _) ?_
    exact ⟨tb, rfl, hxe ▸ htb, rfl, rfl, b, hb, rfl⟩
  · skip
    have hxk : x < nk := Nat.lt_of_not_le (fun q => c12 (nI_le q (by omega)))
    refine j_iload dX3_tells_15 rfl ?_
    refine j_if_eq (tgt := 108) dX3_tells_17 (by decide) (fun c17 => ?_) (fun c17 => ?_)
    · skip
      have hfl : tb = false := bI_0.mp c17
      refine j_iload dX3_tells_108 rfl ?_
      refine j_iret dX3_tells_110 rfl (bI_nar _) (Nat.le_refl _) (Nat.le_refl _) ?_
      exact ⟨tb, rfl, ⟨fun q => absurd (hfl.symm.trans q) (by decide), fun q => htb.mpr (fun a b h => q a b (by omega))⟩, rfl, rfl, b, hb, rfl⟩
    · skip
      have htt : tb = true := bI_n.mp c17
      refine j_iconst (v := 0) dX3_tells_20 (by decide) ?_
      refine j_istore dX3_tells_21 (by decide) rfl ?_
      refine j_less (L' := [some (.ref (r 100)), some (.int (nI row)), some (.int (nI n)), some (.int (nI S)), some (.int (nI now)), some (.int (bI tb)), some (.int (nI x)), some (.int (nI 0)), none, none]) ⟨Or.inr rfl, Or.inr rfl, Or.inr rfl, Or.inr rfl, Or.inr rfl, Or.inr rfl, Or.inr rfl, Or.inr rfl, Or.inl rfl, Or.inl rfl, trivial⟩ ?_
      have hT0 := htb.mp htt
      refine j_lp3 (fun (y : Nat) (tb : Bool) (b : A4) => (mdS r dT g (nI kd) bs fg m nk b.1 b.2.1 b.2.2.1 b.2.2.2 F tk V)) (fun y tb _ => [some (.ref (r 100)), some (.int (nI row)), some (.int (nI n)), some (.int (nI S)), some (.int (nI now)), some (.int (bI tb)), some (.int (nI x)), some (.int (nI y)), none, none]) (fun y tb b => y ≤ x ∧ okA m b ∧ (tb = true ↔ (∀ a b, a < x → b < a → (S.testBit a = true → S.testBit b = true → shB (fun k a => stk kd bs m (ks k) a) nk a n row (decM m now) 0 ≠ shB (fun k a => stk kd bs m (ks k) a) nk b n row (decM m now) 0)) ∧ (∀ b, b < y → (S.testBit x = true → S.testBit b = true → shB (fun k a => stk kd bs m (ks k) a) nk x n row (decM m now) 0 ≠ shB (fun k a => stk kd bs m (ks k) a) nk b n row (decM m now) 0)))) (fun y _ _ => x - y) ?_ 0 tb b ⟨Nat.zero_le _, hb, fun _ => ⟨hT0, fun b h => absurd h (Nat.not_lt_zero _)⟩, fun _ => htt⟩
      clear htb htt hb
      intro y tb b ⟨hy, hb, htb⟩ ih2
      refine j_iload dX3_tells_23 rfl ?_
      refine j_iload dX3_tells_25 rfl ?_
      refine j_icmp_ge (tgt := 102) dX3_tells_27 (by decide) (fun c27 => ?_) (fun c27 => ?_)
      · skip
        have hye : y = x := by
          have := (nI_leI (by omega) (by omega)).mp c27
          omega
        have hnx : tb = true ↔ (∀ a b, a < (x + 1) → b < a → (S.testBit a = true → S.testBit b = true → shB (fun k a => stk kd bs m (ks k) a) nk a n row (decM m now) 0 ≠ shB (fun k a => stk kd bs m (ks k) a) nk b n row (decM m now) 0)) := htb.trans ⟨fun q a b ha hb9 => by
          by_cases he : a = x
          · rw [he] at hb9 ⊢; exact q.2 b (by omega)
          · exact q.1 a b (by omega) hb9, fun q => ⟨fun a b ha hb9 => q a b (by omega) hb9, fun b hb9 => q x b (by omega) (by omega)⟩⟩
        refine j_iinc dX3_tells_102 rfl (by decide) rfl ?_
        refine j_goto (tgt := 6) dX3_tells_105 (by decide) ?_
        refine j_less (L' := [some (.ref (r 100)), some (.int (nI row)), some (.int (nI n)), some (.int (nI S)), some (.int (nI now)), some (.int (bI tb)), some (.int (nI (x + 1))), none, none, none]) ⟨Or.inr rfl, Or.inr rfl, Or.inr rfl, Or.inr rfl, Or.inr rfl, Or.inr rfl, Or.inr (by rw [← nI_inc]), Or.inl rfl, Or.inl rfl, Or.inl rfl, trivial⟩ ?_
        exact ih (x + 1) tb b ⟨by omega, hb, hnx⟩ (by omega)
      · skip
        have hyx : y < x := Nat.lt_of_not_le (fun q => c27 (nI_le q (by omega)))
        refine j_iload dX3_tells_30 rfl ?_
        refine j_if_eq (tgt := 102) dX3_tells_32 (by decide) (fun c32 => ?_) (fun c32 => ?_)
        · skip
          have hfl : tb = false := bI_0.mp c32
          have hnx : tb = true ↔ (∀ a b, a < (x + 1) → b < a → (S.testBit a = true → S.testBit b = true → shB (fun k a => stk kd bs m (ks k) a) nk a n row (decM m now) 0 ≠ shB (fun k a => stk kd bs m (ks k) a) nk b n row (decM m now) 0)) := ⟨fun q => absurd (hfl.symm.trans q) (by decide), fun q => htb.mpr ⟨fun a b ha hb9 => q a b (by omega) hb9, fun b hb9 => q x b (by omega) (by omega)⟩⟩
          refine j_iinc dX3_tells_102 rfl (by decide) rfl ?_
          refine j_goto (tgt := 6) dX3_tells_105 (by decide) ?_
          refine j_less (L' := [some (.ref (r 100)), some (.int (nI row)), some (.int (nI n)), some (.int (nI S)), some (.int (nI now)), some (.int (bI tb)), some (.int (nI (x + 1))), none, none, none]) ⟨Or.inr rfl, Or.inr rfl, Or.inr rfl, Or.inr rfl, Or.inr rfl, Or.inr rfl, Or.inr (by rw [← nI_inc]), Or.inl rfl, Or.inl rfl, Or.inl rfl, trivial⟩ ?_
          exact ih (x + 1) tb b ⟨by omega, hb, hnx⟩ (by omega)
        · skip
          have htt : tb = true := bI_n.mp c32
          have hT := htb.mp htt
          refine j_iload_n dX3_tells_35 rfl ?_
          refine j_iload dX3_tells_36 rfl ?_
          refine j_callSi (c_X3_has _ _) dX3_tells_38 pmX3_has q1452 q1453 rfl ⟨Nat.le_of_ble_eq_true rfl, Nat.le_of_ble_eq_true rfl⟩ ⟨Nat.le_of_ble_eq_true rfl, Nat.le_of_ble_eq_true rfl⟩ rfl (Nat.le_of_ble_eq_true rfl) ?_
          refine j_ifb_eq (tgt := 96) dX3_tells_41 (by decide) (fun c41 => ?_) (fun c41 => ?_)
          · skip
            have hno : ¬ S.testBit x = true := fun q => c41 ((has_eq S hS x (by omega)).mpr q)
            refine j_iinc dX3_tells_96 rfl (by decide) rfl ?_
            refine j_goto (tgt := 23) dX3_tells_99 (by decide) ?_
            refine j_less (L' := [some (.ref (r 100)), some (.int (nI row)), some (.int (nI n)), some (.int (nI S)), some (.int (nI now)), some (.int (bI tb)), some (.int (nI x)), some (.int (nI (y + 1))), none, none]) ⟨Or.inr rfl, Or.inr rfl, Or.inr rfl, Or.inr rfl, Or.inr rfl, Or.inr rfl, Or.inr rfl, Or.inr (by rw [← nI_inc]), Or.inl rfl, Or.inl rfl, trivial⟩ ?_
            exact ih2 (y + 1) tb b ⟨by omega, hb, htb.trans ⟨fun q => ⟨q.1, fun z hz hs1 hs2 => by
              by_cases he : z = y
              · subst he; exact absurd hs1 hno
              · exact q.2 z (by omega) hs1 hs2⟩, fun q => ⟨q.1, fun z hz => q.2 z (by omega)⟩⟩⟩ (by omega)
          · skip
            have hsa : S.testBit x = true := (has_eq S hS x (by omega)).mp c41
            refine j_iload_n dX3_tells_44 rfl ?_
            refine j_iload dX3_tells_45 rfl ?_
            refine j_callSi (c_X3_has _ _) dX3_tells_47 pmX3_has q1452 q1453 rfl ⟨Nat.le_of_ble_eq_true rfl, Nat.le_of_ble_eq_true rfl⟩ ⟨Nat.le_of_ble_eq_true rfl, Nat.le_of_ble_eq_true rfl⟩ rfl (Nat.le_of_ble_eq_true rfl) ?_
            refine j_ifb_eq (tgt := 96) dX3_tells_50 (by decide) (fun c50 => ?_) (fun c50 => ?_)
            · skip
              have hno : ¬ S.testBit y = true := fun q => c50 ((has_eq S hS y (by omega)).mpr q)
              refine j_iinc dX3_tells_96 rfl (by decide) rfl ?_
              refine j_goto (tgt := 23) dX3_tells_99 (by decide) ?_
              refine j_less (L' := [some (.ref (r 100)), some (.int (nI row)), some (.int (nI n)), some (.int (nI S)), some (.int (nI now)), some (.int (bI tb)), some (.int (nI x)), some (.int (nI (y + 1))), none, none]) ⟨Or.inr rfl, Or.inr rfl, Or.inr rfl, Or.inr rfl, Or.inr rfl, Or.inr rfl, Or.inr rfl, Or.inr (by rw [← nI_inc]), Or.inl rfl, Or.inl rfl, trivial⟩ ?_
              exact ih2 (y + 1) tb b ⟨by omega, hb, htb.trans ⟨fun q => ⟨q.1, fun z hz hs1 hs2 => by
                by_cases he : z = y
                · subst he; exact absurd hs2 hno
                · exact q.2 z (by omega) hs1 hs2⟩, fun q => ⟨q.1, fun z hz => q.2 z (by omega)⟩⟩⟩ (by omega)
            · skip
              have hsb : S.testBit y = true := (has_eq S hS y (by omega)).mp c50
              refine j_aload_n dX3_tells_53 rfl ?_
              refine j_iload dX3_tells_54 rfl ?_
              refine j_callVv (m_setState hm hm2 now (by omega)) dX3_tells_56 pmX3_setState q1360 q1362 qs47 (by first | rfl | assumption) rfl rfl rfl ⟨Nat.le_of_ble_eq_true rfl, Nat.le_of_ble_eq_true rfl⟩ ⟨Nat.le_of_ble_eq_true rfl, Nat.le_of_ble_eq_true rfl⟩ rfl (Nat.le_of_ble_eq_true rfl) ?_
              refine j_aload_n dX3_tells_59 rfl ?_
              refine j_iload_n dX3_tells_60 rfl ?_
              refine j_iload_n dX3_tells_61 rfl ?_
              refine j_iload dX3_tells_62 rfl ?_
              refine j_callV (m_shownBy hD hdn hks hn8 row n x hrow hn (by omega)) q_sh.isR dX3_tells_64 pmX3_shownBy q1455 q1457 qs57 (by first | rfl | assumption) rfl rfl rfl ⟨Nat.le_of_ble_eq_true rfl, Nat.le_of_ble_eq_true rfl⟩ ⟨Nat.le_of_ble_eq_true rfl, Nat.le_of_ble_eq_true rfl⟩ rfl (Nat.le_of_ble_eq_true rfl) ?_
              rintro v9 r h9 nx ⟨e9, rfl, rfl, b1, hb1, rfl⟩
              cases e9
              show J _ _ _ _ _ _ _ _ _ _ _ _ (.long _ :: _)
              refine j_lstore dX3_tells_67 (by decide) rfl ?_
              refine j_aload_n dX3_tells_69 rfl ?_
              refine j_iload dX3_tells_70 rfl ?_
              refine j_callVv (m_setState hm hm2 now (by omega)) dX3_tells_72 pmX3_setState q1360 q1362 qs47 (by first | rfl | assumption) rfl rfl rfl ⟨Nat.le_of_ble_eq_true rfl, Nat.le_of_ble_eq_true rfl⟩ ⟨Nat.le_of_ble_eq_true rfl, Nat.le_of_ble_eq_true rfl⟩ rfl (Nat.le_of_ble_eq_true rfl) ?_
              refine j_lload dX3_tells_75 rfl ?_
              refine j_aload_n dX3_tells_77 rfl ?_
              refine j_iload_n dX3_tells_78 rfl ?_
              refine j_iload_n dX3_tells_79 rfl ?_
              refine j_iload dX3_tells_80 rfl ?_
              refine j_callV (m_shownBy hD hdn hks hn8 row n y hrow hn (by omega)) q_sh.isR dX3_tells_82 pmX3_shownBy q1455 q1457 qs57 (by first | rfl | assumption) rfl rfl rfl ⟨Nat.le_of_ble_eq_true rfl, Nat.le_of_ble_eq_true rfl⟩ ⟨Nat.le_of_ble_eq_true rfl, Nat.le_of_ble_eq_true rfl⟩ rfl (Nat.le_of_ble_eq_true rfl) ?_
              rintro v9 r h9 nx ⟨e9, rfl, rfl, b2, hb2, rfl⟩
              cases e9
              show J _ _ _ _ _ _ _ _ _ _ _ _ (.long _ :: _)
              refine j_lcmp dX3_tells_85 ?_
              refine j_if_eq (tgt := 93) dX3_tells_86 (by decide) (fun c86 => ?_) (fun c86 => ?_)
              · skip
                have heq : shB (fun k a => stk kd bs m (ks k) a) nk x n row (decM m now) 0 = shB (fun k a => stk kd bs m (ks k) a) nk y n row (decM m now) 0 := (lN_eq (hlt x hxk) (hlt y (by omega))).mp (lcmp_0.mp c86)
                refine j_iconst (v := 0) dX3_tells_93 (by decide) ?_
                refine j_istore dX3_tells_94 (by decide) rfl ?_
                refine j_iinc dX3_tells_96 rfl (by decide) rfl ?_
                refine j_goto (tgt := 23) dX3_tells_99 (by decide) ?_
                refine j_less (L' := [some (.ref (r 100)), some (.int (nI row)), some (.int (nI n)), some (.int (nI S)), some (.int (nI now)), some (.int (bI false)), some (.int (nI x)), some (.int (nI (y + 1))), none, none]) ⟨Or.inr rfl, Or.inr rfl, Or.inr rfl, Or.inr rfl, Or.inr rfl, Or.inr rfl, Or.inr rfl, Or.inr (by rw [← nI_inc]), Or.inl rfl, Or.inl rfl, trivial⟩ ?_
                exact ih2 (y + 1) false _ ⟨by omega, hb2, ⟨fun q => (by cases q), fun q => absurd heq (q.2 y (by omega) hsa hsb)⟩⟩ (by omega)
              · skip
                have hne : shB (fun k a => stk kd bs m (ks k) a) nk x n row (decM m now) 0 ≠ shB (fun k a => stk kd bs m (ks k) a) nk y n row (decM m now) 0 := fun q => c86 (lcmp_0.mpr (by rw [q]))
                refine j_iconst (v := 1) dX3_tells_89 (by decide) ?_
                refine j_goto (tgt := 94) dX3_tells_90 (by decide) ?_
                refine j_istore dX3_tells_94 (by decide) rfl ?_
                refine j_iinc dX3_tells_96 rfl (by decide) rfl ?_
                refine j_goto (tgt := 23) dX3_tells_99 (by decide) ?_
                refine j_less (L' := [some (.ref (r 100)), some (.int (nI row)), some (.int (nI n)), some (.int (nI S)), some (.int (nI now)), some (.int (bI true)), some (.int (nI x)), some (.int (nI (y + 1))), none, none]) ⟨Or.inr rfl, Or.inr rfl, Or.inr rfl, Or.inr rfl, Or.inr rfl, Or.inr rfl, Or.inr rfl, Or.inr (by rw [← nI_inc]), Or.inl rfl, Or.inl rfl, trivial⟩ ?_
                exact ih2 (y + 1) true _ ⟨by omega, hb2, ⟨fun _ => ⟨hT.1, fun z hz hs1 hs2 => by
                  by_cases he : z = y
                  · subst he; exact hne
                  · exact hT.2 z (by omega) hs1 hs2⟩, fun _ => rfl⟩⟩ (by omega)
set_option maxHeartbeats 4000000 in
theorem m_losto {l : Launch} {D : va_G} {dT : Nat → ClassId} {H0 : Heap} {r : Nat → Nat} {nx : Nat} {g : j_H} {kI : Int32} {bs fg m nk w x s t : Nat} {F : Nat → Nat} {tk : Int64} {V : Nat → Nat → Int32}  (hn8 : nk ≤ 8) (v : Int32) (hv : ¬ (0 ≤ v ∧ v ≤ nI (2 ^ nk - 1))) : MC (gG l D dT H0) yX3_lost cX3_lost 7 (some .int) 7 0 0 [.ref (r 100), .int v] r (mdS r dT g kI bs fg m nk w x s t F tk V) nx (jq_i (-1000000001) r (mdS r dT g kI bs fg m nk w x s t F tk V) nx) := by
  refine MC.ofJ [some (.ref (r 100)), some (.int v), none, none, none, none, none] rfl (Nat.le_of_ble_eq_true rfl) (by decide) ?_
  refine j_iload_n dX3_lost_0 rfl ?_
  refine j_iconst (v := 0) dX3_lost_1 (by decide) ?_
  refine j_iconst (v := 1) dX3_lost_2 (by decide) ?_
  refine j_aload_n dX3_lost_3 rfl ?_
  refine j_get 4 dX3_lost_4 (by first | rfl | assumption) in_X3 rfl (by decide) q1103 rfl ?_
  refine j_ishl dX3_lost_7 ?_
  refine j_iconst (v := 1) dX3_lost_8 (by decide) ?_
  refine j_isub dX3_lost_9 ?_
  refine j_eqi (pw_sh hn8) ?_
  refine j_callSi (c_X3_in _ _ _) dX3_lost_10 pmX3_in q1228 q1229 rfl ⟨Nat.le_of_ble_eq_true rfl, Nat.le_of_ble_eq_true rfl⟩ ⟨Nat.le_of_ble_eq_true rfl, Nat.le_of_ble_eq_true rfl⟩ rfl (Nat.le_of_ble_eq_true rfl) ?_
  refine j_ifb_ne (tgt := 19) dX3_lost_13 (by decide) (fun c13 => absurd c13 hv) (fun c13 => ?_)
  refine j_ldc dX3_lost_16 q1307 ?_
  refine j_iret dX3_lost_18 rfl rfl (Nat.le_refl _) (Nat.le_refl _) ?_
  exact ⟨rfl, rfl, rfl, rfl⟩
set_option maxHeartbeats 4000000 in
theorem m_lostp {l : Launch} {D : va_G} {dT : Nat → ClassId} {H0 : Heap} {r : Nat → Nat} {nx : Nat} {g : j_H} {kI : Int32} {bs fg m nk w x s t : Nat} {F : Nat → Nat} {tk : Int64} {V : Nat → Nat → Int32}  (hn8 : nk ≤ 8) (S : Nat) (hv : 0 ≤ nI S ∧ nI S ≤ nI (2 ^ nk - 1)) (hS : S < 256) (hp : pcN S < 2) : MC (gG l D dT H0) yX3_lost cX3_lost 7 (some .int) 7 0 0 [.ref (r 100), .int (nI S)] r (mdS r dT g kI bs fg m nk w x s t F tk V) nx (jq_i (-1000000002) r (mdS r dT g kI bs fg m nk w x s t F tk V) nx) := by
  refine MC.ofJ [some (.ref (r 100)), some (.int (nI S)), none, none, none, none, none] rfl (Nat.le_of_ble_eq_true rfl) (by decide) ?_
  refine j_iload_n dX3_lost_0 rfl ?_
  refine j_iconst (v := 0) dX3_lost_1 (by decide) ?_
  refine j_iconst (v := 1) dX3_lost_2 (by decide) ?_
  refine j_aload_n dX3_lost_3 rfl ?_
  refine j_get 4 dX3_lost_4 (by first | rfl | assumption) in_X3 rfl (by decide) q1103 rfl ?_
  refine j_ishl dX3_lost_7 ?_
  refine j_iconst (v := 1) dX3_lost_8 (by decide) ?_
  refine j_isub dX3_lost_9 ?_
  refine j_eqi (pw_sh hn8) ?_
  refine j_callSi (c_X3_in _ _ _) dX3_lost_10 pmX3_in q1228 q1229 rfl ⟨Nat.le_of_ble_eq_true rfl, Nat.le_of_ble_eq_true rfl⟩ ⟨Nat.le_of_ble_eq_true rfl, Nat.le_of_ble_eq_true rfl⟩ rfl (Nat.le_of_ble_eq_true rfl) ?_
  refine j_ifb_ne (tgt := 19) dX3_lost_13 (by decide) (fun c13 => ?_) (fun c13 => absurd hv c13)
  refine j_iload_n dX3_lost_19 rfl ?_
  refine j_callSi (m_bits S hS) dX3_lost_20 pmX3_bits q1445 q1446 rfl ⟨Nat.le_of_ble_eq_true rfl, Nat.le_of_ble_eq_true rfl⟩ ⟨Nat.le_of_ble_eq_true rfl, Nat.le_of_ble_eq_true rfl⟩ rfl (Nat.le_of_ble_eq_true rfl) ?_
  refine j_iconst (v := 2) dX3_lost_23 (by decide) ?_
  refine j_icmp_ge (tgt := 30) dX3_lost_24 (by decide) (fun c24 => absurd c24 (fun q => absurd ((nI_leI (by decide) (by omega)).mp (show nI 2 ≤ nI (pcN S) from q)) (by omega))) (fun c24 => ?_)
  refine j_ldc dX3_lost_27 q1231 ?_
  refine j_iret dX3_lost_29 rfl rfl (Nat.le_refl _) (Nat.le_refl _) ?_
  exact ⟨rfl, rfl, rfl, rfl⟩
set_option maxHeartbeats 4000000 in
theorem m_lost1 {l : Launch} {D : va_G} {dT : Nat → ClassId} {H0 : Heap} {r : Nat → Nat} {nx : Nat} {g : j_H} {kd bs fg m nk : Nat} {a : A4} {F : Nat → Nat} {tk : Int64} {V : Nat → Nat → Int32} (hD : okD kd bs m) (ha : okA m a) {ks : Nat → KY} (hks : mdKs (V 101) bs m nk ks) (hn8 : nk ≤ 8) (S : Nat) (hv : 0 ≤ nI S ∧ nI S ≤ nI (2 ^ nk - 1)) (hS : S < 256) (hp : 2 ≤ pcN S) : MC (gG l D dT H0) yX3_lost cX3_lost 7 (some .int) 7 0 0 [.ref (r 100), .int (nI S)] r (mdS r dT g (nI kd) bs fg m nk a.1 a.2.1 a.2.2.1 a.2.2.2 F tk V) nx (jq_i (lstV (fun k a => stk kd bs m (ks k) a) nk S a) r (mdS r dT g (nI kd) bs fg m nk a.1 a.2.1 a.2.2.1 a.2.2.2 F tk V) nx) := by
  have hm := hD.pos
  have hm2 := hD.le
  have hm3 : 2 ≤ m := by have := hD.2.1; have := hD.2.2.2.1; omega
  have hkd := hD.1
  have hmm := mm_le hm2
  have hea := encM_lt ha
  have hokS : ∀ z k, okA m z → k < nk → okA m (stk kd bs m (ks k) z) := fun z k hz hk => stk_ok hD (hks k hk).2 hz
  have h100 : ∀ z, okA m z → z.2.2.1 < 100 := fun z hz => by have := hz.2.2.1; omega
  have hSK : S < 2 ^ nk := by
    have h1 : 2 ^ nk ≤ 256 := Nat.le_trans (Nat.pow_le_pow_right (by decide) hn8) (by decide)
    have h2 := (nI_leI (by omega) (by omega)).mp hv.2
    have h3 : 0 < 2 ^ nk := Nat.two_pow_pos nk
    omega
  have hn1 : 1 ≤ nk := by
    rcases Nat.eq_zero_or_pos nk with q | q
    · rw [q] at hSK
      have h0 : S = 0 := by omega
      rw [h0] at hp
      exact absurd hp (by decide)
    · exact q
  have hpt : ∀ n, prtB (fun k a => stk kd bs m (ks k) a) nk S n (fun _ => a) (alk S) = true ↔ ∃ row, row < (nk + 1) ^ n ∧ (telP (fun k a => stk kd bs m (ks k) a) nk S n row (fun _ => a) (fun _ => 0)) := fun n => prt_tel hn8 hn1 hokS h100 n (fun _ => a) (alk S) (fun _ => 0) (fun _ _ => ha) (alk_bit hSK)
  have hpw : ∀ n, n ≤ 4 → (nk + 1) ^ n ≤ 6561 := fun n hn => Nat.le_trans (Nat.pow_le_pow_left (show nk + 1 ≤ 9 by omega) n) (Nat.le_trans (Nat.pow_le_pow_right (by decide) hn) (by decide))
  obtain ⟨P, hP⟩ : ∃ P : Nat → Bool, (fun n => prtB (fun k a => stk kd bs m (ks k) a) nk S n (fun _ => a) (alk S)) = P := ⟨_, rfl⟩
  have hpt2 : ∀ n, P n = true ↔ ∃ row, row < (nk + 1) ^ n ∧ (telP (fun k a => stk kd bs m (ks k) a) nk S n row (fun _ => a) (fun _ => 0)) := fun n => by rw [← hP]; exact hpt n
  have hL : lstV (fun k a => stk kd bs m (ks k) a) nk S a = lsF P 4 1 := by rw [← hP]; rfl
  rw [hL]
  clear hL hpt hP
  refine MC.ofJ [some (.ref (r 100)), some (.int (nI S)), none, none, none, none, none] rfl (Nat.le_of_ble_eq_true rfl) (by decide) ?_
  refine j_iload_n dX3_lost_0 rfl ?_
  refine j_iconst (v := 0) dX3_lost_1 (by decide) ?_
  refine j_iconst (v := 1) dX3_lost_2 (by decide) ?_
  refine j_aload_n dX3_lost_3 rfl ?_
  refine j_get 4 dX3_lost_4 (by first | rfl | assumption) in_X3 rfl (by decide) q1103 rfl ?_
  refine j_ishl dX3_lost_7 ?_
  refine j_iconst (v := 1) dX3_lost_8 (by decide) ?_
  refine j_isub dX3_lost_9 ?_
  refine j_eqi (pw_sh hn8) ?_
  refine j_callSi (c_X3_in _ _ _) dX3_lost_10 pmX3_in q1228 q1229 rfl ⟨Nat.le_of_ble_eq_true rfl, Nat.le_of_ble_eq_true rfl⟩ ⟨Nat.le_of_ble_eq_true rfl, Nat.le_of_ble_eq_true rfl⟩ rfl (Nat.le_of_ble_eq_true rfl) ?_
  refine j_ifb_ne (tgt := 19) dX3_lost_13 (by decide) (fun c13 => ?_) (fun c13 => absurd hv c13)
  refine j_iload_n dX3_lost_19 rfl ?_
  refine j_callSi (m_bits S hS) dX3_lost_20 pmX3_bits q1445 q1446 rfl ⟨Nat.le_of_ble_eq_true rfl, Nat.le_of_ble_eq_true rfl⟩ ⟨Nat.le_of_ble_eq_true rfl, Nat.le_of_ble_eq_true rfl⟩ rfl (Nat.le_of_ble_eq_true rfl) ?_
  refine j_iconst (v := 2) dX3_lost_23 (by decide) ?_
  refine j_icmp_ge (tgt := 30) dX3_lost_24 (by decide) (fun c24 => ?_) (fun c24 => absurd (nI_le hp (by have := pcN_le S; omega)) c24)
  refine j_aload_n dX3_lost_30 rfl ?_
  refine j_callVi (m_stateNow ha.2.2.2) dX3_lost_31 pmX3_stateNow q1344 q1346 qs43 (by first | rfl | assumption) rfl rfl rfl ⟨Nat.le_of_ble_eq_true rfl, Nat.le_of_ble_eq_true rfl⟩ ⟨Nat.le_of_ble_eq_true rfl, Nat.le_of_ble_eq_true rfl⟩ rfl (Nat.le_of_ble_eq_true rfl) ?_
  refine j_istore_n dX3_lost_34 (by decide) rfl ?_
  refine j_iconst (v := 1) dX3_lost_35 (by decide) ?_
  refine j_istore_n dX3_lost_36 (by decide) rfl ?_
  refine j_iconst (v := (-1)) dX3_lost_37 (by decide) ?_
  refine j_istore dX3_lost_38 (by decide) rfl ?_
  refine j_iconst (v := 1) dX3_lost_40 (by decide) ?_
  refine j_istore dX3_lost_41 (by decide) rfl ?_
  refine j_less (L' := [some (.ref (r 100)), some (.int (nI S)), some (.int (nI (encM m a))), some (.int (nI ((nk + 1) ^ 0))), some (.int (-1)), some (.int (nI 1)), none]) ⟨Or.inr rfl, Or.inr rfl, Or.inr rfl, Or.inr rfl, Or.inr rfl, Or.inr rfl, Or.inl rfl, trivial⟩ ?_
  refine j_lp3 (fun (n : Nat) (fo : Int32) (b : A4) => (mdS r dT g (nI kd) bs fg m nk b.1 b.2.1 b.2.2.1 b.2.2.2 F tk V)) (fun n fo _ => [some (.ref (r 100)), some (.int (nI S)), some (.int (nI (encM m a))), some (.int (nI ((nk + 1) ^ n))), some (.int fo), some (.int (nI (n + 1))), none]) (fun n fo b => n ≤ 4 ∧ okA m b ∧ ((fo = -1 ∧ lsF P (4 - n) (n + 1) = lsF P 4 1) ∨ (¬ fo = -1 ∧ fo = lsF P 4 1))) (fun n _ _ => 4 - n) ?_ 0 (-1) a ⟨Nat.zero_le _, ha, Or.inl ⟨rfl, rfl⟩⟩
  intro n fo b ⟨hn, hb, hfo⟩ ih
  refine j_iload dX3_lost_43 rfl ?_
  refine j_iconst (v := 5) dX3_lost_45 (by decide) ?_
  refine j_icmp_ge (tgt := 112) dX3_lost_46 (by decide) (fun c46 => ?_) (fun c46 => ?_)
  · skip
    have hn4 : n = 4 := by
      have := (nI_leI (by decide) (by omega)).mp (show nI 5 ≤ nI (n + 1) from c46)
      omega
    have hans : fo = lsF P 4 1 := by
      rcases hfo with ⟨q1, q2⟩ | q
      · rw [hn4] at q2; rw [q1, ← q2]; rfl
      · exact q.2
    refine j_aload_n dX3_lost_112 rfl ?_
    refine j_iload_n dX3_lost_113 rfl ?_
    refine j_callVv (m_setState hm hm2 (encM m a) (by omega)) dX3_lost_114 pmX3_setState q1360 q1362 qs47 (by first | rfl | assumption) rfl rfl rfl ⟨Nat.le_of_ble_eq_true rfl, Nat.le_of_ble_eq_true rfl⟩ ⟨Nat.le_of_ble_eq_true rfl, Nat.le_of_ble_eq_true rfl⟩ rfl (Nat.le_of_ble_eq_true rfl) ?_
    refine j_iload dX3_lost_117 rfl ?_
    refine j_iret dX3_lost_119 rfl rfl (Nat.le_refl _) (Nat.le_refl _) ?_
    rw [decM_encM ha]
    exact jr_i hans
  · skip
    have hn4 : n < 4 := by
      have := Nat.lt_of_not_le (fun q => c46 (show nI 5 ≤ nI (n + 1) from nI_le q (by omega)))
      omega
    refine j_iload dX3_lost_49 rfl ?_
    refine j_iconst (v := (-1)) dX3_lost_51 (by decide) ?_
    refine j_icmp_ne (tgt := 112) dX3_lost_52 (by decide) (fun c52 => ?_) (fun c52 => ?_)
    · skip
      have hans : fo = lsF P 4 1 := by
        rcases hfo with ⟨q1, q2⟩ | q
        · exact absurd q1 c52
        · exact q.2
      refine j_aload_n dX3_lost_112 rfl ?_
      refine j_iload_n dX3_lost_113 rfl ?_
      refine j_callVv (m_setState hm hm2 (encM m a) (by omega)) dX3_lost_114 pmX3_setState q1360 q1362 qs47 (by first | rfl | assumption) rfl rfl rfl ⟨Nat.le_of_ble_eq_true rfl, Nat.le_of_ble_eq_true rfl⟩ ⟨Nat.le_of_ble_eq_true rfl, Nat.le_of_ble_eq_true rfl⟩ rfl (Nat.le_of_ble_eq_true rfl) ?_
      refine j_iload dX3_lost_117 rfl ?_
      refine j_iret dX3_lost_119 rfl rfl (Nat.le_refl _) (Nat.le_refl _) ?_
      rw [decM_encM ha]
      exact jr_i hans
    · skip
      have hls := (hfo.resolve_right (fun q => q.1 c52)).2
      rw [show 4 - n = (4 - (n + 1)) + 1 by omega, lsF] at hls
      have hpn := hpw (n + 1) (by omega)
      refine j_iload_n dX3_lost_55 rfl ?_
      refine j_aload_n dX3_lost_56 rfl ?_
      refine j_get 4 dX3_lost_57 (by first | rfl | assumption) in_X3 rfl (by decide) q1103 rfl ?_
      refine j_iconst (v := 1) dX3_lost_60 (by decide) ?_
      refine j_iadd dX3_lost_61 ?_
      refine j_eqi (show _ = nI (nk + 1) from nI_1 _) ?_
      refine j_imul dX3_lost_62 ?_
      refine j_eqi (show _ = nI ((nk + 1) ^ (n + 1)) by rw [Nat.pow_succ, pk_mul]) ?_
      refine j_istore_n dX3_lost_63 (by decide) rfl ?_
      refine j_iconst (v := 0) dX3_lost_64 (by decide) ?_
      refine j_istore dX3_lost_65 (by decide) rfl ?_
      refine j_less (L' := [some (.ref (r 100)), some (.int (nI S)), some (.int (nI (encM m a))), some (.int (nI ((nk + 1) ^ (n + 1)))), some (.int (-1)), some (.int (nI (n + 1))), some (.int (nI 0))]) ⟨Or.inr rfl, Or.inr rfl, Or.inr rfl, Or.inr rfl, Or.inr (by rw [c52]), Or.inr rfl, Or.inr rfl, trivial⟩ ?_
      refine j_lp3 (fun (row : Nat) (fo : Int32) (b : A4) => (mdS r dT g (nI kd) bs fg m nk b.1 b.2.1 b.2.2.1 b.2.2.2 F tk V)) (fun row fo _ => [some (.ref (r 100)), some (.int (nI S)), some (.int (nI (encM m a))), some (.int (nI ((nk + 1) ^ (n + 1)))), some (.int fo), some (.int (nI (n + 1))), some (.int (nI row))]) (fun row fo b => row ≤ (nk + 1) ^ (n + 1) ∧ okA m b ∧ ((fo = -1 ∧ ∀ w, w < row → ¬ (telP (fun k a => stk kd bs m (ks k) a) nk S (n + 1) w (fun _ => a) (fun _ => 0))) ∨ (fo = nI (n + 1) ∧ P (n + 1) = true))) (fun row _ _ => (nk + 1) ^ (n + 1) - row) ?_ 0 (-1) b ⟨Nat.zero_le _, hb, Or.inl ⟨rfl, fun w hw => absurd hw (Nat.not_lt_zero _)⟩⟩
      clear hfo c52 hb
      intro row fo b ⟨hrow, hb, hfo⟩ ih2
      refine j_iload dX3_lost_67 rfl ?_
      refine j_iload_n dX3_lost_69 rfl ?_
      refine j_icmp_ge (tgt := 106) dX3_lost_70 (by decide) (fun c70 => ?_) (fun c70 => ?_)
      · skip
        have hre : row = (nk + 1) ^ (n + 1) := by
          have := (nI_leI (by omega) (by omega)).mp c70
          omega
        have hnx : (fo = -1 ∧ lsF P (4 - (n + 1)) (n + 1 + 1) = lsF P 4 1) ∨ (¬ fo = -1 ∧ fo = lsF P 4 1) := by
          rcases hfo with ⟨q1, q2⟩ | ⟨q1, q2⟩
          · rw [if_neg (fun q => by obtain ⟨w, hw, ht⟩ := (hpt2 (n + 1)).mp q; exact q2 w (by omega) ht)] at hls
            exact Or.inl ⟨q1, hls⟩
          · rw [if_pos q2] at hls
            exact Or.inr ⟨by rw [q1]; exact nI_m1 (by omega), q1.trans hls⟩
        refine j_iinc dX3_lost_106 rfl (by decide) rfl ?_
        refine j_goto (tgt := 43) dX3_lost_109 (by decide) ?_
        refine j_less (L' := [some (.ref (r 100)), some (.int (nI S)), some (.int (nI (encM m a))), some (.int (nI ((nk + 1) ^ (n + 1)))), some (.int fo), some (.int (nI (n + 1 + 1))), none]) ⟨Or.inr rfl, Or.inr rfl, Or.inr rfl, Or.inr rfl, Or.inr rfl, Or.inr (by rw [← nI_inc]), Or.inl rfl, trivial⟩ ?_
        exact ih (n + 1) fo b ⟨by omega, hb, hnx⟩ (by omega)
      · skip
        have hre : row < (nk + 1) ^ (n + 1) := Nat.lt_of_not_le (fun q => c70 (nI_le q (by omega)))
        refine j_iload dX3_lost_73 rfl ?_
        refine j_iconst (v := (-1)) dX3_lost_75 (by decide) ?_
        refine j_icmp_ne (tgt := 106) dX3_lost_76 (by decide) (fun c76 => ?_) (fun c76 => ?_)
        · skip
          have hnx : (fo = -1 ∧ lsF P (4 - (n + 1)) (n + 1 + 1) = lsF P 4 1) ∨ (¬ fo = -1 ∧ fo = lsF P 4 1) := by
            rcases hfo with ⟨q1, q2⟩ | ⟨q1, q2⟩
            · exact absurd q1 c76
            · rw [if_pos q2] at hls
              exact Or.inr ⟨c76, q1.trans hls⟩
          refine j_iinc dX3_lost_106 rfl (by decide) rfl ?_
          refine j_goto (tgt := 43) dX3_lost_109 (by decide) ?_
          refine j_less (L' := [some (.ref (r 100)), some (.int (nI S)), some (.int (nI (encM m a))), some (.int (nI ((nk + 1) ^ (n + 1)))), some (.int fo), some (.int (nI (n + 1 + 1))), none]) ⟨Or.inr rfl, Or.inr rfl, Or.inr rfl, Or.inr rfl, Or.inr rfl, Or.inr (by rw [← nI_inc]), Or.inl rfl, trivial⟩ ?_
          exact ih (n + 1) fo b ⟨by omega, hb, hnx⟩ (by omega)
        · skip
          have hnr := (hfo.resolve_right (fun q => nI_m1 (show n + 1 < 2 ^ 31 by omega) (q.1.symm.trans c76))).2
          refine j_aload_n dX3_lost_79 rfl ?_
          refine j_iload dX3_lost_80 rfl ?_
          refine j_iload dX3_lost_82 rfl ?_
          refine j_iload_n dX3_lost_84 rfl ?_
          refine j_iload_n dX3_lost_85 rfl ?_
          refine j_callV (m_tells hD hb hks hn8 row (n + 1) S (encM m a) (by omega) (by omega) hS hea) q_tl.isR dX3_lost_86 pmX3_tells q1448 q1450 qs56 (by first | rfl | assumption) rfl rfl rfl ⟨Nat.le_of_ble_eq_true rfl, Nat.le_of_ble_eq_true rfl⟩ ⟨Nat.le_of_ble_eq_true rfl, Nat.le_of_ble_eq_true rfl⟩ rfl (Nat.le_of_ble_eq_true rfl) ?_
          rintro v9 r h9 nx ⟨tb, e9, htb, rfl, rfl, b3, hb3, rfl⟩
          cases e9
          rw [decM_encM ha] at htb
          show J _ _ _ _ _ _ _ _ _ _ _ _ (.int _ :: _)
          refine j_if_eq (tgt := 97) dX3_lost_89 (by decide) (fun c89 => ?_) (fun c89 => ?_)
          · skip
            have hfl : ¬ (telP (fun k a => stk kd bs m (ks k) a) nk S (n + 1) row (fun _ => a) (fun _ => 0)) := fun q => by rw [htb.mpr q] at c89; exact absurd c89 (by decide)
            refine j_iconst (v := (-1)) dX3_lost_97 (by decide) ?_
            refine j_istore dX3_lost_98 (by decide) rfl ?_
            refine j_iinc dX3_lost_100 rfl (by decide) rfl ?_
            refine j_goto (tgt := 67) dX3_lost_103 (by decide) ?_
            refine j_less (L' := [some (.ref (r 100)), some (.int (nI S)), some (.int (nI (encM m a))), some (.int (nI ((nk + 1) ^ (n + 1)))), some (.int (-1)), some (.int (nI (n + 1))), some (.int (nI (row + 1)))]) ⟨Or.inr rfl, Or.inr rfl, Or.inr rfl, Or.inr rfl, Or.inr rfl, Or.inr rfl, Or.inr (by rw [← nI_inc]), trivial⟩ ?_
            exact ih2 (row + 1) _ b3 ⟨by omega, hb3, Or.inl ⟨rfl, fun w hw => by
              by_cases he : w = row
              · rw [he]; exact hfl
              · exact hnr w (by omega)⟩⟩ (by omega)
          · skip
            have hfl : (telP (fun k a => stk kd bs m (ks k) a) nk S (n + 1) row (fun _ => a) (fun _ => 0)) := htb.mp (bI_n.mp c89)
            refine j_iload dX3_lost_92 rfl ?_
            refine j_goto (tgt := 98) dX3_lost_94 (by decide) ?_
            refine j_istore dX3_lost_98 (by decide) rfl ?_
            refine j_iinc dX3_lost_100 rfl (by decide) rfl ?_
            refine j_goto (tgt := 67) dX3_lost_103 (by decide) ?_
            refine j_less (L' := [some (.ref (r 100)), some (.int (nI S)), some (.int (nI (encM m a))), some (.int (nI ((nk + 1) ^ (n + 1)))), some (.int (nI (n + 1))), some (.int (nI (n + 1))), some (.int (nI (row + 1)))]) ⟨Or.inr rfl, Or.inr rfl, Or.inr rfl, Or.inr rfl, Or.inr rfl, Or.inr rfl, Or.inr (by rw [← nI_inc]), trivial⟩ ?_
            exact ih2 (row + 1) _ b3 ⟨by omega, hb3, Or.inr ⟨rfl, (hpt2 (n + 1)).mpr ⟨row, hre, hfl⟩⟩⟩ (by omega)
