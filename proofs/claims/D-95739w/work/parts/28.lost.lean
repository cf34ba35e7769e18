set_option maxRecDepth 100000
def bI (b : Bool) : Int32 := if b = true then 1 else 0
theorem bI_and (a b : Bool) : bI a &&& bI b = bI (a && b) := by cases a <;> cases b <;> decide
theorem bI_0 {b : Bool} : bI b = 0 ↔ b = false := by cases b <;> decide
theorem bI_n {b : Bool} : ¬ bI b = 0 ↔ b = true := by cases b <;> decide
theorem bI_nar (b : Bool) : narrow .boolean (.int (bI b)) = .int (bI b) := by cases b <;> rfl
/-- those of the set S are alike to themselves alone -/
def sepU (S : Nat) (A : Nat → Nat) : Nat → Bool
  | 0 => true
  | a + 1 => sepU S A a && (!S.testBit a || pcN (A a) == 1)
def anU (f : Nat → Bool) : Nat → Bool
  | 0 => false
  | n + 1 => anU f n || f n
theorem anU_mono {f : Nat → Bool} {a : Nat} (h : anU f a = true) : ∀ d, anU f (a + d) = true
  | 0 => h
  | d + 1 => by rw [← Nat.add_assoc, anU, anU_mono h d]; rfl
def bsU (f : Nat → Bool) : Nat → Nat
  | 0 => 0
  | n + 1 => bsU f n ||| (if f n = true then 2 ^ n else 0)
theorem bsU_lt {f : Nat → Bool} : ∀ n, bsU f n < 2 ^ n
  | 0 => Nat.zero_lt_one
  | n + 1 => by
    rw [bsU]
    have h1 : bsU f n < 2 ^ (n + 1) := Nat.lt_of_lt_of_le (bsU_lt n) (Nat.pow_le_pow_right (by decide) (Nat.le_succ n))
    refine Nat.or_lt_two_pow h1 ?_
    split
    · exact Nat.pow_lt_pow_right (by decide) (Nat.lt_succ_self n)
    · exact Nat.two_pow_pos _
def xN (stp : Nat → A4 → A4) (K key : Nat) (x : Nat → A4) : Nat → A4 := fun a => stp (if key = K then a else key) (x a)
def lkB (A : Nat → Nat) (y : Nat → A4) (a b : Nat) : Bool := (A a).testBit b && ((y a).2.2.1 == (y b).2.2.1)
def aN (K : Nat) (A : Nat → Nat) (y : Nat → A4) : Nat → Nat := fun a => bsU (lkB A y a) K
/-- whether some row of at most n strokes parts those of S; x: the states by what the key may be, A: who is alike to whom so far -/
def prtB (stp : Nat → A4 → A4) (K S : Nat) : Nat → (Nat → A4) → (Nat → Nat) → Bool
  | 0, _, A => sepU S A K
  | n + 1, x, A => sepU S A K || anU (fun key => prtB stp K S n (xN stp K key x) (aN K A (xN stp K key x))) (K + 1)
theorem prt_t {stp : Nat → A4 → A4} {K S n : Nat} {x : Nat → A4} {A : Nat → Nat} (h : sepU S A K = true) : prtB stp K S n x A = true := by
  cases n with
  | zero => exact h
  | succ n => rw [prtB, h]; rfl
def isP (k j : Nat) : Prop := (22 + k < j ∧ j ≤ 26) ∨ (27 + k < j ∧ j ≤ 31)
def jq_p (k : Nat) (v : Int32) (r : Nat → Nat) (dT : Nat → ClassId) (g : j_H) (F : Nat → Nat) (V : Nat → Nat → Int32) (nx : Nat) : j_Q := fun o r' h' nx' => o = .returned (some (.int v)) ∧ r' = r ∧ nx' = nx ∧ ∃ V' : Nat → Nat → Int32, h' = fkS r dT g F V' ∧ ∀ j, ¬ isP k j → V' j = V j
theorem jq_p.isR {k : Nat} {v : Int32} {r : Nat → Nat} {dT : Nat → ClassId} {g : j_H} {F : Nat → Nat} {V : Nat → Nat → Int32} {nx : Nat} : j_isR (jq_p k v r dT g F V nx) := fun _ _ _ _ hq => ⟨_, hq.1⟩
theorem jp_i {k : Nat} {v w : Int32} {r : Nat → Nat} {dT : Nat → ClassId} {g : j_H} {F : Nat → Nat} {V V' : Nat → Nat → Int32} {nx : Nat} (e : w = v) (h : ∀ j, ¬ isP k j → V' j = V j) : jq_p k v r dT g F V nx (.returned (some (.int w))) r (fkS r dT g F V') nx := ⟨by rw [e], rfl, rfl, V', rfl, h⟩
theorem or_if {A : Nat → Nat} {y : Nat → A4} {a b : Nat} (hb : b < 8) {v : Int32} (hv : v = if lkB A y a b = true then (1 : Int32) <<< (nI b &&& 31) else 0) : nI (bsU (lkB A y a) b) ||| v = nI (bsU (lkB A y a) (b + 1)) := by
  rw [bsU, hv]
  split
  · rw [sh_eq b hb, or_nI]
  · rw [show (0 : Int32) = nI 0 from rfl, or_nI]
set_option maxHeartbeats 4000000 in
theorem f_parts4 {l : Launch} {D : va_G} {dT : Nat → ClassId} {H0 : Heap} {r : Nat → Nat} {nx : Nat} {g : j_H} {F : Nat → Nat} {V : Nat → Nat → Int32} {nk : Nat} (h60 : g 60 = some (rcell (.ref (r 61)) (r 62) nk)) {kd bs fg m : Nat} {ks : Nat → KY} (hK : fkK r dT g kd bs fg m nk ks) (n S : Nat) (hn : 4 ≤ n ∧ n ≤ 4) (hS : S < 256) (x : Nat → A4) (A : Nat → Nat) (hx : ∀ q, q < nk → V 26 q = nI (encA m (x q)) ∧ okA m (x q)) (hA : ∀ q, q < nk → V 31 q = nI (A q) ∧ A q < 256) (hnk : nk ≤ 8) : MC (gG l D dT H0) yX0_parts cX0_parts 12 (some .boolean) 6 0 0 [.ref (r 0), .int (nI S), .int 4, .int (nI n)] r (fkS r dT g F V) nx (jq_p 4 (bI (prtB (fun k a => stk kd bs m (ks k) a) nk S (n - 4) x A)) r dT g F V nx) := by
  obtain ⟨h61, hD, hkn, ka, h62, hks⟩ := id hK
  have hm := hD.pos
  have hm2 := hD.le
  have hmm := mm_le hm2
  refine MC.ofJ [some (.ref (r 0)), some (.int (nI S)), some (.int 4), some (.int (nI n)), none, none, none, none, none, none, none, none] rfl (Nat.le_of_ble_eq_true rfl) (by decide) ?_
  refine j_aload_n dX0_parts_0 rfl ?_
  refine j_get 18 dX0_parts_1 (by first | rfl | assumption) in_X0 rfl (by decide) q171 rfl ?_
  refine j_iload_n dX0_parts_4 rfl ?_
  refine j_aald (w := .ref (r 31)) 6 4 dX0_parts_5 (by first | rfl | assumption) rfl rfl rfl (by decide) (by decide) rfl ?_
  refine j_astore dX0_parts_6 (by decide) rfl ?_
  refine j_iconst (v := 1) dX0_parts_8 (by decide) ?_
  refine j_istore dX0_parts_9 (by decide) rfl ?_
  refine j_iconst (v := 0) dX0_parts_11 (by decide) ?_
  refine j_istore dX0_parts_12 (by decide) rfl ?_
  refine j_less (L' := [some (.ref (r 0)), some (.int (nI S)), some (.int 4), some (.int (nI n)), some (.ref (r 31)), some (.int (bI (sepU S A 0))), some (.int (nI 0)), none, none, none, none, none]) ⟨Or.inr rfl, Or.inr rfl, Or.inr rfl, Or.inr rfl, Or.inr rfl, Or.inr rfl, Or.inr rfl, Or.inl rfl, Or.inl rfl, Or.inl rfl, Or.inl rfl, Or.inl rfl, trivial⟩ ?_
  refine j_lp1 (fun (a : Nat) => fkS r dT g F V) (fun a => [some (.ref (r 0)), some (.int (nI S)), some (.int 4), some (.int (nI n)), some (.ref (r 31)), some (.int (bI (sepU S A a))), some (.int (nI a)), none, none, none, none, none]) (fun a => a ≤ nk) (fun a => nk - a) ?_ 0 (Nat.zero_le _)
  intro a hak ih
  refine j_iload dX0_parts_14 rfl ?_
  refine j_aload_n dX0_parts_16 rfl ?_
  refine j_get 0 dX0_parts_17 (by first | rfl | assumption) in_X0 rfl (by decide) q153 rfl ?_
  refine j_getN 2 dX0_parts_20 (by first | rfl | assumption) in_X1 rfl (by decide) (fun _ hs => hs.1 _ qn109) rfl ?_
  refine j_icmp_ge (tgt := 63) dX0_parts_23 (by decide) (fun c23 => ?_) (fun c23 => ?_)
  · skip
    have hae : a = nk := by
      have := (nI_leI (by omega) (by omega)).mp c23
      omega
    subst hae
    clear ih
    refine j_iload dX0_parts_63 rfl ?_
    refine j_if_ne (tgt := 73) dX0_parts_65 (by decide) (fun c65 => ?_) (fun c65 => ?_)
    · skip
      have c65 : sepU S A a = true := bI_n.mp c65
      refine j_iload dX0_parts_73 rfl ?_
      refine j_iret dX0_parts_75 rfl (bI_nar _) (Nat.le_refl _) (Nat.le_refl _) ?_
      refine jp_i ?_ (fun _ _ => rfl)
      rw [c65]
      symm
      exact congrArg bI (prt_t c65)
    · skip
      have c65 : sepU S A a = false := bI_0.mp c65
      refine j_iload_n dX0_parts_68 rfl ?_
      refine j_iload_n dX0_parts_69 rfl ?_
      refine j_icmp_ne (tgt := 76) dX0_parts_70 (by decide) (fun c70 => ?_) (fun c70 => ?_)
      · skip
        have c70 : ¬ n = 4 := fun q => c70 (by rw [q]; rfl)
        exact absurd (by omega) c70
      · skip
        have c70 : n = 4 := ((nI_eq (by decide) (by omega)).mp (show nI 4 = nI n from c70)).symm
        refine j_iload dX0_parts_73 rfl ?_
        refine j_iret dX0_parts_75 rfl (bI_nar _) (Nat.le_refl _) (Nat.le_refl _) ?_
        refine jp_i ?_ (fun _ _ => rfl)
        have hz : n - 4 = 0 := by omega
        rw [hz]
        rfl
  · skip
    have hae : a < nk := Nat.lt_of_not_le (fun q => c23 (nI_le q (by omega)))
    have ha8 : a < 8 := by omega
    refine j_iload dX0_parts_26 rfl ?_
    refine j_join (tgt := 54) (fun v => v = bI (!S.testBit a || pcN (A a) == 1)) (fun v28 hv28 => ?_) (fun kj28 => ?_)
    · skip
      refine j_iand dX0_parts_54 ?_
      subst hv28
      refine j_eqi (show _ = bI (sepU S A (a + 1)) from bI_and _ _) ?_
      refine j_istore dX0_parts_55 (by decide) rfl ?_
      refine j_iinc dX0_parts_57 rfl (by decide) rfl ?_
      refine j_goto (tgt := 14) dX0_parts_60 (by decide) ?_
      refine j_less (L' := [some (.ref (r 0)), some (.int (nI S)), some (.int 4), some (.int (nI n)), some (.ref (r 31)), some (.int (bI (sepU S A (a + 1)))), some (.int (nI (a + 1))), none, none, none, none, none]) ⟨Or.inr rfl, Or.inr rfl, Or.inr rfl, Or.inr rfl, Or.inr rfl, Or.inr rfl, Or.inr (by rw [← nI_inc]), Or.inl rfl, Or.inl rfl, Or.inl rfl, Or.inl rfl, Or.inl rfl, trivial⟩ ?_
      exact ih (a + 1) (by omega) (by omega)
    · skip
      refine j_iload_n dX0_parts_28 rfl ?_
      refine j_iload dX0_parts_29 rfl ?_
      refine j_callSi (c_X0_has _ _) dX0_parts_31 pmX0_has q1035 q1036 rfl ⟨Nat.le_of_ble_eq_true rfl, Nat.le_of_ble_eq_true rfl⟩ ⟨Nat.le_of_ble_eq_true rfl, Nat.le_of_ble_eq_true rfl⟩ rfl (Nat.le_of_ble_eq_true rfl) ?_
      refine j_ifb_eq (tgt := 49) dX0_parts_34 (by decide) (fun c34 => ?_) (fun c34 => ?_)
      · skip
        have hj34 : (1 : Int32) = bI (!S.testBit a || pcN (A a) == 1) := by
          have hb9 : S.testBit a = false := by
            cases hq : S.testBit a with
            | false => rfl
            | true => exact absurd ((has_eq S hS a ha8).mpr hq) c34
          rw [hb9]; rfl
        refine j_iconst (v := 1) dX0_parts_49 (by decide) ?_
        refine j_goto (tgt := 54) dX0_parts_50 (by decide) ?_
        exact kj28 _ (by first | exact hj34 | exact hj46)
      · skip
        have c34 : S.testBit a = true := (has_eq S hS a ha8).mp c34
        refine j_aload dX0_parts_37 rfl ?_
        refine j_iload dX0_parts_39 rfl ?_
        refine j_iald 0 a dX0_parts_41 (by first | rfl | assumption) rfl rfl ha8 (by decide) ?_
        refine j_eqi (show _ = nI (A a) from (hA a hae).1) ?_
        refine j_callSi (c_bitCount _) dX0_parts_42 pmJ11_bitCount q1029 q1030 rfl ⟨Nat.le_of_ble_eq_true rfl, Nat.le_of_ble_eq_true rfl⟩ ⟨Nat.le_of_ble_eq_true rfl, Nat.le_of_ble_eq_true rfl⟩ rfl (Nat.le_of_ble_eq_true rfl) ?_
        refine j_eqi (bc_eq _ (hA a hae).2) ?_
        refine j_iconst (v := 1) dX0_parts_45 (by decide) ?_
        refine j_icmp_ne (tgt := 53) dX0_parts_46 (by decide) (fun c46 => ?_) (fun c46 => ?_)
        · skip
          have hj46 : (0 : Int32) = bI (!S.testBit a || pcN (A a) == 1) := by
            have hp9 : (pcN (A a) == 1) = false := by
              simp only [beq_eq_false_iff_ne, ne_eq]
              exact fun q => c46 (by rw [q]; rfl)
            rw [c34, hp9]; rfl
          refine j_iconst (v := 0) dX0_parts_53 (by decide) ?_
          exact kj28 _ (by first | exact hj34 | exact hj46)
        · skip
          have hpc : pcN (A a) < 2 ^ 31 := by
            have := fb_sm_bound (f := fun i => if (A a).testBit i = true then 1 else 0) (c := 1) (n := 8) (fun k _ => by split <;> omega)
            unfold pcN
            omega
          have hj46 : (1 : Int32) = bI (!S.testBit a || pcN (A a) == 1) := by
            have hp9 : (pcN (A a) == 1) = true := by
              simp only [beq_iff_eq]
              exact (nI_eq hpc (by decide)).mp c46
            rw [c34, hp9]; rfl
          refine j_iconst (v := 1) dX0_parts_49 (by decide) ?_
          refine j_goto (tgt := 54) dX0_parts_50 (by decide) ?_
          exact kj28 _ (by first | exact hj34 | exact hj46)
set_option maxHeartbeats 4000000 in
theorem f_parts3 {l : Launch} {D : va_G} {dT : Nat → ClassId} {H0 : Heap} {r : Nat → Nat} {nx : Nat} {g : j_H} {F : Nat → Nat} {V : Nat → Nat → Int32} {nk : Nat} (h60 : g 60 = some (rcell (.ref (r 61)) (r 62) nk)) {kd bs fg m : Nat} {ks : Nat → KY} (hK : fkK r dT g kd bs fg m nk ks) (n S : Nat) (hn : 3 ≤ n ∧ n ≤ 4) (hS : S < 256) (x : Nat → A4) (A : Nat → Nat) (hx : ∀ q, q < nk → V 25 q = nI (encA m (x q)) ∧ okA m (x q)) (hA : ∀ q, q < nk → V 30 q = nI (A q) ∧ A q < 256) (hnk : nk ≤ 8) : MC (gG l D dT H0) yX0_parts cX0_parts 12 (some .boolean) 7 0 0 [.ref (r 0), .int (nI S), .int 3, .int (nI n)] r (fkS r dT g F V) nx (jq_p 3 (bI (prtB (fun k a => stk kd bs m (ks k) a) nk S (n - 3) x A)) r dT g F V nx) := by
  obtain ⟨h61, hD, hkn, ka, h62, hks⟩ := id hK
  have hm := hD.pos
  have hm2 := hD.le
  have hmm := mm_le hm2
  refine MC.ofJ [some (.ref (r 0)), some (.int (nI S)), some (.int 3), some (.int (nI n)), none, none, none, none, none, none, none, none] rfl (Nat.le_of_ble_eq_true rfl) (by decide) ?_
  refine j_aload_n dX0_parts_0 rfl ?_
  refine j_get 18 dX0_parts_1 (by first | rfl | assumption) in_X0 rfl (by decide) q171 rfl ?_
  refine j_iload_n dX0_parts_4 rfl ?_
  refine j_aald (w := .ref (r 30)) 6 3 dX0_parts_5 (by first | rfl | assumption) rfl rfl rfl (by decide) (by decide) rfl ?_
  refine j_astore dX0_parts_6 (by decide) rfl ?_
  refine j_iconst (v := 1) dX0_parts_8 (by decide) ?_
  refine j_istore dX0_parts_9 (by decide) rfl ?_
  refine j_iconst (v := 0) dX0_parts_11 (by decide) ?_
  refine j_istore dX0_parts_12 (by decide) rfl ?_
  refine j_less (L' := [some (.ref (r 0)), some (.int (nI S)), some (.int 3), some (.int (nI n)), some (.ref (r 30)), some (.int (bI (sepU S A 0))), some (.int (nI 0)), none, none, none, none, none]) ⟨Or.inr rfl, Or.inr rfl, Or.inr rfl, Or.inr rfl, Or.inr rfl, Or.inr rfl, Or.inr rfl, Or.inl rfl, Or.inl rfl, Or.inl rfl, Or.inl rfl, Or.inl rfl, trivial⟩ ?_
  refine j_lp1 (fun (a : Nat) => fkS r dT g F V) (fun a => [some (.ref (r 0)), some (.int (nI S)), some (.int 3), some (.int (nI n)), some (.ref (r 30)), some (.int (bI (sepU S A a))), some (.int (nI a)), none, none, none, none, none]) (fun a => a ≤ nk) (fun a => nk - a) ?_ 0 (Nat.zero_le _)
  intro a hak ih
  refine j_iload dX0_parts_14 rfl ?_
  refine j_aload_n dX0_parts_16 rfl ?_
  refine j_get 0 dX0_parts_17 (by first | rfl | assumption) in_X0 rfl (by decide) q153 rfl ?_
  refine j_getN 2 dX0_parts_20 (by first | rfl | assumption) in_X1 rfl (by decide) (fun _ hs => hs.1 _ qn109) rfl ?_
  refine j_icmp_ge (tgt := 63) dX0_parts_23 (by decide) (fun c23 => ?_) (fun c23 => ?_)
  · skip
    have hae : a = nk := by
      have := (nI_leI (by omega) (by omega)).mp c23
      omega
    subst hae
    clear ih
    refine j_iload dX0_parts_63 rfl ?_
    refine j_if_ne (tgt := 73) dX0_parts_65 (by decide) (fun c65 => ?_) (fun c65 => ?_)
    · skip
      have c65 : sepU S A a = true := bI_n.mp c65
      refine j_iload dX0_parts_73 rfl ?_
      refine j_iret dX0_parts_75 rfl (bI_nar _) (Nat.le_refl _) (Nat.le_refl _) ?_
      refine jp_i ?_ (fun _ _ => rfl)
      rw [c65]
      symm
      exact congrArg bI (prt_t c65)
    · skip
      have c65 : sepU S A a = false := bI_0.mp c65
      refine j_iload_n dX0_parts_68 rfl ?_
      refine j_iload_n dX0_parts_69 rfl ?_
      refine j_icmp_ne (tgt := 76) dX0_parts_70 (by decide) (fun c70 => ?_) (fun c70 => ?_)
      · skip
        have c70 : ¬ n = 3 := fun q => c70 (by rw [q]; rfl)
        refine j_iconst (v := 0) dX0_parts_76 (by decide) ?_
        refine j_istore dX0_parts_77 (by decide) rfl ?_
        refine j_iconst (v := 0) dX0_parts_79 (by decide) ?_
        refine j_istore dX0_parts_80 (by decide) rfl ?_
        refine j_less (L' := [some (.ref (r 0)), some (.int (nI S)), some (.int 3), some (.int (nI n)), some (.ref (r 30)), some (.int (bI (sepU S A a))), some (.int (bI (anU (fun key => prtB (fun k a => stk kd bs m (ks k) a) a S (n - 3 - 1) (xN (fun k a => stk kd bs m (ks k) a) a key x) (aN a A (xN (fun k a => stk kd bs m (ks k) a) a key x))) 0))), some (.int (nI 0)), none, none, none, none]) ⟨Or.inr rfl, Or.inr rfl, Or.inr rfl, Or.inr rfl, Or.inr rfl, Or.inr rfl, Or.inr rfl, Or.inr rfl, Or.inl rfl, Or.inl rfl, Or.inl rfl, Or.inl rfl, trivial⟩ ?_
        refine j_lp2 (fun (key : Nat) (V1 : Nat → Nat → Int32) => fkS r dT g F V1) (fun key _ => [some (.ref (r 0)), some (.int (nI S)), some (.int 3), some (.int (nI n)), some (.ref (r 30)), some (.int (bI (sepU S A a))), some (.int (bI (anU (fun key => prtB (fun k a => stk kd bs m (ks k) a) a S (n - 3 - 1) (xN (fun k a => stk kd bs m (ks k) a) a key x) (aN a A (xN (fun k a => stk kd bs m (ks k) a) a key x))) key))), some (.int (nI key)), none, none, none, none]) (fun key V1 => key ≤ a + 1 ∧ ∀ j, ¬ isP 3 j → V1 j = V j) (fun key _ => a + 1 - key) ?_ 0 V ⟨Nat.zero_le _, fun _ _ => rfl⟩
        intro key V1 ⟨hkey, hV1⟩ ih
        have hxA : ∀ q, q < a → V1 25 q = nI (encA m (x q)) := fun q hq => by rw [hV1 25 (by unfold isP; omega)]; exact (hx q hq).1
        have hAA : ∀ q, q < a → V1 30 q = nI (A q) := fun q hq => by rw [hV1 30 (by unfold isP; omega)]; exact (hA q hq).1
        refine j_iload dX0_parts_82 rfl ?_
        refine j_aload_n dX0_parts_84 rfl ?_
        refine j_get 0 dX0_parts_85 (by first | rfl | assumption) in_X0 rfl (by decide) q153 rfl ?_
        refine j_getN 2 dX0_parts_88 (by first | rfl | assumption) in_X1 rfl (by decide) (fun _ hs => hs.1 _ qn109) rfl ?_
        refine j_icmp_gt (tgt := 323) dX0_parts_91 (by decide) (fun c91 => ?_) (fun c91 => ?_)
        · skip
          have hke : key = a + 1 := by
            have := (nI_ltI (by omega) (by omega)).mp c91
            omega
          refine j_iload dX0_parts_323 rfl ?_
          refine j_iret dX0_parts_325 rfl (bI_nar _) (Nat.le_refl _) (Nat.le_refl _) ?_
          refine jp_i ?_ hV1
          have hz : n - 3 = (n - 3 - 1) + 1 := by omega
          have hp9 : prtB (fun k a => stk kd bs m (ks k) a) a S (n - 3) x A = (sepU S A a || anU (fun key => prtB (fun k a => stk kd bs m (ks k) a) a S (n - 3 - 1) (xN (fun k a => stk kd bs m (ks k) a) a key x) (aN a A (xN (fun k a => stk kd bs m (ks k) a) a key x))) (a + 1)) := by rw [hz]; rfl
          rw [hp9, c65, Bool.false_or]
          rw [hke]
        · skip
          have hke : key ≤ a := Nat.le_of_not_lt (fun q => c91 (nI_lt q (by omega)))
          refine j_iload dX0_parts_94 rfl ?_
          refine j_if_ne (tgt := 323) dX0_parts_96 (by decide) (fun c96 => ?_) (fun c96 => ?_)
          · skip
            have hft : anU (fun key => prtB (fun k a => stk kd bs m (ks k) a) a S (n - 3 - 1) (xN (fun k a => stk kd bs m (ks k) a) a key x) (aN a A (xN (fun k a => stk kd bs m (ks k) a) a key x))) key = true := bI_n.mp c96
            refine j_iload dX0_parts_323 rfl ?_
            refine j_iret dX0_parts_325 rfl (bI_nar _) (Nat.le_refl _) (Nat.le_refl _) ?_
            refine jp_i ?_ hV1
            have hz : n - 3 = (n - 3 - 1) + 1 := by omega
            have hp9 : prtB (fun k a => stk kd bs m (ks k) a) a S (n - 3) x A = (sepU S A a || anU (fun key => prtB (fun k a => stk kd bs m (ks k) a) a S (n - 3 - 1) (xN (fun k a => stk kd bs m (ks k) a) a key x) (aN a A (xN (fun k a => stk kd bs m (ks k) a) a key x))) (a + 1)) := by rw [hz]; rfl
            rw [hp9, c65, Bool.false_or]
            have h5 := anU_mono hft (a + 1 - key)
            rw [show key + (a + 1 - key) = a + 1 by omega] at h5
            rw [hft, h5]
          · skip
            have hff : anU (fun key => prtB (fun k a => stk kd bs m (ks k) a) a S (n - 3 - 1) (xN (fun k a => stk kd bs m (ks k) a) a key x) (aN a A (xN (fun k a => stk kd bs m (ks k) a) a key x))) key = false := bI_0.mp c96
            refine j_aload_n dX0_parts_99 rfl ?_
            refine j_get 18 dX0_parts_100 (by first | rfl | assumption) in_X0 rfl (by decide) q171 rfl ?_
            refine j_iload_n dX0_parts_103 rfl ?_
            refine j_iconst (v := 1) dX0_parts_104 (by decide) ?_
            refine j_iadd dX0_parts_105 ?_
            refine j_aald (w := .ref (r 31)) 6 4 dX0_parts_106 (by first | rfl | assumption) rfl rfl (by decide) (by decide) (by decide) rfl ?_
            refine j_astore dX0_parts_107 (by decide) rfl ?_
            refine j_aload dX0_parts_109 rfl ?_
            refine j_iconst (v := 0) dX0_parts_111 (by decide) ?_
            refine j_re rfl rfl (h' := fkS r dT g F (vo V1 [(26, V1 26), (31, V1 31)])) (by rw [vo_same _ (by simp)]) ?_
            refine j_callSv (c_fill2 31 8 0 (V1 31) (by exact rfl) (by decide)) dX0_parts_112 pmJ6_fill_2 q938 q939 rfl ⟨Nat.le_of_ble_eq_true rfl, Nat.le_of_ble_eq_true rfl⟩ ⟨Nat.le_of_ble_eq_true rfl, Nat.le_of_ble_eq_true rfl⟩ rfl (Nat.le_of_ble_eq_true rfl) ?_
            refine j_o1 ?_
            refine j_fkW (f := fun j => if j < 8 then 0 else V1 31 j) (by decide) rfl ?_
            refine j_iconst (v := 0) dX0_parts_115 (by decide) ?_
            refine j_istore dX0_parts_116 (by decide) rfl ?_
            refine j_less (L' := [some (.ref (r 0)), some (.int (nI S)), some (.int 3), some (.int (nI n)), some (.ref (r 30)), some (.int (bI (sepU S A a))), some (.int (bI (anU (fun key => prtB (fun k a => stk kd bs m (ks k) a) a S (n - 3 - 1) (xN (fun k a => stk kd bs m (ks k) a) a key x) (aN a A (xN (fun k a => stk kd bs m (ks k) a) a key x))) key))), some (.int (nI key)), some (.ref (r 31)), some (.int (nI 0)), none, none]) ⟨Or.inr rfl, Or.inr rfl, Or.inr rfl, Or.inr rfl, Or.inr rfl, Or.inr rfl, Or.inr rfl, Or.inr rfl, Or.inr rfl, Or.inr rfl, Or.inl rfl, Or.inl rfl, trivial⟩ ?_
            refine j_lp2 (fun (c : Nat) (fx : Nat → Int32) => fkS r dT g F (vo V1 [(26, fx), (31, fun j => if j < 8 then 0 else V1 31 j)])) (fun c _ => [some (.ref (r 0)), some (.int (nI S)), some (.int 3), some (.int (nI n)), some (.ref (r 30)), some (.int (bI (sepU S A a))), some (.int (bI (anU (fun key => prtB (fun k a => stk kd bs m (ks k) a) a S (n - 3 - 1) (xN (fun k a => stk kd bs m (ks k) a) a key x) (aN a A (xN (fun k a => stk kd bs m (ks k) a) a key x))) key))), some (.int (nI key)), some (.ref (r 31)), some (.int (nI c)), none, none]) (fun c fx => c ≤ a ∧ ∀ q, q < c → fx q = nI (encA m (xN (fun k a => stk kd bs m (ks k) a) a key x q))) (fun c _ => a - c) ?_ 0 (V1 26) ⟨Nat.zero_le _, fun q hq => absurd hq (Nat.not_lt_zero _)⟩
            intro c fx ⟨hcK, hfx⟩ ih2
            refine j_iload dX0_parts_118 rfl ?_
            refine j_aload_n dX0_parts_120 rfl ?_
            refine j_get 0 dX0_parts_121 (by first | rfl | assumption) in_X0 rfl (by decide) q153 rfl ?_
            refine j_getN 2 dX0_parts_124 (by first | rfl | assumption) in_X1 rfl (by decide) (fun _ hs => hs.1 _ qn109) rfl ?_
            refine j_icmp_ge (tgt := 190) dX0_parts_127 (by decide) (fun c127 => ?_) (fun c127 => ?_)
            · skip
              have hce : c = a := by
                have := (nI_leI (by omega) (by omega)).mp c127
                omega
              have hfx2 : ∀ q, q < a → fx q = nI (encA m (xN (fun k a => stk kd bs m (ks k) a) a key x q)) := fun q hq => hfx q (by omega)
              have hyo : ∀ q, q < a → okA m (xN (fun k a => stk kd bs m (ks k) a) a key x q) := fun q hq => stk_ok hD (hks _ (by split <;> omega)).2.2 (hx q hq).2
              refine j_iconst (v := 0) dX0_parts_190 (by decide) ?_
              refine j_istore dX0_parts_191 (by decide) rfl ?_
              refine j_less (L' := [some (.ref (r 0)), some (.int (nI S)), some (.int 3), some (.int (nI n)), some (.ref (r 30)), some (.int (bI (sepU S A a))), some (.int (bI (anU (fun key => prtB (fun k a => stk kd bs m (ks k) a) a S (n - 3 - 1) (xN (fun k a => stk kd bs m (ks k) a) a key x) (aN a A (xN (fun k a => stk kd bs m (ks k) a) a key x))) key))), some (.int (nI key)), some (.ref (r 31)), some (.int (nI 0)), none, none]) ⟨Or.inr rfl, Or.inr rfl, Or.inr rfl, Or.inr rfl, Or.inr rfl, Or.inr rfl, Or.inr rfl, Or.inr rfl, Or.inr rfl, Or.inr rfl, Or.inl rfl, Or.inl rfl, trivial⟩ ?_
              generalize hyE : xN (fun k a => stk kd bs m (ks k) a) a key x = y at *
              refine j_lp2 (fun (c : Nat) (fa : Nat → Int32) => fkS r dT g F (vo V1 [(26, fx), (31, fa)])) (fun c _ => [some (.ref (r 0)), some (.int (nI S)), some (.int 3), some (.int (nI n)), some (.ref (r 30)), some (.int (bI (sepU S A a))), some (.int (bI (anU (fun key => prtB (fun k a => stk kd bs m (ks k) a) a S (n - 3 - 1) (xN (fun k a => stk kd bs m (ks k) a) a key x) (aN a A (xN (fun k a => stk kd bs m (ks k) a) a key x))) key))), some (.int (nI key)), some (.ref (r 31)), some (.int (nI c)), none, none]) (fun c fa => c ≤ a ∧ (∀ q, q < c → fa q = nI (aN a A y q)) ∧ ∀ q, c ≤ q → q < 8 → fa q = 0) (fun c _ => a - c) ?_ 0 _ ⟨Nat.zero_le _, (fun q hq => absurd hq (Nat.not_lt_zero _)), fun q _ hq => if_pos hq⟩
              clear ih2
              intro c fa ⟨hcK, hfa1, hfa2⟩ ih2
              refine j_iload dX0_parts_193 rfl ?_
              refine j_aload_n dX0_parts_195 rfl ?_
              refine j_get 0 dX0_parts_196 (by first | rfl | assumption) in_X0 rfl (by decide) q153 rfl ?_
              refine j_getN 2 dX0_parts_199 (by first | rfl | assumption) in_X1 rfl (by decide) (fun _ hs => hs.1 _ qn109) rfl ?_
              refine j_icmp_ge (tgt := 306) dX0_parts_202 (by decide) (fun c202 => ?_) (fun c202 => ?_)
              · skip
                have hce3 : c = a := by
                  have := (nI_leI (by omega) (by omega)).mp c202
                  omega
                refine j_aload_n dX0_parts_306 rfl ?_
                refine j_iload_n dX0_parts_307 rfl ?_
                refine j_iload_n dX0_parts_308 rfl ?_
                refine j_iconst (v := 1) dX0_parts_309 (by decide) ?_
                refine j_iadd dX0_parts_310 ?_
                refine j_iload_n dX0_parts_311 rfl ?_
                refine j_re rfl (st' := [.int (nI n), .int 4, .int (nI S), .ref (r 0)]) (by rw [show ((3 : Int32) + 1) = 4 by decide]) rfl ?_
                refine j_callV (f_parts4 (V := (vo V1 [(26, fx), (31, fa)])) h60 hK n S (by omega) hS y (aN a A y) (fun q hq => ⟨hfx2 q hq, hyo q hq⟩) (fun q hq => ⟨hfa1 q (by omega), Nat.lt_of_lt_of_le (bsU_lt _) (Nat.le_trans (Nat.pow_le_pow_right (by decide) hnk) (by decide))⟩) hnk) jq_p.isR dX0_parts_312 pmX0_parts q1038 q1040 qs25 (by first | rfl | assumption) rfl rfl rfl ⟨Nat.le_of_ble_eq_true rfl, Nat.le_of_ble_eq_true rfl⟩ ⟨Nat.le_of_ble_eq_true rfl, Nat.le_of_ble_eq_true rfl⟩ rfl (Nat.le_of_ble_eq_true rfl) ?_
                rintro v9 r h9 nx ⟨e9, rfl, rfl, V2, rfl, hV2⟩
                cases e9
                show J _ _ _ _ _ _ _ _ _ _ _ _ (.int _ :: _)
                refine j_istore dX0_parts_315 (by decide) rfl ?_
                refine j_iinc dX0_parts_317 rfl (by decide) rfl ?_
                refine j_goto (tgt := 82) dX0_parts_320 (by decide) ?_
                refine j_less (L' := [some (.ref (r 0)), some (.int (nI S)), some (.int 3), some (.int (nI n)), some (.ref (r 30)), some (.int (bI (sepU S A a))), some (.int (bI (anU (fun key => prtB (fun k a => stk kd bs m (ks k) a) a S (n - 3 - 1) (xN (fun k a => stk kd bs m (ks k) a) a key x) (aN a A (xN (fun k a => stk kd bs m (ks k) a) a key x))) (key + 1)))), some (.int (nI (key + 1))), none, none, none, none]) ⟨Or.inr rfl, Or.inr rfl, Or.inr rfl, Or.inr rfl, Or.inr rfl, Or.inr rfl, Or.inr (by rw [anU, hff, Bool.false_or, hyE]; rfl), Or.inr (by rw [← nI_inc]), Or.inl rfl, Or.inl rfl, Or.inl rfl, Or.inl rfl, trivial⟩ ?_
                refine ih (key + 1) V2 ⟨by omega, fun j hj => ?_⟩ (by omega)
                rw [hV2 j (by unfold isP at hj ⊢; omega)]
                refine (vo_ne ?_).trans (hV1 j hj)
                intro q hq
                simp at hq
                unfold isP at hj
                rcases hq with rfl | rfl
                · show 26 ≠ j; omega
                · show 31 ≠ j; omega
              · skip
                have hqc : c < a := Nat.lt_of_not_le (fun q => c202 (nI_le q (by omega)))
                have hc8 : c < 8 := by omega
                have hyc := encA_lt (hyo c hqc)
                refine j_iconst (v := 0) dX0_parts_205 (by decide) ?_
                refine j_istore dX0_parts_206 (by decide) rfl ?_
                refine j_less (L' := [some (.ref (r 0)), some (.int (nI S)), some (.int 3), some (.int (nI n)), some (.ref (r 30)), some (.int (bI (sepU S A a))), some (.int (bI (anU (fun key => prtB (fun k a => stk kd bs m (ks k) a) a S (n - 3 - 1) (xN (fun k a => stk kd bs m (ks k) a) a key x) (aN a A (xN (fun k a => stk kd bs m (ks k) a) a key x))) key))), some (.int (nI key)), some (.ref (r 31)), some (.int (nI c)), some (.int (nI 0)), none]) ⟨Or.inr rfl, Or.inr rfl, Or.inr rfl, Or.inr rfl, Or.inr rfl, Or.inr rfl, Or.inr rfl, Or.inr rfl, Or.inr rfl, Or.inr rfl, Or.inr rfl, Or.inl rfl, trivial⟩ ?_
                refine j_lp2 (fun (b : Nat) (fa : Nat → Int32) => fkS r dT g F (vo V1 [(26, fx), (31, fa)])) (fun b _ => [some (.ref (r 0)), some (.int (nI S)), some (.int 3), some (.int (nI n)), some (.ref (r 30)), some (.int (bI (sepU S A a))), some (.int (bI (anU (fun key => prtB (fun k a => stk kd bs m (ks k) a) a S (n - 3 - 1) (xN (fun k a => stk kd bs m (ks k) a) a key x) (aN a A (xN (fun k a => stk kd bs m (ks k) a) a key x))) key))), some (.int (nI key)), some (.ref (r 31)), some (.int (nI c)), some (.int (nI b)), none]) (fun b fa => b ≤ a ∧ (∀ q, q < c → fa q = nI (aN a A y q)) ∧ (∀ q, c < q → q < 8 → fa q = 0) ∧ fa c = nI (bsU (lkB A y c) b)) (fun b _ => a - b) ?_ 0 fa ⟨Nat.zero_le _, hfa1, (fun q h1 h2 => hfa2 q (by omega) h2), (hfa2 c (Nat.le_refl _) hc8)⟩
                clear hfa1 hfa2 fa
                intro b fa ⟨hbK, hfa1, hfa2, hfa3⟩ ih3
                refine j_iload dX0_parts_208 rfl ?_
                refine j_aload_n dX0_parts_210 rfl ?_
                refine j_get 0 dX0_parts_211 (by first | rfl | assumption) in_X0 rfl (by decide) q153 rfl ?_
                refine j_getN 2 dX0_parts_214 (by first | rfl | assumption) in_X1 rfl (by decide) (fun _ hs => hs.1 _ qn109) rfl ?_
                refine j_icmp_ge (tgt := 300) dX0_parts_217 (by decide) (fun c217 => ?_) (fun c217 => ?_)
                · skip
                  have hbe : b = a := by
                    have := (nI_leI (by omega) (by omega)).mp c217
                    omega
                  rw [hbe] at hfa3
                  refine j_iinc dX0_parts_300 rfl (by decide) rfl ?_
                  refine j_goto (tgt := 193) dX0_parts_303 (by decide) ?_
                  refine j_less (L' := [some (.ref (r 0)), some (.int (nI S)), some (.int 3), some (.int (nI n)), some (.ref (r 30)), some (.int (bI (sepU S A a))), some (.int (bI (anU (fun key => prtB (fun k a => stk kd bs m (ks k) a) a S (n - 3 - 1) (xN (fun k a => stk kd bs m (ks k) a) a key x) (aN a A (xN (fun k a => stk kd bs m (ks k) a) a key x))) key))), some (.int (nI key)), some (.ref (r 31)), some (.int (nI (c + 1))), none, none]) ⟨Or.inr rfl, Or.inr rfl, Or.inr rfl, Or.inr rfl, Or.inr rfl, Or.inr rfl, Or.inr rfl, Or.inr rfl, Or.inr rfl, Or.inr (by rw [← nI_inc]), Or.inl rfl, Or.inl rfl, trivial⟩ ?_
                  refine ih2 (c + 1) fa ⟨by omega, (fun q hq => ?_), (fun q h1 h2 => hfa2 q (by omega) h2)⟩ (by omega)
                  by_cases hq2 : q = c
                  · subst hq2; exact hfa3
                  · exact hfa1 q (by omega)
                · skip
                  have hqb : b < a := Nat.lt_of_not_le (fun q => c217 (nI_le q (by omega)))
                  have hb8 : b < 8 := by omega
                  have hyb := encA_lt (hyo b hqb)
                  refine j_join (tgt := 271) (fun v => v = bI (lkB A y c b)) (fun v220 hv220 => ?_) (fun kj220 => ?_)
                  · skip
                    refine j_istore dX0_parts_271 (by decide) rfl ?_
                    subst hv220
                    refine j_aload dX0_parts_273 rfl ?_
                    refine j_iload dX0_parts_275 rfl ?_
                    refine j_dup2 dX0_parts_277 rfl rfl ?_
                    refine j_iald 0 c dX0_parts_278 (by first | rfl | assumption) rfl rfl hc8 (by decide) ?_
                    refine j_eqi (show _ = nI (bsU (lkB A y c) b) from hfa3) ?_
                    refine j_join (tgt := 292) (fun v => v = if lkB A y c b = true then (1 : Int32) <<< (nI b &&& 31) else 0) (fun v279 hv279 => ?_) (fun kj279 => ?_)
                    · skip
                      refine j_ior dX0_parts_292 ?_
                      refine j_eqi (or_if hb8 hv279) ?_
                      refine j_iast 0 c dX0_parts_293 (by first | rfl | assumption) rfl rfl hc8 (by decide) ?_
                      refine j_fkW (f := _) (by decide) rfl ?_
                      refine j_iinc dX0_parts_294 rfl (by decide) rfl ?_
                      refine j_goto (tgt := 208) dX0_parts_297 (by decide) ?_
                      refine j_less (L' := [some (.ref (r 0)), some (.int (nI S)), some (.int 3), some (.int (nI n)), some (.ref (r 30)), some (.int (bI (sepU S A a))), some (.int (bI (anU (fun key => prtB (fun k a => stk kd bs m (ks k) a) a S (n - 3 - 1) (xN (fun k a => stk kd bs m (ks k) a) a key x) (aN a A (xN (fun k a => stk kd bs m (ks k) a) a key x))) key))), some (.int (nI key)), some (.ref (r 31)), some (.int (nI c)), some (.int (nI (b + 1))), none]) ⟨Or.inr rfl, Or.inr rfl, Or.inr rfl, Or.inr rfl, Or.inr rfl, Or.inr rfl, Or.inr rfl, Or.inr rfl, Or.inr rfl, Or.inr rfl, Or.inr (by rw [← nI_inc]), Or.inl rfl, trivial⟩ ?_
                      exact ih3 (b + 1) _ ⟨by omega, (fun q hq => (pk_un (by omega)).trans (hfa1 q hq)), (fun q h1 h2 => (pk_un (by omega)).trans (hfa2 q h1 h2)), pk_us⟩ (by omega)
                    · skip
                      refine j_iload dX0_parts_279 rfl ?_
                      refine j_if_eq (tgt := 291) dX0_parts_281 (by decide) (fun c281 => ?_) (fun c281 => ?_)
                      · skip
                        refine j_iconst (v := 0) dX0_parts_291 (by decide) ?_
                        exact kj279 _ (by first | exact (if_pos (bI_n.mp c281)).symm | exact (if_neg (by rw [bI_0.mp c281]; decide)).symm)
                      · skip
                        refine j_iconst (v := 1) dX0_parts_284 (by decide) ?_
                        refine j_iload dX0_parts_285 rfl ?_
                        refine j_ishl dX0_parts_287 ?_
                        refine j_goto (tgt := 292) dX0_parts_288 (by decide) ?_
                        exact kj279 _ (by first | exact (if_pos (bI_n.mp c281)).symm | exact (if_neg (by rw [bI_0.mp c281]; decide)).symm)
                  · skip
                    refine j_aload dX0_parts_220 rfl ?_
                    refine j_iload dX0_parts_222 rfl ?_
                    refine j_iald 0 c dX0_parts_224 (by first | rfl | assumption) rfl rfl hc8 (by decide) ?_
                    refine j_eqi (show _ = nI (A c) from hAA c hqc) ?_
                    refine j_iload dX0_parts_225 rfl ?_
                    refine j_callSi (c_X0_has _ _) dX0_parts_227 pmX0_has q1035 q1036 rfl ⟨Nat.le_of_ble_eq_true rfl, Nat.le_of_ble_eq_true rfl⟩ ⟨Nat.le_of_ble_eq_true rfl, Nat.le_of_ble_eq_true rfl⟩ rfl (Nat.le_of_ble_eq_true rfl) ?_
                    refine j_ifb_eq (tgt := 270) dX0_parts_230 (by decide) (fun c230 => ?_) (fun c230 => ?_)
                    · skip
                      have hj1 : (0 : Int32) = bI (lkB A y c b) := by
                        have hb9 : (A c).testBit b = false := by
                          cases hq : (A c).testBit b with
                          | false => rfl
                          | true => exact absurd ((has_eq _ (hA c hqc).2 b hb8).mpr hq) c230
                        unfold lkB; rw [hb9]; rfl
                      refine j_iconst (v := 0) dX0_parts_270 (by decide) ?_
                      exact kj220 _ (by first | exact hj1 | exact hj2 | exact hj3)
                    · skip
                      have c230 : (A c).testBit b = true := (has_eq _ (hA c hqc).2 b hb8).mp c230
                      refine j_aload_n dX0_parts_233 rfl ?_
                      refine j_aload_n dX0_parts_234 rfl ?_
                      refine j_get 17 dX0_parts_235 (by first | rfl | assumption) in_X0 rfl (by decide) q170 rfl ?_
                      refine j_iload_n dX0_parts_238 rfl ?_
                      refine j_iconst (v := 1) dX0_parts_239 (by decide) ?_
                      refine j_iadd dX0_parts_240 ?_
                      refine j_aald (w := .ref (r 26)) 6 4 dX0_parts_241 (by first | rfl | assumption) rfl rfl (by decide) (by decide) (by decide) rfl ?_
                      refine j_iload dX0_parts_242 rfl ?_
                      refine j_iald 0 c dX0_parts_244 (by first | rfl | assumption) rfl rfl hc8 (by decide) ?_
                      refine j_eqi (show _ = nI (encA m (y c)) from hfx2 c hqc) ?_
                      refine j_callVi (f_shown1 h60 h61 hm hm2 (encA m (y c)) (by omega)) dX0_parts_245 pmX0_shown q771 q773 qs14 (by first | rfl | assumption) rfl rfl rfl ⟨Nat.le_of_ble_eq_true rfl, Nat.le_of_ble_eq_true rfl⟩ ⟨Nat.le_of_ble_eq_true rfl, Nat.le_of_ble_eq_true rfl⟩ rfl (Nat.le_of_ble_eq_true rfl) ?_
                      refine j_eqi (show _ = nI (y c).2.2.1 from congrArg nI (by show sS m (enc m (y c).1 (y c).2.1 (y c).2.2.1 (y c).2.2.2) = _; exact sS_enc (hyo c hqc).2.2.1 (hyo c hqc).2.2.2)) ?_
                      refine j_aload_n dX0_parts_248 rfl ?_
                      refine j_aload_n dX0_parts_249 rfl ?_
                      refine j_get 17 dX0_parts_250 (by first | rfl | assumption) in_X0 rfl (by decide) q170 rfl ?_
                      refine j_iload_n dX0_parts_253 rfl ?_
                      refine j_iconst (v := 1) dX0_parts_254 (by decide) ?_
                      refine j_iadd dX0_parts_255 ?_
                      refine j_aald (w := .ref (r 26)) 6 4 dX0_parts_256 (by first | rfl | assumption) rfl rfl (by decide) (by decide) (by decide) rfl ?_
                      refine j_iload dX0_parts_257 rfl ?_
                      refine j_iald 0 b dX0_parts_259 (by first | rfl | assumption) rfl rfl hb8 (by decide) ?_
                      refine j_eqi (show _ = nI (encA m (y b)) from hfx2 b hqb) ?_
                      refine j_callVi (f_shown1 h60 h61 hm hm2 (encA m (y b)) (by omega)) dX0_parts_260 pmX0_shown q771 q773 qs14 (by first | rfl | assumption) rfl rfl rfl ⟨Nat.le_of_ble_eq_true rfl, Nat.le_of_ble_eq_true rfl⟩ ⟨Nat.le_of_ble_eq_true rfl, Nat.le_of_ble_eq_true rfl⟩ rfl (Nat.le_of_ble_eq_true rfl) ?_
                      refine j_eqi (show _ = nI (y b).2.2.1 from congrArg nI (by show sS m (enc m (y b).1 (y b).2.1 (y b).2.2.1 (y b).2.2.2) = _; exact sS_enc (hyo b hqb).2.2.1 (hyo b hqb).2.2.2)) ?_
                      refine j_icmp_ne (tgt := 270) dX0_parts_263 (by decide) (fun c263 => ?_) (fun c263 => ?_)
                      · skip
                        have hj2 : (0 : Int32) = bI (lkB A y c b) := by
                          have hp9 : ((y c).2.2.1 == (y b).2.2.1) = false := by
                            simp only [beq_eq_false_iff_ne, ne_eq]
                            exact fun q => c263 (by rw [q])
                          unfold lkB; rw [c230, hp9]; rfl
                        refine j_iconst (v := 0) dX0_parts_270 (by decide) ?_
                        exact kj220 _ (by first | exact hj1 | exact hj2 | exact hj3)
                      · skip
                        have hj3 : (1 : Int32) = bI (lkB A y c b) := by
                          have hp9 : ((y c).2.2.1 == (y b).2.2.1) = true := by
                            simp only [beq_iff_eq]
                            exact (nI_eq (by have := (hyo c hqc).2.2.1; omega) (by have := (hyo b hqb).2.2.1; omega)).mp c263
                          unfold lkB; rw [c230, hp9]; rfl
                        refine j_iconst (v := 1) dX0_parts_266 (by decide) ?_
                        refine j_goto (tgt := 271) dX0_parts_267 (by decide) ?_
                        exact kj220 _ (by first | exact hj1 | exact hj2 | exact hj3)
            · skip
              have hce : c < a := Nat.lt_of_not_le (fun q => c127 (nI_le q (by omega)))
              have hc8 : c < 8 := by omega
              have has : (if key = a then c else key) < a := by split <;> omega
              have hxl := encA_lt (hx c hce).2
              refine j_join (tgt := 149) (fun v => v = nI (if key = a then c else key)) (fun v130 hv130 => ?_) (fun kj130 => ?_)
              · skip
                refine j_istore dX0_parts_149 (by decide) rfl ?_
                subst hv130
                refine j_aload_n dX0_parts_151 rfl ?_
                refine j_get 17 dX0_parts_152 (by first | rfl | assumption) in_X0 rfl (by decide) q170 rfl ?_
                refine j_iload_n dX0_parts_155 rfl ?_
                refine j_iconst (v := 1) dX0_parts_156 (by decide) ?_
                refine j_iadd dX0_parts_157 ?_
                refine j_aald (w := .ref (r 26)) 6 4 dX0_parts_158 (by first | rfl | assumption) rfl rfl (by decide) (by decide) (by decide) rfl ?_
                refine j_iload dX0_parts_159 rfl ?_
                refine j_aload_n dX0_parts_161 rfl ?_
                refine j_get 0 dX0_parts_162 (by first | rfl | assumption) in_X0 rfl (by decide) q153 rfl ?_
                refine j_getN 1 dX0_parts_165 (by first | rfl | assumption) in_X1 rfl (by decide) (fun _ hs => hs.1 _ qn107) rfl ?_
                refine j_iload dX0_parts_168 rfl ?_
                refine j_aald (w := .ref (r ((if key = a then c else key) + 63))) 4 (if key = a then c else key) dX0_parts_170 (by first | rfl | assumption) rfl rfl rfl (by omega) (by decide) (by rw [(hks _ has).1]; rfl) ?_
                refine j_aload_n dX0_parts_171 rfl ?_
                refine j_get 17 dX0_parts_172 (by first | rfl | assumption) in_X0 rfl (by decide) q170 rfl ?_
                refine j_iload_n dX0_parts_175 rfl ?_
                refine j_aald (w := .ref (r 25)) 6 3 dX0_parts_176 (by first | rfl | assumption) rfl rfl rfl (by decide) (by decide) rfl ?_
                refine j_iload dX0_parts_177 rfl ?_
                refine j_iald 0 c dX0_parts_179 (by first | rfl | assumption) rfl rfl hc8 (by decide) ?_
                refine j_eqi (show _ = nI (encA m (x c)) from hxA c hce) ?_
                refine j_strike (i := 61) (q := ks (if key = a then c else key)) dX0_parts_180 (by exact (hks _ has).2.1) (by exact h61) hD (hks _ has).2.2 hxl ⟨Nat.le_of_ble_eq_true rfl, Nat.le_of_ble_eq_true rfl, Nat.le_of_ble_eq_true rfl, Nat.le_of_ble_eq_true rfl⟩ (Nat.le_of_ble_eq_true rfl) ?_
                refine j_eqi (show _ = nI (encA m (xN (fun k a => stk kd bs m (ks k) a) a key x c)) by unfold strk xN; rw [decA_encA (hx c hce).2]) ?_
                refine j_iast 0 c dX0_parts_183 (by first | rfl | assumption) rfl rfl hc8 (by decide) ?_
                refine j_fkW (f := _) (by decide) rfl ?_
                refine j_iinc dX0_parts_184 rfl (by decide) rfl ?_
                refine j_goto (tgt := 118) dX0_parts_187 (by decide) ?_
                refine j_less (L' := [some (.ref (r 0)), some (.int (nI S)), some (.int 3), some (.int (nI n)), some (.ref (r 30)), some (.int (bI (sepU S A a))), some (.int (bI (anU (fun key => prtB (fun k a => stk kd bs m (ks k) a) a S (n - 3 - 1) (xN (fun k a => stk kd bs m (ks k) a) a key x) (aN a A (xN (fun k a => stk kd bs m (ks k) a) a key x))) key))), some (.int (nI key)), some (.ref (r 31)), some (.int (nI (c + 1))), none, none]) ⟨Or.inr rfl, Or.inr rfl, Or.inr rfl, Or.inr rfl, Or.inr rfl, Or.inr rfl, Or.inr rfl, Or.inr rfl, Or.inr rfl, Or.inr (by rw [← nI_inc]), Or.inl rfl, Or.inl rfl, trivial⟩ ?_
                refine ih2 (c + 1) _ ⟨by omega, fun q hq => ?_⟩ (by omega)
                by_cases hqc : q = c
                · subst hqc; exact pk_us
                · exact (pk_un hqc).trans (hfx q (by omega))
              · skip
                refine j_iload dX0_parts_130 rfl ?_
                refine j_aload_n dX0_parts_132 rfl ?_
                refine j_get 0 dX0_parts_133 (by first | rfl | assumption) in_X0 rfl (by decide) q153 rfl ?_
                refine j_getN 2 dX0_parts_136 (by first | rfl | assumption) in_X1 rfl (by decide) (fun _ hs => hs.1 _ qn109) rfl ?_
                refine j_icmp_ne (tgt := 147) dX0_parts_139 (by decide) (fun c139 => ?_) (fun c139 => ?_)
                · skip
                  have c139 : ¬ key = a := fun q => c139 (by rw [q])
                  refine j_iload dX0_parts_147 rfl ?_
                  exact kj130 _ (by first | exact congrArg nI (if_pos c139).symm | exact congrArg nI (if_neg c139).symm)
                · skip
                  have c139 : key = a := (nI_eq (by omega) (by omega)).mp c139
                  refine j_iload dX0_parts_142 rfl ?_
                  refine j_goto (tgt := 149) dX0_parts_144 (by decide) ?_
                  exact kj130 _ (by first | exact congrArg nI (if_pos c139).symm | exact congrArg nI (if_neg c139).symm)
      · skip
        have c70 : n = 3 := ((nI_eq (by decide) (by omega)).mp (show nI 3 = nI n from c70)).symm
        refine j_iload dX0_parts_73 rfl ?_
        refine j_iret dX0_parts_75 rfl (bI_nar _) (Nat.le_refl _) (Nat.le_refl _) ?_
        refine jp_i ?_ (fun _ _ => rfl)
        have hz : n - 3 = 0 := by omega
        rw [hz]
        rfl
  · skip
    have hae : a < nk := Nat.lt_of_not_le (fun q => c23 (nI_le q (by omega)))
    have ha8 : a < 8 := by omega
    refine j_iload dX0_parts_26 rfl ?_
    refine j_join (tgt := 54) (fun v => v = bI (!S.testBit a || pcN (A a) == 1)) (fun v28 hv28 => ?_) (fun kj28 => ?_)
    · skip
      refine j_iand dX0_parts_54 ?_
      subst hv28
      refine j_eqi (show _ = bI (sepU S A (a + 1)) from bI_and _ _) ?_
      refine j_istore dX0_parts_55 (by decide) rfl ?_
      refine j_iinc dX0_parts_57 rfl (by decide) rfl ?_
      refine j_goto (tgt := 14) dX0_parts_60 (by decide) ?_
      refine j_less (L' := [some (.ref (r 0)), some (.int (nI S)), some (.int 3), some (.int (nI n)), some (.ref (r 30)), some (.int (bI (sepU S A (a + 1)))), some (.int (nI (a + 1))), none, none, none, none, none]) ⟨Or.inr rfl, Or.inr rfl, Or.inr rfl, Or.inr rfl, Or.inr rfl, Or.inr rfl, Or.inr (by rw [← nI_inc]), Or.inl rfl, Or.inl rfl, Or.inl rfl, Or.inl rfl, Or.inl rfl, trivial⟩ ?_
      exact ih (a + 1) (by omega) (by omega)
    · skip
      refine j_iload_n dX0_parts_28 rfl ?_
      refine j_iload dX0_parts_29 rfl ?_
      refine j_callSi (c_X0_has _ _) dX0_parts_31 pmX0_has q1035 q1036 rfl ⟨Nat.le_of_ble_eq_true rfl, Nat.le_of_ble_eq_true rfl⟩ ⟨Nat.le_of_ble_eq_true rfl, Nat.le_of_ble_eq_true rfl⟩ rfl (Nat.le_of_ble_eq_true rfl) ?_
      refine j_ifb_eq (tgt := 49) dX0_parts_34 (by decide) (fun c34 => ?_) (fun c34 => ?_)
      · skip
        have hj34 : (1 : Int32) = bI (!S.testBit a || pcN (A a) == 1) := by
          have hb9 : S.testBit a = false := by
            cases hq : S.testBit a with
            | false => rfl
            | true => exact absurd ((has_eq S hS a ha8).mpr hq) c34
          rw [hb9]; rfl
        refine j_iconst (v := 1) dX0_parts_49 (by decide) ?_
        refine j_goto (tgt := 54) dX0_parts_50 (by decide) ?_
        exact kj28 _ (by first | exact hj34 | exact hj46)
      · skip
        have c34 : S.testBit a = true := (has_eq S hS a ha8).mp c34
        refine j_aload dX0_parts_37 rfl ?_
        refine j_iload dX0_parts_39 rfl ?_
        refine j_iald 0 a dX0_parts_41 (by first | rfl | assumption) rfl rfl ha8 (by decide) ?_
        refine j_eqi (show _ = nI (A a) from (hA a hae).1) ?_
        refine j_callSi (c_bitCount _) dX0_parts_42 pmJ11_bitCount q1029 q1030 rfl ⟨Nat.le_of_ble_eq_true rfl, Nat.le_of_ble_eq_true rfl⟩ ⟨Nat.le_of_ble_eq_true rfl, Nat.le_of_ble_eq_true rfl⟩ rfl (Nat.le_of_ble_eq_true rfl) ?_
        refine j_eqi (bc_eq _ (hA a hae).2) ?_
        refine j_iconst (v := 1) dX0_parts_45 (by decide) ?_
        refine j_icmp_ne (tgt := 53) dX0_parts_46 (by decide) (fun c46 => ?_) (fun c46 => ?_)
        · skip
          have hj46 : (0 : Int32) = bI (!S.testBit a || pcN (A a) == 1) := by
            have hp9 : (pcN (A a) == 1) = false := by
              simp only [beq_eq_false_iff_ne, ne_eq]
              exact fun q => c46 (by rw [q]; rfl)
            rw [c34, hp9]; rfl
          refine j_iconst (v := 0) dX0_parts_53 (by decide) ?_
          exact kj28 _ (by first | exact hj34 | exact hj46)
        · skip
          have hpc : pcN (A a) < 2 ^ 31 := by
            have := fb_sm_bound (f := fun i => if (A a).testBit i = true then 1 else 0) (c := 1) (n := 8) (fun k _ => by split <;> omega)
            unfold pcN
            omega
          have hj46 : (1 : Int32) = bI (!S.testBit a || pcN (A a) == 1) := by
            have hp9 : (pcN (A a) == 1) = true := by
              simp only [beq_iff_eq]
              exact (nI_eq hpc (by decide)).mp c46
            rw [c34, hp9]; rfl
          refine j_iconst (v := 1) dX0_parts_49 (by decide) ?_
          refine j_goto (tgt := 54) dX0_parts_50 (by decide) ?_
          exact kj28 _ (by first | exact hj34 | exact hj46)
set_option maxHeartbeats 4000000 in
theorem f_parts2 {l : Launch} {D : va_G} {dT : Nat → ClassId} {H0 : Heap} {r : Nat → Nat} {nx : Nat} {g : j_H} {F : Nat → Nat} {V : Nat → Nat → Int32} {nk : Nat} (h60 : g 60 = some (rcell (.ref (r 61)) (r 62) nk)) {kd bs fg m : Nat} {ks : Nat → KY} (hK : fkK r dT g kd bs fg m nk ks) (n S : Nat) (hn : 2 ≤ n ∧ n ≤ 4) (hS : S < 256) (x : Nat → A4) (A : Nat → Nat) (hx : ∀ q, q < nk → V 24 q = nI (encA m (x q)) ∧ okA m (x q)) (hA : ∀ q, q < nk → V 29 q = nI (A q) ∧ A q < 256) (hnk : nk ≤ 8) : MC (gG l D dT H0) yX0_parts cX0_parts 12 (some .boolean) 8 0 0 [.ref (r 0), .int (nI S), .int 2, .int (nI n)] r (fkS r dT g F V) nx (jq_p 2 (bI (prtB (fun k a => stk kd bs m (ks k) a) nk S (n - 2) x A)) r dT g F V nx) := by
  obtain ⟨h61, hD, hkn, ka, h62, hks⟩ := id hK
  have hm := hD.pos
  have hm2 := hD.le
  have hmm := mm_le hm2
  refine MC.ofJ [some (.ref (r 0)), some (.int (nI S)), some (.int 2), some (.int (nI n)), none, none, none, none, none, none, none, none] rfl (Nat.le_of_ble_eq_true rfl) (by decide) ?_
  refine j_aload_n dX0_parts_0 rfl ?_
  refine j_get 18 dX0_parts_1 (by first | rfl | assumption) in_X0 rfl (by decide) q171 rfl ?_
  refine j_iload_n dX0_parts_4 rfl ?_
  refine j_aald (w := .ref (r 29)) 6 2 dX0_parts_5 (by first | rfl | assumption) rfl rfl rfl (by decide) (by decide) rfl ?_
  refine j_astore dX0_parts_6 (by decide) rfl ?_
  refine j_iconst (v := 1) dX0_parts_8 (by decide) ?_
  refine j_istore dX0_parts_9 (by decide) rfl ?_
  refine j_iconst (v := 0) dX0_parts_11 (by decide) ?_
  refine j_istore dX0_parts_12 (by decide) rfl ?_
  refine j_less (L' := [some (.ref (r 0)), some (.int (nI S)), some (.int 2), some (.int (nI n)), some (.ref (r 29)), some (.int (bI (sepU S A 0))), some (.int (nI 0)), none, none, none, none, none]) ⟨Or.inr rfl, Or.inr rfl, Or.inr rfl, Or.inr rfl, Or.inr rfl, Or.inr rfl, Or.inr rfl, Or.inl rfl, Or.inl rfl, Or.inl rfl, Or.inl rfl, Or.inl rfl, trivial⟩ ?_
  refine j_lp1 (fun (a : Nat) => fkS r dT g F V) (fun a => [some (.ref (r 0)), some (.int (nI S)), some (.int 2), some (.int (nI n)), some (.ref (r 29)), some (.int (bI (sepU S A a))), some (.int (nI a)), none, none, none, none, none]) (fun a => a ≤ nk) (fun a => nk - a) ?_ 0 (Nat.zero_le _)
  intro a hak ih
  refine j_iload dX0_parts_14 rfl ?_
  refine j_aload_n dX0_parts_16 rfl ?_
  refine j_get 0 dX0_parts_17 (by first | rfl | assumption) in_X0 rfl (by decide) q153 rfl ?_
  refine j_getN 2 dX0_parts_20 (by first | rfl | assumption) in_X1 rfl (by decide) (fun _ hs => hs.1 _ qn109) rfl ?_
  refine j_icmp_ge (tgt := 63) dX0_parts_23 (by decide) (fun c23 => ?_) (fun c23 => ?_)
  · skip
    have hae : a = nk := by
      have := (nI_leI (by omega) (by omega)).mp c23
      omega
    subst hae
    clear ih
    refine j_iload dX0_parts_63 rfl ?_
    refine j_if_ne (tgt := 73) dX0_parts_65 (by decide) (fun c65 => ?_) (fun c65 => ?_)
    · skip
      have c65 : sepU S A a = true := bI_n.mp c65
      refine j_iload dX0_parts_73 rfl ?_
      refine j_iret dX0_parts_75 rfl (bI_nar _) (Nat.le_refl _) (Nat.le_refl _) ?_
      refine jp_i ?_ (fun _ _ => rfl)
      rw [c65]
      symm
      exact congrArg bI (prt_t c65)
    · skip
      have c65 : sepU S A a = false := bI_0.mp c65
      refine j_iload_n dX0_parts_68 rfl ?_
      refine j_iload_n dX0_parts_69 rfl ?_
      refine j_icmp_ne (tgt := 76) dX0_parts_70 (by decide) (fun c70 => ?_) (fun c70 => ?_)
      · skip
        have c70 : ¬ n = 2 := fun q => c70 (by rw [q]; rfl)
        refine j_iconst (v := 0) dX0_parts_76 (by decide) ?_
        refine j_istore dX0_parts_77 (by decide) rfl ?_
        refine j_iconst (v := 0) dX0_parts_79 (by decide) ?_
        refine j_istore dX0_parts_80 (by decide) rfl ?_
        refine j_less (L' := [some (.ref (r 0)), some (.int (nI S)), some (.int 2), some (.int (nI n)), some (.ref (r 29)), some (.int (bI (sepU S A a))), some (.int (bI (anU (fun key => prtB (fun k a => stk kd bs m (ks k) a) a S (n - 2 - 1) (xN (fun k a => stk kd bs m (ks k) a) a key x) (aN a A (xN (fun k a => stk kd bs m (ks k) a) a key x))) 0))), some (.int (nI 0)), none, none, none, none]) ⟨Or.inr rfl, Or.inr rfl, Or.inr rfl, Or.inr rfl, Or.inr rfl, Or.inr rfl, Or.inr rfl, Or.inr rfl, Or.inl rfl, Or.inl rfl, Or.inl rfl, Or.inl rfl, trivial⟩ ?_
        refine j_lp2 (fun (key : Nat) (V1 : Nat → Nat → Int32) => fkS r dT g F V1) (fun key _ => [some (.ref (r 0)), some (.int (nI S)), some (.int 2), some (.int (nI n)), some (.ref (r 29)), some (.int (bI (sepU S A a))), some (.int (bI (anU (fun key => prtB (fun k a => stk kd bs m (ks k) a) a S (n - 2 - 1) (xN (fun k a => stk kd bs m (ks k) a) a key x) (aN a A (xN (fun k a => stk kd bs m (ks k) a) a key x))) key))), some (.int (nI key)), none, none, none, none]) (fun key V1 => key ≤ a + 1 ∧ ∀ j, ¬ isP 2 j → V1 j = V j) (fun key _ => a + 1 - key) ?_ 0 V ⟨Nat.zero_le _, fun _ _ => rfl⟩
        intro key V1 ⟨hkey, hV1⟩ ih
        have hxA : ∀ q, q < a → V1 24 q = nI (encA m (x q)) := fun q hq => by rw [hV1 24 (by unfold isP; omega)]; exact (hx q hq).1
        have hAA : ∀ q, q < a → V1 29 q = nI (A q) := fun q hq => by rw [hV1 29 (by unfold isP; omega)]; exact (hA q hq).1
        refine j_iload dX0_parts_82 rfl ?_
        refine j_aload_n dX0_parts_84 rfl ?_
        refine j_get 0 dX0_parts_85 (by first | rfl | assumption) in_X0 rfl (by decide) q153 rfl ?_
        refine j_getN 2 dX0_parts_88 (by first | rfl | assumption) in_X1 rfl (by decide) (fun _ hs => hs.1 _ qn109) rfl ?_
        refine j_icmp_gt (tgt := 323) dX0_parts_91 (by decide) (fun c91 => ?_) (fun c91 => ?_)
        · skip
          have hke : key = a + 1 := by
            have := (nI_ltI (by omega) (by omega)).mp c91
            omega
          refine j_iload dX0_parts_323 rfl ?_
          refine j_iret dX0_parts_325 rfl (bI_nar _) (Nat.le_refl _) (Nat.le_refl _) ?_
          refine jp_i ?_ hV1
          have hz : n - 2 = (n - 2 - 1) + 1 := by omega
          have hp9 : prtB (fun k a => stk kd bs m (ks k) a) a S (n - 2) x A = (sepU S A a || anU (fun key => prtB (fun k a => stk kd bs m (ks k) a) a S (n - 2 - 1) (xN (fun k a => stk kd bs m (ks k) a) a key x) (aN a A (xN (fun k a => stk kd bs m (ks k) a) a key x))) (a + 1)) := by rw [hz]; rfl
          rw [hp9, c65, Bool.false_or]
          rw [hke]
        · skip
          have hke : key ≤ a := Nat.le_of_not_lt (fun q => c91 (nI_lt q (by omega)))
          refine j_iload dX0_parts_94 rfl ?_
          refine j_if_ne (tgt := 323) dX0_parts_96 (by decide) (fun c96 => ?_) (fun c96 => ?_)
          · skip
            have hft : anU (fun key => prtB (fun k a => stk kd bs m (ks k) a) a S (n - 2 - 1) (xN (fun k a => stk kd bs m (ks k) a) a key x) (aN a A (xN (fun k a => stk kd bs m (ks k) a) a key x))) key = true := bI_n.mp c96
            refine j_iload dX0_parts_323 rfl ?_
            refine j_iret dX0_parts_325 rfl (bI_nar _) (Nat.le_refl _) (Nat.le_refl _) ?_
            refine jp_i ?_ hV1
            have hz : n - 2 = (n - 2 - 1) + 1 := by omega
            have hp9 : prtB (fun k a => stk kd bs m (ks k) a) a S (n - 2) x A = (sepU S A a || anU (fun key => prtB (fun k a => stk kd bs m (ks k) a) a S (n - 2 - 1) (xN (fun k a => stk kd bs m (ks k) a) a key x) (aN a A (xN (fun k a => stk kd bs m (ks k) a) a key x))) (a + 1)) := by rw [hz]; rfl
            rw [hp9, c65, Bool.false_or]
            have h5 := anU_mono hft (a + 1 - key)
            rw [show key + (a + 1 - key) = a + 1 by omega] at h5
            rw [hft, h5]
          · skip
            have hff : anU (fun key => prtB (fun k a => stk kd bs m (ks k) a) a S (n - 2 - 1) (xN (fun k a => stk kd bs m (ks k) a) a key x) (aN a A (xN (fun k a => stk kd bs m (ks k) a) a key x))) key = false := bI_0.mp c96
            refine j_aload_n dX0_parts_99 rfl ?_
            refine j_get 18 dX0_parts_100 (by first | rfl | assumption) in_X0 rfl (by decide) q171 rfl ?_
            refine j_iload_n dX0_parts_103 rfl ?_
            refine j_iconst (v := 1) dX0_parts_104 (by decide) ?_
            refine j_iadd dX0_parts_105 ?_
            refine j_aald (w := .ref (r 30)) 6 3 dX0_parts_106 (by first | rfl | assumption) rfl rfl (by decide) (by decide) (by decide) rfl ?_
            refine j_astore dX0_parts_107 (by decide) rfl ?_
            refine j_aload dX0_parts_109 rfl ?_
            refine j_iconst (v := 0) dX0_parts_111 (by decide) ?_
            refine j_re rfl rfl (h' := fkS r dT g F (vo V1 [(25, V1 25), (30, V1 30)])) (by rw [vo_same _ (by simp)]) ?_
            refine j_callSv (c_fill2 30 8 0 (V1 30) (by exact rfl) (by decide)) dX0_parts_112 pmJ6_fill_2 q938 q939 rfl ⟨Nat.le_of_ble_eq_true rfl, Nat.le_of_ble_eq_true rfl⟩ ⟨Nat.le_of_ble_eq_true rfl, Nat.le_of_ble_eq_true rfl⟩ rfl (Nat.le_of_ble_eq_true rfl) ?_
            refine j_o1 ?_
            refine j_fkW (f := fun j => if j < 8 then 0 else V1 30 j) (by decide) rfl ?_
            refine j_iconst (v := 0) dX0_parts_115 (by decide) ?_
            refine j_istore dX0_parts_116 (by decide) rfl ?_
            refine j_less (L' := [some (.ref (r 0)), some (.int (nI S)), some (.int 2), some (.int (nI n)), some (.ref (r 29)), some (.int (bI (sepU S A a))), some (.int (bI (anU (fun key => prtB (fun k a => stk kd bs m (ks k) a) a S (n - 2 - 1) (xN (fun k a => stk kd bs m (ks k) a) a key x) (aN a A (xN (fun k a => stk kd bs m (ks k) a) a key x))) key))), some (.int (nI key)), some (.ref (r 30)), some (.int (nI 0)), none, none]) ⟨Or.inr rfl, Or.inr rfl, Or.inr rfl, Or.inr rfl, Or.inr rfl, Or.inr rfl, Or.inr rfl, Or.inr rfl, Or.inr rfl, Or.inr rfl, Or.inl rfl, Or.inl rfl, trivial⟩ ?_
            refine j_lp2 (fun (c : Nat) (fx : Nat → Int32) => fkS r dT g F (vo V1 [(25, fx), (30, fun j => if j < 8 then 0 else V1 30 j)])) (fun c _ => [some (.ref (r 0)), some (.int (nI S)), some (.int 2), some (.int (nI n)), some (.ref (r 29)), some (.int (bI (sepU S A a))), some (.int (bI (anU (fun key => prtB (fun k a => stk kd bs m (ks k) a) a S (n - 2 - 1) (xN (fun k a => stk kd bs m (ks k) a) a key x) (aN a A (xN (fun k a => stk kd bs m (ks k) a) a key x))) key))), some (.int (nI key)), some (.ref (r 30)), some (.int (nI c)), none, none]) (fun c fx => c ≤ a ∧ ∀ q, q < c → fx q = nI (encA m (xN (fun k a => stk kd bs m (ks k) a) a key x q))) (fun c _ => a - c) ?_ 0 (V1 25) ⟨Nat.zero_le _, fun q hq => absurd hq (Nat.not_lt_zero _)⟩
            intro c fx ⟨hcK, hfx⟩ ih2
            refine j_iload dX0_parts_118 rfl ?_
            refine j_aload_n dX0_parts_120 rfl ?_
            refine j_get 0 dX0_parts_121 (by first | rfl | assumption) in_X0 rfl (by decide) q153 rfl ?_
            refine j_getN 2 dX0_parts_124 (by first | rfl | assumption) in_X1 rfl (by decide) (fun _ hs => hs.1 _ qn109) rfl ?_
            refine j_icmp_ge (tgt := 190) dX0_parts_127 (by decide) (fun c127 => ?_) (fun c127 => ?_)
            · skip
              have hce : c = a := by
                have := (nI_leI (by omega) (by omega)).mp c127
                omega
              have hfx2 : ∀ q, q < a → fx q = nI (encA m (xN (fun k a => stk kd bs m (ks k) a) a key x q)) := fun q hq => hfx q (by omega)
              have hyo : ∀ q, q < a → okA m (xN (fun k a => stk kd bs m (ks k) a) a key x q) := fun q hq => stk_ok hD (hks _ (by split <;> omega)).2.2 (hx q hq).2
              refine j_iconst (v := 0) dX0_parts_190 (by decide) ?_
              refine j_istore dX0_parts_191 (by decide) rfl ?_
              refine j_less (L' := [some (.ref (r 0)), some (.int (nI S)), some (.int 2), some (.int (nI n)), some (.ref (r 29)), some (.int (bI (sepU S A a))), some (.int (bI (anU (fun key => prtB (fun k a => stk kd bs m (ks k) a) a S (n - 2 - 1) (xN (fun k a => stk kd bs m (ks k) a) a key x) (aN a A (xN (fun k a => stk kd bs m (ks k) a) a key x))) key))), some (.int (nI key)), some (.ref (r 30)), some (.int (nI 0)), none, none]) ⟨Or.inr rfl, Or.inr rfl, Or.inr rfl, Or.inr rfl, Or.inr rfl, Or.inr rfl, Or.inr rfl, Or.inr rfl, Or.inr rfl, Or.inr rfl, Or.inl rfl, Or.inl rfl, trivial⟩ ?_
              generalize hyE : xN (fun k a => stk kd bs m (ks k) a) a key x = y at *
              refine j_lp2 (fun (c : Nat) (fa : Nat → Int32) => fkS r dT g F (vo V1 [(25, fx), (30, fa)])) (fun c _ => [some (.ref (r 0)), some (.int (nI S)), some (.int 2), some (.int (nI n)), some (.ref (r 29)), some (.int (bI (sepU S A a))), some (.int (bI (anU (fun key => prtB (fun k a => stk kd bs m (ks k) a) a S (n - 2 - 1) (xN (fun k a => stk kd bs m (ks k) a) a key x) (aN a A (xN (fun k a => stk kd bs m (ks k) a) a key x))) key))), some (.int (nI key)), some (.ref (r 30)), some (.int (nI c)), none, none]) (fun c fa => c ≤ a ∧ (∀ q, q < c → fa q = nI (aN a A y q)) ∧ ∀ q, c ≤ q → q < 8 → fa q = 0) (fun c _ => a - c) ?_ 0 _ ⟨Nat.zero_le _, (fun q hq => absurd hq (Nat.not_lt_zero _)), fun q _ hq => if_pos hq⟩
              clear ih2
              intro c fa ⟨hcK, hfa1, hfa2⟩ ih2
              refine j_iload dX0_parts_193 rfl ?_
              refine j_aload_n dX0_parts_195 rfl ?_
              refine j_get 0 dX0_parts_196 (by first | rfl | assumption) in_X0 rfl (by decide) q153 rfl ?_
              refine j_getN 2 dX0_parts_199 (by first | rfl | assumption) in_X1 rfl (by decide) (fun _ hs => hs.1 _ qn109) rfl ?_
              refine j_icmp_ge (tgt := 306) dX0_parts_202 (by decide) (fun c202 => ?_) (fun c202 => ?_)
              · skip
                have hce3 : c = a := by
                  have := (nI_leI (by omega) (by omega)).mp c202
                  omega
                refine j_aload_n dX0_parts_306 rfl ?_
                refine j_iload_n dX0_parts_307 rfl ?_
                refine j_iload_n dX0_parts_308 rfl ?_
                refine j_iconst (v := 1) dX0_parts_309 (by decide) ?_
                refine j_iadd dX0_parts_310 ?_
                refine j_iload_n dX0_parts_311 rfl ?_
                refine j_re rfl (st' := [.int (nI n), .int 3, .int (nI S), .ref (r 0)]) (by rw [show ((2 : Int32) + 1) = 3 by decide]) rfl ?_
                refine j_callV (f_parts3 (V := (vo V1 [(25, fx), (30, fa)])) h60 hK n S (by omega) hS y (aN a A y) (fun q hq => ⟨hfx2 q hq, hyo q hq⟩) (fun q hq => ⟨hfa1 q (by omega), Nat.lt_of_lt_of_le (bsU_lt _) (Nat.le_trans (Nat.pow_le_pow_right (by decide) hnk) (by decide))⟩) hnk) jq_p.isR dX0_parts_312 pmX0_parts q1038 q1040 qs25 (by first | rfl | assumption) rfl rfl rfl ⟨Nat.le_of_ble_eq_true rfl, Nat.le_of_ble_eq_true rfl⟩ ⟨Nat.le_of_ble_eq_true rfl, Nat.le_of_ble_eq_true rfl⟩ rfl (Nat.le_of_ble_eq_true rfl) ?_
                rintro v9 r h9 nx ⟨e9, rfl, rfl, V2, rfl, hV2⟩
                cases e9
                show J _ _ _ _ _ _ _ _ _ _ _ _ (.int _ :: _)
                refine j_istore dX0_parts_315 (by decide) rfl ?_
                refine j_iinc dX0_parts_317 rfl (by decide) rfl ?_
                refine j_goto (tgt := 82) dX0_parts_320 (by decide) ?_
                refine j_less (L' := [some (.ref (r 0)), some (.int (nI S)), some (.int 2), some (.int (nI n)), some (.ref (r 29)), some (.int (bI (sepU S A a))), some (.int (bI (anU (fun key => prtB (fun k a => stk kd bs m (ks k) a) a S (n - 2 - 1) (xN (fun k a => stk kd bs m (ks k) a) a key x) (aN a A (xN (fun k a => stk kd bs m (ks k) a) a key x))) (key + 1)))), some (.int (nI (key + 1))), none, none, none, none]) ⟨Or.inr rfl, Or.inr rfl, Or.inr rfl, Or.inr rfl, Or.inr rfl, Or.inr rfl, Or.inr (by rw [anU, hff, Bool.false_or, hyE]; rfl), Or.inr (by rw [← nI_inc]), Or.inl rfl, Or.inl rfl, Or.inl rfl, Or.inl rfl, trivial⟩ ?_
                refine ih (key + 1) V2 ⟨by omega, fun j hj => ?_⟩ (by omega)
                rw [hV2 j (by unfold isP at hj ⊢; omega)]
                refine (vo_ne ?_).trans (hV1 j hj)
                intro q hq
                simp at hq
                unfold isP at hj
                rcases hq with rfl | rfl
                · show 25 ≠ j; omega
                · show 30 ≠ j; omega
              · skip
                have hqc : c < a := Nat.lt_of_not_le (fun q => c202 (nI_le q (by omega)))
                have hc8 : c < 8 := by omega
                have hyc := encA_lt (hyo c hqc)
                refine j_iconst (v := 0) dX0_parts_205 (by decide) ?_
                refine j_istore dX0_parts_206 (by decide) rfl ?_
                refine j_less (L' := [some (.ref (r 0)), some (.int (nI S)), some (.int 2), some (.int (nI n)), some (.ref (r 29)), some (.int (bI (sepU S A a))), some (.int (bI (anU (fun key => prtB (fun k a => stk kd bs m (ks k) a) a S (n - 2 - 1) (xN (fun k a => stk kd bs m (ks k) a) a key x) (aN a A (xN (fun k a => stk kd bs m (ks k) a) a key x))) key))), some (.int (nI key)), some (.ref (r 30)), some (.int (nI c)), some (.int (nI 0)), none]) ⟨Or.inr rfl, Or.inr rfl, Or.inr rfl, Or.inr rfl, Or.inr rfl, Or.inr rfl, Or.inr rfl, Or.inr rfl, Or.inr rfl, Or.inr rfl, Or.inr rfl, Or.inl rfl, trivial⟩ ?_
                refine j_lp2 (fun (b : Nat) (fa : Nat → Int32) => fkS r dT g F (vo V1 [(25, fx), (30, fa)])) (fun b _ => [some (.ref (r 0)), some (.int (nI S)), some (.int 2), some (.int (nI n)), some (.ref (r 29)), some (.int (bI (sepU S A a))), some (.int (bI (anU (fun key => prtB (fun k a => stk kd bs m (ks k) a) a S (n - 2 - 1) (xN (fun k a => stk kd bs m (ks k) a) a key x) (aN a A (xN (fun k a => stk kd bs m (ks k) a) a key x))) key))), some (.int (nI key)), some (.ref (r 30)), some (.int (nI c)), some (.int (nI b)), none]) (fun b fa => b ≤ a ∧ (∀ q, q < c → fa q = nI (aN a A y q)) ∧ (∀ q, c < q → q < 8 → fa q = 0) ∧ fa c = nI (bsU (lkB A y c) b)) (fun b _ => a - b) ?_ 0 fa ⟨Nat.zero_le _, hfa1, (fun q h1 h2 => hfa2 q (by omega) h2), (hfa2 c (Nat.le_refl _) hc8)⟩
                clear hfa1 hfa2 fa
                intro b fa ⟨hbK, hfa1, hfa2, hfa3⟩ ih3
                refine j_iload dX0_parts_208 rfl ?_
                refine j_aload_n dX0_parts_210 rfl ?_
                refine j_get 0 dX0_parts_211 (by first | rfl | assumption) in_X0 rfl (by decide) q153 rfl ?_
                refine j_getN 2 dX0_parts_214 (by first | rfl | assumption) in_X1 rfl (by decide) (fun _ hs => hs.1 _ qn109) rfl ?_
                refine j_icmp_ge (tgt := 300) dX0_parts_217 (by decide) (fun c217 => ?_) (fun c217 => ?_)
                · skip
                  have hbe : b = a := by
                    have := (nI_leI (by omega) (by omega)).mp c217
                    omega
                  rw [hbe] at hfa3
                  refine j_iinc dX0_parts_300 rfl (by decide) rfl ?_
                  refine j_goto (tgt := 193) dX0_parts_303 (by decide) ?_
                  refine j_less (L' := [some (.ref (r 0)), some (.int (nI S)), some (.int 2), some (.int (nI n)), some (.ref (r 29)), some (.int (bI (sepU S A a))), some (.int (bI (anU (fun key => prtB (fun k a => stk kd bs m (ks k) a) a S (n - 2 - 1) (xN (fun k a => stk kd bs m (ks k) a) a key x) (aN a A (xN (fun k a => stk kd bs m (ks k) a) a key x))) key))), some (.int (nI key)), some (.ref (r 30)), some (.int (nI (c + 1))), none, none]) ⟨Or.inr rfl, Or.inr rfl, Or.inr rfl, Or.inr rfl, Or.inr rfl, Or.inr rfl, Or.inr rfl, Or.inr rfl, Or.inr rfl, Or.inr (by rw [← nI_inc]), Or.inl rfl, Or.inl rfl, trivial⟩ ?_
                  refine ih2 (c + 1) fa ⟨by omega, (fun q hq => ?_), (fun q h1 h2 => hfa2 q (by omega) h2)⟩ (by omega)
                  by_cases hq2 : q = c
                  · subst hq2; exact hfa3
                  · exact hfa1 q (by omega)
                · skip
                  have hqb : b < a := Nat.lt_of_not_le (fun q => c217 (nI_le q (by omega)))
                  have hb8 : b < 8 := by omega
                  have hyb := encA_lt (hyo b hqb)
                  refine j_join (tgt := 271) (fun v => v = bI (lkB A y c b)) (fun v220 hv220 => ?_) (fun kj220 => ?_)
                  · skip
                    refine j_istore dX0_parts_271 (by decide) rfl ?_
                    subst hv220
                    refine j_aload dX0_parts_273 rfl ?_
                    refine j_iload dX0_parts_275 rfl ?_
                    refine j_dup2 dX0_parts_277 rfl rfl ?_
                    refine j_iald 0 c dX0_parts_278 (by first | rfl | assumption) rfl rfl hc8 (by decide) ?_
                    refine j_eqi (show _ = nI (bsU (lkB A y c) b) from hfa3) ?_
                    refine j_join (tgt := 292) (fun v => v = if lkB A y c b = true then (1 : Int32) <<< (nI b &&& 31) else 0) (fun v279 hv279 => ?_) (fun kj279 => ?_)
                    · skip
                      refine j_ior dX0_parts_292 ?_
                      refine j_eqi (or_if hb8 hv279) ?_
                      refine j_iast 0 c dX0_parts_293 (by first | rfl | assumption) rfl rfl hc8 (by decide) ?_
                      refine j_fkW (f := _) (by decide) rfl ?_
                      refine j_iinc dX0_parts_294 rfl (by decide) rfl ?_
                      refine j_goto (tgt := 208) dX0_parts_297 (by decide) ?_
                      refine j_less (L' := [some (.ref (r 0)), some (.int (nI S)), some (.int 2), some (.int (nI n)), some (.ref (r 29)), some (.int (bI (sepU S A a))), some (.int (bI (anU (fun key => prtB (fun k a => stk kd bs m (ks k) a) a S (n - 2 - 1) (xN (fun k a => stk kd bs m (ks k) a) a key x) (aN a A (xN (fun k a => stk kd bs m (ks k) a) a key x))) key))), some (.int (nI key)), some (.ref (r 30)), some (.int (nI c)), some (.int (nI (b + 1))), none]) ⟨Or.inr rfl, Or.inr rfl, Or.inr rfl, Or.inr rfl, Or.inr rfl, Or.inr rfl, Or.inr rfl, Or.inr rfl, Or.inr rfl, Or.inr rfl, Or.inr (by rw [← nI_inc]), Or.inl rfl, trivial⟩ ?_
                      exact ih3 (b + 1) _ ⟨by omega, (fun q hq => (pk_un (by omega)).trans (hfa1 q hq)), (fun q h1 h2 => (pk_un (by omega)).trans (hfa2 q h1 h2)), pk_us⟩ (by omega)
                    · skip
                      refine j_iload dX0_parts_279 rfl ?_
                      refine j_if_eq (tgt := 291) dX0_parts_281 (by decide) (fun c281 => ?_) (fun c281 => ?_)
                      · skip
                        refine j_iconst (v := 0) dX0_parts_291 (by decide) ?_
                        exact kj279 _ (by first | exact (if_pos (bI_n.mp c281)).symm | exact (if_neg (by rw [bI_0.mp c281]; decide)).symm)
                      · skip
                        refine j_iconst (v := 1) dX0_parts_284 (by decide) ?_
                        refine j_iload dX0_parts_285 rfl ?_
                        refine j_ishl dX0_parts_287 ?_
                        refine j_goto (tgt := 292) dX0_parts_288 (by decide) ?_
                        exact kj279 _ (by first | exact (if_pos (bI_n.mp c281)).symm | exact (if_neg (by rw [bI_0.mp c281]; decide)).symm)
                  · skip
                    refine j_aload dX0_parts_220 rfl ?_
                    refine j_iload dX0_parts_222 rfl ?_
                    refine j_iald 0 c dX0_parts_224 (by first | rfl | assumption) rfl rfl hc8 (by decide) ?_
                    refine j_eqi (show _ = nI (A c) from hAA c hqc) ?_
                    refine j_iload dX0_parts_225 rfl ?_
                    refine j_callSi (c_X0_has _ _) dX0_parts_227 pmX0_has q1035 q1036 rfl ⟨Nat.le_of_ble_eq_true rfl, Nat.le_of_ble_eq_true rfl⟩ ⟨Nat.le_of_ble_eq_true rfl, Nat.le_of_ble_eq_true rfl⟩ rfl (Nat.le_of_ble_eq_true rfl) ?_
                    refine j_ifb_eq (tgt := 270) dX0_parts_230 (by decide) (fun c230 => ?_) (fun c230 => ?_)
                    · skip
                      have hj1 : (0 : Int32) = bI (lkB A y c b) := by
                        have hb9 : (A c).testBit b = false := by
                          cases hq : (A c).testBit b with
                          | false => rfl
                          | true => exact absurd ((has_eq _ (hA c hqc).2 b hb8).mpr hq) c230
                        unfold lkB; rw [hb9]; rfl
                      refine j_iconst (v := 0) dX0_parts_270 (by decide) ?_
                      exact kj220 _ (by first | exact hj1 | exact hj2 | exact hj3)
                    · skip
                      have c230 : (A c).testBit b = true := (has_eq _ (hA c hqc).2 b hb8).mp c230
                      refine j_aload_n dX0_parts_233 rfl ?_
                      refine j_aload_n dX0_parts_234 rfl ?_
                      refine j_get 17 dX0_parts_235 (by first | rfl | assumption) in_X0 rfl (by decide) q170 rfl ?_
                      refine j_iload_n dX0_parts_238 rfl ?_
                      refine j_iconst (v := 1) dX0_parts_239 (by decide) ?_
                      refine j_iadd dX0_parts_240 ?_
                      refine j_aald (w := .ref (r 25)) 6 3 dX0_parts_241 (by first | rfl | assumption) rfl rfl (by decide) (by decide) (by decide) rfl ?_
                      refine j_iload dX0_parts_242 rfl ?_
                      refine j_iald 0 c dX0_parts_244 (by first | rfl | assumption) rfl rfl hc8 (by decide) ?_
                      refine j_eqi (show _ = nI (encA m (y c)) from hfx2 c hqc) ?_
                      refine j_callVi (f_shown1 h60 h61 hm hm2 (encA m (y c)) (by omega)) dX0_parts_245 pmX0_shown q771 q773 qs14 (by first | rfl | assumption) rfl rfl rfl ⟨Nat.le_of_ble_eq_true rfl, Nat.le_of_ble_eq_true rfl⟩ ⟨Nat.le_of_ble_eq_true rfl, Nat.le_of_ble_eq_true rfl⟩ rfl (Nat.le_of_ble_eq_true rfl) ?_
                      refine j_eqi (show _ = nI (y c).2.2.1 from congrArg nI (by show sS m (enc m (y c).1 (y c).2.1 (y c).2.2.1 (y c).2.2.2) = _; exact sS_enc (hyo c hqc).2.2.1 (hyo c hqc).2.2.2)) ?_
                      refine j_aload_n dX0_parts_248 rfl ?_
                      refine j_aload_n dX0_parts_249 rfl ?_
                      refine j_get 17 dX0_parts_250 (by first | rfl | assumption) in_X0 rfl (by decide) q170 rfl ?_
                      refine j_iload_n dX0_parts_253 rfl ?_
                      refine j_iconst (v := 1) dX0_parts_254 (by decide) ?_
                      refine j_iadd dX0_parts_255 ?_
                      refine j_aald (w := .ref (r 25)) 6 3 dX0_parts_256 (by first | rfl | assumption) rfl rfl (by decide) (by decide) (by decide) rfl ?_
                      refine j_iload dX0_parts_257 rfl ?_
                      refine j_iald 0 b dX0_parts_259 (by first | rfl | assumption) rfl rfl hb8 (by decide) ?_
                      refine j_eqi (show _ = nI (encA m (y b)) from hfx2 b hqb) ?_
                      refine j_callVi (f_shown1 h60 h61 hm hm2 (encA m (y b)) (by omega)) dX0_parts_260 pmX0_shown q771 q773 qs14 (by first | rfl | assumption) rfl rfl rfl ⟨Nat.le_of_ble_eq_true rfl, Nat.le_of_ble_eq_true rfl⟩ ⟨Nat.le_of_ble_eq_true rfl, Nat.le_of_ble_eq_true rfl⟩ rfl (Nat.le_of_ble_eq_true rfl) ?_
                      refine j_eqi (show _ = nI (y b).2.2.1 from congrArg nI (by show sS m (enc m (y b).1 (y b).2.1 (y b).2.2.1 (y b).2.2.2) = _; exact sS_enc (hyo b hqb).2.2.1 (hyo b hqb).2.2.2)) ?_
                      refine j_icmp_ne (tgt := 270) dX0_parts_263 (by decide) (fun c263 => ?_) (fun c263 => ?_)
                      · skip
                        have hj2 : (0 : Int32) = bI (lkB A y c b) := by
                          have hp9 : ((y c).2.2.1 == (y b).2.2.1) = false := by
                            simp only [beq_eq_false_iff_ne, ne_eq]
                            exact fun q => c263 (by rw [q])
                          unfold lkB; rw [c230, hp9]; rfl
                        refine j_iconst (v := 0) dX0_parts_270 (by decide) ?_
                        exact kj220 _ (by first | exact hj1 | exact hj2 | exact hj3)
                      · skip
                        have hj3 : (1 : Int32) = bI (lkB A y c b) := by
                          have hp9 : ((y c).2.2.1 == (y b).2.2.1) = true := by
                            simp only [beq_iff_eq]
                            exact (nI_eq (by have := (hyo c hqc).2.2.1; omega) (by have := (hyo b hqb).2.2.1; omega)).mp c263
                          unfold lkB; rw [c230, hp9]; rfl
                        refine j_iconst (v := 1) dX0_parts_266 (by decide) ?_
                        refine j_goto (tgt := 271) dX0_parts_267 (by decide) ?_
                        exact kj220 _ (by first | exact hj1 | exact hj2 | exact hj3)
            · skip
              have hce : c < a := Nat.lt_of_not_le (fun q => c127 (nI_le q (by omega)))
              have hc8 : c < 8 := by omega
              have has : (if key = a then c else key) < a := by split <;> omega
              have hxl := encA_lt (hx c hce).2
              refine j_join (tgt := 149) (fun v => v = nI (if key = a then c else key)) (fun v130 hv130 => ?_) (fun kj130 => ?_)
              · skip
                refine j_istore dX0_parts_149 (by decide) rfl ?_
                subst hv130
                refine j_aload_n dX0_parts_151 rfl ?_
                refine j_get 17 dX0_parts_152 (by first | rfl | assumption) in_X0 rfl (by decide) q170 rfl ?_
                refine j_iload_n dX0_parts_155 rfl ?_
                refine j_iconst (v := 1) dX0_parts_156 (by decide) ?_
                refine j_iadd dX0_parts_157 ?_
                refine j_aald (w := .ref (r 25)) 6 3 dX0_parts_158 (by first | rfl | assumption) rfl rfl (by decide) (by decide) (by decide) rfl ?_
                refine j_iload dX0_parts_159 rfl ?_
                refine j_aload_n dX0_parts_161 rfl ?_
                refine j_get 0 dX0_parts_162 (by first | rfl | assumption) in_X0 rfl (by decide) q153 rfl ?_
                refine j_getN 1 dX0_parts_165 (by first | rfl | assumption) in_X1 rfl (by decide) (fun _ hs => hs.1 _ qn107) rfl ?_
                refine j_iload dX0_parts_168 rfl ?_
                refine j_aald (w := .ref (r ((if key = a then c else key) + 63))) 4 (if key = a then c else key) dX0_parts_170 (by first | rfl | assumption) rfl rfl rfl (by omega) (by decide) (by rw [(hks _ has).1]; rfl) ?_
                refine j_aload_n dX0_parts_171 rfl ?_
                refine j_get 17 dX0_parts_172 (by first | rfl | assumption) in_X0 rfl (by decide) q170 rfl ?_
                refine j_iload_n dX0_parts_175 rfl ?_
                refine j_aald (w := .ref (r 24)) 6 2 dX0_parts_176 (by first | rfl | assumption) rfl rfl rfl (by decide) (by decide) rfl ?_
                refine j_iload dX0_parts_177 rfl ?_
                refine j_iald 0 c dX0_parts_179 (by first | rfl | assumption) rfl rfl hc8 (by decide) ?_
                refine j_eqi (show _ = nI (encA m (x c)) from hxA c hce) ?_
                refine j_strike (i := 61) (q := ks (if key = a then c else key)) dX0_parts_180 (by exact (hks _ has).2.1) (by exact h61) hD (hks _ has).2.2 hxl ⟨Nat.le_of_ble_eq_true rfl, Nat.le_of_ble_eq_true rfl, Nat.le_of_ble_eq_true rfl, Nat.le_of_ble_eq_true rfl⟩ (Nat.le_of_ble_eq_true rfl) ?_
                refine j_eqi (show _ = nI (encA m (xN (fun k a => stk kd bs m (ks k) a) a key x c)) by unfold strk xN; rw [decA_encA (hx c hce).2]) ?_
                refine j_iast 0 c dX0_parts_183 (by first | rfl | assumption) rfl rfl hc8 (by decide) ?_
                refine j_fkW (f := _) (by decide) rfl ?_
                refine j_iinc dX0_parts_184 rfl (by decide) rfl ?_
                refine j_goto (tgt := 118) dX0_parts_187 (by decide) ?_
                refine j_less (L' := [some (.ref (r 0)), some (.int (nI S)), some (.int 2), some (.int (nI n)), some (.ref (r 29)), some (.int (bI (sepU S A a))), some (.int (bI (anU (fun key => prtB (fun k a => stk kd bs m (ks k) a) a S (n - 2 - 1) (xN (fun k a => stk kd bs m (ks k) a) a key x) (aN a A (xN (fun k a => stk kd bs m (ks k) a) a key x))) key))), some (.int (nI key)), some (.ref (r 30)), some (.int (nI (c + 1))), none, none]) ⟨Or.inr rfl, Or.inr rfl, Or.inr rfl, Or.inr rfl, Or.inr rfl, Or.inr rfl, Or.inr rfl, Or.inr rfl, Or.inr rfl, Or.inr (by rw [← nI_inc]), Or.inl rfl, Or.inl rfl, trivial⟩ ?_
                refine ih2 (c + 1) _ ⟨by omega, fun q hq => ?_⟩ (by omega)
                by_cases hqc : q = c
                · subst hqc; exact pk_us
                · exact (pk_un hqc).trans (hfx q (by omega))
              · skip
                refine j_iload dX0_parts_130 rfl ?_
                refine j_aload_n dX0_parts_132 rfl ?_
                refine j_get 0 dX0_parts_133 (by first | rfl | assumption) in_X0 rfl (by decide) q153 rfl ?_
                refine j_getN 2 dX0_parts_136 (by first | rfl | assumption) in_X1 rfl (by decide) (fun _ hs => hs.1 _ qn109) rfl ?_
                refine j_icmp_ne (tgt := 147) dX0_parts_139 (by decide) (fun c139 => ?_) (fun c139 => ?_)
                · skip
                  have c139 : ¬ key = a := fun q => c139 (by rw [q])
                  refine j_iload dX0_parts_147 rfl ?_
                  exact kj130 _ (by first | exact congrArg nI (if_pos c139).symm | exact congrArg nI (if_neg c139).symm)
                · skip
                  have c139 : key = a := (nI_eq (by omega) (by omega)).mp c139
                  refine j_iload dX0_parts_142 rfl ?_
                  refine j_goto (tgt := 149) dX0_parts_144 (by decide) ?_
                  exact kj130 _ (by first | exact congrArg nI (if_pos c139).symm | exact congrArg nI (if_neg c139).symm)
      · skip
        have c70 : n = 2 := ((nI_eq (by decide) (by omega)).mp (show nI 2 = nI n from c70)).symm
        refine j_iload dX0_parts_73 rfl ?_
        refine j_iret dX0_parts_75 rfl (bI_nar _) (Nat.le_refl _) (Nat.le_refl _) ?_
        refine jp_i ?_ (fun _ _ => rfl)
        have hz : n - 2 = 0 := by omega
        rw [hz]
        rfl
  · skip
    have hae : a < nk := Nat.lt_of_not_le (fun q => c23 (nI_le q (by omega)))
    have ha8 : a < 8 := by omega
    refine j_iload dX0_parts_26 rfl ?_
    refine j_join (tgt := 54) (fun v => v = bI (!S.testBit a || pcN (A a) == 1)) (fun v28 hv28 => ?_) (fun kj28 => ?_)
    · skip
      refine j_iand dX0_parts_54 ?_
      subst hv28
      refine j_eqi (show _ = bI (sepU S A (a + 1)) from bI_and _ _) ?_
      refine j_istore dX0_parts_55 (by decide) rfl ?_
      refine j_iinc dX0_parts_57 rfl (by decide) rfl ?_
      refine j_goto (tgt := 14) dX0_parts_60 (by decide) ?_
      refine j_less (L' := [some (.ref (r 0)), some (.int (nI S)), some (.int 2), some (.int (nI n)), some (.ref (r 29)), some (.int (bI (sepU S A (a + 1)))), some (.int (nI (a + 1))), none, none, none, none, none]) ⟨Or.inr rfl, Or.inr rfl, Or.inr rfl, Or.inr rfl, Or.inr rfl, Or.inr rfl, Or.inr (by rw [← nI_inc]), Or.inl rfl, Or.inl rfl, Or.inl rfl, Or.inl rfl, Or.inl rfl, trivial⟩ ?_
      exact ih (a + 1) (by omega) (by omega)
    · skip
      refine j_iload_n dX0_parts_28 rfl ?_
      refine j_iload dX0_parts_29 rfl ?_
      refine j_callSi (c_X0_has _ _) dX0_parts_31 pmX0_has q1035 q1036 rfl ⟨Nat.le_of_ble_eq_true rfl, Nat.le_of_ble_eq_true rfl⟩ ⟨Nat.le_of_ble_eq_true rfl, Nat.le_of_ble_eq_true rfl⟩ rfl (Nat.le_of_ble_eq_true rfl) ?_
      refine j_ifb_eq (tgt := 49) dX0_parts_34 (by decide) (fun c34 => ?_) (fun c34 => ?_)
      · skip
        have hj34 : (1 : Int32) = bI (!S.testBit a || pcN (A a) == 1) := by
          have hb9 : S.testBit a = false := by
            cases hq : S.testBit a with
            | false => rfl
            | true => exact absurd ((has_eq S hS a ha8).mpr hq) c34
          rw [hb9]; rfl
        refine j_iconst (v := 1) dX0_parts_49 (by decide) ?_
        refine j_goto (tgt := 54) dX0_parts_50 (by decide) ?_
        exact kj28 _ (by first | exact hj34 | exact hj46)
      · skip
        have c34 : S.testBit a = true := (has_eq S hS a ha8).mp c34
        refine j_aload dX0_parts_37 rfl ?_
        refine j_iload dX0_parts_39 rfl ?_
        refine j_iald 0 a dX0_parts_41 (by first | rfl | assumption) rfl rfl ha8 (by decide) ?_
        refine j_eqi (show _ = nI (A a) from (hA a hae).1) ?_
        refine j_callSi (c_bitCount _) dX0_parts_42 pmJ11_bitCount q1029 q1030 rfl ⟨Nat.le_of_ble_eq_true rfl, Nat.le_of_ble_eq_true rfl⟩ ⟨Nat.le_of_ble_eq_true rfl, Nat.le_of_ble_eq_true rfl⟩ rfl (Nat.le_of_ble_eq_true rfl) ?_
        refine j_eqi (bc_eq _ (hA a hae).2) ?_
        refine j_iconst (v := 1) dX0_parts_45 (by decide) ?_
        refine j_icmp_ne (tgt := 53) dX0_parts_46 (by decide) (fun c46 => ?_) (fun c46 => ?_)
        · skip
          have hj46 : (0 : Int32) = bI (!S.testBit a || pcN (A a) == 1) := by
            have hp9 : (pcN (A a) == 1) = false := by
              simp only [beq_eq_false_iff_ne, ne_eq]
              exact fun q => c46 (by rw [q]; rfl)
            rw [c34, hp9]; rfl
          refine j_iconst (v := 0) dX0_parts_53 (by decide) ?_
          exact kj28 _ (by first | exact hj34 | exact hj46)
        · skip
          have hpc : pcN (A a) < 2 ^ 31 := by
            have := fb_sm_bound (f := fun i => if (A a).testBit i = true then 1 else 0) (c := 1) (n := 8) (fun k _ => by split <;> omega)
            unfold pcN
            omega
          have hj46 : (1 : Int32) = bI (!S.testBit a || pcN (A a) == 1) := by
            have hp9 : (pcN (A a) == 1) = true := by
              simp only [beq_iff_eq]
              exact (nI_eq hpc (by decide)).mp c46
            rw [c34, hp9]; rfl
          refine j_iconst (v := 1) dX0_parts_49 (by decide) ?_
          refine j_goto (tgt := 54) dX0_parts_50 (by decide) ?_
          exact kj28 _ (by first | exact hj34 | exact hj46)
set_option maxHeartbeats 4000000 in
theorem f_parts1 {l : Launch} {D : va_G} {dT : Nat → ClassId} {H0 : Heap} {r : Nat → Nat} {nx : Nat} {g : j_H} {F : Nat → Nat} {V : Nat → Nat → Int32} {nk : Nat} (h60 : g 60 = some (rcell (.ref (r 61)) (r 62) nk)) {kd bs fg m : Nat} {ks : Nat → KY} (hK : fkK r dT g kd bs fg m nk ks) (n S : Nat) (hn : 1 ≤ n ∧ n ≤ 4) (hS : S < 256) (x : Nat → A4) (A : Nat → Nat) (hx : ∀ q, q < nk → V 23 q = nI (encA m (x q)) ∧ okA m (x q)) (hA : ∀ q, q < nk → V 28 q = nI (A q) ∧ A q < 256) (hnk : nk ≤ 8) : MC (gG l D dT H0) yX0_parts cX0_parts 12 (some .boolean) 9 0 0 [.ref (r 0), .int (nI S), .int 1, .int (nI n)] r (fkS r dT g F V) nx (jq_p 1 (bI (prtB (fun k a => stk kd bs m (ks k) a) nk S (n - 1) x A)) r dT g F V nx) := by
  obtain ⟨h61, hD, hkn, ka, h62, hks⟩ := id hK
  have hm := hD.pos
  have hm2 := hD.le
  have hmm := mm_le hm2
  refine MC.ofJ [some (.ref (r 0)), some (.int (nI S)), some (.int 1), some (.int (nI n)), none, none, none, none, none, none, none, none] rfl (Nat.le_of_ble_eq_true rfl) (by decide) ?_
  refine j_aload_n dX0_parts_0 rfl ?_
  refine j_get 18 dX0_parts_1 (by first | rfl | assumption) in_X0 rfl (by decide) q171 rfl ?_
  refine j_iload_n dX0_parts_4 rfl ?_
  refine j_aald (w := .ref (r 28)) 6 1 dX0_parts_5 (by first | rfl | assumption) rfl rfl rfl (by decide) (by decide) rfl ?_
  refine j_astore dX0_parts_6 (by decide) rfl ?_
  refine j_iconst (v := 1) dX0_parts_8 (by decide) ?_
  refine j_istore dX0_parts_9 (by decide) rfl ?_
  refine j_iconst (v := 0) dX0_parts_11 (by decide) ?_
  refine j_istore dX0_parts_12 (by decide) rfl ?_
  refine j_less (L' := [some (.ref (r 0)), some (.int (nI S)), some (.int 1), some (.int (nI n)), some (.ref (r 28)), some (.int (bI (sepU S A 0))), some (.int (nI 0)), none, none, none, none, none]) ⟨Or.inr rfl, Or.inr rfl, Or.inr rfl, Or.inr rfl, Or.inr rfl, Or.inr rfl, Or.inr rfl, Or.inl rfl, Or.inl rfl, Or.inl rfl, Or.inl rfl, Or.inl rfl, trivial⟩ ?_
  refine j_lp1 (fun (a : Nat) => fkS r dT g F V) (fun a => [some (.ref (r 0)), some (.int (nI S)), some (.int 1), some (.int (nI n)), some (.ref (r 28)), some (.int (bI (sepU S A a))), some (.int (nI a)), none, none, none, none, none]) (fun a => a ≤ nk) (fun a => nk - a) ?_ 0 (Nat.zero_le _)
  intro a hak ih
  refine j_iload dX0_parts_14 rfl ?_
  refine j_aload_n dX0_parts_16 rfl ?_
  refine j_get 0 dX0_parts_17 (by first | rfl | assumption) in_X0 rfl (by decide) q153 rfl ?_
  refine j_getN 2 dX0_parts_20 (by first | rfl | assumption) in_X1 rfl (by decide) (fun _ hs => hs.1 _ qn109) rfl ?_
  refine j_icmp_ge (tgt := 63) dX0_parts_23 (by decide) (fun c23 => ?_) (fun c23 => ?_)
  · skip
    have hae : a = nk := by
      have := (nI_leI (by omega) (by omega)).mp c23
      omega
    subst hae
    clear ih
    refine j_iload dX0_parts_63 rfl ?_
    refine j_if_ne (tgt := 73) dX0_parts_65 (by decide) (fun c65 => ?_) (fun c65 => ?_)
    · skip
      have c65 : sepU S A a = true := bI_n.mp c65
      refine j_iload dX0_parts_73 rfl ?_
      refine j_iret dX0_parts_75 rfl (bI_nar _) (Nat.le_refl _) (Nat.le_refl _) ?_
      refine jp_i ?_ (fun _ _ => rfl)
      rw [c65]
      symm
      exact congrArg bI (prt_t c65)
    · skip
      have c65 : sepU S A a = false := bI_0.mp c65
      refine j_iload_n dX0_parts_68 rfl ?_
      refine j_iload_n dX0_parts_69 rfl ?_
      refine j_icmp_ne (tgt := 76) dX0_parts_70 (by decide) (fun c70 => ?_) (fun c70 => ?_)
      · skip
        have c70 : ¬ n = 1 := fun q => c70 (by rw [q]; rfl)
        refine j_iconst (v := 0) dX0_parts_76 (by decide) ?_
        refine j_istore dX0_parts_77 (by decide) rfl ?_
        refine j_iconst (v := 0) dX0_parts_79 (by decide) ?_
        refine j_istore dX0_parts_80 (by decide) rfl ?_
        refine j_less (L' := [some (.ref (r 0)), some (.int (nI S)), some (.int 1), some (.int (nI n)), some (.ref (r 28)), some (.int (bI (sepU S A a))), some (.int (bI (anU (fun key => prtB (fun k a => stk kd bs m (ks k) a) a S (n - 1 - 1) (xN (fun k a => stk kd bs m (ks k) a) a key x) (aN a A (xN (fun k a => stk kd bs m (ks k) a) a key x))) 0))), some (.int (nI 0)), none, none, none, none]) ⟨Or.inr rfl, Or.inr rfl, Or.inr rfl, Or.inr rfl, Or.inr rfl, Or.inr rfl, Or.inr rfl, Or.inr rfl, Or.inl rfl, Or.inl rfl, Or.inl rfl, Or.inl rfl, trivial⟩ ?_
        refine j_lp2 (fun (key : Nat) (V1 : Nat → Nat → Int32) => fkS r dT g F V1) (fun key _ => [some (.ref (r 0)), some (.int (nI S)), some (.int 1), some (.int (nI n)), some (.ref (r 28)), some (.int (bI (sepU S A a))), some (.int (bI (anU (fun key => prtB (fun k a => stk kd bs m (ks k) a) a S (n - 1 - 1) (xN (fun k a => stk kd bs m (ks k) a) a key x) (aN a A (xN (fun k a => stk kd bs m (ks k) a) a key x))) key))), some (.int (nI key)), none, none, none, none]) (fun key V1 => key ≤ a + 1 ∧ ∀ j, ¬ isP 1 j → V1 j = V j) (fun key _ => a + 1 - key) ?_ 0 V ⟨Nat.zero_le _, fun _ _ => rfl⟩
        intro key V1 ⟨hkey, hV1⟩ ih
        have hxA : ∀ q, q < a → V1 23 q = nI (encA m (x q)) := fun q hq => by rw [hV1 23 (by unfold isP; omega)]; exact (hx q hq).1
        have hAA : ∀ q, q < a → V1 28 q = nI (A q) := fun q hq => by rw [hV1 28 (by unfold isP; omega)]; exact (hA q hq).1
        refine j_iload dX0_parts_82 rfl ?_
        refine j_aload_n dX0_parts_84 rfl ?_
        refine j_get 0 dX0_parts_85 (by first | rfl | assumption) in_X0 rfl (by decide) q153 rfl ?_
        refine j_getN 2 dX0_parts_88 (by first | rfl | assumption) in_X1 rfl (by decide) (fun _ hs => hs.1 _ qn109) rfl ?_
        refine j_icmp_gt (tgt := 323) dX0_parts_91 (by decide) (fun c91 => ?_) (fun c91 => ?_)
        · skip
          have hke : key = a + 1 := by
            have := (nI_ltI (by omega) (by omega)).mp c91
            omega
          refine j_iload dX0_parts_323 rfl ?_
          refine j_iret dX0_parts_325 rfl (bI_nar _) (Nat.le_refl _) (Nat.le_refl _) ?_
          refine jp_i ?_ hV1
          have hz : n - 1 = (n - 1 - 1) + 1 := by omega
          have hp9 : prtB (fun k a => stk kd bs m (ks k) a) a S (n - 1) x A = (sepU S A a || anU (fun key => prtB (fun k a => stk kd bs m (ks k) a) a S (n - 1 - 1) (xN (fun k a => stk kd bs m (ks k) a) a key x) (aN a A (xN (fun k a => stk kd bs m (ks k) a) a key x))) (a + 1)) := by rw [hz]; rfl
          rw [hp9, c65, Bool.false_or]
          rw [hke]
        · skip
          have hke : key ≤ a := Nat.le_of_not_lt (fun q => c91 (nI_lt q (by omega)))
          refine j_iload dX0_parts_94 rfl ?_
          refine j_if_ne (tgt := 323) dX0_parts_96 (by decide) (fun c96 => ?_) (fun c96 => ?_)
          · skip
            have hft : anU (fun key => prtB (fun k a => stk kd bs m (ks k) a) a S (n - 1 - 1) (xN (fun k a => stk kd bs m (ks k) a) a key x) (aN a A (xN (fun k a => stk kd bs m (ks k) a) a key x))) key = true := bI_n.mp c96
            refine j_iload dX0_parts_323 rfl ?_
            refine j_iret dX0_parts_325 rfl (bI_nar _) (Nat.le_refl _) (Nat.le_refl _) ?_
            refine jp_i ?_ hV1
            have hz : n - 1 = (n - 1 - 1) + 1 := by omega
            have hp9 : prtB (fun k a => stk kd bs m (ks k) a) a S (n - 1) x A = (sepU S A a || anU (fun key => prtB (fun k a => stk kd bs m (ks k) a) a S (n - 1 - 1) (xN (fun k a => stk kd bs m (ks k) a) a key x) (aN a A (xN (fun k a => stk kd bs m (ks k) a) a key x))) (a + 1)) := by rw [hz]; rfl
            rw [hp9, c65, Bool.false_or]
            have h5 := anU_mono hft (a + 1 - key)
            rw [show key + (a + 1 - key) = a + 1 by omega] at h5
            rw [hft, h5]
          · skip
            have hff : anU (fun key => prtB (fun k a => stk kd bs m (ks k) a) a S (n - 1 - 1) (xN (fun k a => stk kd bs m (ks k) a) a key x) (aN a A (xN (fun k a => stk kd bs m (ks k) a) a key x))) key = false := bI_0.mp c96
            refine j_aload_n dX0_parts_99 rfl ?_
            refine j_get 18 dX0_parts_100 (by first | rfl | assumption) in_X0 rfl (by decide) q171 rfl ?_
            refine j_iload_n dX0_parts_103 rfl ?_
            refine j_iconst (v := 1) dX0_parts_104 (by decide) ?_
            refine j_iadd dX0_parts_105 ?_
            refine j_aald (w := .ref (r 29)) 6 2 dX0_parts_106 (by first | rfl | assumption) rfl rfl (by decide) (by decide) (by decide) rfl ?_
            refine j_astore dX0_parts_107 (by decide) rfl ?_
            refine j_aload dX0_parts_109 rfl ?_
            refine j_iconst (v := 0) dX0_parts_111 (by decide) ?_
            refine j_re rfl rfl (h' := fkS r dT g F (vo V1 [(24, V1 24), (29, V1 29)])) (by rw [vo_same _ (by simp)]) ?_
            refine j_callSv (c_fill2 29 8 0 (V1 29) (by exact rfl) (by decide)) dX0_parts_112 pmJ6_fill_2 q938 q939 rfl ⟨Nat.le_of_ble_eq_true rfl, Nat.le_of_ble_eq_true rfl⟩ ⟨Nat.le_of_ble_eq_true rfl, Nat.le_of_ble_eq_true rfl⟩ rfl (Nat.le_of_ble_eq_true rfl) ?_
            refine j_o1 ?_
            refine j_fkW (f := fun j => if j < 8 then 0 else V1 29 j) (by decide) rfl ?_
            refine j_iconst (v := 0) dX0_parts_115 (by decide) ?_
            refine j_istore dX0_parts_116 (by decide) rfl ?_
            refine j_less (L' := [some (.ref (r 0)), some (.int (nI S)), some (.int 1), some (.int (nI n)), some (.ref (r 28)), some (.int (bI (sepU S A a))), some (.int (bI (anU (fun key => prtB (fun k a => stk kd bs m (ks k) a) a S (n - 1 - 1) (xN (fun k a => stk kd bs m (ks k) a) a key x) (aN a A (xN (fun k a => stk kd bs m (ks k) a) a key x))) key))), some (.int (nI key)), some (.ref (r 29)), some (.int (nI 0)), none, none]) ⟨Or.inr rfl, Or.inr rfl, Or.inr rfl, Or.inr rfl, Or.inr rfl, Or.inr rfl, Or.inr rfl, Or.inr rfl, Or.inr rfl, Or.inr rfl, Or.inl rfl, Or.inl rfl, trivial⟩ ?_
            refine j_lp2 (fun (c : Nat) (fx : Nat → Int32) => fkS r dT g F (vo V1 [(24, fx), (29, fun j => if j < 8 then 0 else V1 29 j)])) (fun c _ => [some (.ref (r 0)), some (.int (nI S)), some (.int 1), some (.int (nI n)), some (.ref (r 28)), some (.int (bI (sepU S A a))), some (.int (bI (anU (fun key => prtB (fun k a => stk kd bs m (ks k) a) a S (n - 1 - 1) (xN (fun k a => stk kd bs m (ks k) a) a key x) (aN a A (xN (fun k a => stk kd bs m (ks k) a) a key x))) key))), some (.int (nI key)), some (.ref (r 29)), some (.int (nI c)), none, none]) (fun c fx => c ≤ a ∧ ∀ q, q < c → fx q = nI (encA m (xN (fun k a => stk kd bs m (ks k) a) a key x q))) (fun c _ => a - c) ?_ 0 (V1 24) ⟨Nat.zero_le _, fun q hq => absurd hq (Nat.not_lt_zero _)⟩
            intro c fx ⟨hcK, hfx⟩ ih2
            refine j_iload dX0_parts_118 rfl ?_
            refine j_aload_n dX0_parts_120 rfl ?_
            refine j_get 0 dX0_parts_121 (by first | rfl | assumption) in_X0 rfl (by decide) q153 rfl ?_
            refine j_getN 2 dX0_parts_124 (by first | rfl | assumption) in_X1 rfl (by decide) (fun _ hs => hs.1 _ qn109) rfl ?_
            refine j_icmp_ge (tgt := 190) dX0_parts_127 (by decide) (fun c127 => ?_) (fun c127 => ?_)
            · skip
              have hce : c = a := by
                have := (nI_leI (by omega) (by omega)).mp c127
                omega
              have hfx2 : ∀ q, q < a → fx q = nI (encA m (xN (fun k a => stk kd bs m (ks k) a) a key x q)) := fun q hq => hfx q (by omega)
              have hyo : ∀ q, q < a → okA m (xN (fun k a => stk kd bs m (ks k) a) a key x q) := fun q hq => stk_ok hD (hks _ (by split <;> omega)).2.2 (hx q hq).2
              refine j_iconst (v := 0) dX0_parts_190 (by decide) ?_
              refine j_istore dX0_parts_191 (by decide) rfl ?_
              refine j_less (L' := [some (.ref (r 0)), some (.int (nI S)), some (.int 1), some (.int (nI n)), some (.ref (r 28)), some (.int (bI (sepU S A a))), some (.int (bI (anU (fun key => prtB (fun k a => stk kd bs m (ks k) a) a S (n - 1 - 1) (xN (fun k a => stk kd bs m (ks k) a) a key x) (aN a A (xN (fun k a => stk kd bs m (ks k) a) a key x))) key))), some (.int (nI key)), some (.ref (r 29)), some (.int (nI 0)), none, none]) ⟨Or.inr rfl, Or.inr rfl, Or.inr rfl, Or.inr rfl, Or.inr rfl, Or.inr rfl, Or.inr rfl, Or.inr rfl, Or.inr rfl, Or.inr rfl, Or.inl rfl, Or.inl rfl, trivial⟩ ?_
              generalize hyE : xN (fun k a => stk kd bs m (ks k) a) a key x = y at *
              refine j_lp2 (fun (c : Nat) (fa : Nat → Int32) => fkS r dT g F (vo V1 [(24, fx), (29, fa)])) (fun c _ => [some (.ref (r 0)), some (.int (nI S)), some (.int 1), some (.int (nI n)), some (.ref (r 28)), some (.int (bI (sepU S A a))), some (.int (bI (anU (fun key => prtB (fun k a => stk kd bs m (ks k) a) a S (n - 1 - 1) (xN (fun k a => stk kd bs m (ks k) a) a key x) (aN a A (xN (fun k a => stk kd bs m (ks k) a) a key x))) key))), some (.int (nI key)), some (.ref (r 29)), some (.int (nI c)), none, none]) (fun c fa => c ≤ a ∧ (∀ q, q < c → fa q = nI (aN a A y q)) ∧ ∀ q, c ≤ q → q < 8 → fa q = 0) (fun c _ => a - c) ?_ 0 _ ⟨Nat.zero_le _, (fun q hq => absurd hq (Nat.not_lt_zero _)), fun q _ hq => if_pos hq⟩
              clear ih2
              intro c fa ⟨hcK, hfa1, hfa2⟩ ih2
              refine j_iload dX0_parts_193 rfl ?_
              refine j_aload_n dX0_parts_195 rfl ?_
              refine j_get 0 dX0_parts_196 (by first | rfl | assumption) in_X0 rfl (by decide) q153 rfl ?_
              refine j_getN 2 dX0_parts_199 (by first | rfl | assumption) in_X1 rfl (by decide) (fun _ hs => hs.1 _ qn109) rfl ?_
              refine j_icmp_ge (tgt := 306) dX0_parts_202 (by decide) (fun c202 => ?_) (fun c202 => ?_)
              · skip
                have hce3 : c = a := by
                  have := (nI_leI (by omega) (by omega)).mp c202
                  omega
                refine j_aload_n dX0_parts_306 rfl ?_
                refine j_iload_n dX0_parts_307 rfl ?_
                refine j_iload_n dX0_parts_308 rfl ?_
                refine j_iconst (v := 1) dX0_parts_309 (by decide) ?_
                refine j_iadd dX0_parts_310 ?_
                refine j_iload_n dX0_parts_311 rfl ?_
                refine j_re rfl (st' := [.int (nI n), .int 2, .int (nI S), .ref (r 0)]) (by rw [show ((1 : Int32) + 1) = 2 by decide]) rfl ?_
                refine j_callV (f_parts2 (V := (vo V1 [(24, fx), (29, fa)])) h60 hK n S (by omega) hS y (aN a A y) (fun q hq => ⟨hfx2 q hq, hyo q hq⟩) (fun q hq => ⟨hfa1 q (by omega), Nat.lt_of_lt_of_le (bsU_lt _) (Nat.le_trans (Nat.pow_le_pow_right (by decide) hnk) (by decide))⟩) hnk) jq_p.isR dX0_parts_312 pmX0_parts q1038 q1040 qs25 (by first | rfl | assumption) rfl rfl rfl ⟨Nat.le_of_ble_eq_true rfl, Nat.le_of_ble_eq_true rfl⟩ ⟨Nat.le_of_ble_eq_true rfl, Nat.le_of_ble_eq_true rfl⟩ rfl (Nat.le_of_ble_eq_true rfl) ?_
                rintro v9 r h9 nx ⟨e9, rfl, rfl, V2, rfl, hV2⟩
                cases e9
                show J _ _ _ _ _ _ _ _ _ _ _ _ (.int _ :: _)
                refine j_istore dX0_parts_315 (by decide) rfl ?_
                refine j_iinc dX0_parts_317 rfl (by decide) rfl ?_
                refine j_goto (tgt := 82) dX0_parts_320 (by decide) ?_
                refine j_less (L' := [some (.ref (r 0)), some (.int (nI S)), some (.int 1), some (.int (nI n)), some (.ref (r 28)), some (.int (bI (sepU S A a))), some (.int (bI (anU (fun key => prtB (fun k a => stk kd bs m (ks k) a) a S (n - 1 - 1) (xN (fun k a => stk kd bs m (ks k) a) a key x) (aN a A (xN (fun k a => stk kd bs m (ks k) a) a key x))) (key + 1)))), some (.int (nI (key + 1))), none, none, none, none]) ⟨Or.inr rfl, Or.inr rfl, Or.inr rfl, Or.inr rfl, Or.inr rfl, Or.inr rfl, Or.inr (by rw [anU, hff, Bool.false_or, hyE]; rfl), Or.inr (by rw [← nI_inc]), Or.inl rfl, Or.inl rfl, Or.inl rfl, Or.inl rfl, trivial⟩ ?_
                refine ih (key + 1) V2 ⟨by omega, fun j hj => ?_⟩ (by omega)
                rw [hV2 j (by unfold isP at hj ⊢; omega)]
                refine (vo_ne ?_).trans (hV1 j hj)
                intro q hq
                simp at hq
                unfold isP at hj
                rcases hq with rfl | rfl
                · show 24 ≠ j; omega
                · show 29 ≠ j; omega
              · skip
                have hqc : c < a := Nat.lt_of_not_le (fun q => c202 (nI_le q (by omega)))
                have hc8 : c < 8 := by omega
                have hyc := encA_lt (hyo c hqc)
                refine j_iconst (v := 0) dX0_parts_205 (by decide) ?_
                refine j_istore dX0_parts_206 (by decide) rfl ?_
                refine j_less (L' := [some (.ref (r 0)), some (.int (nI S)), some (.int 1), some (.int (nI n)), some (.ref (r 28)), some (.int (bI (sepU S A a))), some (.int (bI (anU (fun key => prtB (fun k a => stk kd bs m (ks k) a) a S (n - 1 - 1) (xN (fun k a => stk kd bs m (ks k) a) a key x) (aN a A (xN (fun k a => stk kd bs m (ks k) a) a key x))) key))), some (.int (nI key)), some (.ref (r 29)), some (.int (nI c)), some (.int (nI 0)), none]) ⟨Or.inr rfl, Or.inr rfl, Or.inr rfl, Or.inr rfl, Or.inr rfl, Or.inr rfl, Or.inr rfl, Or.inr rfl, Or.inr rfl, Or.inr rfl, Or.inr rfl, Or.inl rfl, trivial⟩ ?_
                refine j_lp2 (fun (b : Nat) (fa : Nat → Int32) => fkS r dT g F (vo V1 [(24, fx), (29, fa)])) (fun b _ => [some (.ref (r 0)), some (.int (nI S)), some (.int 1), some (.int (nI n)), some (.ref (r 28)), some (.int (bI (sepU S A a))), some (.int (bI (anU (fun key => prtB (fun k a => stk kd bs m (ks k) a) a S (n - 1 - 1) (xN (fun k a => stk kd bs m (ks k) a) a key x) (aN a A (xN (fun k a => stk kd bs m (ks k) a) a key x))) key))), some (.int (nI key)), some (.ref (r 29)), some (.int (nI c)), some (.int (nI b)), none]) (fun b fa => b ≤ a ∧ (∀ q, q < c → fa q = nI (aN a A y q)) ∧ (∀ q, c < q → q < 8 → fa q = 0) ∧ fa c = nI (bsU (lkB A y c) b)) (fun b _ => a - b) ?_ 0 fa ⟨Nat.zero_le _, hfa1, (fun q h1 h2 => hfa2 q (by omega) h2), (hfa2 c (Nat.le_refl _) hc8)⟩
                clear hfa1 hfa2 fa
                intro b fa ⟨hbK, hfa1, hfa2, hfa3⟩ ih3
                refine j_iload dX0_parts_208 rfl ?_
                refine j_aload_n dX0_parts_210 rfl ?_
                refine j_get 0 dX0_parts_211 (by first | rfl | assumption) in_X0 rfl (by decide) q153 rfl ?_
                refine j_getN 2 dX0_parts_214 (by first | rfl | assumption) in_X1 rfl (by decide) (fun _ hs => hs.1 _ qn109) rfl ?_
                refine j_icmp_ge (tgt := 300) dX0_parts_217 (by decide) (fun c217 => ?_) (fun c217 => ?_)
                · skip
                  have hbe : b = a := by
                    have := (nI_leI (by omega) (by omega)).mp c217
                    omega
                  rw [hbe] at hfa3
                  refine j_iinc dX0_parts_300 rfl (by decide) rfl ?_
                  refine j_goto (tgt := 193) dX0_parts_303 (by decide) ?_
                  refine j_less (L' := [some (.ref (r 0)), some (.int (nI S)), some (.int 1), some (.int (nI n)), some (.ref (r 28)), some (.int (bI (sepU S A a))), some (.int (bI (anU (fun key => prtB (fun k a => stk kd bs m (ks k) a) a S (n - 1 - 1) (xN (fun k a => stk kd bs m (ks k) a) a key x) (aN a A (xN (fun k a => stk kd bs m (ks k) a) a key x))) key))), some (.int (nI key)), some (.ref (r 29)), some (.int (nI (c + 1))), none, none]) ⟨Or.inr rfl, Or.inr rfl, Or.inr rfl, Or.inr rfl, Or.inr rfl, Or.inr rfl, Or.inr rfl, Or.inr rfl, Or.inr rfl, Or.inr (by rw [← nI_inc]), Or.inl rfl, Or.inl rfl, trivial⟩ ?_
                  refine ih2 (c + 1) fa ⟨by omega, (fun q hq => ?_), (fun q h1 h2 => hfa2 q (by omega) h2)⟩ (by omega)
                  by_cases hq2 : q = c
                  · subst hq2; exact hfa3
                  · exact hfa1 q (by omega)
                · skip
                  have hqb : b < a := Nat.lt_of_not_le (fun q => c217 (nI_le q (by omega)))
                  have hb8 : b < 8 := by omega
                  have hyb := encA_lt (hyo b hqb)
                  refine j_join (tgt := 271) (fun v => v = bI (lkB A y c b)) (fun v220 hv220 => ?_) (fun kj220 => ?_)
                  · skip
                    refine j_istore dX0_parts_271 (by decide) rfl ?_
                    subst hv220
                    refine j_aload dX0_parts_273 rfl ?_
                    refine j_iload dX0_parts_275 rfl ?_
                    refine j_dup2 dX0_parts_277 rfl rfl ?_
                    refine j_iald 0 c dX0_parts_278 (by first | rfl | assumption) rfl rfl hc8 (by decide) ?_
                    refine j_eqi (show _ = nI (bsU (lkB A y c) b) from hfa3) ?_
                    refine j_join (tgt := 292) (fun v => v = if lkB A y c b = true then (1 : Int32) <<< (nI b &&& 31) else 0) (fun v279 hv279 => ?_) (fun kj279 => ?_)
                    · skip
                      refine j_ior dX0_parts_292 ?_
                      refine j_eqi (or_if hb8 hv279) ?_
                      refine j_iast 0 c dX0_parts_293 (by first | rfl | assumption) rfl rfl hc8 (by decide) ?_
                      refine j_fkW (f := _) (by decide) rfl ?_
                      refine j_iinc dX0_parts_294 rfl (by decide) rfl ?_
                      refine j_goto (tgt := 208) dX0_parts_297 (by decide) ?_
                      refine j_less (L' := [some (.ref (r 0)), some (.int (nI S)), some (.int 1), some (.int (nI n)), some (.ref (r 28)), some (.int (bI (sepU S A a))), some (.int (bI (anU (fun key => prtB (fun k a => stk kd bs m (ks k) a) a S (n - 1 - 1) (xN (fun k a => stk kd bs m (ks k) a) a key x) (aN a A (xN (fun k a => stk kd bs m (ks k) a) a key x))) key))), some (.int (nI key)), some (.ref (r 29)), some (.int (nI c)), some (.int (nI (b + 1))), none]) ⟨Or.inr rfl, Or.inr rfl, Or.inr rfl, Or.inr rfl, Or.inr rfl, Or.inr rfl, Or.inr rfl, Or.inr rfl, Or.inr rfl, Or.inr rfl, Or.inr (by rw [← nI_inc]), Or.inl rfl, trivial⟩ ?_
                      exact ih3 (b + 1) _ ⟨by omega, (fun q hq => (pk_un (by omega)).trans (hfa1 q hq)), (fun q h1 h2 => (pk_un (by omega)).trans (hfa2 q h1 h2)), pk_us⟩ (by omega)
                    · skip
                      refine j_iload dX0_parts_279 rfl ?_
                      refine j_if_eq (tgt := 291) dX0_parts_281 (by decide) (fun c281 => ?_) (fun c281 => ?_)
                      · skip
                        refine j_iconst (v := 0) dX0_parts_291 (by decide) ?_
                        exact kj279 _ (by first | exact (if_pos (bI_n.mp c281)).symm | exact (if_neg (by rw [bI_0.mp c281]; decide)).symm)
                      · skip
                        refine j_iconst (v := 1) dX0_parts_284 (by decide) ?_
                        refine j_iload dX0_parts_285 rfl ?_
                        refine j_ishl dX0_parts_287 ?_
                        refine j_goto (tgt := 292) dX0_parts_288 (by decide) ?_
                        exact kj279 _ (by first | exact (if_pos (bI_n.mp c281)).symm | exact (if_neg (by rw [bI_0.mp c281]; decide)).symm)
                  · skip
                    refine j_aload dX0_parts_220 rfl ?_
                    refine j_iload dX0_parts_222 rfl ?_
                    refine j_iald 0 c dX0_parts_224 (by first | rfl | assumption) rfl rfl hc8 (by decide) ?_
                    refine j_eqi (show _ = nI (A c) from hAA c hqc) ?_
                    refine j_iload dX0_parts_225 rfl ?_
                    refine j_callSi (c_X0_has _ _) dX0_parts_227 pmX0_has q1035 q1036 rfl ⟨Nat.le_of_ble_eq_true rfl, Nat.le_of_ble_eq_true rfl⟩ ⟨Nat.le_of_ble_eq_true rfl, Nat.le_of_ble_eq_true rfl⟩ rfl (Nat.le_of_ble_eq_true rfl) ?_
                    refine j_ifb_eq (tgt := 270) dX0_parts_230 (by decide) (fun c230 => ?_) (fun c230 => ?_)
                    · skip
                      have hj1 : (0 : Int32) = bI (lkB A y c b) := by
                        have hb9 : (A c).testBit b = false := by
                          cases hq : (A c).testBit b with
                          | false => rfl
                          | true => exact absurd ((has_eq _ (hA c hqc).2 b hb8).mpr hq) c230
                        unfold lkB; rw [hb9]; rfl
                      refine j_iconst (v := 0) dX0_parts_270 (by decide) ?_
                      exact kj220 _ (by first | exact hj1 | exact hj2 | exact hj3)
                    · skip
                      have c230 : (A c).testBit b = true := (has_eq _ (hA c hqc).2 b hb8).mp c230
                      refine j_aload_n dX0_parts_233 rfl ?_
                      refine j_aload_n dX0_parts_234 rfl ?_
                      refine j_get 17 dX0_parts_235 (by first | rfl | assumption) in_X0 rfl (by decide) q170 rfl ?_
                      refine j_iload_n dX0_parts_238 rfl ?_
                      refine j_iconst (v := 1) dX0_parts_239 (by decide) ?_
                      refine j_iadd dX0_parts_240 ?_
                      refine j_aald (w := .ref (r 24)) 6 2 dX0_parts_241 (by first | rfl | assumption) rfl rfl (by decide) (by decide) (by decide) rfl ?_
                      refine j_iload dX0_parts_242 rfl ?_
                      refine j_iald 0 c dX0_parts_244 (by first | rfl | assumption) rfl rfl hc8 (by decide) ?_
                      refine j_eqi (show _ = nI (encA m (y c)) from hfx2 c hqc) ?_
                      refine j_callVi (f_shown1 h60 h61 hm hm2 (encA m (y c)) (by omega)) dX0_parts_245 pmX0_shown q771 q773 qs14 (by first | rfl | assumption) rfl rfl rfl ⟨Nat.le_of_ble_eq_true rfl, Nat.le_of_ble_eq_true rfl⟩ ⟨Nat.le_of_ble_eq_true rfl, Nat.le_of_ble_eq_true rfl⟩ rfl (Nat.le_of_ble_eq_true rfl) ?_
                      refine j_eqi (show _ = nI (y c).2.2.1 from congrArg nI (by show sS m (enc m (y c).1 (y c).2.1 (y c).2.2.1 (y c).2.2.2) = _; exact sS_enc (hyo c hqc).2.2.1 (hyo c hqc).2.2.2)) ?_
                      refine j_aload_n dX0_parts_248 rfl ?_
                      refine j_aload_n dX0_parts_249 rfl ?_
                      refine j_get 17 dX0_parts_250 (by first | rfl | assumption) in_X0 rfl (by decide) q170 rfl ?_
                      refine j_iload_n dX0_parts_253 rfl ?_
                      refine j_iconst (v := 1) dX0_parts_254 (by decide) ?_
                      refine j_iadd dX0_parts_255 ?_
                      refine j_aald (w := .ref (r 24)) 6 2 dX0_parts_256 (by first | rfl | assumption) rfl rfl (by decide) (by decide) (by decide) rfl ?_
                      refine j_iload dX0_parts_257 rfl ?_
                      refine j_iald 0 b dX0_parts_259 (by first | rfl | assumption) rfl rfl hb8 (by decide) ?_
                      refine j_eqi (show _ = nI (encA m (y b)) from hfx2 b hqb) ?_
                      refine j_callVi (f_shown1 h60 h61 hm hm2 (encA m (y b)) (by omega)) dX0_parts_260 pmX0_shown q771 q773 qs14 (by first | rfl | assumption) rfl rfl rfl ⟨Nat.le_of_ble_eq_true rfl, Nat.le_of_ble_eq_true rfl⟩ ⟨Nat.le_of_ble_eq_true rfl, Nat.le_of_ble_eq_true rfl⟩ rfl (Nat.le_of_ble_eq_true rfl) ?_
                      refine j_eqi (show _ = nI (y b).2.2.1 from congrArg nI (by show sS m (enc m (y b).1 (y b).2.1 (y b).2.2.1 (y b).2.2.2) = _; exact sS_enc (hyo b hqb).2.2.1 (hyo b hqb).2.2.2)) ?_
                      refine j_icmp_ne (tgt := 270) dX0_parts_263 (by decide) (fun c263 => ?_) (fun c263 => ?_)
                      · skip
                        have hj2 : (0 : Int32) = bI (lkB A y c b) := by
                          have hp9 : ((y c).2.2.1 == (y b).2.2.1) = false := by
                            simp only [beq_eq_false_iff_ne, ne_eq]
                            exact fun q => c263 (by rw [q])
                          unfold lkB; rw [c230, hp9]; rfl
                        refine j_iconst (v := 0) dX0_parts_270 (by decide) ?_
                        exact kj220 _ (by first | exact hj1 | exact hj2 | exact hj3)
                      · skip
                        have hj3 : (1 : Int32) = bI (lkB A y c b) := by
                          have hp9 : ((y c).2.2.1 == (y b).2.2.1) = true := by
                            simp only [beq_iff_eq]
                            exact (nI_eq (by have := (hyo c hqc).2.2.1; omega) (by have := (hyo b hqb).2.2.1; omega)).mp c263
                          unfold lkB; rw [c230, hp9]; rfl
                        refine j_iconst (v := 1) dX0_parts_266 (by decide) ?_
                        refine j_goto (tgt := 271) dX0_parts_267 (by decide) ?_
                        exact kj220 _ (by first | exact hj1 | exact hj2 | exact hj3)
            · skip
              have hce : c < a := Nat.lt_of_not_le (fun q => c127 (nI_le q (by omega)))
              have hc8 : c < 8 := by omega
              have has : (if key = a then c else key) < a := by split <;> omega
              have hxl := encA_lt (hx c hce).2
              refine j_join (tgt := 149) (fun v => v = nI (if key = a then c else key)) (fun v130 hv130 => ?_) (fun kj130 => ?_)
              · skip
                refine j_istore dX0_parts_149 (by decide) rfl ?_
                subst hv130
                refine j_aload_n dX0_parts_151 rfl ?_
                refine j_get 17 dX0_parts_152 (by first | rfl | assumption) in_X0 rfl (by decide) q170 rfl ?_
                refine j_iload_n dX0_parts_155 rfl ?_
                refine j_iconst (v := 1) dX0_parts_156 (by decide) ?_
                refine j_iadd dX0_parts_157 ?_
                refine j_aald (w := .ref (r 24)) 6 2 dX0_parts_158 (by first | rfl | assumption) rfl rfl (by decide) (by decide) (by decide) rfl ?_
                refine j_iload dX0_parts_159 rfl ?_
                refine j_aload_n dX0_parts_161 rfl ?_
                refine j_get 0 dX0_parts_162 (by first | rfl | assumption) in_X0 rfl (by decide) q153 rfl ?_
                refine j_getN 1 dX0_parts_165 (by first | rfl | assumption) in_X1 rfl (by decide) (fun _ hs => hs.1 _ qn107) rfl ?_
                refine j_iload dX0_parts_168 rfl ?_
                refine j_aald (w := .ref (r ((if key = a then c else key) + 63))) 4 (if key = a then c else key) dX0_parts_170 (by first | rfl | assumption) rfl rfl rfl (by omega) (by decide) (by rw [(hks _ has).1]; rfl) ?_
                refine j_aload_n dX0_parts_171 rfl ?_
                refine j_get 17 dX0_parts_172 (by first | rfl | assumption) in_X0 rfl (by decide) q170 rfl ?_
                refine j_iload_n dX0_parts_175 rfl ?_
                refine j_aald (w := .ref (r 23)) 6 1 dX0_parts_176 (by first | rfl | assumption) rfl rfl rfl (by decide) (by decide) rfl ?_
                refine j_iload dX0_parts_177 rfl ?_
                refine j_iald 0 c dX0_parts_179 (by first | rfl | assumption) rfl rfl hc8 (by decide) ?_
                refine j_eqi (show _ = nI (encA m (x c)) from hxA c hce) ?_
                refine j_strike (i := 61) (q := ks (if key = a then c else key)) dX0_parts_180 (by exact (hks _ has).2.1) (by exact h61) hD (hks _ has).2.2 hxl ⟨Nat.le_of_ble_eq_true rfl, Nat.le_of_ble_eq_true rfl, Nat.le_of_ble_eq_true rfl, Nat.le_of_ble_eq_true rfl⟩ (Nat.le_of_ble_eq_true rfl) ?_
                refine j_eqi (show _ = nI (encA m (xN (fun k a => stk kd bs m (ks k) a) a key x c)) by unfold strk xN; rw [decA_encA (hx c hce).2]) ?_
                refine j_iast 0 c dX0_parts_183 (by first | rfl | assumption) rfl rfl hc8 (by decide) ?_
                refine j_fkW (f := _) (by decide) rfl ?_
                refine j_iinc dX0_parts_184 rfl (by decide) rfl ?_
                refine j_goto (tgt := 118) dX0_parts_187 (by decide) ?_
                refine j_less (L' := [some (.ref (r 0)), some (.int (nI S)), some (.int 1), some (.int (nI n)), some (.ref (r 28)), some (.int (bI (sepU S A a))), some (.int (bI (anU (fun key => prtB (fun k a => stk kd bs m (ks k) a) a S (n - 1 - 1) (xN (fun k a => stk kd bs m (ks k) a) a key x) (aN a A (xN (fun k a => stk kd bs m (ks k) a) a key x))) key))), some (.int (nI key)), some (.ref (r 29)), some (.int (nI (c + 1))), none, none]) ⟨Or.inr rfl, Or.inr rfl, Or.inr rfl, Or.inr rfl, Or.inr rfl, Or.inr rfl, Or.inr rfl, Or.inr rfl, Or.inr rfl, Or.inr (by rw [← nI_inc]), Or.inl rfl, Or.inl rfl, trivial⟩ ?_
                refine ih2 (c + 1) _ ⟨by omega, fun q hq => ?_⟩ (by omega)
                by_cases hqc : q = c
                · subst hqc; exact pk_us
                · exact (pk_un hqc).trans (hfx q (by omega))
              · skip
                refine j_iload dX0_parts_130 rfl ?_
                refine j_aload_n dX0_parts_132 rfl ?_
                refine j_get 0 dX0_parts_133 (by first | rfl | assumption) in_X0 rfl (by decide) q153 rfl ?_
                refine j_getN 2 dX0_parts_136 (by first | rfl | assumption) in_X1 rfl (by decide) (fun _ hs => hs.1 _ qn109) rfl ?_
                refine j_icmp_ne (tgt := 147) dX0_parts_139 (by decide) (fun c139 => ?_) (fun c139 => ?_)
                · skip
                  have c139 : ¬ key = a := fun q => c139 (by rw [q])
                  refine j_iload dX0_parts_147 rfl ?_
                  exact kj130 _ (by first | exact congrArg nI (if_pos c139).symm | exact congrArg nI (if_neg c139).symm)
                · skip
                  have c139 : key = a := (nI_eq (by omega) (by omega)).mp c139
                  refine j_iload dX0_parts_142 rfl ?_
                  refine j_goto (tgt := 149) dX0_parts_144 (by decide) ?_
                  exact kj130 _ (by first | exact congrArg nI (if_pos c139).symm | exact congrArg nI (if_neg c139).symm)
      · skip
        have c70 : n = 1 := ((nI_eq (by decide) (by omega)).mp (show nI 1 = nI n from c70)).symm
        refine j_iload dX0_parts_73 rfl ?_
        refine j_iret dX0_parts_75 rfl (bI_nar _) (Nat.le_refl _) (Nat.le_refl _) ?_
        refine jp_i ?_ (fun _ _ => rfl)
        have hz : n - 1 = 0 := by omega
        rw [hz]
        rfl
  · skip
    have hae : a < nk := Nat.lt_of_not_le (fun q => c23 (nI_le q (by omega)))
    have ha8 : a < 8 := by omega
    refine j_iload dX0_parts_26 rfl ?_
    refine j_join (tgt := 54) (fun v => v = bI (!S.testBit a || pcN (A a) == 1)) (fun v28 hv28 => ?_) (fun kj28 => ?_)
    · skip
      refine j_iand dX0_parts_54 ?_
      subst hv28
      refine j_eqi (show _ = bI (sepU S A (a + 1)) from bI_and _ _) ?_
      refine j_istore dX0_parts_55 (by decide) rfl ?_
      refine j_iinc dX0_parts_57 rfl (by decide) rfl ?_
      refine j_goto (tgt := 14) dX0_parts_60 (by decide) ?_
      refine j_less (L' := [some (.ref (r 0)), some (.int (nI S)), some (.int 1), some (.int (nI n)), some (.ref (r 28)), some (.int (bI (sepU S A (a + 1)))), some (.int (nI (a + 1))), none, none, none, none, none]) ⟨Or.inr rfl, Or.inr rfl, Or.inr rfl, Or.inr rfl, Or.inr rfl, Or.inr rfl, Or.inr (by rw [← nI_inc]), Or.inl rfl, Or.inl rfl, Or.inl rfl, Or.inl rfl, Or.inl rfl, trivial⟩ ?_
      exact ih (a + 1) (by omega) (by omega)
    · skip
      refine j_iload_n dX0_parts_28 rfl ?_
      refine j_iload dX0_parts_29 rfl ?_
      refine j_callSi (c_X0_has _ _) dX0_parts_31 pmX0_has q1035 q1036 rfl ⟨Nat.le_of_ble_eq_true rfl, Nat.le_of_ble_eq_true rfl⟩ ⟨Nat.le_of_ble_eq_true rfl, Nat.le_of_ble_eq_true rfl⟩ rfl (Nat.le_of_ble_eq_true rfl) ?_
      refine j_ifb_eq (tgt := 49) dX0_parts_34 (by decide) (fun c34 => ?_) (fun c34 => ?_)
      · skip
        have hj34 : (1 : Int32) = bI (!S.testBit a || pcN (A a) == 1) := by
          have hb9 : S.testBit a = false := by
            cases hq : S.testBit a with
            | false => rfl
            | true => exact absurd ((has_eq S hS a ha8).mpr hq) c34
          rw [hb9]; rfl
        refine j_iconst (v := 1) dX0_parts_49 (by decide) ?_
        refine j_goto (tgt := 54) dX0_parts_50 (by decide) ?_
        exact kj28 _ (by first | exact hj34 | exact hj46)
      · skip
        have c34 : S.testBit a = true := (has_eq S hS a ha8).mp c34
        refine j_aload dX0_parts_37 rfl ?_
        refine j_iload dX0_parts_39 rfl ?_
        refine j_iald 0 a dX0_parts_41 (by first | rfl | assumption) rfl rfl ha8 (by decide) ?_
        refine j_eqi (show _ = nI (A a) from (hA a hae).1) ?_
        refine j_callSi (c_bitCount _) dX0_parts_42 pmJ11_bitCount q1029 q1030 rfl ⟨Nat.le_of_ble_eq_true rfl, Nat.le_of_ble_eq_true rfl⟩ ⟨Nat.le_of_ble_eq_true rfl, Nat.le_of_ble_eq_true rfl⟩ rfl (Nat.le_of_ble_eq_true rfl) ?_
        refine j_eqi (bc_eq _ (hA a hae).2) ?_
        refine j_iconst (v := 1) dX0_parts_45 (by decide) ?_
        refine j_icmp_ne (tgt := 53) dX0_parts_46 (by decide) (fun c46 => ?_) (fun c46 => ?_)
        · skip
          have hj46 : (0 : Int32) = bI (!S.testBit a || pcN (A a) == 1) := by
            have hp9 : (pcN (A a) == 1) = false := by
              simp only [beq_eq_false_iff_ne, ne_eq]
              exact fun q => c46 (by rw [q]; rfl)
            rw [c34, hp9]; rfl
          refine j_iconst (v := 0) dX0_parts_53 (by decide) ?_
          exact kj28 _ (by first | exact hj34 | exact hj46)
        · skip
          have hpc : pcN (A a) < 2 ^ 31 := by
            have := fb_sm_bound (f := fun i => if (A a).testBit i = true then 1 else 0) (c := 1) (n := 8) (fun k _ => by split <;> omega)
            unfold pcN
            omega
          have hj46 : (1 : Int32) = bI (!S.testBit a || pcN (A a) == 1) := by
            have hp9 : (pcN (A a) == 1) = true := by
              simp only [beq_iff_eq]
              exact (nI_eq hpc (by decide)).mp c46
            rw [c34, hp9]; rfl
          refine j_iconst (v := 1) dX0_parts_49 (by decide) ?_
          refine j_goto (tgt := 54) dX0_parts_50 (by decide) ?_
          exact kj28 _ (by first | exact hj34 | exact hj46)
set_option maxHeartbeats 4000000 in
theorem f_parts0 {l : Launch} {D : va_G} {dT : Nat → ClassId} {H0 : Heap} {r : Nat → Nat} {nx : Nat} {g : j_H} {F : Nat → Nat} {V : Nat → Nat → Int32} {nk : Nat} (h60 : g 60 = some (rcell (.ref (r 61)) (r 62) nk)) {kd bs fg m : Nat} {ks : Nat → KY} (hK : fkK r dT g kd bs fg m nk ks) (n S : Nat) (hn : 0 ≤ n ∧ n ≤ 4) (hS : S < 256) (x : Nat → A4) (A : Nat → Nat) (hx : ∀ q, q < nk → V 22 q = nI (encA m (x q)) ∧ okA m (x q)) (hA : ∀ q, q < nk → V 27 q = nI (A q) ∧ A q < 256) (hnk : nk ≤ 8) : MC (gG l D dT H0) yX0_parts cX0_parts 12 (some .boolean) 10 0 0 [.ref (r 0), .int (nI S), .int 0, .int (nI n)] r (fkS r dT g F V) nx (jq_p 0 (bI (prtB (fun k a => stk kd bs m (ks k) a) nk S (n - 0) x A)) r dT g F V nx) := by
  obtain ⟨h61, hD, hkn, ka, h62, hks⟩ := id hK
  have hm := hD.pos
  have hm2 := hD.le
  have hmm := mm_le hm2
  refine MC.ofJ [some (.ref (r 0)), some (.int (nI S)), some (.int 0), some (.int (nI n)), none, none, none, none, none, none, none, none] rfl (Nat.le_of_ble_eq_true rfl) (by decide) ?_
  refine j_aload_n dX0_parts_0 rfl ?_
  refine j_get 18 dX0_parts_1 (by first | rfl | assumption) in_X0 rfl (by decide) q171 rfl ?_
  refine j_iload_n dX0_parts_4 rfl ?_
  refine j_aald (w := .ref (r 27)) 6 0 dX0_parts_5 (by first | rfl | assumption) rfl rfl rfl (by decide) (by decide) rfl ?_
  refine j_astore dX0_parts_6 (by decide) rfl ?_
  refine j_iconst (v := 1) dX0_parts_8 (by decide) ?_
  refine j_istore dX0_parts_9 (by decide) rfl ?_
  refine j_iconst (v := 0) dX0_parts_11 (by decide) ?_
  refine j_istore dX0_parts_12 (by decide) rfl ?_
  refine j_less (L' := [some (.ref (r 0)), some (.int (nI S)), some (.int 0), some (.int (nI n)), some (.ref (r 27)), some (.int (bI (sepU S A 0))), some (.int (nI 0)), none, none, none, none, none]) ⟨Or.inr rfl, Or.inr rfl, Or.inr rfl, Or.inr rfl, Or.inr rfl, Or.inr rfl, Or.inr rfl, Or.inl rfl, Or.inl rfl, Or.inl rfl, Or.inl rfl, Or.inl rfl, trivial⟩ ?_
  refine j_lp1 (fun (a : Nat) => fkS r dT g F V) (fun a => [some (.ref (r 0)), some (.int (nI S)), some (.int 0), some (.int (nI n)), some (.ref (r 27)), some (.int (bI (sepU S A a))), some (.int (nI a)), none, none, none, none, none]) (fun a => a ≤ nk) (fun a => nk - a) ?_ 0 (Nat.zero_le _)
  intro a hak ih
  refine j_iload dX0_parts_14 rfl ?_
  refine j_aload_n dX0_parts_16 rfl ?_
  refine j_get 0 dX0_parts_17 (by first | rfl | assumption) in_X0 rfl (by decide) q153 rfl ?_
  refine j_getN 2 dX0_parts_20 (by first | rfl | assumption) in_X1 rfl (by decide) (fun _ hs => hs.1 _ qn109) rfl ?_
  refine j_icmp_ge (tgt := 63) dX0_parts_23 (by decide) (fun c23 => ?_) (fun c23 => ?_)
  · skip
    have hae : a = nk := by
      have := (nI_leI (by omega) (by omega)).mp c23
      omega
    subst hae
    clear ih
    refine j_iload dX0_parts_63 rfl ?_
    refine j_if_ne (tgt := 73) dX0_parts_65 (by decide) (fun c65 => ?_) (fun c65 => ?_)
    · skip
      have c65 : sepU S A a = true := bI_n.mp c65
      refine j_iload dX0_parts_73 rfl ?_
      refine j_iret dX0_parts_75 rfl (bI_nar _) (Nat.le_refl _) (Nat.le_refl _) ?_
      refine jp_i ?_ (fun _ _ => rfl)
      rw [c65]
      symm
      exact congrArg bI (prt_t c65)
    · skip
      have c65 : sepU S A a = false := bI_0.mp c65
      refine j_iload_n dX0_parts_68 rfl ?_
      refine j_iload_n dX0_parts_69 rfl ?_
      refine j_icmp_ne (tgt := 76) dX0_parts_70 (by decide) (fun c70 => ?_) (fun c70 => ?_)
      · skip
        have c70 : ¬ n = 0 := fun q => c70 (by rw [q]; rfl)
        refine j_iconst (v := 0) dX0_parts_76 (by decide) ?_
        refine j_istore dX0_parts_77 (by decide) rfl ?_
        refine j_iconst (v := 0) dX0_parts_79 (by decide) ?_
        refine j_istore dX0_parts_80 (by decide) rfl ?_
        refine j_less (L' := [some (.ref (r 0)), some (.int (nI S)), some (.int 0), some (.int (nI n)), some (.ref (r 27)), some (.int (bI (sepU S A a))), some (.int (bI (anU (fun key => prtB (fun k a => stk kd bs m (ks k) a) a S (n - 0 - 1) (xN (fun k a => stk kd bs m (ks k) a) a key x) (aN a A (xN (fun k a => stk kd bs m (ks k) a) a key x))) 0))), some (.int (nI 0)), none, none, none, none]) ⟨Or.inr rfl, Or.inr rfl, Or.inr rfl, Or.inr rfl, Or.inr rfl, Or.inr rfl, Or.inr rfl, Or.inr rfl, Or.inl rfl, Or.inl rfl, Or.inl rfl, Or.inl rfl, trivial⟩ ?_
        refine j_lp2 (fun (key : Nat) (V1 : Nat → Nat → Int32) => fkS r dT g F V1) (fun key _ => [some (.ref (r 0)), some (.int (nI S)), some (.int 0), some (.int (nI n)), some (.ref (r 27)), some (.int (bI (sepU S A a))), some (.int (bI (anU (fun key => prtB (fun k a => stk kd bs m (ks k) a) a S (n - 0 - 1) (xN (fun k a => stk kd bs m (ks k) a) a key x) (aN a A (xN (fun k a => stk kd bs m (ks k) a) a key x))) key))), some (.int (nI key)), none, none, none, none]) (fun key V1 => key ≤ a + 1 ∧ ∀ j, ¬ isP 0 j → V1 j = V j) (fun key _ => a + 1 - key) ?_ 0 V ⟨Nat.zero_le _, fun _ _ => rfl⟩
        intro key V1 ⟨hkey, hV1⟩ ih
        have hxA : ∀ q, q < a → V1 22 q = nI (encA m (x q)) := fun q hq => by rw [hV1 22 (by unfold isP; omega)]; exact (hx q hq).1
        have hAA : ∀ q, q < a → V1 27 q = nI (A q) := fun q hq => by rw [hV1 27 (by unfold isP; omega)]; exact (hA q hq).1
        refine j_iload dX0_parts_82 rfl ?_
        refine j_aload_n dX0_parts_84 rfl ?_
        refine j_get 0 dX0_parts_85 (by first | rfl | assumption) in_X0 rfl (by decide) q153 rfl ?_
        refine j_getN 2 dX0_parts_88 (by first | rfl | assumption) in_X1 rfl (by decide) (fun _ hs => hs.1 _ qn109) rfl ?_
        refine j_icmp_gt (tgt := 323) dX0_parts_91 (by decide) (fun c91 => ?_) (fun c91 => ?_)
        · skip
          have hke : key = a + 1 := by
            have := (nI_ltI (by omega) (by omega)).mp c91
            omega
          refine j_iload dX0_parts_323 rfl ?_
          refine j_iret dX0_parts_325 rfl (bI_nar _) (Nat.le_refl _) (Nat.le_refl _) ?_
          refine jp_i ?_ hV1
          have hz : n - 0 = (n - 0 - 1) + 1 := by omega
          have hp9 : prtB (fun k a => stk kd bs m (ks k) a) a S (n - 0) x A = (sepU S A a || anU (fun key => prtB (fun k a => stk kd bs m (ks k) a) a S (n - 0 - 1) (xN (fun k a => stk kd bs m (ks k) a) a key x) (aN a A (xN (fun k a => stk kd bs m (ks k) a) a key x))) (a + 1)) := by rw [hz]; rfl
          rw [hp9, c65, Bool.false_or]
          rw [hke]
        · skip
          have hke : key ≤ a := Nat.le_of_not_lt (fun q => c91 (nI_lt q (by omega)))
          refine j_iload dX0_parts_94 rfl ?_
          refine j_if_ne (tgt := 323) dX0_parts_96 (by decide) (fun c96 => ?_) (fun c96 => ?_)
          · skip
            have hft : anU (fun key => prtB (fun k a => stk kd bs m (ks k) a) a S (n - 0 - 1) (xN (fun k a => stk kd bs m (ks k) a) a key x) (aN a A (xN (fun k a => stk kd bs m (ks k) a) a key x))) key = true := bI_n.mp c96
            refine j_iload dX0_parts_323 rfl ?_
            refine j_iret dX0_parts_325 rfl (bI_nar _) (Nat.le_refl _) (Nat.le_refl _) ?_
            refine jp_i ?_ hV1
            have hz : n - 0 = (n - 0 - 1) + 1 := by omega
            have hp9 : prtB (fun k a => stk kd bs m (ks k) a) a S (n - 0) x A = (sepU S A a || anU (fun key => prtB (fun k a => stk kd bs m (ks k) a) a S (n - 0 - 1) (xN (fun k a => stk kd bs m (ks k) a) a key x) (aN a A (xN (fun k a => stk kd bs m (ks k) a) a key x))) (a + 1)) := by rw [hz]; rfl
            rw [hp9, c65, Bool.false_or]
            have h5 := anU_mono hft (a + 1 - key)
            rw [show key + (a + 1 - key) = a + 1 by omega] at h5
            rw [hft, h5]
          · skip
            have hff : anU (fun key => prtB (fun k a => stk kd bs m (ks k) a) a S (n - 0 - 1) (xN (fun k a => stk kd bs m (ks k) a) a key x) (aN a A (xN (fun k a => stk kd bs m (ks k) a) a key x))) key = false := bI_0.mp c96
            refine j_aload_n dX0_parts_99 rfl ?_
            refine j_get 18 dX0_parts_100 (by first | rfl | assumption) in_X0 rfl (by decide) q171 rfl ?_
            refine j_iload_n dX0_parts_103 rfl ?_
            refine j_iconst (v := 1) dX0_parts_104 (by decide) ?_
            refine j_iadd dX0_parts_105 ?_
            refine j_aald (w := .ref (r 28)) 6 1 dX0_parts_106 (by first | rfl | assumption) rfl rfl (by decide) (by decide) (by decide) rfl ?_
            refine j_astore dX0_parts_107 (by decide) rfl ?_
            refine j_aload dX0_parts_109 rfl ?_
            refine j_iconst (v := 0) dX0_parts_111 (by decide) ?_
            refine j_re rfl rfl (h' := fkS r dT g F (vo V1 [(23, V1 23), (28, V1 28)])) (by rw [vo_same _ (by simp)]) ?_
            refine j_callSv (c_fill2 28 8 0 (V1 28) (by exact rfl) (by decide)) dX0_parts_112 pmJ6_fill_2 q938 q939 rfl ⟨Nat.le_of_ble_eq_true rfl, Nat.le_of_ble_eq_true rfl⟩ ⟨Nat.le_of_ble_eq_true rfl, Nat.le_of_ble_eq_true rfl⟩ rfl (Nat.le_of_ble_eq_true rfl) ?_
            refine j_o1 ?_
            refine j_fkW (f := fun j => if j < 8 then 0 else V1 28 j) (by decide) rfl ?_
            refine j_iconst (v := 0) dX0_parts_115 (by decide) ?_
            refine j_istore dX0_parts_116 (by decide) rfl ?_
            refine j_less (L' := [some (.ref (r 0)), some (.int (nI S)), some (.int 0), some (.int (nI n)), some (.ref (r 27)), some (.int (bI (sepU S A a))), some (.int (bI (anU (fun key => prtB (fun k a => stk kd bs m (ks k) a) a S (n - 0 - 1) (xN (fun k a => stk kd bs m (ks k) a) a key x) (aN a A (xN (fun k a => stk kd bs m (ks k) a) a key x))) key))), some (.int (nI key)), some (.ref (r 28)), some (.int (nI 0)), none, none]) ⟨Or.inr rfl, Or.inr rfl, Or.inr rfl, Or.inr rfl, Or.inr rfl, Or.inr rfl, Or.inr rfl, Or.inr rfl, Or.inr rfl, Or.inr rfl, Or.inl rfl, Or.inl rfl, trivial⟩ ?_
            refine j_lp2 (fun (c : Nat) (fx : Nat → Int32) => fkS r dT g F (vo V1 [(23, fx), (28, fun j => if j < 8 then 0 else V1 28 j)])) (fun c _ => [some (.ref (r 0)), some (.int (nI S)), some (.int 0), some (.int (nI n)), some (.ref (r 27)), some (.int (bI (sepU S A a))), some (.int (bI (anU (fun key => prtB (fun k a => stk kd bs m (ks k) a) a S (n - 0 - 1) (xN (fun k a => stk kd bs m (ks k) a) a key x) (aN a A (xN (fun k a => stk kd bs m (ks k) a) a key x))) key))), some (.int (nI key)), some (.ref (r 28)), some (.int (nI c)), none, none]) (fun c fx => c ≤ a ∧ ∀ q, q < c → fx q = nI (encA m (xN (fun k a => stk kd bs m (ks k) a) a key x q))) (fun c _ => a - c) ?_ 0 (V1 23) ⟨Nat.zero_le _, fun q hq => absurd hq (Nat.not_lt_zero _)⟩
            intro c fx ⟨hcK, hfx⟩ ih2
            refine j_iload dX0_parts_118 rfl ?_
            refine j_aload_n dX0_parts_120 rfl ?_
            refine j_get 0 dX0_parts_121 (by first | rfl | assumption) in_X0 rfl (by decide) q153 rfl ?_
            refine j_getN 2 dX0_parts_124 (by first | rfl | assumption) in_X1 rfl (by decide) (fun _ hs => hs.1 _ qn109) rfl ?_
            refine j_icmp_ge (tgt := 190) dX0_parts_127 (by decide) (fun c127 => ?_) (fun c127 => ?_)
            · skip
              have hce : c = a := by
                have := (nI_leI (by omega) (by omega)).mp c127
                omega
              have hfx2 : ∀ q, q < a → fx q = nI (encA m (xN (fun k a => stk kd bs m (ks k) a) a key x q)) := fun q hq => hfx q (by omega)
              have hyo : ∀ q, q < a → okA m (xN (fun k a => stk kd bs m (ks k) a) a key x q) := fun q hq => stk_ok hD (hks _ (by split <;> omega)).2.2 (hx q hq).2
              refine j_iconst (v := 0) dX0_parts_190 (by decide) ?_
              refine j_istore dX0_parts_191 (by decide) rfl ?_
              refine j_less (L' := [some (.ref (r 0)), some (.int (nI S)), some (.int 0), some (.int (nI n)), some (.ref (r 27)), some (.int (bI (sepU S A a))), some (.int (bI (anU (fun key => prtB (fun k a => stk kd bs m (ks k) a) a S (n - 0 - 1) (xN (fun k a => stk kd bs m (ks k) a) a key x) (aN a A (xN (fun k a => stk kd bs m (ks k) a) a key x))) key))), some (.int (nI key)), some (.ref (r 28)), some (.int (nI 0)), none, none]) ⟨Or.inr rfl, Or.inr rfl, Or.inr rfl, Or.inr rfl, Or.inr rfl, Or.inr rfl, Or.inr rfl, Or.inr rfl, Or.inr rfl, Or.inr rfl, Or.inl rfl, Or.inl rfl, trivial⟩ ?_
              generalize hyE : xN (fun k a => stk kd bs m (ks k) a) a key x = y at *
              refine j_lp2 (fun (c : Nat) (fa : Nat → Int32) => fkS r dT g F (vo V1 [(23, fx), (28, fa)])) (fun c _ => [some (.ref (r 0)), some (.int (nI S)), some (.int 0), some (.int (nI n)), some (.ref (r 27)), some (.int (bI (sepU S A a))), some (.int (bI (anU (fun key => prtB (fun k a => stk kd bs m (ks k) a) a S (n - 0 - 1) (xN (fun k a => stk kd bs m (ks k) a) a key x) (aN a A (xN (fun k a => stk kd bs m (ks k) a) a key x))) key))), some (.int (nI key)), some (.ref (r 28)), some (.int (nI c)), none, none]) (fun c fa => c ≤ a ∧ (∀ q, q < c → fa q = nI (aN a A y q)) ∧ ∀ q, c ≤ q → q < 8 → fa q = 0) (fun c _ => a - c) ?_ 0 _ ⟨Nat.zero_le _, (fun q hq => absurd hq (Nat.not_lt_zero _)), fun q _ hq => if_pos hq⟩
              clear ih2
              intro c fa ⟨hcK, hfa1, hfa2⟩ ih2
              refine j_iload dX0_parts_193 rfl ?_
              refine j_aload_n dX0_parts_195 rfl ?_
              refine j_get 0 dX0_parts_196 (by first | rfl | assumption) in_X0 rfl (by decide) q153 rfl ?_
              refine j_getN 2 dX0_parts_199 (by first | rfl | assumption) in_X1 rfl (by decide) (fun _ hs => hs.1 _ qn109) rfl ?_
              refine j_icmp_ge (tgt := 306) dX0_parts_202 (by decide) (fun c202 => ?_) (fun c202 => ?_)
              · skip
                have hce3 : c = a := by
                  have := (nI_leI (by omega) (by omega)).mp c202
                  omega
                refine j_aload_n dX0_parts_306 rfl ?_
                refine j_iload_n dX0_parts_307 rfl ?_
                refine j_iload_n dX0_parts_308 rfl ?_
                refine j_iconst (v := 1) dX0_parts_309 (by decide) ?_
                refine j_iadd dX0_parts_310 ?_
                refine j_iload_n dX0_parts_311 rfl ?_
                refine j_re rfl (st' := [.int (nI n), .int 1, .int (nI S), .ref (r 0)]) (by rw [show ((0 : Int32) + 1) = 1 by decide]) rfl ?_
                refine j_callV (f_parts1 (V := (vo V1 [(23, fx), (28, fa)])) h60 hK n S (by omega) hS y (aN a A y) (fun q hq => ⟨hfx2 q hq, hyo q hq⟩) (fun q hq => ⟨hfa1 q (by omega), Nat.lt_of_lt_of_le (bsU_lt _) (Nat.le_trans (Nat.pow_le_pow_right (by decide) hnk) (by decide))⟩) hnk) jq_p.isR dX0_parts_312 pmX0_parts q1038 q1040 qs25 (by first | rfl | assumption) rfl rfl rfl ⟨Nat.le_of_ble_eq_true rfl, Nat.le_of_ble_eq_true rfl⟩ ⟨Nat.le_of_ble_eq_true rfl, Nat.le_of_ble_eq_true rfl⟩ rfl (Nat.le_of_ble_eq_true rfl) ?_
                rintro v9 r h9 nx ⟨e9, rfl, rfl, V2, rfl, hV2⟩
                cases e9
                show J _ _ _ _ _ _ _ _ _ _ _ _ (.int _ :: _)
                refine j_istore dX0_parts_315 (by decide) rfl ?_
                refine j_iinc dX0_parts_317 rfl (by decide) rfl ?_
                refine j_goto (tgt := 82) dX0_parts_320 (by decide) ?_
                refine j_less (L' := [some (.ref (r 0)), some (.int (nI S)), some (.int 0), some (.int (nI n)), some (.ref (r 27)), some (.int (bI (sepU S A a))), some (.int (bI (anU (fun key => prtB (fun k a => stk kd bs m (ks k) a) a S (n - 0 - 1) (xN (fun k a => stk kd bs m (ks k) a) a key x) (aN a A (xN (fun k a => stk kd bs m (ks k) a) a key x))) (key + 1)))), some (.int (nI (key + 1))), none, none, none, none]) ⟨Or.inr rfl, Or.inr rfl, Or.inr rfl, Or.inr rfl, Or.inr rfl, Or.inr rfl, Or.inr (by rw [anU, hff, Bool.false_or, hyE]; rfl), Or.inr (by rw [← nI_inc]), Or.inl rfl, Or.inl rfl, Or.inl rfl, Or.inl rfl, trivial⟩ ?_
                refine ih (key + 1) V2 ⟨by omega, fun j hj => ?_⟩ (by omega)
                rw [hV2 j (by unfold isP at hj ⊢; omega)]
                refine (vo_ne ?_).trans (hV1 j hj)
                intro q hq
                simp at hq
                unfold isP at hj
                rcases hq with rfl | rfl
                · show 23 ≠ j; omega
                · show 28 ≠ j; omega
              · skip
                have hqc : c < a := Nat.lt_of_not_le (fun q => c202 (nI_le q (by omega)))
                have hc8 : c < 8 := by omega
                have hyc := encA_lt (hyo c hqc)
                refine j_iconst (v := 0) dX0_parts_205 (by decide) ?_
                refine j_istore dX0_parts_206 (by decide) rfl ?_
                refine j_less (L' := [some (.ref (r 0)), some (.int (nI S)), some (.int 0), some (.int (nI n)), some (.ref (r 27)), some (.int (bI (sepU S A a))), some (.int (bI (anU (fun key => prtB (fun k a => stk kd bs m (ks k) a) a S (n - 0 - 1) (xN (fun k a => stk kd bs m (ks k) a) a key x) (aN a A (xN (fun k a => stk kd bs m (ks k) a) a key x))) key))), some (.int (nI key)), some (.ref (r 28)), some (.int (nI c)), some (.int (nI 0)), none]) ⟨Or.inr rfl, Or.inr rfl, Or.inr rfl, Or.inr rfl, Or.inr rfl, Or.inr rfl, Or.inr rfl, Or.inr rfl, Or.inr rfl, Or.inr rfl, Or.inr rfl, Or.inl rfl, trivial⟩ ?_
                refine j_lp2 (fun (b : Nat) (fa : Nat → Int32) => fkS r dT g F (vo V1 [(23, fx), (28, fa)])) (fun b _ => [some (.ref (r 0)), some (.int (nI S)), some (.int 0), some (.int (nI n)), some (.ref (r 27)), some (.int (bI (sepU S A a))), some (.int (bI (anU (fun key => prtB (fun k a => stk kd bs m (ks k) a) a S (n - 0 - 1) (xN (fun k a => stk kd bs m (ks k) a) a key x) (aN a A (xN (fun k a => stk kd bs m (ks k) a) a key x))) key))), some (.int (nI key)), some (.ref (r 28)), some (.int (nI c)), some (.int (nI b)), none]) (fun b fa => b ≤ a ∧ (∀ q, q < c → fa q = nI (aN a A y q)) ∧ (∀ q, c < q → q < 8 → fa q = 0) ∧ fa c = nI (bsU (lkB A y c) b)) (fun b _ => a - b) ?_ 0 fa ⟨Nat.zero_le _, hfa1, (fun q h1 h2 => hfa2 q (by omega) h2), (hfa2 c (Nat.le_refl _) hc8)⟩
                clear hfa1 hfa2 fa
                intro b fa ⟨hbK, hfa1, hfa2, hfa3⟩ ih3
                refine j_iload dX0_parts_208 rfl ?_
                refine j_aload_n dX0_parts_210 rfl ?_
                refine j_get 0 dX0_parts_211 (by first | rfl | assumption) in_X0 rfl (by decide) q153 rfl ?_
                refine j_getN 2 dX0_parts_214 (by first | rfl | assumption) in_X1 rfl (by decide) (fun _ hs => hs.1 _ qn109) rfl ?_
                refine j_icmp_ge (tgt := 300) dX0_parts_217 (by decide) (fun c217 => ?_) (fun c217 => ?_)
                · skip
                  have hbe : b = a := by
                    have := (nI_leI (by omega) (by omega)).mp c217
                    omega
                  rw [hbe] at hfa3
                  refine j_iinc dX0_parts_300 rfl (by decide) rfl ?_
                  refine j_goto (tgt := 193) dX0_parts_303 (by decide) ?_
                  refine j_less (L' := [some (.ref (r 0)), some (.int (nI S)), some (.int 0), some (.int (nI n)), some (.ref (r 27)), some (.int (bI (sepU S A a))), some (.int (bI (anU (fun key => prtB (fun k a => stk kd bs m (ks k) a) a S (n - 0 - 1) (xN (fun k a => stk kd bs m (ks k) a) a key x) (aN a A (xN (fun k a => stk kd bs m (ks k) a) a key x))) key))), some (.int (nI key)), some (.ref (r 28)), some (.int (nI (c + 1))), none, none]) ⟨Or.inr rfl, Or.inr rfl, Or.inr rfl, Or.inr rfl, Or.inr rfl, Or.inr rfl, Or.inr rfl, Or.inr rfl, Or.inr rfl, Or.inr (by rw [← nI_inc]), Or.inl rfl, Or.inl rfl, trivial⟩ ?_
                  refine ih2 (c + 1) fa ⟨by omega, (fun q hq => ?_), (fun q h1 h2 => hfa2 q (by omega) h2)⟩ (by omega)
                  by_cases hq2 : q = c
                  · subst hq2; exact hfa3
                  · exact hfa1 q (by omega)
                · skip
                  have hqb : b < a := Nat.lt_of_not_le (fun q => c217 (nI_le q (by omega)))
                  have hb8 : b < 8 := by omega
                  have hyb := encA_lt (hyo b hqb)
                  refine j_join (tgt := 271) (fun v => v = bI (lkB A y c b)) (fun v220 hv220 => ?_) (fun kj220 => ?_)
                  · skip
                    refine j_istore dX0_parts_271 (by decide) rfl ?_
                    subst hv220
                    refine j_aload dX0_parts_273 rfl ?_
                    refine j_iload dX0_parts_275 rfl ?_
                    refine j_dup2 dX0_parts_277 rfl rfl ?_
                    refine j_iald 0 c dX0_parts_278 (by first | rfl | assumption) rfl rfl hc8 (by decide) ?_
                    refine j_eqi (show _ = nI (bsU (lkB A y c) b) from hfa3) ?_
                    refine j_join (tgt := 292) (fun v => v = if lkB A y c b = true then (1 : Int32) <<< (nI b &&& 31) else 0) (fun v279 hv279 => ?_) (fun kj279 => ?_)
                    · skip
                      refine j_ior dX0_parts_292 ?_
                      refine j_eqi (or_if hb8 hv279) ?_
                      refine j_iast 0 c dX0_parts_293 (by first | rfl | assumption) rfl rfl hc8 (by decide) ?_
                      refine j_fkW (f := _) (by decide) rfl ?_
                      refine j_iinc dX0_parts_294 rfl (by decide) rfl ?_
                      refine j_goto (tgt := 208) dX0_parts_297 (by decide) ?_
                      refine j_less (L' := [some (.ref (r 0)), some (.int (nI S)), some (.int 0), some (.int (nI n)), some (.ref (r 27)), some (.int (bI (sepU S A a))), some (.int (bI (anU (fun key => prtB (fun k a => stk kd bs m (ks k) a) a S (n - 0 - 1) (xN (fun k a => stk kd bs m (ks k) a) a key x) (aN a A (xN (fun k a => stk kd bs m (ks k) a) a key x))) key))), some (.int (nI key)), some (.ref (r 28)), some (.int (nI c)), some (.int (nI (b + 1))), none]) ⟨Or.inr rfl, Or.inr rfl, Or.inr rfl, Or.inr rfl, Or.inr rfl, Or.inr rfl, Or.inr rfl, Or.inr rfl, Or.inr rfl, Or.inr rfl, Or.inr (by rw [← nI_inc]), Or.inl rfl, trivial⟩ ?_
                      exact ih3 (b + 1) _ ⟨by omega, (fun q hq => (pk_un (by omega)).trans (hfa1 q hq)), (fun q h1 h2 => (pk_un (by omega)).trans (hfa2 q h1 h2)), pk_us⟩ (by omega)
                    · skip
                      refine j_iload dX0_parts_279 rfl ?_
                      refine j_if_eq (tgt := 291) dX0_parts_281 (by decide) (fun c281 => ?_) (fun c281 => ?_)
                      · skip
                        refine j_iconst (v := 0) dX0_parts_291 (by decide) ?_
                        exact kj279 _ (by first | exact (if_pos (bI_n.mp c281)).symm | exact (if_neg (by rw [bI_0.mp c281]; decide)).symm)
                      · skip
                        refine j_iconst (v := 1) dX0_parts_284 (by decide) ?_
                        refine j_iload dX0_parts_285 rfl ?_
                        refine j_ishl dX0_parts_287 ?_
                        refine j_goto (tgt := 292) dX0_parts_288 (by decide) ?_
                        exact kj279 _ (by first | exact (if_pos (bI_n.mp c281)).symm | exact (if_neg (by rw [bI_0.mp c281]; decide)).symm)
                  · skip
                    refine j_aload dX0_parts_220 rfl ?_
                    refine j_iload dX0_parts_222 rfl ?_
                    refine j_iald 0 c dX0_parts_224 (by first | rfl | assumption) rfl rfl hc8 (by decide) ?_
                    refine j_eqi (show _ = nI (A c) from hAA c hqc) ?_
                    refine j_iload dX0_parts_225 rfl ?_
                    refine j_callSi (c_X0_has _ _) dX0_parts_227 pmX0_has q1035 q1036 rfl ⟨Nat.le_of_ble_eq_true rfl, Nat.le_of_ble_eq_true rfl⟩ ⟨Nat.le_of_ble_eq_true rfl, Nat.le_of_ble_eq_true rfl⟩ rfl (Nat.le_of_ble_eq_true rfl) ?_
                    refine j_ifb_eq (tgt := 270) dX0_parts_230 (by decide) (fun c230 => ?_) (fun c230 => ?_)
                    · skip
                      have hj1 : (0 : Int32) = bI (lkB A y c b) := by
                        have hb9 : (A c).testBit b = false := by
                          cases hq : (A c).testBit b with
                          | false => rfl
                          | true => exact absurd ((has_eq _ (hA c hqc).2 b hb8).mpr hq) c230
                        unfold lkB; rw [hb9]; rfl
                      refine j_iconst (v := 0) dX0_parts_270 (by decide) ?_
                      exact kj220 _ (by first | exact hj1 | exact hj2 | exact hj3)
                    · skip
                      have c230 : (A c).testBit b = true := (has_eq _ (hA c hqc).2 b hb8).mp c230
                      refine j_aload_n dX0_parts_233 rfl ?_
                      refine j_aload_n dX0_parts_234 rfl ?_
                      refine j_get 17 dX0_parts_235 (by first | rfl | assumption) in_X0 rfl (by decide) q170 rfl ?_
                      refine j_iload_n dX0_parts_238 rfl ?_
                      refine j_iconst (v := 1) dX0_parts_239 (by decide) ?_
                      refine j_iadd dX0_parts_240 ?_
                      refine j_aald (w := .ref (r 23)) 6 1 dX0_parts_241 (by first | rfl | assumption) rfl rfl (by decide) (by decide) (by decide) rfl ?_
                      refine j_iload dX0_parts_242 rfl ?_
                      refine j_iald 0 c dX0_parts_244 (by first | rfl | assumption) rfl rfl hc8 (by decide) ?_
                      refine j_eqi (show _ = nI (encA m (y c)) from hfx2 c hqc) ?_
                      refine j_callVi (f_shown1 h60 h61 hm hm2 (encA m (y c)) (by omega)) dX0_parts_245 pmX0_shown q771 q773 qs14 (by first | rfl | assumption) rfl rfl rfl ⟨Nat.le_of_ble_eq_true rfl, Nat.le_of_ble_eq_true rfl⟩ ⟨Nat.le_of_ble_eq_true rfl, Nat.le_of_ble_eq_true rfl⟩ rfl (Nat.le_of_ble_eq_true rfl) ?_
                      refine j_eqi (show _ = nI (y c).2.2.1 from congrArg nI (by show sS m (enc m (y c).1 (y c).2.1 (y c).2.2.1 (y c).2.2.2) = _; exact sS_enc (hyo c hqc).2.2.1 (hyo c hqc).2.2.2)) ?_
                      refine j_aload_n dX0_parts_248 rfl ?_
                      refine j_aload_n dX0_parts_249 rfl ?_
                      refine j_get 17 dX0_parts_250 (by first | rfl | assumption) in_X0 rfl (by decide) q170 rfl ?_
                      refine j_iload_n dX0_parts_253 rfl ?_
                      refine j_iconst (v := 1) dX0_parts_254 (by decide) ?_
                      refine j_iadd dX0_parts_255 ?_
                      refine j_aald (w := .ref (r 23)) 6 1 dX0_parts_256 (by first | rfl | assumption) rfl rfl (by decide) (by decide) (by decide) rfl ?_
                      refine j_iload dX0_parts_257 rfl ?_
                      refine j_iald 0 b dX0_parts_259 (by first | rfl | assumption) rfl rfl hb8 (by decide) ?_
                      refine j_eqi (show _ = nI (encA m (y b)) from hfx2 b hqb) ?_
                      refine j_callVi (f_shown1 h60 h61 hm hm2 (encA m (y b)) (by omega)) dX0_parts_260 pmX0_shown q771 q773 qs14 (by first | rfl | assumption) rfl rfl rfl ⟨Nat.le_of_ble_eq_true rfl, Nat.le_of_ble_eq_true rfl⟩ ⟨Nat.le_of_ble_eq_true rfl, Nat.le_of_ble_eq_true rfl⟩ rfl (Nat.le_of_ble_eq_true rfl) ?_
                      refine j_eqi (show _ = nI (y b).2.2.1 from congrArg nI (by show sS m (enc m (y b).1 (y b).2.1 (y b).2.2.1 (y b).2.2.2) = _; exact sS_enc (hyo b hqb).2.2.1 (hyo b hqb).2.2.2)) ?_
                      refine j_icmp_ne (tgt := 270) dX0_parts_263 (by decide) (fun c263 => ?_) (fun c263 => ?_)
                      · skip
                        have hj2 : (0 : Int32) = bI (lkB A y c b) := by
                          have hp9 : ((y c).2.2.1 == (y b).2.2.1) = false := by
                            simp only [beq_eq_false_iff_ne, ne_eq]
                            exact fun q => c263 (by rw [q])
                          unfold lkB; rw [c230, hp9]; rfl
                        refine j_iconst (v := 0) dX0_parts_270 (by decide) ?_
                        exact kj220 _ (by first | exact hj1 | exact hj2 | exact hj3)
                      · skip
                        have hj3 : (1 : Int32) = bI (lkB A y c b) := by
                          have hp9 : ((y c).2.2.1 == (y b).2.2.1) = true := by
                            simp only [beq_iff_eq]
                            exact (nI_eq (by have := (hyo c hqc).2.2.1; omega) (by have := (hyo b hqb).2.2.1; omega)).mp c263
                          unfold lkB; rw [c230, hp9]; rfl
                        refine j_iconst (v := 1) dX0_parts_266 (by decide) ?_
                        refine j_goto (tgt := 271) dX0_parts_267 (by decide) ?_
                        exact kj220 _ (by first | exact hj1 | exact hj2 | exact hj3)
            · skip
              have hce : c < a := Nat.lt_of_not_le (fun q => c127 (nI_le q (by omega)))
              have hc8 : c < 8 := by omega
              have has : (if key = a then c else key) < a := by split <;> omega
              have hxl := encA_lt (hx c hce).2
              refine j_join (tgt := 149) (fun v => v = nI (if key = a then c else key)) (fun v130 hv130 => ?_) (fun kj130 => ?_)
              · skip
                refine j_istore dX0_parts_149 (by decide) rfl ?_
                subst hv130
                refine j_aload_n dX0_parts_151 rfl ?_
                refine j_get 17 dX0_parts_152 (by first | rfl | assumption) in_X0 rfl (by decide) q170 rfl ?_
                refine j_iload_n dX0_parts_155 rfl ?_
                refine j_iconst (v := 1) dX0_parts_156 (by decide) ?_
                refine j_iadd dX0_parts_157 ?_
                refine j_aald (w := .ref (r 23)) 6 1 dX0_parts_158 (by first | rfl | assumption) rfl rfl (by decide) (by decide) (by decide) rfl ?_
                refine j_iload dX0_parts_159 rfl ?_
                refine j_aload_n dX0_parts_161 rfl ?_
                refine j_get 0 dX0_parts_162 (by first | rfl | assumption) in_X0 rfl (by decide) q153 rfl ?_
                refine j_getN 1 dX0_parts_165 (by first | rfl | assumption) in_X1 rfl (by decide) (fun _ hs => hs.1 _ qn107) rfl ?_
                refine j_iload dX0_parts_168 rfl ?_
                refine j_aald (w := .ref (r ((if key = a then c else key) + 63))) 4 (if key = a then c else key) dX0_parts_170 (by first | rfl | assumption) rfl rfl rfl (by omega) (by decide) (by rw [(hks _ has).1]; rfl) ?_
                refine j_aload_n dX0_parts_171 rfl ?_
                refine j_get 17 dX0_parts_172 (by first | rfl | assumption) in_X0 rfl (by decide) q170 rfl ?_
                refine j_iload_n dX0_parts_175 rfl ?_
                refine j_aald (w := .ref (r 22)) 6 0 dX0_parts_176 (by first | rfl | assumption) rfl rfl rfl (by decide) (by decide) rfl ?_
                refine j_iload dX0_parts_177 rfl ?_
                refine j_iald 0 c dX0_parts_179 (by first | rfl | assumption) rfl rfl hc8 (by decide) ?_
                refine j_eqi (show _ = nI (encA m (x c)) from hxA c hce) ?_
                refine j_strike (i := 61) (q := ks (if key = a then c else key)) dX0_parts_180 (by exact (hks _ has).2.1) (by exact h61) hD (hks _ has).2.2 hxl ⟨Nat.le_of_ble_eq_true rfl, Nat.le_of_ble_eq_true rfl, Nat.le_of_ble_eq_true rfl, Nat.le_of_ble_eq_true rfl⟩ (Nat.le_of_ble_eq_true rfl) ?_
                refine j_eqi (show _ = nI (encA m (xN (fun k a => stk kd bs m (ks k) a) a key x c)) by unfold strk xN; rw [decA_encA (hx c hce).2]) ?_
                refine j_iast 0 c dX0_parts_183 (by first | rfl | assumption) rfl rfl hc8 (by decide) ?_
                refine j_fkW (f := _) (by decide) rfl ?_
                refine j_iinc dX0_parts_184 rfl (by decide) rfl ?_
                refine j_goto (tgt := 118) dX0_parts_187 (by decide) ?_
                refine j_less (L' := [some (.ref (r 0)), some (.int (nI S)), some (.int 0), some (.int (nI n)), some (.ref (r 27)), some (.int (bI (sepU S A a))), some (.int (bI (anU (fun key => prtB (fun k a => stk kd bs m (ks k) a) a S (n - 0 - 1) (xN (fun k a => stk kd bs m (ks k) a) a key x) (aN a A (xN (fun k a => stk kd bs m (ks k) a) a key x))) key))), some (.int (nI key)), some (.ref (r 28)), some (.int (nI (c + 1))), none, none]) ⟨Or.inr rfl, Or.inr rfl, Or.inr rfl, Or.inr rfl, Or.inr rfl, Or.inr rfl, Or.inr rfl, Or.inr rfl, Or.inr rfl, Or.inr (by rw [← nI_inc]), Or.inl rfl, Or.inl rfl, trivial⟩ ?_
                refine ih2 (c + 1) _ ⟨by omega, fun q hq => ?_⟩ (by omega)
                by_cases hqc : q = c
                · subst hqc; exact pk_us
                · exact (pk_un hqc).trans (hfx q (by omega))
              · skip
                refine j_iload dX0_parts_130 rfl ?_
                refine j_aload_n dX0_parts_132 rfl ?_
                refine j_get 0 dX0_parts_133 (by first | rfl | assumption) in_X0 rfl (by decide) q153 rfl ?_
                refine j_getN 2 dX0_parts_136 (by first | rfl | assumption) in_X1 rfl (by decide) (fun _ hs => hs.1 _ qn109) rfl ?_
                refine j_icmp_ne (tgt := 147) dX0_parts_139 (by decide) (fun c139 => ?_) (fun c139 => ?_)
                · skip
                  have c139 : ¬ key = a := fun q => c139 (by rw [q])
                  refine j_iload dX0_parts_147 rfl ?_
                  exact kj130 _ (by first | exact congrArg nI (if_pos c139).symm | exact congrArg nI (if_neg c139).symm)
                · skip
                  have c139 : key = a := (nI_eq (by omega) (by omega)).mp c139
                  refine j_iload dX0_parts_142 rfl ?_
                  refine j_goto (tgt := 149) dX0_parts_144 (by decide) ?_
                  exact kj130 _ (by first | exact congrArg nI (if_pos c139).symm | exact congrArg nI (if_neg c139).symm)
      · skip
        have c70 : n = 0 := ((nI_eq (by decide) (by omega)).mp (show nI 0 = nI n from c70)).symm
        refine j_iload dX0_parts_73 rfl ?_
        refine j_iret dX0_parts_75 rfl (bI_nar _) (Nat.le_refl _) (Nat.le_refl _) ?_
        refine jp_i ?_ (fun _ _ => rfl)
        have hz : n - 0 = 0 := by omega
        rw [hz]
        rfl
  · skip
    have hae : a < nk := Nat.lt_of_not_le (fun q => c23 (nI_le q (by omega)))
    have ha8 : a < 8 := by omega
    refine j_iload dX0_parts_26 rfl ?_
    refine j_join (tgt := 54) (fun v => v = bI (!S.testBit a || pcN (A a) == 1)) (fun v28 hv28 => ?_) (fun kj28 => ?_)
    · skip
      refine j_iand dX0_parts_54 ?_
      subst hv28
      refine j_eqi (show _ = bI (sepU S A (a + 1)) from bI_and _ _) ?_
      refine j_istore dX0_parts_55 (by decide) rfl ?_
      refine j_iinc dX0_parts_57 rfl (by decide) rfl ?_
      refine j_goto (tgt := 14) dX0_parts_60 (by decide) ?_
      refine j_less (L' := [some (.ref (r 0)), some (.int (nI S)), some (.int 0), some (.int (nI n)), some (.ref (r 27)), some (.int (bI (sepU S A (a + 1)))), some (.int (nI (a + 1))), none, none, none, none, none]) ⟨Or.inr rfl, Or.inr rfl, Or.inr rfl, Or.inr rfl, Or.inr rfl, Or.inr rfl, Or.inr (by rw [← nI_inc]), Or.inl rfl, Or.inl rfl, Or.inl rfl, Or.inl rfl, Or.inl rfl, trivial⟩ ?_
      exact ih (a + 1) (by omega) (by omega)
    · skip
      refine j_iload_n dX0_parts_28 rfl ?_
      refine j_iload dX0_parts_29 rfl ?_
      refine j_callSi (c_X0_has _ _) dX0_parts_31 pmX0_has q1035 q1036 rfl ⟨Nat.le_of_ble_eq_true rfl, Nat.le_of_ble_eq_true rfl⟩ ⟨Nat.le_of_ble_eq_true rfl, Nat.le_of_ble_eq_true rfl⟩ rfl (Nat.le_of_ble_eq_true rfl) ?_
      refine j_ifb_eq (tgt := 49) dX0_parts_34 (by decide) (fun c34 => ?_) (fun c34 => ?_)
      · skip
        have hj34 : (1 : Int32) = bI (!S.testBit a || pcN (A a) == 1) := by
          have hb9 : S.testBit a = false := by
            cases hq : S.testBit a with
            | false => rfl
            | true => exact absurd ((has_eq S hS a ha8).mpr hq) c34
          rw [hb9]; rfl
        refine j_iconst (v := 1) dX0_parts_49 (by decide) ?_
        refine j_goto (tgt := 54) dX0_parts_50 (by decide) ?_
        exact kj28 _ (by first | exact hj34 | exact hj46)
      · skip
        have c34 : S.testBit a = true := (has_eq S hS a ha8).mp c34
        refine j_aload dX0_parts_37 rfl ?_
        refine j_iload dX0_parts_39 rfl ?_
        refine j_iald 0 a dX0_parts_41 (by first | rfl | assumption) rfl rfl ha8 (by decide) ?_
        refine j_eqi (show _ = nI (A a) from (hA a hae).1) ?_
        refine j_callSi (c_bitCount _) dX0_parts_42 pmJ11_bitCount q1029 q1030 rfl ⟨Nat.le_of_ble_eq_true rfl, Nat.le_of_ble_eq_true rfl⟩ ⟨Nat.le_of_ble_eq_true rfl, Nat.le_of_ble_eq_true rfl⟩ rfl (Nat.le_of_ble_eq_true rfl) ?_
        refine j_eqi (bc_eq _ (hA a hae).2) ?_
        refine j_iconst (v := 1) dX0_parts_45 (by decide) ?_
        refine j_icmp_ne (tgt := 53) dX0_parts_46 (by decide) (fun c46 => ?_) (fun c46 => ?_)
        · skip
          have hj46 : (0 : Int32) = bI (!S.testBit a || pcN (A a) == 1) := by
            have hp9 : (pcN (A a) == 1) = false := by
              simp only [beq_eq_false_iff_ne, ne_eq]
              exact fun q => c46 (by rw [q]; rfl)
            rw [c34, hp9]; rfl
          refine j_iconst (v := 0) dX0_parts_53 (by decide) ?_
          exact kj28 _ (by first | exact hj34 | exact hj46)
        · skip
          have hpc : pcN (A a) < 2 ^ 31 := by
            have := fb_sm_bound (f := fun i => if (A a).testBit i = true then 1 else 0) (c := 1) (n := 8) (fun k _ => by split <;> omega)
            unfold pcN
            omega
          have hj46 : (1 : Int32) = bI (!S.testBit a || pcN (A a) == 1) := by
            have hp9 : (pcN (A a) == 1) = true := by
              simp only [beq_iff_eq]
              exact (nI_eq hpc (by decide)).mp c46
            rw [c34, hp9]; rfl
          refine j_iconst (v := 1) dX0_parts_49 (by decide) ?_
          refine j_goto (tgt := 54) dX0_parts_50 (by decide) ?_
          exact kj28 _ (by first | exact hj34 | exact hj46)
theorem pcN_le (x : Nat) : pcN x ≤ 8 := by
  have := fb_sm_bound (f := fun i => if x.testBit i = true then 1 else 0) (c := 1) (n := 8) (fun k _ => by split <;> omega)
  unfold pcN
  omega
def lsF (P : Nat → Bool) : Nat → Nat → Int32
  | 0, _ => -1
  | k + 1, n => if P n = true then nI n else lsF P k (n + 1)
def isL (j : Nat) : Prop := 22 ≤ j ∧ j ≤ 31
def jq_z (v : Int32) (r : Nat → Nat) (dT : Nat → ClassId) (g : j_H) (F : Nat → Nat) (V : Nat → Nat → Int32) (nx : Nat) : j_Q := fun o r' h' nx' => o = .returned (some (.int v)) ∧ r' = r ∧ nx' = nx ∧ ∃ V' : Nat → Nat → Int32, h' = fkS r dT g F V' ∧ ∀ j, ¬ isL j → V' j = V j
theorem jq_z.isR {v : Int32} {r : Nat → Nat} {dT : Nat → ClassId} {g : j_H} {F : Nat → Nat} {V : Nat → Nat → Int32} {nx : Nat} : j_isR (jq_z v r dT g F V nx) := fun _ _ _ _ hq => ⟨_, hq.1⟩
theorem jz_i {v w : Int32} {r : Nat → Nat} {dT : Nat → ClassId} {g : j_H} {F : Nat → Nat} {V V' : Nat → Nat → Int32} {nx : Nat} (e : w = v) (h : ∀ j, ¬ isL j → V' j = V j) : jq_z v r dT g F V nx (.returned (some (.int w))) r (fkS r dT g F V') nx := ⟨by rw [e], rfl, rfl, V', rfl, h⟩
def alk (S : Nat) (a : Nat) : Nat := if S.testBit a = true then S else 0
def lstV (stp : Nat → A4 → A4) (K S : Nat) (s : A4) : Int32 := lsF (fun n => prtB stp K S n (fun _ => s) (alk S)) 4 1
theorem pw_sh {k : Nat} (hk : k ≤ 8) : (1 : Int32) <<< (nI k &&& 31) - 1 = nI (2 ^ k - 1) := by
  have : ∀ b, b < 9 → (1 : Int32) <<< (nI b &&& 31) - 1 = nI (2 ^ b - 1) := by decide +kernel
  exact this k (by omega)
set_option maxHeartbeats 4000000 in
theorem f_losto {l : Launch} {D : va_G} {dT : Nat → ClassId} {H0 : Heap} {r : Nat → Nat} {nx : Nat} {g : j_H} {F : Nat → Nat} {V : Nat → Nat → Int32} {d0 : Value} {a0 nk : Nat} (h60 : g 60 = some (rcell d0 a0 nk)) (hnk : nk ≤ 8) (v : Int32) (hv : ¬ (0 ≤ v ∧ v ≤ nI (2 ^ nk - 1))) : MC (gG l D dT H0) yX0_lost cX0_lost 3 (some .int) 11 0 0 [.ref (r 0), .int v] r (fkS r dT g F V) nx (jq_i (-1000000001) r (fkS r dT g F V) nx) := by
  refine MC.ofJ [some (.ref (r 0)), some (.int v), none] rfl (Nat.le_of_ble_eq_true rfl) (by decide) ?_
  refine j_iload_n dX0_lost_0 rfl ?_
  refine j_iconst (v := 0) dX0_lost_1 (by decide) ?_
  refine j_iconst (v := 1) dX0_lost_2 (by decide) ?_
  refine j_aload_n dX0_lost_3 rfl ?_
  refine j_get 0 dX0_lost_4 (by first | rfl | assumption) in_X0 rfl (by decide) q153 rfl ?_
  refine j_getN 2 dX0_lost_7 (by first | rfl | assumption) in_X1 rfl (by decide) (fun _ hs => hs.1 _ qn109) rfl ?_
  refine j_ishl dX0_lost_10 ?_
  refine j_iconst (v := 1) dX0_lost_11 (by decide) ?_
  refine j_isub dX0_lost_12 ?_
  refine j_eqi (pw_sh hnk) ?_
  refine j_callSi (c_X0_isIn _ _ _) dX0_lost_13 pmX0_isIn q220 q221 rfl ⟨Nat.le_of_ble_eq_true rfl, Nat.le_of_ble_eq_true rfl⟩ ⟨Nat.le_of_ble_eq_true rfl, Nat.le_of_ble_eq_true rfl⟩ rfl (Nat.le_of_ble_eq_true rfl) ?_
  refine j_ifb_ne (tgt := 22) dX0_lost_16 (by decide) (fun c16 => absurd c16 hv) (fun c16 => ?_)
  refine j_ldc dX0_lost_19 q795 ?_
  refine j_iret dX0_lost_21 rfl rfl (Nat.le_refl _) (Nat.le_refl _) ?_
  exact jr_i rfl
set_option maxHeartbeats 4000000 in
theorem f_lostp {l : Launch} {D : va_G} {dT : Nat → ClassId} {H0 : Heap} {r : Nat → Nat} {nx : Nat} {g : j_H} {F : Nat → Nat} {V : Nat → Nat → Int32} {d0 : Value} {a0 nk : Nat} (h60 : g 60 = some (rcell d0 a0 nk)) (hnk : nk ≤ 8) (S : Nat) (hv : 0 ≤ nI S ∧ nI S ≤ nI (2 ^ nk - 1)) (hS : S < 256) (hp : pcN S < 2) : MC (gG l D dT H0) yX0_lost cX0_lost 3 (some .int) 11 0 0 [.ref (r 0), .int (nI S)] r (fkS r dT g F V) nx (jq_i (-1000000002) r (fkS r dT g F V) nx) := by
  refine MC.ofJ [some (.ref (r 0)), some (.int (nI S)), none] rfl (Nat.le_of_ble_eq_true rfl) (by decide) ?_
  refine j_iload_n dX0_lost_0 rfl ?_
  refine j_iconst (v := 0) dX0_lost_1 (by decide) ?_
  refine j_iconst (v := 1) dX0_lost_2 (by decide) ?_
  refine j_aload_n dX0_lost_3 rfl ?_
  refine j_get 0 dX0_lost_4 (by first | rfl | assumption) in_X0 rfl (by decide) q153 rfl ?_
  refine j_getN 2 dX0_lost_7 (by first | rfl | assumption) in_X1 rfl (by decide) (fun _ hs => hs.1 _ qn109) rfl ?_
  refine j_ishl dX0_lost_10 ?_
  refine j_iconst (v := 1) dX0_lost_11 (by decide) ?_
  refine j_isub dX0_lost_12 ?_
  refine j_eqi (pw_sh hnk) ?_
  refine j_callSi (c_X0_isIn _ _ _) dX0_lost_13 pmX0_isIn q220 q221 rfl ⟨Nat.le_of_ble_eq_true rfl, Nat.le_of_ble_eq_true rfl⟩ ⟨Nat.le_of_ble_eq_true rfl, Nat.le_of_ble_eq_true rfl⟩ rfl (Nat.le_of_ble_eq_true rfl) ?_
  refine j_ifb_ne (tgt := 22) dX0_lost_16 (by decide) (fun c16 => ?_) (fun c16 => absurd hv c16)
  refine j_iload_n dX0_lost_22 rfl ?_
  refine j_callSi (c_bitCount _) dX0_lost_23 pmJ11_bitCount q1029 q1030 rfl ⟨Nat.le_of_ble_eq_true rfl, Nat.le_of_ble_eq_true rfl⟩ ⟨Nat.le_of_ble_eq_true rfl, Nat.le_of_ble_eq_true rfl⟩ rfl (Nat.le_of_ble_eq_true rfl) ?_
  refine j_eqi (bc_eq _ hS) ?_
  refine j_iconst (v := 2) dX0_lost_26 (by decide) ?_
  refine j_icmp_ge (tgt := 33) dX0_lost_27 (by decide) (fun c27 => ?_) (fun c27 => ?_)
  · skip
    exact absurd ((nI_leI (by decide) (by omega)).mp (show nI 2 ≤ nI (pcN S) from c27)) (by omega)
    skip
  · skip
    refine j_ldc dX0_lost_30 q223 ?_
    refine j_iret dX0_lost_32 rfl rfl (Nat.le_refl _) (Nat.le_refl _) ?_
    exact jr_i rfl
set_option maxHeartbeats 4000000 in
theorem f_lost1 {l : Launch} {D : va_G} {dT : Nat → ClassId} {H0 : Heap} {r : Nat → Nat} {nx : Nat} {g : j_H} {F : Nat → Nat} {V : Nat → Nat → Int32} {nk : Nat} (h60 : g 60 = some (rcell (.ref (r 61)) (r 62) nk)) {kd bs fg m : Nat} {ks : Nat → KY} (hK : fkK r dT g kd bs fg m nk ks) (hnk : nk ≤ 8) (S : Nat) (hv : 0 ≤ nI S ∧ nI S ≤ nI (2 ^ nk - 1)) (hS : S < 256) (hp : 2 ≤ pcN S) (hs : F 0 < 8 * m * m) : MC (gG l D dT H0) yX0_lost cX0_lost 3 (some .int) 11 0 0 [.ref (r 0), .int (nI S)] r (fkS r dT g F V) nx (jq_z (lstV (fun k a => stk kd bs m (ks k) a) nk S (decA m (F 0))) r dT g F V nx) := by
  obtain ⟨h61, hD, hkn, ka, h62, hks⟩ := id hK
  have hm := hD.pos
  have hm2 := hD.le
  have hmm := mm_le hm2
  refine MC.ofJ [some (.ref (r 0)), some (.int (nI S)), none] rfl (Nat.le_of_ble_eq_true rfl) (by decide) ?_
  refine j_iload_n dX0_lost_0 rfl ?_
  refine j_iconst (v := 0) dX0_lost_1 (by decide) ?_
  refine j_iconst (v := 1) dX0_lost_2 (by decide) ?_
  refine j_aload_n dX0_lost_3 rfl ?_
  refine j_get 0 dX0_lost_4 (by first | rfl | assumption) in_X0 rfl (by decide) q153 rfl ?_
  refine j_getN 2 dX0_lost_7 (by first | rfl | assumption) in_X1 rfl (by decide) (fun _ hs => hs.1 _ qn109) rfl ?_
  refine j_ishl dX0_lost_10 ?_
  refine j_iconst (v := 1) dX0_lost_11 (by decide) ?_
  refine j_isub dX0_lost_12 ?_
  refine j_eqi (pw_sh hnk) ?_
  refine j_callSi (c_X0_isIn _ _ _) dX0_lost_13 pmX0_isIn q220 q221 rfl ⟨Nat.le_of_ble_eq_true rfl, Nat.le_of_ble_eq_true rfl⟩ ⟨Nat.le_of_ble_eq_true rfl, Nat.le_of_ble_eq_true rfl⟩ rfl (Nat.le_of_ble_eq_true rfl) ?_
  refine j_ifb_ne (tgt := 22) dX0_lost_16 (by decide) (fun c16 => ?_) (fun c16 => absurd hv c16)
  refine j_iload_n dX0_lost_22 rfl ?_
  refine j_callSi (c_bitCount _) dX0_lost_23 pmJ11_bitCount q1029 q1030 rfl ⟨Nat.le_of_ble_eq_true rfl, Nat.le_of_ble_eq_true rfl⟩ ⟨Nat.le_of_ble_eq_true rfl, Nat.le_of_ble_eq_true rfl⟩ rfl (Nat.le_of_ble_eq_true rfl) ?_
  refine j_eqi (bc_eq _ hS) ?_
  refine j_iconst (v := 2) dX0_lost_26 (by decide) ?_
  refine j_icmp_ge (tgt := 33) dX0_lost_27 (by decide) (fun c27 => ?_) (fun c27 => absurd (nI_le hp (by have := pcN_le S; omega)) c27)
  refine j_iconst (v := 0) dX0_lost_33 (by decide) ?_
  refine j_istore_n dX0_lost_34 (by decide) rfl ?_
  refine j_re rfl rfl (h' := fkS r dT g F (vo V [(22, V 22), (27, V 27)])) (by rw [vo_same _ (by simp)]) ?_
  refine j_less (L' := [some (.ref (r 0)), some (.int (nI S)), some (.int (nI 0))]) ⟨Or.inr rfl, Or.inr rfl, Or.inr rfl, trivial⟩ ?_
  refine j_lp2 (fun (a : Nat) (ff : (Nat → Int32) × (Nat → Int32)) => fkS r dT g F (vo V [(22, ff.1), (27, ff.2)])) (fun a _ => [some (.ref (r 0)), some (.int (nI S)), some (.int (nI a))]) (fun a ff => a ≤ nk ∧ ∀ q, q < a → ff.1 q = nI (F 0) ∧ ff.2 q = nI (alk S q)) (fun a _ => nk - a) ?_ 0 (V 22, V 27) ⟨Nat.zero_le _, fun q hq => absurd hq (Nat.not_lt_zero _)⟩
  rintro a ⟨fx, fa⟩ ⟨hak, hff⟩ ih
  refine j_iload_n dX0_lost_35 rfl ?_
  refine j_aload_n dX0_lost_36 rfl ?_
  refine j_get 0 dX0_lost_37 (by first | rfl | assumption) in_X0 rfl (by decide) q153 rfl ?_
  refine j_getN 2 dX0_lost_40 (by first | rfl | assumption) in_X1 rfl (by decide) (fun _ hs => hs.1 _ qn109) rfl ?_
  refine j_icmp_ge (tgt := 88) dX0_lost_43 (by decide) (fun c43 => ?_) (fun c43 => ?_)
  · skip
    have hae : a = nk := by
      have := (nI_leI (by omega) (by omega)).mp c43
      omega
    subst hae
    refine j_iconst (v := 1) dX0_lost_88 (by decide) ?_
    refine j_istore_n dX0_lost_89 (by decide) rfl ?_
    clear ih
    generalize hV0 : vo V [(22, fx), (27, fa)] = V0
    have h22 : ∀ q, q < a → V0 22 q = nI (F 0) := fun q hq => by rw [← hV0]; exact (hff q hq).1
    have h27 : ∀ q, q < a → V0 27 q = nI (alk S q) := fun q hq => by rw [← hV0]; exact (hff q hq).2
    have hoff : ∀ j, ¬ isL j → V0 j = V j := fun j hj => by
      rw [← hV0]
      refine vo_ne ?_
      intro q hq
      simp at hq
      unfold isL at hj
      rcases hq with rfl | rfl
      · show 22 ≠ j; omega
      · show 27 ≠ j; omega
    refine j_less (L' := [some (.ref (r 0)), some (.int (nI S)), some (.int (nI 1))]) ⟨Or.inr rfl, Or.inr rfl, Or.inr rfl, trivial⟩ ?_
    refine j_lp2 (fun (n : Nat) (V1 : Nat → Nat → Int32) => fkS r dT g F V1) (fun n _ => [some (.ref (r 0)), some (.int (nI S)), some (.int (nI n))]) (fun n V1 => n ≤ 5 ∧ lsF (fun n => prtB (fun k a => stk kd bs m (ks k) a) a S n (fun _ => decA m (F 0)) (alk S)) (5 - n) n = lsF (fun n => prtB (fun k a => stk kd bs m (ks k) a) a S n (fun _ => decA m (F 0)) (alk S)) 4 1 ∧ ∀ j, ¬ isP 0 j → V1 j = V0 j) (fun n _ => 5 - n) ?_ 1 V0 ⟨by decide, rfl, fun _ _ => rfl⟩
    intro n V1 ⟨hn5, hls, hV1⟩ ih
    have hof1 : ∀ j, ¬ isL j → V1 j = V j := fun j hj => (hV1 j (by unfold isL at hj; unfold isP; omega)).trans (hoff j hj)
    refine j_iload_n dX0_lost_90 rfl ?_
    refine j_iconst (v := 4) dX0_lost_91 (by decide) ?_
    refine j_icmp_gt (tgt := 113) dX0_lost_92 (by decide) (fun c92 => ?_) (fun c92 => ?_)
    · skip
      have hn6 : n = 5 := by
        have := (nI_ltI (by omega) (by omega)).mp (show nI 4 < nI n from c92)
        omega
      subst hn6
      refine j_iconst (v := (-1)) dX0_lost_113 (by decide) ?_
      refine j_iret dX0_lost_114 rfl rfl (Nat.le_refl _) (Nat.le_refl _) ?_
      exact jz_i hls hof1
    · skip
      have hn4 : n ≤ 4 := Nat.le_of_not_lt (fun q => c92 (show nI 4 < nI n from nI_lt q (by omega)))
      rw [show 5 - n = (4 - n) + 1 by omega, lsF] at hls
      refine j_aload_n dX0_lost_95 rfl ?_
      refine j_iload_n dX0_lost_96 rfl ?_
      refine j_iconst (v := 0) dX0_lost_97 (by decide) ?_
      refine j_iload_n dX0_lost_98 rfl ?_
      refine j_callV (f_parts0 (V := V1) h60 hK n S ⟨Nat.zero_le _, hn4⟩ hS (fun _ => decA m (F 0)) (alk S) (fun q hq => ⟨by rw [hV1 22 (by unfold isP; omega), h22 q hq, encA_decA], decA_ok hm hs⟩) (fun q hq => ⟨by rw [hV1 27 (by unfold isP; omega), h27 q hq], by unfold alk; split <;> omega⟩) hnk) jq_p.isR dX0_lost_99 pmX0_parts q1038 q1040 qs25 (by first | rfl | assumption) rfl rfl rfl ⟨Nat.le_of_ble_eq_true rfl, Nat.le_of_ble_eq_true rfl⟩ ⟨Nat.le_of_ble_eq_true rfl, Nat.le_of_ble_eq_true rfl⟩ rfl (Nat.le_of_ble_eq_true rfl) ?_
      rintro v9 r h9 nx ⟨e9, rfl, rfl, V2, rfl, hV2⟩
      cases e9
      show J _ _ _ _ _ _ _ _ _ _ _ _ (.int _ :: _)
      refine j_if_eq (tgt := 107) dX0_lost_102 (by decide) (fun c102 => ?_) (fun c102 => ?_)
      · skip
        have hft : ¬ (fun n => prtB (fun k a => stk kd bs m (ks k) a) a S n (fun _ => decA m (F 0)) (alk S)) n = true := by
          have := bI_0.mp c102
          intro q
          have e9 := this.symm.trans q
          exact Bool.noConfusion e9
        rw [if_neg hft] at hls
        refine j_iinc dX0_lost_107 rfl (by decide) rfl ?_
        refine j_goto (tgt := 90) dX0_lost_110 (by decide) ?_
        refine j_less (L' := [some (.ref (r 0)), some (.int (nI S)), some (.int (nI (n + 1)))]) ⟨Or.inr rfl, Or.inr rfl, Or.inr (by rw [← nI_inc]), trivial⟩ ?_
        refine ih (n + 1) V2 ⟨by omega, by rw [show 5 - (n + 1) = 4 - n by omega]; exact hls, fun j hj => ?_⟩ (by omega)
        rw [hV2 j hj]
        exact hV1 j hj
      · skip
        have hft : (fun n => prtB (fun k a => stk kd bs m (ks k) a) a S n (fun _ => decA m (F 0)) (alk S)) n = true := bI_n.mp c102
        rw [if_pos hft] at hls
        refine j_iload_n dX0_lost_105 rfl ?_
        refine j_iret dX0_lost_106 rfl rfl (Nat.le_refl _) (Nat.le_refl _) ?_
        refine jz_i hls (fun j hj => ?_)
        rw [hV2 j (by unfold isL at hj; unfold isP; omega)]
        exact hof1 j hj
  · skip
    have hae : a < nk := Nat.lt_of_not_le (fun q => c43 (nI_le q (by omega)))
    have ha8 : a < 8 := by omega
    refine j_aload_n dX0_lost_46 rfl ?_
    refine j_get 17 dX0_lost_47 (by first | rfl | assumption) in_X0 rfl (by decide) q170 rfl ?_
    refine j_iconst (v := 0) dX0_lost_50 (by decide) ?_
    refine j_aald (w := .ref (r 22)) 6 0 dX0_lost_51 (by first | rfl | assumption) rfl rfl rfl (by decide) (by decide) rfl ?_
    refine j_iload_n dX0_lost_52 rfl ?_
    refine j_aload_n dX0_lost_53 rfl ?_
    refine j_get 1 dX0_lost_54 (by first | rfl | assumption) in_X0 rfl (by decide) q154 rfl ?_
    refine j_getN 0 dX0_lost_57 (by first | rfl | assumption) in_X2 rfl (by decide) (fun _ hs => hs.1 _ qn125) rfl ?_
    refine j_iast 0 a dX0_lost_60 (by first | rfl | assumption) rfl rfl ha8 (by decide) ?_
    refine j_fkW (f := _) (by decide) rfl ?_
    refine j_aload_n dX0_lost_61 rfl ?_
    refine j_get 18 dX0_lost_62 (by first | rfl | assumption) in_X0 rfl (by decide) q171 rfl ?_
    refine j_iconst (v := 0) dX0_lost_65 (by decide) ?_
    refine j_aald (w := .ref (r 27)) 6 0 dX0_lost_66 (by first | rfl | assumption) rfl rfl rfl (by decide) (by decide) rfl ?_
    refine j_iload_n dX0_lost_67 rfl ?_
    refine j_join (tgt := 81) (fun v => v = nI (alk S a)) (fun v68 hv68 => ?_) (fun kj68 => ?_)
    · skip
      subst hv68
      refine j_iast 0 a dX0_lost_81 (by first | rfl | assumption) rfl rfl ha8 (by decide) ?_
      refine j_fkW (f := _) (by decide) rfl ?_
      refine j_iinc dX0_lost_82 rfl (by decide) rfl ?_
      refine j_goto (tgt := 35) dX0_lost_85 (by decide) ?_
      refine j_less (L' := [some (.ref (r 0)), some (.int (nI S)), some (.int (nI (a + 1)))]) ⟨Or.inr rfl, Or.inr rfl, Or.inr (by rw [← nI_inc]), trivial⟩ ?_
      refine ih (a + 1) (_, _) ⟨by omega, fun q hq => ?_⟩ (by omega)
      by_cases hqc : q = a
      · subst hqc; exact ⟨pk_us, pk_us⟩
      · exact ⟨(pk_un hqc).trans (hff q (by omega)).1, (pk_un hqc).trans (hff q (by omega)).2⟩
    · skip
      refine j_iload_n dX0_lost_68 rfl ?_
      refine j_iload_n dX0_lost_69 rfl ?_
      refine j_callSi (c_X0_has _ _) dX0_lost_70 pmX0_has q1035 q1036 rfl ⟨Nat.le_of_ble_eq_true rfl, Nat.le_of_ble_eq_true rfl⟩ ⟨Nat.le_of_ble_eq_true rfl, Nat.le_of_ble_eq_true rfl⟩ rfl (Nat.le_of_ble_eq_true rfl) ?_
      refine j_ifb_eq (tgt := 80) dX0_lost_73 (by decide) (fun c73 => ?_) (fun c73 => ?_)
      · skip
        have hj1 : (0 : Int32) = nI (alk S a) := by
          have hb9 : ¬ S.testBit a = true := fun q => c73 ((has_eq S hS a ha8).mpr q)
          unfold alk; rw [if_neg hb9]; rfl
        refine j_iconst (v := 0) dX0_lost_80 (by decide) ?_
        exact kj68 _ (by first | exact hj1 | exact hj2)
      · skip
        have hj2 : nI S = nI (alk S a) := by
          unfold alk; rw [if_pos ((has_eq S hS a ha8).mp c73)]
        refine j_iload_n dX0_lost_76 rfl ?_
        refine j_goto (tgt := 81) dX0_lost_77 (by decide) ?_
        exact kj68 _ (by first | exact hj1 | exact hj2)
