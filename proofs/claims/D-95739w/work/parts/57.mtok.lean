set_option maxRecDepth 100000
section MDT
variable {G : j_G} {cc : ByteArray} {own : String} {nL : Nat} {ret : Option FieldType} {nm : String} {R : Room} {xt : Code → Prop} {Q : j_Q} {mc ms cells slots : Nat} {nx pc : Nat} {L : List (Option Value)} {st : List Value} {r : Nat → Nat} {dT : Nat → ClassId} {g : j_H} {kI : Int32} {bs fg m nk w x s t : Nat} {F : Nat → Nat} {tk : Int64} {V : Nat → Nat → Int32} {e : va_E} {h : j_H}
/-- ways that meet again, with what is known there -/
theorem j_cut {A : Type} {tgt : Nat} (I : A → Prop) (hF : A → j_H) (LF : A → List (Option Value)) (k : ∀ a, I a → J G (cc, own, nL, ret, nm, R, xt) Q mc ms cells slots r (hF a) nx tgt (LF a) []) (main : (∀ a, I a → J G (cc, own, nL, ret, nm, R, xt) Q mc ms cells slots r (hF a) nx tgt (LF a) []) → J G (cc, own, nL, ret, nm, R, xt) Q mc ms cells slots r h nx pc L st) : J G (cc, own, nL, ret, nm, R, xt) Q mc ms cells slots r h nx pc L st := main k
theorem j_joinL {tgt : Nat} (P : Int64 → Prop) (k : ∀ v, P v → J G (cc, own, nL, ret, nm, R, xt) Q mc ms cells slots r h nx tgt L (.long v :: st)) (main : (∀ v, P v → J G (cc, own, nL, ret, nm, R, xt) Q mc ms cells slots r h nx tgt L (.long v :: st)) → J G (cc, own, nL, ret, nm, R, xt) Q mc ms cells slots r h nx pc L st) : J G (cc, own, nL, ret, nm, R, xt) Q mc ms cells slots r h nx pc L st := main k
theorem j_mdK {tk' : Int64} (he : mdG r dT kI bs fg m nk w x s t F tk' 0 (V 100) = some e) (k : J G (cc, own, nL, ret, nm, R, xt) Q mc ms cells slots r (mdS r dT g kI bs fg m nk w x s t F tk' V) nx pc L st) : J G (cc, own, nL, ret, nm, R, xt) Q mc ms cells slots r (j_set (mdS r dT g kI bs fg m nk w x s t F tk V) 100 e) nx pc L st := by
  rw [mdS_O (fun _ => rfl) he]; exact k
theorem j_mdD {kI' : Int32} {bs' fg' m' nk' : Nat} (he : mdG r dT kI' bs' fg' m' nk' w x s t F tk 0 (V 100) = some e) (k : J G (cc, own, nL, ret, nm, R, xt) Q mc ms cells slots r (mdS r dT g kI' bs' fg' m' nk' w x s t F tk V) nx pc L st) : J G (cc, own, nL, ret, nm, R, xt) Q mc ms cells slots r (j_set (mdS r dT g kI bs fg m nk w x s t F tk V) 100 e) nx pc L st := by
  rw [mdS_O (fun _ => rfl) he]; exact k
end MDT
/-- the text's bytes -/
def txR (f : Nat → Int32) (n : Nat) (T : Nat → Nat) : Prop := ∀ j, j < n → f j = nI (T j) ∧ T j < 256
def wtk (T : Nat → Nat) (q k : Nat) : Int64 := if k ≤ 9 then lN (wcode T q k) else -4
def tokS (T : Nat → Nat) (n p q e : Nat) (tk : Int64) (dg nm : Nat) : Prop := q = sk T n p ∧ ((q = n ∧ e = n ∧ tk = -2) ∨ (q < n ∧ (97 ≤ T q ∧ T q ≤ 122) ∧ e = we T n q ∧ tk = wtk T q (e - q)) ∨ (q < n ∧ (48 ≤ T q ∧ T q ≤ 57) ∧ e = de T n q ∧ tk = -1 ∧ dg = e - q ∧ (e - q ≤ 3 → nm = dv T q (e - q))) ∨ (q < n ∧ ¬ (97 ≤ T q ∧ T q ≤ 122) ∧ ¬ (48 ≤ T q ∧ T q ≤ 57) ∧ e = q + 1 ∧ tk = if T q = 59 then -3 else -4))
def q_tok (T : Nat → Nat) (r : Nat → Nat) (dT : Nat → ClassId) (g : j_H) (kI : Int32) (bs fg m nk w x s t : Nat) (F : Nat → Nat) (V : Nat → Nat → Int32) (nx : Nat) : j_Q := fun o r' h' nx' => o = .returned none ∧ r' = r ∧ nx' = nx ∧ ∃ (F' : Nat → Nat) (tk' : Int64), h' = (mdS r dT g kI bs fg m nk w x s t F' tk' V) ∧ tokS T (F 6) (F 8) (F' 9) (F' 8) tk' (F' 11) (F' 12) ∧ F' 8 ≤ F 6 ∧ ∀ k, k ≠ 8 → k ≠ 9 → k ≠ 11 → k ≠ 12 → F' k = F k
theorem q_tok.isR {T : Nat → Nat} {r : Nat → Nat} {dT : Nat → ClassId} {g : j_H} {kI : Int32} {bs fg m nk w x s t : Nat} {F : Nat → Nat} {V : Nat → Nat → Int32} {nx : Nat} : j_isR (q_tok T r dT g kI bs fg m nk w x s t F V nx) := fun _ _ _ _ hq => ⟨_, hq.1⟩
theorem in_nN {x : Nat} (hx : x < 256) {lo hi : Nat} (h1 : lo < 2 ^ 31) (h2 : hi < 2 ^ 31) : (nI lo ≤ nI x ∧ nI x ≤ nI hi) ↔ (lo ≤ x ∧ x ≤ hi) := by
  rw [nI_leI h1 (by omega), nI_leI (by omega) h2]
theorem wtk_go {T : Nat → Nat} {q k : Nat} (hk : k < 9) (hT : 97 ≤ T (q + k) ∧ T (q + k) < 256) : 27 * wtk T q k + (nI (T (q + k))).toInt64 - 96 = wtk T q (k + 1) := by
  unfold wtk
  rw [if_pos (by omega), if_pos (by omega), nI_l (by omega), show (27 : Int64) = lN 27 from rfl, show (96 : Int64) = lN 96 from rfl, lN_mul, lN_add, lN_sub (by omega), wcode, show 27 * wcode T q k + T (q + k) - 96 = 27 * wcode T q k + (T (q + k) - 96) by omega]
theorem dv_lt {T : Nat → Nat} {p : Nat} : ∀ k, (∀ i, i < k → 48 ≤ T (p + i) ∧ T (p + i) ≤ 57) → dv T p k < 10 ^ k
  | 0, _ => Nat.zero_lt_one
  | k + 1, h => by
    have h1 := dv_lt k (fun i hi => h i (by omega))
    have h2 := h k (by omega)
    rw [dv, Nat.pow_succ]
    omega
set_option maxHeartbeats 4000000 in
theorem m_tok {l : Launch} {D : va_G} {dT : Nat → ClassId} {H0 : Heap} {r : Nat → Nat} {nx : Nat} {g : j_H} {kI : Int32} {bs fg m nk w x s t : Nat} {F : Nat → Nat} {tk : Int64} {V : Nat → Nat → Int32} {T : Nat → Nat} (htx : txR (V 102) (F 6) T) (hn4 : F 6 ≤ 400) (hp : F 8 ≤ F 6) : MC (gG l D dT H0) yX3_nextToken cX3_nextToken 1 none 1 0 0 [.ref (r 100)] r (mdS r dT g kI bs fg m nk w x s t F tk V) nx (q_tok T r dT g kI bs fg m nk w x s t F V nx) := by
  refine MC.ofJ [some (.ref (r 100))] rfl (Nat.le_of_ble_eq_true rfl) (by decide) ?_
  refine j_cut (tgt := 38) (fun (F' : Nat → Nat) => F' 8 = sk T (F 6) (F 8) ∧ F' 8 ≤ F 6 ∧ (∀ k, k ≠ 8 → F' k = F k)) (fun F' => (mdS r dT g kI bs fg m nk w x s t F' tk V)) (fun _ => [some (.ref (r 100))]) ?_ (fun kc0 => ?_)
  · skip
    intro F' ⟨hq, hqn, hsm⟩
    obtain ⟨q, hqe⟩ : ∃ q, F' 8 = q := ⟨_, rfl⟩
    rw [hqe] at hq hqn
    refine j_aload_n dX3_nextToken_38 rfl ?_
    refine j_aload_n dX3_nextToken_39 rfl ?_
    refine j_get 8 dX3_nextToken_40 (by first | rfl | assumption) in_X3 rfl (by decide) q1107 rfl ?_
    refine j_put 9 dX3_nextToken_43 (by first | rfl | assumption) in_X3 tyX3_ok nmX3 rfl (by decide) q1108 rfl rfl rfl (by first | decide | simp) ?_
    refine j_mdF (q := 9) (v := F' 8) (by decide) rfl ?_
    refine j_aload_n dX3_nextToken_46 rfl ?_
    refine j_iconst (v := 0) dX3_nextToken_47 (by decide) ?_
    refine j_put 11 dX3_nextToken_48 (by first | rfl | assumption) in_X3 tyX3_ok nmX3 rfl (by decide) q1110 rfl rfl rfl (by first | decide | simp) ?_
    refine j_mdF (q := 11) (v := 0) (by decide) rfl ?_
    refine j_aload_n dX3_nextToken_51 rfl ?_
    refine j_iconst (v := 0) dX3_nextToken_52 (by decide) ?_
    refine j_put 12 dX3_nextToken_53 (by first | rfl | assumption) in_X3 tyX3_ok nmX3 rfl (by decide) q1111 rfl rfl rfl (by first | decide | simp) ?_
    refine j_mdF (q := 12) (v := 0) (by decide) rfl ?_
    obtain ⟨G, hG⟩ : ∃ G : Nat → Nat, G = (va_up (va_up (va_up F' 9 (F' 8)) 11 0) 12 0) := ⟨_, rfl⟩
    rw [← hG]
    have g8 : G 8 = q := by rw [hG]; exact hqe
    have g9 : G 9 = q := by rw [hG]; exact hqe
    have g11 : G 11 = 0 := by rw [hG]; rfl
    have g12 : G 12 = 0 := by rw [hG]; rfl
    have gsm : ∀ k, k ≠ 8 → k ≠ 9 → k ≠ 11 → k ≠ 12 → G k = F k := fun k h1 h2 h3 h4 => by
      rw [hG, va_up_ne _ _ h4, va_up_ne _ _ h3, va_up_ne _ _ h2]
      exact hsm k h1
    have g6 : G 6 = F 6 := gsm 6 (by decide) (by decide) (by decide) (by decide)
    clear hG
    refine j_aload_n dX3_nextToken_56 rfl ?_
    refine j_get 8 dX3_nextToken_57 (by first | rfl | assumption) in_X3 rfl (by decide) q1107 rfl ?_
    refine j_aload_n dX3_nextToken_60 rfl ?_
    refine j_get 6 dX3_nextToken_61 (by first | rfl | assumption) in_X3 rfl (by decide) q1105 rfl ?_
    refine j_icmp_ne (tgt := 77) dX3_nextToken_64 (by decide) (fun c64 => ?_) (fun c64 => ?_)
    · skip
      have h64 : q < F 6 := by
        have : ¬ G 8 = G 6 := fun z => c64 (by rw [z])
        rw [g8, g6] at this
        omega
      have hqb := (htx q h64).2
      refine j_aload_n dX3_nextToken_77 rfl ?_
      refine j_get 7 dX3_nextToken_78 (by first | rfl | assumption) in_X3 rfl (by decide) q1106 rfl ?_
      refine j_aload_n dX3_nextToken_81 rfl ?_
      refine j_get 8 dX3_nextToken_82 (by first | rfl | assumption) in_X3 rfl (by decide) q1107 rfl ?_
      refine j_eqi (show _ = nI (q) by rw [g8]) ?_
      refine j_iald 0 q dX3_nextToken_85 (by first | rfl | assumption) rfl rfl (by show q < 400; omega) (by decide) ?_
      refine j_eqi (show _ = nI (T q) from (htx q h64).1) ?_
      refine j_bipush (v := 97) dX3_nextToken_86 (by decide) ?_
      refine j_bipush (v := 122) dX3_nextToken_88 (by decide) ?_
      refine j_callSi (c_X3_in _ _ _) dX3_nextToken_90 pmX3_in q1228 q1229 rfl ⟨Nat.le_of_ble_eq_true rfl, Nat.le_of_ble_eq_true rfl⟩ ⟨Nat.le_of_ble_eq_true rfl, Nat.le_of_ble_eq_true rfl⟩ rfl (Nat.le_of_ble_eq_true rfl) ?_
      refine j_ifb_eq (tgt := 222) dX3_nextToken_93 (by decide) (fun c93 => ?_) (fun c93 => ?_)
      · skip
        have h93 : ¬ (97 ≤ T q ∧ T q ≤ 122) := fun z => c93 ((in_nN hqb (by decide) (by decide)).mpr z)
        refine j_aload_n dX3_nextToken_222 rfl ?_
        refine j_get 7 dX3_nextToken_223 (by first | rfl | assumption) in_X3 rfl (by decide) q1106 rfl ?_
        refine j_aload_n dX3_nextToken_226 rfl ?_
        refine j_get 8 dX3_nextToken_227 (by first | rfl | assumption) in_X3 rfl (by decide) q1107 rfl ?_
        refine j_eqi (show _ = nI (q) by rw [g8]) ?_
        refine j_iald 0 q dX3_nextToken_230 (by first | rfl | assumption) rfl rfl (by show q < 400; omega) (by decide) ?_
        refine j_eqi (show _ = nI (T q) from (htx q h64).1) ?_
        refine j_bipush (v := 48) dX3_nextToken_231 (by decide) ?_
        refine j_bipush (v := 57) dX3_nextToken_233 (by decide) ?_
        refine j_callSi (c_X3_in _ _ _) dX3_nextToken_235 pmX3_in q1228 q1229 rfl ⟨Nat.le_of_ble_eq_true rfl, Nat.le_of_ble_eq_true rfl⟩ ⟨Nat.le_of_ble_eq_true rfl, Nat.le_of_ble_eq_true rfl⟩ rfl (Nat.le_of_ble_eq_true rfl) ?_
        refine j_ifb_eq (tgt := 343) dX3_nextToken_238 (by decide) (fun c238 => ?_) (fun c238 => ?_)
        · skip
          have h238 : ¬ (48 ≤ T q ∧ T q ≤ 57) := fun z => c238 ((in_nN hqb (by decide) (by decide)).mpr z)
          refine j_aload_n dX3_nextToken_343 rfl ?_
          refine j_joinL (tgt := 367) (fun x => x = if T q = 59 then -3 else -4) (fun v344 hv344 => ?_) (fun kj344 => ?_)
          · skip
            subst hv344
            refine j_put 10 dX3_nextToken_367 (by first | rfl | assumption) in_X3 tyX3_ok nmX3 rfl (by decide) q1109 rfl rfl rfl (by first | decide | simp) ?_
            refine j_mdK (tk' := if T q = 59 then -3 else -4) rfl ?_
            refine j_aload_n dX3_nextToken_370 rfl ?_
            refine j_dup dX3_nextToken_371 rfl ?_
            refine j_get 8 dX3_nextToken_372 (by first | rfl | assumption) in_X3 rfl (by decide) q1107 rfl ?_
            refine j_eqi (show _ = nI (q) by rw [g8]) ?_
            refine j_iconst (v := 1) dX3_nextToken_375 (by decide) ?_
            refine j_iadd dX3_nextToken_376 ?_
            refine j_eqi (show _ = nI (q + 1) from nI_1 _) ?_
            refine j_put 8 dX3_nextToken_377 (by first | rfl | assumption) in_X3 tyX3_ok nmX3 rfl (by decide) q1107 rfl rfl rfl (by first | decide | simp) ?_
            refine j_mdF (q := 8) (v := q + 1) (by decide) rfl ?_
            have htk : tokS T (F 6) (F 8) ((va_up G 8 (q + 1)) 9) ((va_up G 8 (q + 1)) 8) (if T q = 59 then -3 else -4) ((va_up G 8 (q + 1)) 11) ((va_up G 8 (q + 1)) 12) := by
              show tokS T (F 6) (F 8) (G 9) (q + 1) _ (G 11) (G 12)
              rw [g9]
              exact ⟨hq, Or.inr (Or.inr (Or.inr ⟨h64, h93, h238, rfl, rfl⟩))⟩
            have hle : va_up G 8 (q + 1) 8 ≤ F 6 := by rw [va_up_self]; exact h64
            have hsa : ∀ k, k ≠ 8 → k ≠ 9 → k ≠ 11 → k ≠ 12 → va_up G 8 (q + 1) k = F k := fun k h1 h2 h3 h4 => (va_up_ne _ _ h1).trans (gsm k h1 h2 h3 h4)
            refine j_vret dX3_nextToken_380 rfl (Nat.le_refl _) (Nat.le_refl _) ?_
            exact ⟨rfl, rfl, rfl, _, _, rfl, htk, hle, hsa⟩
          · skip
            refine j_aload_n dX3_nextToken_344 rfl ?_
            refine j_get 7 dX3_nextToken_345 (by first | rfl | assumption) in_X3 rfl (by decide) q1106 rfl ?_
            refine j_aload_n dX3_nextToken_348 rfl ?_
            refine j_get 8 dX3_nextToken_349 (by first | rfl | assumption) in_X3 rfl (by decide) q1107 rfl ?_
            refine j_eqi (show _ = nI (q) by rw [g8]) ?_
            refine j_iald 0 q dX3_nextToken_352 (by first | rfl | assumption) rfl rfl (by show q < 400; omega) (by decide) ?_
            refine j_eqi (show _ = nI (T q) from (htx q h64).1) ?_
            refine j_bipush (v := 59) dX3_nextToken_353 (by decide) ?_
            refine j_icmp_ne (tgt := 364) dX3_nextToken_355 (by decide) (fun c355 => ?_) (fun c355 => ?_)
            · skip
              have hj : (-4 : Int64) = if T q = 59 then -3 else -4 := by rw [if_neg (fun z => c355 (by rw [z]; rfl))]
              refine j_ldc2 dX3_nextToken_364 q1249 ?_
              exact kj344 _ hj
            · skip
              have h355 : T q = 59 := (nI_eq (by omega) (by decide)).mp (show nI (T q) = nI 59 from c355)
              have hj : (-3 : Int64) = if T q = 59 then -3 else -4 := by rw [if_pos h355]
              refine j_ldc2 dX3_nextToken_358 q1251 ?_
              refine j_goto (tgt := 367) dX3_nextToken_361 (by decide) ?_
              exact kj344 _ hj
        · skip
          have h238 : 48 ≤ T q ∧ T q ≤ 57 := (in_nN hqb (by decide) (by decide)).mp c238
          refine j_cut (tgt := 333) (fun (y : Nat × (Nat → Nat)) => y.2 8 = q + y.1 ∧ y.2 11 = y.1 ∧ y.2 12 = dv T q (min y.1 3) ∧ q + y.1 = de T (F 6) q ∧ ∀ j, j ≠ 8 → j ≠ 11 → j ≠ 12 → y.2 j = G j) (fun y => (mdS r dT g kI bs fg m nk w x s t y.2 tk V)) (fun _ => [some (.ref (r 100))]) ?_ (fun kc241 => ?_)
          · skip
            rintro ⟨k, Fw⟩ ⟨f8, f11, f12, hke, fsm⟩
            dsimp only at f8 f11 f12 hke fsm ⊢
            have hkn : q + k ≤ F 6 := by rw [hke]; exact rgE_le hqn
            have f9 : Fw 9 = q := (fsm 9 (by decide) (by decide) (by decide)).trans g9
            refine j_aload_n dX3_nextToken_333 rfl ?_
            refine j_ldc2 dX3_nextToken_334 q1250 ?_
            refine j_put 10 dX3_nextToken_337 (by first | rfl | assumption) in_X3 tyX3_ok nmX3 rfl (by decide) q1109 rfl rfl rfl (by first | decide | simp) ?_
            refine j_mdK (tk' := -1) rfl ?_
            have htk : tokS T (F 6) (F 8) (Fw 9) (Fw 8) (-1) (Fw 11) (Fw 12) := by
              rw [f8, f9, f11, f12]
              refine ⟨hq, Or.inr (Or.inr (Or.inl ⟨h64, h238, hke, rfl, by omega, fun h3 => ?_⟩))⟩
              rw [Nat.add_sub_cancel_left] at h3 ⊢
              rw [Nat.min_eq_left h3]
            have hle : Fw 8 ≤ F 6 := by rw [f8]; exact hkn
            have hsa : ∀ k, k ≠ 8 → k ≠ 9 → k ≠ 11 → k ≠ 12 → Fw k = F k := fun k h1 h2 h3 h4 => (fsm k h1 h3 h4).trans (gsm k h1 h2 h3 h4)
            refine j_goto (tgt := 380) dX3_nextToken_340 (by decide) ?_
            refine j_vret dX3_nextToken_380 rfl (Nat.le_refl _) (Nat.le_refl _) ?_
            exact ⟨rfl, rfl, rfl, _, _, rfl, htk, hle, hsa⟩
          · skip
            refine j_lp2 (fun (k : Nat) (Fw : Nat → Nat) => (mdS r dT g kI bs fg m nk w x s t Fw tk V)) (fun _ _ => [some (.ref (r 100))]) (fun k Fw => Fw 8 = q + k ∧ Fw 11 = k ∧ Fw 12 = dv T q (min k 3) ∧ q + k ≤ F 6 ∧ de T (F 6) (q + k) = de T (F 6) q ∧ (∀ i, i < k → 48 ≤ T (q + i) ∧ T (q + i) ≤ 57) ∧ ∀ j, j ≠ 8 → j ≠ 11 → j ≠ 12 → Fw j = G j) (fun k _ => F 6 - (q + k)) ?_ 0 G ⟨g8, g11, g12, hqn, rfl, fun i hi => absurd hi (Nat.not_lt_zero _), fun _ _ _ _ => rfl⟩
            intro k Fw ⟨f8, f11, f12, hkn, hde, hdg, fsm⟩ ih
            have f6 : Fw 6 = F 6 := (fsm 6 (by decide) (by decide) (by decide)).trans g6
            have f9 : Fw 9 = q := (fsm 9 (by decide) (by decide) (by decide)).trans g9
            have hd3 := dv_lt (T := T) (p := q) (min k 3) (fun i hi => hdg i (by omega))
            have hd4 : 10 ^ (min k 3) ≤ 1000 := Nat.le_trans (Nat.pow_le_pow_right (by decide) (Nat.min_le_right _ _)) (by decide)
            refine j_aload_n dX3_nextToken_241 rfl ?_
            refine j_get 8 dX3_nextToken_242 (by first | rfl | assumption) in_X3 rfl (by decide) q1107 rfl ?_
            refine j_eqi (show _ = nI (q + k) by rw [f8]) ?_
            refine j_aload_n dX3_nextToken_245 rfl ?_
            refine j_get 6 dX3_nextToken_246 (by first | rfl | assumption) in_X3 rfl (by decide) q1105 rfl ?_
            refine j_eqi (show _ = nI (F 6) by rw [f6]) ?_
            refine j_icmp_ge (tgt := 333) dX3_nextToken_249 (by decide) (fun c249 => ?_) (fun c249 => ?_)
            · skip
              have h249 : F 6 ≤ q + k := (nI_leI (by omega) (by omega)).mp c249
              have hout : q + k = de T (F 6) (q + k) := (rgE_end h249).symm
              exact kc241 (k, Fw) ⟨f8, f11, f12, by rw [← hde]; exact hout, fsm⟩
            · skip
              have h249 : q + k < F 6 := Nat.lt_of_not_le (fun z => c249 (nI_le z (by omega)))
              have hb := (htx (q + k) h249).2
              refine j_aload_n dX3_nextToken_252 rfl ?_
              refine j_get 7 dX3_nextToken_253 (by first | rfl | assumption) in_X3 rfl (by decide) q1106 rfl ?_
              refine j_aload_n dX3_nextToken_256 rfl ?_
              refine j_get 8 dX3_nextToken_257 (by first | rfl | assumption) in_X3 rfl (by decide) q1107 rfl ?_
              refine j_eqi (show _ = nI (q + k) by rw [f8]) ?_
              refine j_iald 0 (q + k) dX3_nextToken_260 (by first | rfl | assumption) rfl rfl (by show (q + k) < 400; omega) (by decide) ?_
              refine j_eqi (show _ = nI (T (q + k)) from (htx (q + k) h249).1) ?_
              refine j_bipush (v := 48) dX3_nextToken_261 (by decide) ?_
              refine j_bipush (v := 57) dX3_nextToken_263 (by decide) ?_
              refine j_callSi (c_X3_in _ _ _) dX3_nextToken_265 pmX3_in q1228 q1229 rfl ⟨Nat.le_of_ble_eq_true rfl, Nat.le_of_ble_eq_true rfl⟩ ⟨Nat.le_of_ble_eq_true rfl, Nat.le_of_ble_eq_true rfl⟩ rfl (Nat.le_of_ble_eq_true rfl) ?_
              refine j_ifb_eq (tgt := 333) dX3_nextToken_268 (by decide) (fun c268 => ?_) (fun c268 => ?_)
              · skip
                have h268 : ¬ (48 ≤ T (q + k) ∧ T (q + k) ≤ 57) := fun z => c268 ((in_nN hb (by decide) (by decide)).mpr z)
                have hout : q + k = de T (F 6) (q + k) := (rgE_out h268).symm
                exact kc241 (k, Fw) ⟨f8, f11, f12, by rw [← hde]; exact hout, fsm⟩
              · skip
                have h268 : 48 ≤ T (q + k) ∧ T (q + k) ≤ 57 := (in_nN hb (by decide) (by decide)).mp c268
                have hgo : de T (F 6) (q + k) = de T (F 6) (q + k + 1) := rgE_go h249 h268
                refine j_aload_n dX3_nextToken_271 rfl ?_
                refine j_join (tgt := 307) (fun x => x = nI (dv T q (min (k + 1) 3))) (fun v272 hv272 => ?_) (fun kj272 => ?_)
                · skip
                  subst hv272
                  refine j_put 12 dX3_nextToken_307 (by first | rfl | assumption) in_X3 tyX3_ok nmX3 rfl (by decide) q1111 rfl rfl rfl (by first | decide | simp) ?_
                  refine j_mdF (q := 12) (v := dv T q (min (k + 1) 3)) (by decide) rfl ?_
                  refine j_aload_n dX3_nextToken_310 rfl ?_
                  refine j_dup dX3_nextToken_311 rfl ?_
                  refine j_get 11 dX3_nextToken_312 (by first | rfl | assumption) in_X3 rfl (by decide) q1110 rfl ?_
                  refine j_eqi (show _ = nI k from congrArg nI (show Fw 11 = k from f11)) ?_
                  refine j_iconst (v := 1) dX3_nextToken_315 (by decide) ?_
                  refine j_iadd dX3_nextToken_316 ?_
                  refine j_eqi (show _ = nI (k + 1) from nI_1 _) ?_
                  refine j_put 11 dX3_nextToken_317 (by first | rfl | assumption) in_X3 tyX3_ok nmX3 rfl (by decide) q1110 rfl rfl rfl (by first | decide | simp) ?_
                  refine j_mdF (q := 11) (v := k + 1) (by decide) rfl ?_
                  refine j_aload_n dX3_nextToken_320 rfl ?_
                  refine j_dup dX3_nextToken_321 rfl ?_
                  refine j_get 8 dX3_nextToken_322 (by first | rfl | assumption) in_X3 rfl (by decide) q1107 rfl ?_
                  refine j_eqi (show _ = nI (q + k) from congrArg nI (show Fw 8 = q + k from f8)) ?_
                  refine j_iconst (v := 1) dX3_nextToken_325 (by decide) ?_
                  refine j_iadd dX3_nextToken_326 ?_
                  refine j_eqi (show _ = nI (q + k + 1) from nI_1 _) ?_
                  refine j_put 8 dX3_nextToken_327 (by first | rfl | assumption) in_X3 tyX3_ok nmX3 rfl (by decide) q1107 rfl rfl rfl (by first | decide | simp) ?_
                  refine j_mdF (q := 8) (v := q + k + 1) (by decide) rfl ?_
                  refine j_goto (tgt := 241) dX3_nextToken_330 (by decide) ?_
                  refine ih (k + 1) _ ⟨rfl, rfl, rfl, by omega, by rw [← Nat.add_assoc, ← hgo]; exact hde, fun i hi => ?_, fun j h1 h2 h3 => ?_⟩ (by omega)
                  · by_cases he : i = k
                    · rw [he]; exact h268
                    · exact hdg i (by omega)
                  · rw [va_up_ne _ _ h1, va_up_ne _ _ h2, va_up_ne _ _ h3]
                    exact fsm j h1 h2 h3
                · skip
                  refine j_aload_n dX3_nextToken_272 rfl ?_
                  refine j_get 11 dX3_nextToken_273 (by first | rfl | assumption) in_X3 rfl (by decide) q1110 rfl ?_
                  refine j_eqi (show _ = nI (k) by rw [f11]) ?_
                  refine j_iconst (v := 3) dX3_nextToken_276 (by decide) ?_
                  refine j_icmp_ge (tgt := 303) dX3_nextToken_277 (by decide) (fun c277 => ?_) (fun c277 => ?_)
                  · skip
                    have h277 : 3 ≤ k := (nI_leI (by decide) (by omega)).mp (show nI 3 ≤ nI k from c277)
                    have hj : nI (dv T q (min k 3)) = nI (dv T q (min (k + 1) 3)) := by rw [Nat.min_eq_right h277, Nat.min_eq_right (by omega)]
                    refine j_aload_n dX3_nextToken_303 rfl ?_
                    refine j_get 12 dX3_nextToken_304 (by first | rfl | assumption) in_X3 rfl (by decide) q1111 rfl ?_
                    refine j_eqi (show _ = nI (dv T q (min k 3)) by rw [f12]) ?_
                    exact kj272 _ hj
                  · skip
                    have h277 : k < 3 := Nat.lt_of_not_le (fun z => c277 (show nI 3 ≤ nI k from nI_le z (by omega)))
                    have hj : 10 * nI (dv T q (min k 3)) + nI (T (q + k)) - 48 = nI (dv T q (min (k + 1) 3)) := by
                      rw [Nat.min_eq_left (by omega : k + 1 ≤ 3), Nat.min_eq_left (by omega : k ≤ 3), dv, show (10 : Int32) = nI 10 from rfl, show (48 : Int32) = nI 48 from rfl, pk_mul, nI_add, nI_sub (by omega), show 10 * dv T q k + T (q + k) - 48 = 10 * dv T q k + (T (q + k) - 48) by omega]
                    refine j_bipush (v := 10) dX3_nextToken_280 (by decide) ?_
                    refine j_aload_n dX3_nextToken_282 rfl ?_
                    refine j_get 12 dX3_nextToken_283 (by first | rfl | assumption) in_X3 rfl (by decide) q1111 rfl ?_
                    refine j_eqi (show _ = nI (dv T q (min k 3)) by rw [f12]) ?_
                    refine j_imul dX3_nextToken_286 ?_
                    refine j_aload_n dX3_nextToken_287 rfl ?_
                    refine j_get 7 dX3_nextToken_288 (by first | rfl | assumption) in_X3 rfl (by decide) q1106 rfl ?_
                    refine j_aload_n dX3_nextToken_291 rfl ?_
                    refine j_get 8 dX3_nextToken_292 (by first | rfl | assumption) in_X3 rfl (by decide) q1107 rfl ?_
                    refine j_eqi (show _ = nI (q + k) by rw [f8]) ?_
                    refine j_iald 0 (q + k) dX3_nextToken_295 (by first | rfl | assumption) rfl rfl (by show (q + k) < 400; omega) (by decide) ?_
                    refine j_eqi (show _ = nI (T (q + k)) from (htx (q + k) h249).1) ?_
                    refine j_iadd dX3_nextToken_296 ?_
                    refine j_bipush (v := 48) dX3_nextToken_297 (by decide) ?_
                    refine j_isub dX3_nextToken_299 ?_
                    refine j_goto (tgt := 307) dX3_nextToken_300 (by decide) ?_
                    exact kj272 _ hj
      · skip
        have h93 : 97 ≤ T q ∧ T q ≤ 122 := (in_nN hqb (by decide) (by decide)).mp c93
        refine j_aload_n dX3_nextToken_96 rfl ?_
        refine j_lconst (v := 0) dX3_nextToken_97 (by decide) ?_
        refine j_put 10 dX3_nextToken_98 (by first | rfl | assumption) in_X3 tyX3_ok nmX3 rfl (by decide) q1109 rfl rfl rfl (by first | decide | simp) ?_
        refine j_mdK (tk' := 0) rfl ?_
        refine j_cut (tgt := 191) (fun (y : Nat × (Nat → Nat)) => y.2 8 = q + y.1 ∧ q + y.1 = we T (F 6) q ∧ ∀ j, j ≠ 8 → y.2 j = G j) (fun y => (mdS r dT g kI bs fg m nk w x s t y.2 (wtk T q y.1) V)) (fun _ => [some (.ref (r 100))]) ?_ (fun kc101 => ?_)
        · skip
          rintro ⟨k, Fw⟩ ⟨f8, hke, fsm⟩
          dsimp only at f8 hke fsm ⊢
          have hkn : q + k ≤ F 6 := by rw [hke]; exact rgE_le hqn
          have f6 : Fw 6 = F 6 := (fsm 6 (by decide)).trans g6
          have f9 : Fw 9 = q := (fsm 9 (by decide)).trans g9
          refine j_aload_n dX3_nextToken_191 rfl ?_
          refine j_joinL (tgt := 216) (fun x => x = wtk T q k) (fun v192 hv192 => ?_) (fun kj192 => ?_)
          · skip
            subst hv192
            refine j_put 10 dX3_nextToken_216 (by first | rfl | assumption) in_X3 tyX3_ok nmX3 rfl (by decide) q1109 rfl rfl rfl (by first | decide | simp) ?_
            refine j_mdK (tk' := wtk T q k) rfl ?_
            have htk : tokS T (F 6) (F 8) (Fw 9) (Fw 8) (wtk T q k) (Fw 11) (Fw 12) := by
              rw [f8, f9]
              refine ⟨hq, Or.inr (Or.inl ⟨h64, h93, hke, ?_⟩)⟩
              rw [Nat.add_sub_cancel_left]
            have hle : Fw 8 ≤ F 6 := by rw [f8]; exact hkn
            have hsa : ∀ k, k ≠ 8 → k ≠ 9 → k ≠ 11 → k ≠ 12 → Fw k = F k := fun k h1 h2 h3 h4 => (fsm k h1).trans (gsm k h1 h2 h3 h4)
            refine j_goto (tgt := 380) dX3_nextToken_219 (by decide) ?_
            refine j_vret dX3_nextToken_380 rfl (Nat.le_refl _) (Nat.le_refl _) ?_
            exact ⟨rfl, rfl, rfl, _, _, rfl, htk, hle, hsa⟩
          · skip
            refine j_aload_n dX3_nextToken_192 rfl ?_
            refine j_get 8 dX3_nextToken_193 (by first | rfl | assumption) in_X3 rfl (by decide) q1107 rfl ?_
            refine j_eqi (show _ = nI (q + k) by rw [f8]) ?_
            refine j_aload_n dX3_nextToken_196 rfl ?_
            refine j_get 9 dX3_nextToken_197 (by first | rfl | assumption) in_X3 rfl (by decide) q1108 rfl ?_
            refine j_eqi (show _ = nI (q) by rw [f9]) ?_
            refine j_isub dX3_nextToken_200 ?_
            refine j_eqi (show _ = nI k by rw [nI_sub (by omega), Nat.add_sub_cancel_left]) ?_
            refine j_bipush (v := 9) dX3_nextToken_201 (by decide) ?_
            refine j_icmp_le (tgt := 212) dX3_nextToken_203 (by decide) (fun c203 => ?_) (fun c203 => ?_)
            · skip
              have hj : wtk T q k = wtk T q k := rfl
              refine j_aload_n dX3_nextToken_212 rfl ?_
              refine j_get 10 dX3_nextToken_213 (by first | rfl | assumption) in_X3 rfl (by decide) q1109 rfl ?_
              exact kj192 _ hj
            · skip
              have h203 : ¬ k ≤ 9 := fun z => c203 (show nI k ≤ nI 9 from nI_le z (by decide))
              have hj : (-4 : Int64) = wtk T q k := by unfold wtk; rw [if_neg h203]
              refine j_ldc2 dX3_nextToken_206 q1249 ?_
              refine j_goto (tgt := 216) dX3_nextToken_209 (by decide) ?_
              exact kj192 _ hj
        · skip
          refine j_re rfl rfl (h' := (mdS r dT g kI bs fg m nk w x s t G (wtk T q 0) V)) rfl ?_
          refine j_lp2 (fun (k : Nat) (Fw : Nat → Nat) => (mdS r dT g kI bs fg m nk w x s t Fw (wtk T q k) V)) (fun _ _ => [some (.ref (r 100))]) (fun k Fw => Fw 8 = q + k ∧ q + k ≤ F 6 ∧ we T (F 6) (q + k) = we T (F 6) q ∧ ∀ j, j ≠ 8 → Fw j = G j) (fun k _ => F 6 - (q + k)) ?_ 0 G ⟨g8, hqn, rfl, fun _ _ => rfl⟩
          intro k Fw ⟨f8, hkn, hwe, fsm⟩ ih
          have f6 : Fw 6 = F 6 := (fsm 6 (by decide)).trans g6
          have f9 : Fw 9 = q := (fsm 9 (by decide)).trans g9
          refine j_aload_n dX3_nextToken_101 rfl ?_
          refine j_get 8 dX3_nextToken_102 (by first | rfl | assumption) in_X3 rfl (by decide) q1107 rfl ?_
          refine j_eqi (show _ = nI (q + k) by rw [f8]) ?_
          refine j_aload_n dX3_nextToken_105 rfl ?_
          refine j_get 6 dX3_nextToken_106 (by first | rfl | assumption) in_X3 rfl (by decide) q1105 rfl ?_
          refine j_eqi (show _ = nI (F 6) by rw [f6]) ?_
          refine j_icmp_ge (tgt := 191) dX3_nextToken_109 (by decide) (fun c109 => ?_) (fun c109 => ?_)
          · skip
            have h109 : F 6 ≤ q + k := (nI_leI (by omega) (by omega)).mp c109
            have hout : q + k = we T (F 6) (q + k) := (rgE_end h109).symm
            exact kc101 (k, Fw) ⟨f8, by rw [← hwe]; exact hout, fsm⟩
          · skip
            have h109 : q + k < F 6 := Nat.lt_of_not_le (fun z => c109 (nI_le z (by omega)))
            have hb := (htx (q + k) h109).2
            refine j_aload_n dX3_nextToken_112 rfl ?_
            refine j_get 7 dX3_nextToken_113 (by first | rfl | assumption) in_X3 rfl (by decide) q1106 rfl ?_
            refine j_aload_n dX3_nextToken_116 rfl ?_
            refine j_get 8 dX3_nextToken_117 (by first | rfl | assumption) in_X3 rfl (by decide) q1107 rfl ?_
            refine j_eqi (show _ = nI (q + k) by rw [f8]) ?_
            refine j_iald 0 (q + k) dX3_nextToken_120 (by first | rfl | assumption) rfl rfl (by show (q + k) < 400; omega) (by decide) ?_
            refine j_eqi (show _ = nI (T (q + k)) from (htx (q + k) h109).1) ?_
            refine j_bipush (v := 97) dX3_nextToken_121 (by decide) ?_
            refine j_bipush (v := 122) dX3_nextToken_123 (by decide) ?_
            refine j_callSi (c_X3_in _ _ _) dX3_nextToken_125 pmX3_in q1228 q1229 rfl ⟨Nat.le_of_ble_eq_true rfl, Nat.le_of_ble_eq_true rfl⟩ ⟨Nat.le_of_ble_eq_true rfl, Nat.le_of_ble_eq_true rfl⟩ rfl (Nat.le_of_ble_eq_true rfl) ?_
            refine j_ifb_eq (tgt := 191) dX3_nextToken_128 (by decide) (fun c128 => ?_) (fun c128 => ?_)
            · skip
              have h128 : ¬ (97 ≤ T (q + k) ∧ T (q + k) ≤ 122) := fun z => c128 ((in_nN hb (by decide) (by decide)).mpr z)
              have hout : q + k = we T (F 6) (q + k) := (rgE_out h128).symm
              exact kc101 (k, Fw) ⟨f8, by rw [← hwe]; exact hout, fsm⟩
            · skip
              have h128 : 97 ≤ T (q + k) ∧ T (q + k) ≤ 122 := (in_nN hb (by decide) (by decide)).mp c128
              have hgo : we T (F 6) (q + k) = we T (F 6) (q + k + 1) := rgE_go h109 h128
              refine j_aload_n dX3_nextToken_131 rfl ?_
              refine j_joinL (tgt := 175) (fun x => x = wtk T q (k + 1)) (fun v132 hv132 => ?_) (fun kj132 => ?_)
              · skip
                subst hv132
                refine j_put 10 dX3_nextToken_175 (by first | rfl | assumption) in_X3 tyX3_ok nmX3 rfl (by decide) q1109 rfl rfl rfl (by first | decide | simp) ?_
                refine j_mdK (tk' := wtk T q (k + 1)) rfl ?_
                refine j_aload_n dX3_nextToken_178 rfl ?_
                refine j_dup dX3_nextToken_179 rfl ?_
                refine j_get 8 dX3_nextToken_180 (by first | rfl | assumption) in_X3 rfl (by decide) q1107 rfl ?_
                refine j_eqi (show _ = nI (q + k) by rw [f8]) ?_
                refine j_iconst (v := 1) dX3_nextToken_183 (by decide) ?_
                refine j_iadd dX3_nextToken_184 ?_
                refine j_eqi (show _ = nI (q + k + 1) from nI_1 _) ?_
                refine j_put 8 dX3_nextToken_185 (by first | rfl | assumption) in_X3 tyX3_ok nmX3 rfl (by decide) q1107 rfl rfl rfl (by first | decide | simp) ?_
                refine j_mdF (q := 8) (v := q + k + 1) (by decide) rfl ?_
                refine j_goto (tgt := 101) dX3_nextToken_188 (by decide) ?_
                refine ih (k + 1) (va_up Fw 8 (q + k + 1)) ⟨va_up_self _ _ _, by omega, by rw [← Nat.add_assoc, ← hgo]; exact hwe, fun j hj => (va_up_ne _ _ hj).trans (fsm j hj)⟩ (by omega)
              · skip
                refine j_aload_n dX3_nextToken_132 rfl ?_
                refine j_get 8 dX3_nextToken_133 (by first | rfl | assumption) in_X3 rfl (by decide) q1107 rfl ?_
                refine j_eqi (show _ = nI (q + k) by rw [f8]) ?_
                refine j_aload_n dX3_nextToken_136 rfl ?_
                refine j_get 9 dX3_nextToken_137 (by first | rfl | assumption) in_X3 rfl (by decide) q1108 rfl ?_
                refine j_eqi (show _ = nI (q) by rw [f9]) ?_
                refine j_isub dX3_nextToken_140 ?_
                refine j_eqi (show _ = nI k by rw [nI_sub (by omega), Nat.add_sub_cancel_left]) ?_
                refine j_bipush (v := 9) dX3_nextToken_141 (by decide) ?_
                refine j_icmp_ge (tgt := 172) dX3_nextToken_143 (by decide) (fun c143 => ?_) (fun c143 => ?_)
                · skip
                  have h143 : 9 ≤ k := (nI_leI (by decide) (by omega)).mp (show nI 9 ≤ nI k from c143)
                  have hj : (-4 : Int64) = wtk T q (k + 1) := by unfold wtk; rw [if_neg (by omega)]
                  refine j_ldc2 dX3_nextToken_172 q1249 ?_
                  exact kj132 _ hj
                · skip
                  have h143 : k < 9 := Nat.lt_of_not_le (fun z => c143 (show nI 9 ≤ nI k from nI_le z (by omega)))
                  have hj := wtk_go (T := T) (q := q) h143 ⟨h128.1, hb⟩
                  refine j_ldc2 dX3_nextToken_146 q1247 ?_
                  refine j_aload_n dX3_nextToken_149 rfl ?_
                  refine j_get 10 dX3_nextToken_150 (by first | rfl | assumption) in_X3 rfl (by decide) q1109 rfl ?_
                  refine j_lmul dX3_nextToken_153 ?_
                  refine j_aload_n dX3_nextToken_154 rfl ?_
                  refine j_get 7 dX3_nextToken_155 (by first | rfl | assumption) in_X3 rfl (by decide) q1106 rfl ?_
                  refine j_aload_n dX3_nextToken_158 rfl ?_
                  refine j_get 8 dX3_nextToken_159 (by first | rfl | assumption) in_X3 rfl (by decide) q1107 rfl ?_
                  refine j_eqi (show _ = nI (q + k) by rw [f8]) ?_
                  refine j_iald 0 (q + k) dX3_nextToken_162 (by first | rfl | assumption) rfl rfl (by show (q + k) < 400; omega) (by decide) ?_
                  refine j_eqi (show _ = nI (T (q + k)) from (htx (q + k) h109).1) ?_
                  refine j_i2l dX3_nextToken_163 ?_
                  refine j_ladd dX3_nextToken_164 ?_
                  refine j_ldc2 dX3_nextToken_165 q1248 ?_
                  refine j_lsub dX3_nextToken_168 ?_
                  refine j_goto (tgt := 175) dX3_nextToken_169 (by decide) ?_
                  exact kj132 _ hj
    · skip
      have h64 : q = F 6 := by
        have h9 := (nI_eq (by rw [g8]; omega) (by rw [g6]; omega)).mp c64
        rw [g8, g6] at h9
        exact h9
      refine j_aload_n dX3_nextToken_67 rfl ?_
      refine j_ldc2 dX3_nextToken_68 q1246 ?_
      refine j_put 10 dX3_nextToken_71 (by first | rfl | assumption) in_X3 tyX3_ok nmX3 rfl (by decide) q1109 rfl rfl rfl (by first | decide | simp) ?_
      refine j_mdK (tk' := -2) rfl ?_
      have htk : tokS T (F 6) (F 8) (G 9) (G 8) (-2) (G 11) (G 12) := by
        rw [g8, g9]
        exact ⟨hq, Or.inl ⟨h64, h64, rfl⟩⟩
      have hle : G 8 ≤ F 6 := by rw [g8]; exact hqn
      have hsa : ∀ k, k ≠ 8 → k ≠ 9 → k ≠ 11 → k ≠ 12 → G k = F k := gsm
      refine j_goto (tgt := 380) dX3_nextToken_74 (by decide) ?_
      refine j_vret dX3_nextToken_380 rfl (Nat.le_refl _) (Nat.le_refl _) ?_
      exact ⟨rfl, rfl, rfl, _, _, rfl, htk, hle, hsa⟩
  · skip
    refine j_lp1 (fun (F' : Nat → Nat) => (mdS r dT g kI bs fg m nk w x s t F' tk V)) (fun _ => [some (.ref (r 100))]) (fun F' => F' 8 ≤ F 6 ∧ sk T (F 6) (F' 8) = sk T (F 6) (F 8) ∧ (∀ k, k ≠ 8 → F' k = F k)) (fun F' => F 6 - F' 8) ?_ F ⟨hp, rfl, fun _ _ => rfl⟩
    intro F' ⟨hpn, hsk, hsm⟩ ih
    have h6 : F' 6 = F 6 := hsm 6 (by decide)
    refine j_aload_n dX3_nextToken_0 rfl ?_
    refine j_get 8 dX3_nextToken_1 (by first | rfl | assumption) in_X3 rfl (by decide) q1107 rfl ?_
    refine j_aload_n dX3_nextToken_4 rfl ?_
    refine j_get 6 dX3_nextToken_5 (by first | rfl | assumption) in_X3 rfl (by decide) q1105 rfl ?_
    refine j_icmp_ge (tgt := 38) dX3_nextToken_8 (by decide) (fun c8 => ?_) (fun c8 => ?_)
    · skip
      have h8 : F 6 ≤ F' 8 := by
        rw [h6] at c8
        exact (nI_leI (by omega) (by omega)).mp c8
      have hout : F' 8 = sk T (F 6) (F' 8) := (rgE_end h8).symm
      refine kc0 F' ⟨?_, hpn, hsm⟩
      rw [← hsk]
      exact hout
    · skip
      have h8 : F' 8 < F 6 := by
        rw [h6] at c8
        exact Nat.lt_of_not_le (fun q => c8 (nI_le q (by omega)))
      have hb := (htx (F' 8) h8).2
      refine j_aload_n dX3_nextToken_11 rfl ?_
      refine j_get 7 dX3_nextToken_12 (by first | rfl | assumption) in_X3 rfl (by decide) q1106 rfl ?_
      refine j_aload_n dX3_nextToken_15 rfl ?_
      refine j_get 8 dX3_nextToken_16 (by first | rfl | assumption) in_X3 rfl (by decide) q1107 rfl ?_
      refine j_iald 0 (F' 8) dX3_nextToken_19 (by first | rfl | assumption) rfl rfl (by show (F' 8) < 400; omega) (by decide) ?_
      refine j_eqi (show _ = nI (T (F' 8)) from (htx (F' 8) h8).1) ?_
      refine j_bipush (v := 32) dX3_nextToken_20 (by decide) ?_
      refine j_icmp_ne (tgt := 38) dX3_nextToken_22 (by decide) (fun c22 => ?_) (fun c22 => ?_)
      · skip
        have h22 : ¬ T (F' 8) = 32 := fun q => c22 (by rw [q]; rfl)
        have hout : F' 8 = sk T (F 6) (F' 8) := (rgE_out (fun q => h22 (by omega))).symm
        refine kc0 F' ⟨?_, hpn, hsm⟩
        rw [← hsk]
        exact hout
      · skip
        have h22 : T (F' 8) = 32 := (nI_eq (by omega) (by decide)).mp (show nI (T (F' 8)) = nI 32 from c22)
        have hgo : sk T (F 6) (F' 8) = sk T (F 6) (F' 8 + 1) := rgE_go h8 (by omega)
        refine j_aload_n dX3_nextToken_25 rfl ?_
        refine j_dup dX3_nextToken_26 rfl ?_
        refine j_get 8 dX3_nextToken_27 (by first | rfl | assumption) in_X3 rfl (by decide) q1107 rfl ?_
        refine j_iconst (v := 1) dX3_nextToken_30 (by decide) ?_
        refine j_iadd dX3_nextToken_31 ?_
        refine j_eqi (show _ = nI (F' 8 + 1) from nI_1 _) ?_
        refine j_put 8 dX3_nextToken_32 (by first | rfl | assumption) in_X3 tyX3_ok nmX3 rfl (by decide) q1107 rfl rfl rfl (by first | decide | simp) ?_
        refine j_mdF (q := 8) (v := F' 8 + 1) (by decide) rfl ?_
        refine j_goto (tgt := 0) dX3_nextToken_35 (by decide) ?_
        refine ih (va_up F' 8 (F' 8 + 1)) ⟨by rw [va_up_self]; omega, by rw [va_up_self, ← hgo]; exact hsk, fun k hk => (va_up_ne _ _ hk).trans (hsm k hk)⟩ (by rw [va_up_self]; omega)
set_option maxHeartbeats 4000000 in
theorem m_fails {l : Launch} {D : va_G} {dT : Nat → ClassId} {H0 : Heap} {r : Nat → Nat} {nx : Nat} {g : j_H} {kI : Int32} {bs fg m nk w x s t : Nat} {F : Nat → Nat} {tk : Int64} {V : Nat → Nat → Int32} (f : Nat) : MC (gG l D dT H0) yX3_fails cX3_fails 2 (some .boolean) 0 0 0 [.ref (r 100), .int (nI f)] r (mdS r dT g kI bs fg m nk w x s t F tk V) nx (jq_i 0 r (mdS r dT g kI bs fg m nk w x s t (va_up (va_up F 13 (F 9 + 1)) 14 f) tk V) nx) := by
  refine MC.ofJ [some (.ref (r 100)), some (.int (nI f))] rfl (Nat.le_of_ble_eq_true rfl) (by decide) ?_
  refine j_aload_n dX3_fails_0 rfl ?_
  refine j_aload_n dX3_fails_1 rfl ?_
  refine j_get 9 dX3_fails_2 (by first | rfl | assumption) in_X3 rfl (by decide) q1108 rfl ?_
  refine j_eqi (show _ = nI (F 9 + 1) - 1 by rw [show (1 : Int32) = nI 1 from rfl, nI_sub (by omega)]; rfl) ?_
  refine j_put 13 dX3_fails_5 (by first | rfl | assumption) in_X3 tyX3_ok nmX3 rfl (by decide) q1112 rfl rfl rfl (by first | decide | simp) ?_
  refine j_mdF (q := 13) (v := F 9 + 1) (by decide) rfl ?_
  refine j_aload_n dX3_fails_8 rfl ?_
  refine j_iload_n dX3_fails_9 rfl ?_
  refine j_put 14 dX3_fails_10 (by first | rfl | assumption) in_X3 tyX3_ok nmX3 rfl (by decide) q1113 rfl rfl rfl (by first | decide | simp) ?_
  refine j_mdF (q := 14) (v := f) (by decide) rfl ?_
  refine j_iconst (v := 0) dX3_fails_13 (by decide) ?_
  refine j_iret dX3_fails_14 rfl rfl (Nat.le_refl _) (Nat.le_refl _) ?_
  exact ⟨rfl, rfl, rfl, rfl⟩
/-- as it was but for what reading writes -/
def sameP (F F' : Nat → Nat) : Prop := ∀ k, k < 8 ∨ 19 < k → F' k = F k
theorem sameP.trans {F F' F'' : Nat → Nat} (h : sameP F F') (h' : sameP F' F'') : sameP F F'' := fun k a => (h' k a).trans (h k a)
/-- what is read stays -/
def rdS (F F' : Nat → Nat) : Prop := ∀ k, 15 ≤ k → k ≤ 19 → F' k = F k
/-- an answer 1 and then ok of what is; or 0, and the fault is written down -/
def q_pr (f x pos : Nat) (ok : (Nat → Nat) → (Nat → Nat → Int32) → Prop) (r : Nat → Nat) (dT : Nat → ClassId) (g : j_H) (kI : Int32) (bs fg m nk w x9 s t : Nat) (F : Nat → Nat) (V : Nat → Nat → Int32) (nx : Nat) : j_Q := fun o r' h' nx' => o = .returned (some (.int (if f = 0 then 1 else 0))) ∧ r' = r ∧ nx' = nx ∧ ∃ (F' : Nat → Nat) (tk' : Int64) (V' : Nat → Nat → Int32), h' = (mdS r dT g kI bs fg m nk w x9 s t F' tk' V') ∧ sameP F F' ∧ F' 8 ≤ F 6 ∧ (∀ k, k ≠ 103 → V' k = V k) ∧ (f = 0 → F' 8 = pos ∧ F' 13 = F 13 ∧ F' 14 = F 14 ∧ ok F' V') ∧ (¬ f = 0 → F' 13 = x + 1 ∧ F' 14 = f)
theorem q_pr.isR {f x pos : Nat} {ok : (Nat → Nat) → (Nat → Nat → Int32) → Prop} {r : Nat → Nat} {dT : Nat → ClassId} {g : j_H} {kI : Int32} {bs fg m nk w x9 s t : Nat} {F : Nat → Nat} {V : Nat → Nat → Int32} {nx : Nat} : j_isR (q_pr f x pos ok r dT g kI bs fg m nk w x9 s t F V nx) := fun _ _ _ _ hq => ⟨_, hq.1⟩
theorem tok_dig {T : Nat → Nat} {n p q e : Nat} {tk : Int64} {dg nm : Nat} (h : tokS T n p q e tk dg nm) (hp : p ≤ n) : (tk = -1 ↔ sk T n p < de T n (sk T n p)) ∧ (tk = -1 → e = de T n q ∧ dg = e - q ∧ (e - q ≤ 3 → nm = dv T q (e - q))) := by
  obtain ⟨hq, h⟩ := h
  rw [← hq]
  have hqn : q ≤ n := by rw [hq]; exact rgE_le hp
  rcases h with ⟨h1, h2, h3⟩ | ⟨h1, h2, h3, h4⟩ | ⟨h1, h2, h3, h4, h5, h6⟩ | ⟨h1, h2, h3, h4, h5⟩
  · refine ⟨⟨fun z => absurd (h3.symm.trans z) (by decide), fun z => ?_⟩, fun z => absurd (h3.symm.trans z) (by decide)⟩
    rw [show de T n q = q from rgE_end (by omega)] at z
    omega
  · have hne : ¬ tk = -1 := fun z => by
      rw [h4] at z
      unfold wtk at z
      split at z
      · have hlt : wcode T q (e - q) < 27 ^ 9 := Nat.lt_of_lt_of_le (wcode_lt _ (fun i hi => by
          rw [h3] at hi
          exact rgE_in (n := n) (p := q) (by omega) (by show q + i < we T n q; omega))) (Nat.pow_le_pow_right (by decide) (by assumption))
        have hz := congrArg Int64.toInt z
        rw [pk_lT (by omega), show (-1 : Int64).toInt = -1 by decide] at hz
        omega
      · exact absurd z (by decide)
    refine ⟨⟨fun z => absurd z hne, fun z => ?_⟩, fun z => absurd z hne⟩
    have := (rgE_pos (lo := 48) (hi := 57) (T := T) h1).mp z
    omega
  · exact ⟨⟨fun _ => (rgE_pos h1).mpr h2, fun _ => h4⟩, fun _ => ⟨h3, h5, h6⟩⟩
  · have hne : ¬ tk = -1 := fun z => by rw [h5] at z; split at z <;> exact absurd z (by decide)
    exact ⟨⟨fun z => absurd z hne, fun z => absurd ((rgE_pos (lo := 48) (hi := 57) (T := T) h1).mp z) h3⟩, fun z => absurd z hne⟩
theorem tok_end {T : Nat → Nat} {n p q e : Nat} {tk : Int64} {dg nm : Nat} (h : tokS T n p q e tk dg nm) : (tk = -3 ↔ (sk T n p < n ∧ T (sk T n p) = 59)) ∧ (tk = -3 → e = sk T n p + 1) := by
  obtain ⟨hq, h⟩ := h
  rw [← hq]
  rcases h with ⟨h1, h2, h3⟩ | ⟨h1, h2, h3, h4⟩ | ⟨h1, h2, h3, h4, h5, h6⟩ | ⟨h1, h2, h3, h4, h5⟩
  · exact ⟨⟨fun z => absurd (h3.symm.trans z) (by decide), fun z => by omega⟩, fun z => absurd (h3.symm.trans z) (by decide)⟩
  · have hne : ¬ tk = -3 := fun z => by
      rw [h4] at z
      unfold wtk at z
      split at z
      · have hlt : wcode T q (e - q) < 27 ^ 9 := Nat.lt_of_lt_of_le (wcode_lt _ (fun i hi => by
          rw [h3] at hi
          exact rgE_in (n := n) (p := q) (by omega) (by show q + i < we T n q; omega))) (Nat.pow_le_pow_right (by decide) (by assumption))
        have hz := congrArg Int64.toInt z
        rw [pk_lT (by omega), show (-3 : Int64).toInt = -3 by decide] at hz
        omega
      · exact absurd z (by decide)
    exact ⟨⟨fun z => absurd z hne, fun z => by omega⟩, fun z => absurd z hne⟩
  · exact ⟨⟨fun z => absurd (h4.symm.trans z) (by decide), fun z => by omega⟩, fun z => absurd (h4.symm.trans z) (by decide)⟩
  · refine ⟨⟨fun z => ⟨h1, Classical.byContradiction (fun y => ?_)⟩, fun z => by rw [h5, if_pos z.2]⟩, fun _ => h4⟩
    rw [h5, if_neg y] at z
    exact absurd z (by decide)
set_option maxHeartbeats 4000000 in
theorem m_isNext {l : Launch} {D : va_G} {dT : Nat → ClassId} {H0 : Heap} {r : Nat → Nat} {nx : Nat} {g : j_H} {kI : Int32} {bs fg m nk w x s t : Nat} {F : Nat → Nat} {tk : Int64} {V : Nat → Nat → Int32} {T : Nat → Nat} (htx : txR (V 102) (F 6) T) (hn4 : F 6 ≤ 400) (hp : F 8 ≤ F 6) (wh lo hi : Nat) (hwh : wh ≤ 32) (hlo : lo < 2 ^ 31) (hhi : hi < 2 ^ 31) : MC (gG l D dT H0) yX3_isNext cX3_isNext 4 (some .boolean) 2 0 0 [.ref (r 100), .int (nI wh - 1), .int (nI lo), .int (nI hi)] r (mdS r dT g kI bs fg m nk w x s t F tk V) nx (q_pr (pNum T (F 6) (F 8) lo hi).1 (pNum T (F 6) (F 8) lo hi).2.1 (pNum T (F 6) (F 8) lo hi).2.2 (fun F' V' => rdS F F' ∧ F' 9 = sk T (F 6) (F 8) ∧ F' 12 = (pNum T (F 6) (F 8) lo hi).2.1 ∧ ((wh = 0 ∧ V' 103 = V 103) ∨ (0 < wh ∧ V' 103 = upd (V 103) (wh - 1) (nI (pNum T (F 6) (F 8) lo hi).2.1)))) r dT g kI bs fg m nk w x s t F V nx) := by
  refine MC.ofJ [some (.ref (r 100)), some (.int (nI wh - 1)), some (.int (nI lo)), some (.int (nI hi))] rfl (Nat.le_of_ble_eq_true rfl) (by decide) ?_
  refine j_aload_n dX3_isNext_0 rfl ?_
  refine j_callV (m_tok htx hn4 hp) q_tok.isR dX3_isNext_1 pmX3_nextToken q1242 q1244 qs28 (by first | rfl | assumption) rfl rfl rfl ⟨Nat.le_of_ble_eq_true rfl, Nat.le_of_ble_eq_true rfl⟩ ⟨Nat.le_of_ble_eq_true rfl, Nat.le_of_ble_eq_true rfl⟩ rfl (Nat.le_of_ble_eq_true rfl) ?_
  rintro v9 r h9 nx ⟨e9, rfl, rfl, F1, tk1, rfl, htk, hle1, hsm1⟩
  cases e9
  have h96 := hsm1 6 (by decide) (by decide) (by decide) (by decide)
  obtain ⟨hdi, hdg⟩ := tok_dig htk hp
  have hq9 : F1 9 = sk T (F 6) (F 8) := htk.1
  have hqn : F1 9 ≤ F 6 := by rw [hq9]; exact rgE_le hp
  refine j_aload_n dX3_isNext_4 rfl ?_
  refine j_get 10 dX3_isNext_5 (by first | rfl | assumption) in_X3 rfl (by decide) q1109 rfl ?_
  refine j_ldc2 dX3_isNext_8 q1250 ?_
  refine j_lcmp dX3_isNext_11 ?_
  refine j_if_eq (tgt := 21) dX3_isNext_12 (by decide) (fun c12 => ?_) (fun c12 => ?_)
  · skip
    have h12 : tk1 = -1 := lcmp_0.mp c12
    obtain ⟨he9, hd9, hn9⟩ := hdg h12
    have hdt := hdi.mp h12
    refine j_aload_n dX3_isNext_21 rfl ?_
    refine j_get 11 dX3_isNext_22 (by first | rfl | assumption) in_X3 rfl (by decide) q1110 rfl ?_
    refine j_iconst (v := 3) dX3_isNext_25 (by decide) ?_
    refine j_icmp_gt (tgt := 41) dX3_isNext_26 (by decide) (fun c26 => ?_) (fun c26 => ?_)
    · skip
      have h26 : ¬ de T (F 6) (sk T (F 6) (F 8)) ≤ sk T (F 6) (F 8) + 3 := fun z => absurd c26 (nI_nlt (show F1 11 ≤ 3 by rw [hd9, he9, hq9]; omega) (by decide))
      have hpn : (pNum T (F 6) (F 8) lo hi) = (2, sk T (F 6) (F 8), 0) := by unfold pNum; rw [if_pos hdt, if_neg (fun z => h26 z.1)]
      refine j_aload_n dX3_isNext_41 rfl ?_
      refine j_iconst (v := 2) dX3_isNext_42 (by decide) ?_
      refine j_callVi (m_fails 2) dX3_isNext_43 pmX3_fails q1253 q1255 qs29 (by first | rfl | assumption) rfl rfl rfl ⟨Nat.le_of_ble_eq_true rfl, Nat.le_of_ble_eq_true rfl⟩ ⟨Nat.le_of_ble_eq_true rfl, Nat.le_of_ble_eq_true rfl⟩ rfl (Nat.le_of_ble_eq_true rfl) ?_
      refine j_iret dX3_isNext_46 rfl rfl (Nat.le_refl _) (Nat.le_refl _) ?_
      rw [hpn]
      exact ⟨rfl, rfl, rfl, _, _, V, rfl, (fun k a => by rw [va_up_ne _ _ (by omega), va_up_ne _ _ (by omega)]; exact hsm1 k (by omega) (by omega) (by omega) (by omega)), hle1, fun _ _ => rfl, fun z => Nat.noConfusion z, fun _ => ⟨by show F1 9 + 1 = _; rw [hq9], rfl⟩⟩
    · skip
      have h26 : F1 8 - F1 9 ≤ 3 := by
        rw [← hd9]
        exact Nat.le_of_not_lt (fun z => c26 (nI_lt (a := 3) z (by have := hle1; omega)))
      have hnv := hn9 h26
      have hge : F1 9 ≤ F1 8 := by rw [he9]; exact rgE_ge
      have hnl : F1 12 < 10 ^ 3 := by
        rw [hnv]
        exact Nat.lt_of_lt_of_le (dv_lt _ (fun i hi => rgE_in (n := F 6) (p := F1 9) (by omega) (by show F1 9 + i < de T (F 6) (F1 9); omega))) (Nat.pow_le_pow_right (by decide) h26)
      refine j_aload_n dX3_isNext_29 rfl ?_
      refine j_get 12 dX3_isNext_30 (by first | rfl | assumption) in_X3 rfl (by decide) q1111 rfl ?_
      refine j_iload_n dX3_isNext_33 rfl ?_
      refine j_iload_n dX3_isNext_34 rfl ?_
      refine j_callSi (c_X3_in _ _ _) dX3_isNext_35 pmX3_in q1228 q1229 rfl ⟨Nat.le_of_ble_eq_true rfl, Nat.le_of_ble_eq_true rfl⟩ ⟨Nat.le_of_ble_eq_true rfl, Nat.le_of_ble_eq_true rfl⟩ rfl (Nat.le_of_ble_eq_true rfl) ?_
      refine j_ifb_ne (tgt := 47) dX3_isNext_38 (by decide) (fun c38 => ?_) (fun c38 => ?_)
      · skip
        have h38 : lo ≤ F1 12 ∧ F1 12 ≤ hi := ⟨(nI_leI hlo (by omega)).mp c38.1, (nI_leI (by omega) hhi).mp c38.2⟩
        have hpn : (pNum T (F 6) (F 8) lo hi) = (0, F1 12, F1 8) := by
          rw [hnv] at h38 ⊢
          rw [he9, hq9] at h38 h26 ⊢
          unfold pNum
          rw [if_pos hdt, if_pos ⟨by omega, h38⟩]
        refine j_iload_n dX3_isNext_47 rfl ?_
        refine j_if_lt (tgt := 61) dX3_isNext_48 (by decide) (fun c48 => ?_) (fun c48 => ?_)
        · skip
          have h48 : wh = 0 := by
            rcases Nat.eq_zero_or_pos wh with z | z
            · exact z
            · rw [show (1 : Int32) = nI 1 from rfl, nI_sub z] at c48
              exact absurd c48 (Int32.not_lt.mpr (nI_pos' (by omega)))
          refine j_iconst (v := 1) dX3_isNext_61 (by decide) ?_
          refine j_iret dX3_isNext_62 rfl rfl (Nat.le_refl _) (Nat.le_refl _) ?_
          rw [hpn]
          exact ⟨rfl, rfl, rfl, F1, tk1, V, rfl, (fun k a => hsm1 k (by omega) (by omega) (by omega) (by omega)), hle1, fun _ _ => rfl, fun _ => ⟨rfl, hsm1 13 (by decide) (by decide) (by decide) (by decide), hsm1 14 (by decide) (by decide) (by decide) (by decide), (fun k a b => hsm1 k (by omega) (by omega) (by omega) (by omega)), hq9, rfl, Or.inl ⟨h48, rfl⟩⟩, fun z => absurd rfl z⟩
        · skip
          have h48 : 0 < wh := by
            rcases Nat.eq_zero_or_pos wh with z | z
            · rw [z] at c48; exact absurd (by decide) c48
            · exact z
          have hwe : nI wh - 1 = nI (wh - 1) := by rw [show (1 : Int32) = nI 1 from rfl, nI_sub h48]
          refine j_re rfl rfl (h' := (mdS r dT g kI bs fg m nk w x s t F1 tk1 (vo V [(103, V 103)]))) (by rw [vo_same _ (by simp)]) ?_
          refine j_aload_n dX3_isNext_51 rfl ?_
          
          refine j_get 20 dX3_isNext_52 (by first | rfl | assumption) in_X3 rfl (by decide) q1119 rfl ?_
          refine j_iload_n dX3_isNext_55 rfl ?_
          refine j_aload_n dX3_isNext_56 rfl ?_
          refine j_get 12 dX3_isNext_57 (by first | rfl | assumption) in_X3 rfl (by decide) q1111 rfl ?_
          refine j_iast 0 (wh - 1) dX3_isNext_60 (by first | rfl | assumption) rfl hwe (by show wh - 1 < 32; omega) (by decide) ?_
          refine j_mdW (f := upd (V 103) (wh - 1) (nI (F1 12))) (by decide) (by decide) rfl ?_
          refine j_iconst (v := 1) dX3_isNext_61 (by decide) ?_
          refine j_iret dX3_isNext_62 rfl rfl (Nat.le_refl _) (Nat.le_refl _) ?_
          rw [hpn]
          exact ⟨rfl, rfl, rfl, F1, tk1, _, rfl, (fun k a => hsm1 k (by omega) (by omega) (by omega) (by omega)), hle1, fun k hk => vo_ne (fun q hq e => by rw [List.mem_singleton.mp hq] at e; exact hk e.symm), fun _ => ⟨rfl, hsm1 13 (by decide) (by decide) (by decide) (by decide), hsm1 14 (by decide) (by decide) (by decide) (by decide), (fun k a b => hsm1 k (by omega) (by omega) (by omega) (by omega)), hq9, rfl, Or.inr ⟨h48, rfl⟩⟩, fun z => absurd rfl z⟩
      · skip
        have h38 : ¬ (lo ≤ F1 12 ∧ F1 12 ≤ hi) := fun z => c38 ⟨nI_le z.1 (by omega), nI_le z.2 hhi⟩
        have hpn : (pNum T (F 6) (F 8) lo hi) = (2, sk T (F 6) (F 8), 0) := by
          rw [hnv, he9, hq9] at h38
          unfold pNum
          rw [if_pos hdt, if_neg (fun z => h38 z.2)]
        refine j_aload_n dX3_isNext_41 rfl ?_
        refine j_iconst (v := 2) dX3_isNext_42 (by decide) ?_
        refine j_callVi (m_fails 2) dX3_isNext_43 pmX3_fails q1253 q1255 qs29 (by first | rfl | assumption) rfl rfl rfl ⟨Nat.le_of_ble_eq_true rfl, Nat.le_of_ble_eq_true rfl⟩ ⟨Nat.le_of_ble_eq_true rfl, Nat.le_of_ble_eq_true rfl⟩ rfl (Nat.le_of_ble_eq_true rfl) ?_
        refine j_iret dX3_isNext_46 rfl rfl (Nat.le_refl _) (Nat.le_refl _) ?_
        rw [hpn]
        exact ⟨rfl, rfl, rfl, _, _, V, rfl, (fun k a => by rw [va_up_ne _ _ (by omega), va_up_ne _ _ (by omega)]; exact hsm1 k (by omega) (by omega) (by omega) (by omega)), hle1, fun _ _ => rfl, fun z => Nat.noConfusion z, fun _ => ⟨by show F1 9 + 1 = _; rw [hq9], rfl⟩⟩
  · skip
    have h12 : ¬ tk1 = -1 := fun z => c12 (lcmp_0.mpr z)
    have hdt := fun z => h12 (hdi.mpr z)
    have hpn : (pNum T (F 6) (F 8) lo hi) = (1, sk T (F 6) (F 8), 0) := if_neg hdt
    refine j_aload_n dX3_isNext_15 rfl ?_
    refine j_iconst (v := 1) dX3_isNext_16 (by decide) ?_
    refine j_callVi (m_fails 1) dX3_isNext_17 pmX3_fails q1253 q1255 qs29 (by first | rfl | assumption) rfl rfl rfl ⟨Nat.le_of_ble_eq_true rfl, Nat.le_of_ble_eq_true rfl⟩ ⟨Nat.le_of_ble_eq_true rfl, Nat.le_of_ble_eq_true rfl⟩ rfl (Nat.le_of_ble_eq_true rfl) ?_
    refine j_iret dX3_isNext_20 rfl rfl (Nat.le_refl _) (Nat.le_refl _) ?_
    rw [hpn]
    exact ⟨rfl, rfl, rfl, _, _, V, rfl, (fun k a => by rw [va_up_ne _ _ (by omega), va_up_ne _ _ (by omega)]; exact hsm1 k (by omega) (by omega) (by omega) (by omega)), hle1, fun _ _ => rfl, fun z => Nat.noConfusion z, fun _ => ⟨by show F1 9 + 1 = _; rw [hq9], rfl⟩⟩
set_option maxHeartbeats 4000000 in
theorem m_ends {l : Launch} {D : va_G} {dT : Nat → ClassId} {H0 : Heap} {r : Nat → Nat} {nx : Nat} {g : j_H} {kI : Int32} {bs fg m nk w x s t : Nat} {F : Nat → Nat} {tk : Int64} {V : Nat → Nat → Int32} {T : Nat → Nat} (htx : txR (V 102) (F 6) T) (hn4 : F 6 ≤ 400) (hp : F 8 ≤ F 6) : MC (gG l D dT H0) yX3_ends cX3_ends 1 (some .boolean) 2 0 0 [.ref (r 100)] r (mdS r dT g kI bs fg m nk w x s t F tk V) nx (q_pr (pEnd T (F 6) (F 8)).1 (pEnd T (F 6) (F 8)).2.1 (pEnd T (F 6) (F 8)).2.2 (fun F' V' => rdS F F' ∧ V' 103 = V 103) r dT g kI bs fg m nk w x s t F V nx) := by
  refine MC.ofJ [some (.ref (r 100))] rfl (Nat.le_of_ble_eq_true rfl) (by decide) ?_
  refine j_aload_n dX3_ends_0 rfl ?_
  refine j_callV (m_tok htx hn4 hp) q_tok.isR dX3_ends_1 pmX3_nextToken q1242 q1244 qs28 (by first | rfl | assumption) rfl rfl rfl ⟨Nat.le_of_ble_eq_true rfl, Nat.le_of_ble_eq_true rfl⟩ ⟨Nat.le_of_ble_eq_true rfl, Nat.le_of_ble_eq_true rfl⟩ rfl (Nat.le_of_ble_eq_true rfl) ?_
  rintro v9 r h9 nx ⟨e9, rfl, rfl, F1, tk1, rfl, htk, hle1, hsm1⟩
  cases e9
  have h96 := hsm1 6 (by decide) (by decide) (by decide) (by decide)
  obtain ⟨hei, heg⟩ := tok_end htk
  have hq9 : F1 9 = sk T (F 6) (F 8) := htk.1
  refine j_aload_n dX3_ends_4 rfl ?_
  refine j_get 10 dX3_ends_5 (by first | rfl | assumption) in_X3 rfl (by decide) q1109 rfl ?_
  refine j_ldc2 dX3_ends_8 q1251 ?_
  refine j_lcmp dX3_ends_11 ?_
  refine j_if_eq (tgt := 23) dX3_ends_12 (by decide) (fun c12 => ?_) (fun c12 => ?_)
  · skip
    have h12 : tk1 = -3 := lcmp_0.mp c12
    have hpe : (pEnd T (F 6) (F 8)) = (0, 0, F1 8) := by unfold pEnd; rw [if_pos (hei.mp h12), heg h12]
    refine j_iconst (v := 1) dX3_ends_23 (by decide) ?_
    refine j_goto (tgt := 28) dX3_ends_24 (by decide) ?_
    refine j_iret dX3_ends_28 rfl rfl (Nat.le_refl _) (Nat.le_refl _) ?_
    rw [hpe]
    exact ⟨rfl, rfl, rfl, F1, tk1, V, rfl, (fun k a => hsm1 k (by omega) (by omega) (by omega) (by omega)), hle1, fun _ _ => rfl, fun _ => ⟨rfl, hsm1 13 (by decide) (by decide) (by decide) (by decide), hsm1 14 (by decide) (by decide) (by decide) (by decide), (fun k a b => hsm1 k (by omega) (by omega) (by omega) (by omega)), rfl⟩, fun z => absurd rfl z⟩
  · skip
    have h12 : ¬ tk1 = -3 := fun z => c12 (lcmp_0.mpr z)
    have hpe : (pEnd T (F 6) (F 8)) = (1, sk T (F 6) (F 8), 0) := if_neg (fun z => h12 (hei.mpr z))
    refine j_aload_n dX3_ends_15 rfl ?_
    refine j_iconst (v := 1) dX3_ends_16 (by decide) ?_
    refine j_callVi (m_fails 1) dX3_ends_17 pmX3_fails q1253 q1255 qs29 (by first | rfl | assumption) rfl rfl rfl ⟨Nat.le_of_ble_eq_true rfl, Nat.le_of_ble_eq_true rfl⟩ ⟨Nat.le_of_ble_eq_true rfl, Nat.le_of_ble_eq_true rfl⟩ rfl (Nat.le_of_ble_eq_true rfl) ?_
    refine j_if_eq (tgt := 27) dX3_ends_20 (by decide) (fun c20 => ?_) (fun c20 => absurd rfl c20)
    refine j_iconst (v := 0) dX3_ends_27 (by decide) ?_
    refine j_iret dX3_ends_28 rfl rfl (Nat.le_refl _) (Nat.le_refl _) ?_
    rw [hpe]
    exact ⟨rfl, rfl, rfl, _, _, V, rfl, (fun k a => by rw [va_up_ne _ _ (by omega), va_up_ne _ _ (by omega)]; exact hsm1 k (by omega) (by omega) (by omega) (by omega)), hle1, fun _ _ => rfl, fun z => Nat.noConfusion z, fun _ => ⟨by show F1 9 + 1 = _; rw [hq9], rfl⟩⟩
theorem m_isNextP {l : Launch} {D : va_G} {dT : Nat → ClassId} {H0 : Heap} {r : Nat → Nat} {nx : Nat} {g : j_H} {kI : Int32} {bs fg m nk w x s t : Nat} {F : Nat → Nat} {tk : Int64} {V : Nat → Nat → Int32} {T : Nat → Nat} {n p : Nat} (h6 : F 6 = n) (h8 : F 8 = p) (htx : txR (V 102) n T) (hn4 : n ≤ 400) (hp : p ≤ n) (wh lo hi : Nat) (hwh : wh ≤ 32) (hlo : lo < 2 ^ 31) (hhi : hi < 2 ^ 31) : MC (gG l D dT H0) yX3_isNext cX3_isNext 4 (some .boolean) 2 0 0 [.ref (r 100), .int (nI wh - 1), .int (nI lo), .int (nI hi)] r (mdS r dT g kI bs fg m nk w x s t F tk V) nx (q_pr (pNum T n p lo hi).1 (pNum T n p lo hi).2.1 (pNum T n p lo hi).2.2 (fun F' V' => rdS F F' ∧ F' 9 = sk T n p ∧ F' 12 = (pNum T n p lo hi).2.1 ∧ ((wh = 0 ∧ V' 103 = V 103) ∨ (0 < wh ∧ V' 103 = upd (V 103) (wh - 1) (nI (pNum T n p lo hi).2.1)))) r dT g kI bs fg m nk w x s t F V nx) := by
  subst h6
  subst h8
  exact m_isNext htx hn4 hp wh lo hi hwh hlo hhi
theorem m_endsP {l : Launch} {D : va_G} {dT : Nat → ClassId} {H0 : Heap} {r : Nat → Nat} {nx : Nat} {g : j_H} {kI : Int32} {bs fg m nk w x s t : Nat} {F : Nat → Nat} {tk : Int64} {V : Nat → Nat → Int32} {T : Nat → Nat} {n p : Nat} (h6 : F 6 = n) (h8 : F 8 = p) (htx : txR (V 102) n T) (hn4 : n ≤ 400) (hp : p ≤ n)  : MC (gG l D dT H0) yX3_ends cX3_ends 1 (some .boolean) 2 0 0 [.ref (r 100)] r (mdS r dT g kI bs fg m nk w x s t F tk V) nx (q_pr (pEnd T n p).1 (pEnd T n p).2.1 (pEnd T n p).2.2 (fun F' V' => rdS F F' ∧ V' 103 = V 103) r dT g kI bs fg m nk w x s t F V nx) := by
  subst h6
  subst h8
  exact m_ends htx hn4 hp
theorem we_0 {T : Nat → Nat} {n q : Nat} (h : n ≤ q ∨ ¬ (97 ≤ T q ∧ T q ≤ 122)) : wK T n q = 0 := by
  have e : we T n q = q := h.elim rgE_end rgE_out
  unfold wK
  rw [e, Nat.sub_self]
  rfl
theorem wc_k : ∀ k, k < 12 → wcL (wLs.getD k []) < 27 ^ 9 ∧ (wLs.getD k []).length ≤ 6 ∧ ∀ x, x ∈ wLs.getD k [] → 97 ≤ x ∧ x ≤ 122 := by decide
theorem tok_w {T : Nat → Nat} {n p q e : Nat} {tk : Int64} {dg nm : Nat} (h : tokS T n p q e tk dg nm) : (∀ k, 1 ≤ k → k ≤ 11 → (tk = lN (wcL (wLs.getD k [])) ↔ wK T n (sk T n p) = k)) ∧ (1 ≤ wK T n (sk T n p) → e = we T n (sk T n p) ∧ sk T n p < n) := by
  obtain ⟨hq, h⟩ := h
  rw [← hq]
  have hneg : ∀ k, k ≤ 11 → ∀ v : Int64, v.toInt < 0 → ¬ v = lN (wcL (wLs.getD k [])) := fun k hk v hv z => by
    have hz := congrArg Int64.toInt z
    have h9 := (wc_k k (by omega)).1
    rw [pk_lT (by omega)] at hz
    omega
  rcases h with ⟨h1, h2, h3⟩ | ⟨h1, h2, h3, h4⟩ | ⟨h1, h2, h3, h4, h5, h6⟩ | ⟨h1, h2, h3, h4, h5⟩
  · have hw := we_0 (T := T) (n := n) (q := q) (Or.inl (by omega))
    exact ⟨fun k a b => ⟨fun z => absurd (h3 ▸ z) (hneg k b (-2) (by decide)), fun z => by omega⟩, fun z => by omega⟩
  · refine ⟨fun k a b => ?_, fun _ => ⟨h3, h1⟩⟩
    obtain ⟨c1, c2, c3⟩ := wc_k k (by omega)
    have hin : ∀ y, y ∈ wrd T q (we T n q - q) → 97 ≤ y ∧ y ≤ 122 := fun y hy => by
      unfold wrd at hy
      obtain ⟨i, hi, rfl⟩ := List.mem_map.mp hy
      have hi := List.mem_range.mp hi
      exact rgE_in (n := n) (p := q) (by omega) (by show q + i < we T n q; omega)
    have hlen : (wrd T q (we T n q - q)).length = we T n q - q := by unfold wrd; rw [List.length_map, List.length_range]
    unfold wK
    rw [wIx_is ⟨a, b⟩, h4, h3]
    unfold wtk
    by_cases h9 : we T n q - q ≤ 9
    · rw [if_pos h9]
      have hlt : wcode T q (we T n q - q) < 27 ^ 9 := Nat.lt_of_lt_of_le (wcode_lt _ (fun i hi => rgE_in (n := n) (p := q) (by omega) (by show q + i < we T n q; omega))) (Nat.pow_le_pow_right (by decide) h9)
      rw [pk_lEQ (by omega) (by omega), wcode_eq]
      exact ⟨fun z => wcL_inj _ _ hin c3 z, fun z => by rw [z]⟩
    · rw [if_neg h9]
      exact ⟨fun z => absurd z (hneg k b (-4) (by decide)), fun z => by rw [z] at hlen; omega⟩
  · have hw := we_0 (T := T) (n := n) (q := q) (Or.inr (by omega))
    exact ⟨fun k a b => ⟨fun z => absurd (h4 ▸ z) (hneg k b (-1) (by decide)), fun z => by omega⟩, fun z => by omega⟩
  · have hw := we_0 (T := T) (n := n) (q := q) (Or.inr h2)
    refine ⟨fun k a b => ⟨fun z => ?_, fun z => by omega⟩, fun z => by omega⟩
    rw [h5] at z
    split at z
    · exact absurd z (hneg k b (-3) (by decide))
    · exact absurd z (hneg k b (-4) (by decide))
