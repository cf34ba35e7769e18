set_option maxRecDepth 100000
theorem vo_2 {V : Nat → Nat → Int32} {ky : Nat → Int32} : vo V [(101, ky), (108, V 108)] = vo V [(101, ky)] := by
  funext k
  by_cases h1 : k = 101
  · subst h1; rfl
  · by_cases h2 : k = 108
    · subst h2; rfl
    · rw [vo_ne (fun q hq e => by simp at hq; rcases hq with rfl | rfl; exact h1 e.symm; exact h2 e.symm), vo_ne (fun q hq e => by simp at hq; rw [hq] at e; exact h1 e.symm)]
/-- the model with what was read: the dial, the keys -/
def mdNew (D9 : Option (Nat × Nat × Nat × Nat)) (l : List KY) (kI : Int32) (bs fg m nk : Nat) (V : Nat → Nat → Int32) : Prop := (D9 = none → kI = -1 ∧ bs = 0 ∧ fg = 0 ∧ m = 0 ∧ nk = 0) ∧ ∀ d, D9 = some d → kI = nI d.1 ∧ bs = d.2.1 ∧ fg = d.2.2.1 ∧ m = d.2.2.2 ∧ nk = l.length ∧ ∀ i e, l[i]? = some e → mdQ (V 101) i e
def q_rk (f x : Nat) (D9 : Option (Nat × Nat × Nat × Nat)) (l : List KY) (r : Nat → Nat) (dT : Nat → ClassId) (g : j_H) (kI : Int32) (bs fg m nk w x9 s t : Nat) (F : Nat → Nat) (V : Nat → Nat → Int32) (nx : Nat) : j_Q := fun o r' h' nx' => r' = r ∧ nx' = nx ∧ ∃ (kI' : Int32) (bs' fg' m' nk' w' x' s' t' : Nat) (F' : Nat → Nat) (tk' : Int64) (V' : Nat → Nat → Int32), h' = (mdS r dT g kI' bs' fg' m' nk' w' x' s' t' F' tk' V') ∧ F' 6 = 0 ∧ (¬ f = 0 → o = .returned (some (.int (-10 - nI f))) ∧ (kI' = kI ∧ bs' = bs ∧ fg' = fg ∧ m' = m ∧ nk' = nk) ∧ (w' = w ∧ x' = x9 ∧ s' = s ∧ t' = t) ∧ F' 13 = x + 1 ∧ (∀ k, 19 < k → F' k = F k) ∧ ∀ k, k ≠ 103 → V' k = V k) ∧ (f = 0 → o = .returned (some (.int (nI m'))) ∧ mdNew D9 l kI' bs' fg' m' nk' V' ∧ (w' = 0 ∧ x' = 0 ∧ s' = 0 ∧ t' = 0) ∧ F' 13 = 0 ∧ F' 25 = 0 ∧ F' 27 = 0 ∧ F' 29 = 0 ∧ (∀ k, 19 < k → k ≠ 25 → k ≠ 27 → k ≠ 29 → F' k = F k) ∧ V' 108 0 = 0 ∧ V' 108 1 = 0 ∧ ∀ k, k ≠ 101 → k ≠ 103 → k ≠ 108 → V' k = V k)
theorem q_rk.isR {f x : Nat} {D9 : Option (Nat × Nat × Nat × Nat)} {l : List KY} {r : Nat → Nat} {dT : Nat → ClassId} {g : j_H} {kI : Int32} {bs fg m nk w x9 s t : Nat} {F : Nat → Nat} {V : Nat → Nat → Int32} {nx : Nat} : j_isR (q_rk f x D9 l r dT g kI bs fg m nk w x9 s t F V nx) := fun _ _ _ _ ⟨_, _, _, _, _, _, _, _, _, _, _, _, _, _, _, _, h1, h2⟩ => by
  by_cases hf : f = 0
  · exact ⟨_, (h2 hf).1⟩
  · exact ⟨_, (h1 hf).1⟩
set_option maxHeartbeats 4000000 in
theorem m_reckoner {l : Launch} {D : va_G} {dT : Nat → ClassId} {H0 : Heap} {r : Nat → Nat} {nx : Nat} {g : j_H} {kI : Int32} {bs fg m nk w x s t : Nat} {F : Nat → Nat} {tk : Int64} {V : Nat → Nat → Int32} {T : Nat → Nat} {n : Nat} (h6 : F 6 = n) (htx : txR (V 102) n T) (hn4 : n ≤ 400) (hl8 : (pAll T n).1 = 0 → (pAll T n).2.2.2.length ≤ 8) : MC (gG l D dT H0) yX3_reckoner cX3_reckoner 3 (some .int) 7 0 0 [.ref (r 100)] r (mdS r dT g kI bs fg m nk w x s t F tk V) nx (q_rk (pAll T n).1 (pAll T n).2.1 (pAll T n).2.2.1 (pAll T n).2.2.2 r dT g kI bs fg m nk w x s t F V nx) := by
  refine MC.ofJ [some (.ref (r 100)), none, none] rfl (Nat.le_of_ble_eq_true rfl) (by decide) ?_
  refine j_aload_n dX3_reckoner_0 rfl ?_
  refine j_callV (m_isRead h6 htx hn4) q_rd.isR dX3_reckoner_1 pmX3_isRead q1238 q1240 qs27 (by first | rfl | assumption) rfl rfl rfl ⟨Nat.le_of_ble_eq_true rfl, Nat.le_of_ble_eq_true rfl⟩ ⟨Nat.le_of_ble_eq_true rfl, Nat.le_of_ble_eq_true rfl⟩ rfl (Nat.le_of_ble_eq_true rfl) ?_
  rintro v9 r h9 nx ⟨e9, rfl, rfl, F1, tk1, V1, rfl, hs1, hv1, hok1, hbad1⟩
  cases e9
  show J _ _ _ _ _ _ _ _ _ _ _ _ (.int _ :: _)
  refine j_istore_n dX3_reckoner_4 (by decide) rfl ?_
  refine j_aload_n dX3_reckoner_5 rfl ?_
  refine j_iconst (v := 0) dX3_reckoner_6 (by decide) ?_
  refine j_put 6 dX3_reckoner_7 (by first | rfl | assumption) in_X3 tyX3_ok nmX3 rfl (by decide) q1105 rfl rfl rfl (by first | decide | simp) ?_
  refine j_mdF (q := 6) (v := 0) (by decide) rfl ?_
  refine j_iload_n dX3_reckoner_10 rfl ?_
  refine j_if_ne (tgt := 22) dX3_reckoner_11 (by decide) (fun c11 => ?_) (fun c11 => ?_)
  · skip
    have hf : (pAll T n).1 = 0 := Classical.byContradiction (fun z => c11 (ifE.mpr z))
    obtain ⟨hn0, hs0⟩ := hok1 hf
    have h19 : F1 19 ≤ 8 := by
      cases hd : (pAll T n).2.2.1 with
      | none => rw [(hn0 hd).2.2.2.2]; omega
      | some d => rw [(hs0 d hd).2.2.2.2.1]; exact hl8 hf
    refine j_aload_n dX3_reckoner_22 rfl ?_
    refine j_iconst (v := (-1)) dX3_reckoner_23 (by decide) ?_
    refine j_eqi (show (-1 : Int32) = nI 0 - 1 by decide) ?_
    refine j_put 13 dX3_reckoner_24 (by first | rfl | assumption) in_X3 tyX3_ok nmX3 rfl (by decide) q1112 rfl rfl rfl (by first | decide | simp) ?_
    refine j_mdF (q := 13) (v := 0) (by decide) rfl ?_
    refine j_aload_n dX3_reckoner_27 rfl ?_
    refine j_aload_n dX3_reckoner_28 rfl ?_
    refine j_get 15 dX3_reckoner_29 (by first | rfl | assumption) in_X3 rfl (by decide) q1114 rfl ?_
    refine j_put 0 dX3_reckoner_32 (by first | rfl | assumption) in_X3 tyX3_ok nmX3 rfl (by decide) q1099 rfl rfl rfl (by first | decide | simp) ?_
    refine j_mdD (kI' := nI (F1 15) - 1) (bs' := bs) (fg' := fg) (m' := m) (nk' := nk) rfl ?_
    refine j_aload_n dX3_reckoner_35 rfl ?_
    refine j_aload_n dX3_reckoner_36 rfl ?_
    refine j_get 16 dX3_reckoner_37 (by first | rfl | assumption) in_X3 rfl (by decide) q1115 rfl ?_
    refine j_put 1 dX3_reckoner_40 (by first | rfl | assumption) in_X3 tyX3_ok nmX3 rfl (by decide) q1100 rfl rfl rfl (by first | decide | simp) ?_
    refine j_mdD (kI' := nI (F1 15) - 1) (bs' := F1 16) (fg' := fg) (m' := m) (nk' := nk) rfl ?_
    refine j_aload_n dX3_reckoner_43 rfl ?_
    refine j_aload_n dX3_reckoner_44 rfl ?_
    refine j_get 17 dX3_reckoner_45 (by first | rfl | assumption) in_X3 rfl (by decide) q1116 rfl ?_
    refine j_put 2 dX3_reckoner_48 (by first | rfl | assumption) in_X3 tyX3_ok nmX3 rfl (by decide) q1101 rfl rfl rfl (by first | decide | simp) ?_
    refine j_mdD (kI' := nI (F1 15) - 1) (bs' := F1 16) (fg' := F1 17) (m' := m) (nk' := nk) rfl ?_
    refine j_aload_n dX3_reckoner_51 rfl ?_
    refine j_aload_n dX3_reckoner_52 rfl ?_
    refine j_get 18 dX3_reckoner_53 (by first | rfl | assumption) in_X3 rfl (by decide) q1117 rfl ?_
    refine j_put 3 dX3_reckoner_56 (by first | rfl | assumption) in_X3 tyX3_ok nmX3 rfl (by decide) q1102 rfl rfl rfl (by first | decide | simp) ?_
    refine j_mdD (kI' := nI (F1 15) - 1) (bs' := F1 16) (fg' := F1 17) (m' := F1 18) (nk' := nk) rfl ?_
    refine j_aload_n dX3_reckoner_59 rfl ?_
    refine j_aload_n dX3_reckoner_60 rfl ?_
    refine j_get 19 dX3_reckoner_61 (by first | rfl | assumption) in_X3 rfl (by decide) q1118 rfl ?_
    refine j_put 4 dX3_reckoner_64 (by first | rfl | assumption) in_X3 tyX3_ok nmX3 rfl (by decide) q1103 rfl rfl rfl (by first | decide | simp) ?_
    refine j_mdD (kI' := nI (F1 15) - 1) (bs' := F1 16) (fg' := F1 17) (m' := F1 18) (nk' := F1 19) rfl ?_
    refine j_iconst (v := 0) dX3_reckoner_67 (by decide) ?_
    refine j_istore_n dX3_reckoner_68 (by decide) rfl ?_
    refine j_re rfl rfl (h' := (mdS r dT g (nI (F1 15) - 1) (F1 16) (F1 17) (F1 18) (F1 19) w x s t (va_up (va_up F1 6 0) 13 0) tk1 (vo V1 [(101, V1 101)]))) (by rw [vo_same _ (by simp)]) ?_
    refine j_less (L' := [some (.ref (r 100)), some (.int (if (pAll T n).1 = 0 then 1 else 0)), some (.int (nI 0))]) ⟨Or.inr rfl, Or.inr rfl, Or.inr rfl, trivial⟩ ?_
    refine j_lp2 (fun (k : Nat) (ky : Nat → Int32) => (mdS r dT g (nI (F1 15) - 1) (F1 16) (F1 17) (F1 18) (F1 19) w x s t (va_up (va_up F1 6 0) 13 0) tk1 (vo V1 [(101, ky)]))) (fun k _ => [some (.ref (r 100)), some (.int (if (pAll T n).1 = 0 then 1 else 0)), some (.int (nI k))]) (fun k ky => k ≤ 4 * F1 19 ∧ ∀ j, j < k → ky j = V1 103 j) (fun k _ => 4 * F1 19 - k) ?_ 0 (V1 101) ⟨Nat.zero_le _, fun j hj => absurd hj (Nat.not_lt_zero _)⟩
    intro k ky ⟨hk, hky⟩ ih
    refine j_iload_n dX3_reckoner_69 rfl ?_
    refine j_iconst (v := 4) dX3_reckoner_70 (by decide) ?_
    refine j_aload_n dX3_reckoner_71 rfl ?_
    refine j_get 4 dX3_reckoner_72 (by first | rfl | assumption) in_X3 rfl (by decide) q1103 rfl ?_
    refine j_imul dX3_reckoner_75 ?_
    refine j_eqi (show _ = nI (4 * F1 19) from pk_mul 4 _) ?_
    refine j_icmp_ge (tgt := 97) dX3_reckoner_76 (by decide) (fun c76 => ?_) (fun c76 => ?_)
    · skip
      have hke : k = 4 * F1 19 := by
        have := (nI_leI (by omega) (by omega)).mp c76
        omega
      subst hke
      refine j_aload_n dX3_reckoner_97 rfl ?_
      refine j_callVv m_start dX3_reckoner_98 pmX3_start q1291 q1293 qs36 (by first | rfl | assumption) rfl rfl rfl ⟨Nat.le_of_ble_eq_true rfl, Nat.le_of_ble_eq_true rfl⟩ ⟨Nat.le_of_ble_eq_true rfl, Nat.le_of_ble_eq_true rfl⟩ rfl (Nat.le_of_ble_eq_true rfl) ?_
      refine j_aload_n dX3_reckoner_101 rfl ?_
      refine j_iconst (v := 0) dX3_reckoner_102 (by decide) ?_
      refine j_put 25 dX3_reckoner_103 (by first | rfl | assumption) in_X3 tyX3_ok nmX3 rfl (by decide) q1124 rfl rfl rfl (by first | decide | simp) ?_
      refine j_mdF (q := 25) (v := 0) (by decide) rfl ?_
      refine j_aload_n dX3_reckoner_106 rfl ?_
      refine j_iconst (v := 0) dX3_reckoner_107 (by decide) ?_
      refine j_put 27 dX3_reckoner_108 (by first | rfl | assumption) in_X3 tyX3_ok nmX3 rfl (by decide) q1126 rfl rfl rfl (by first | decide | simp) ?_
      refine j_mdF (q := 27) (v := 0) (by decide) rfl ?_
      refine j_aload_n dX3_reckoner_111 rfl ?_
      refine j_iconst (v := 0) dX3_reckoner_112 (by decide) ?_
      refine j_put 29 dX3_reckoner_113 (by first | rfl | assumption) in_X3 tyX3_ok nmX3 rfl (by decide) q1128 rfl rfl rfl (by first | decide | simp) ?_
      refine j_mdF (q := 29) (v := 0) (by decide) rfl ?_
      refine j_re rfl rfl (h' := (mdS r dT g (nI (F1 15) - 1) (F1 16) (F1 17) (F1 18) (F1 19) 0 0 0 0 (va_up (va_up (va_up (va_up (va_up F1 6 0) 13 0) 25 0) 27 0) 29 0) tk1 (vo V1 [(101, ky), (108, V1 108)]))) (by rw [show vo V1 [(101, ky), (108, V1 108)] = vo V1 [(101, ky)] from vo_2]) ?_
      refine j_aload_n dX3_reckoner_116 rfl ?_
      refine j_get 33 dX3_reckoner_117 (by first | rfl | assumption) in_X3 rfl (by decide) q1132 rfl ?_
      refine j_iconst (v := 0) dX3_reckoner_120 (by decide) ?_
      refine j_iconst (v := 0) dX3_reckoner_121 (by decide) ?_
      refine j_zast 2 0 dX3_reckoner_122 (by first | rfl | assumption) rfl rfl (by decide) (by decide) ?_
      refine j_mdW (f := upd (V1 108) 0 0) (by decide) (by decide) rfl ?_
      refine j_aload_n dX3_reckoner_123 rfl ?_
      refine j_get 33 dX3_reckoner_124 (by first | rfl | assumption) in_X3 rfl (by decide) q1132 rfl ?_
      refine j_iconst (v := 1) dX3_reckoner_127 (by decide) ?_
      refine j_iconst (v := 0) dX3_reckoner_128 (by decide) ?_
      refine j_zast 2 1 dX3_reckoner_129 (by first | rfl | assumption) rfl rfl (by decide) (by decide) ?_
      refine j_mdW (f := upd (upd (V1 108) 0 0) 1 0) (by decide) (by decide) rfl ?_
      refine j_aload_n dX3_reckoner_130 rfl ?_
      refine j_get 3 dX3_reckoner_131 (by first | rfl | assumption) in_X3 rfl (by decide) q1102 rfl ?_
      refine j_iret dX3_reckoner_134 rfl rfl (Nat.le_refl _) (Nat.le_refl _) ?_
      refine ⟨rfl, rfl, _, _, _, _, _, 0, 0, 0, 0, _, tk1, _, rfl, rfl, fun q => absurd hf q, fun _ => ⟨rfl, ⟨fun hd => ?_, fun d hd => ?_⟩, ⟨rfl, rfl, rfl, rfl⟩, rfl, rfl, rfl, rfl, fun k h1 h2 h3 h4 => ?_, rfl, rfl, fun k h1 h2 h3 => ?_⟩⟩
      · obtain ⟨a1, a2, a3, a4, a5⟩ := hn0 hd
        exact ⟨by rw [a1]; decide, a2, a3, a4, a5⟩
      · obtain ⟨a1, a2, a3, a4, a5, a6⟩ := hs0 d hd
        refine ⟨by rw [a1, ← nI_inc]; exact (by rw [nI_inc, nI_p1 (by omega)]; rfl), a2, a3, a4, a5, fun i e he => ?_⟩
        have h9 := a6 i e he
        have hil := (List.getElem?_eq_some_iff.mp he).1
        show mdQ ky i e
        exact ⟨(hky _ (by omega)).trans h9.1, (hky _ (by omega)).trans h9.2.1, (hky _ (by omega)).trans h9.2.2.1, (hky _ (by omega)).trans h9.2.2.2⟩
      · rw [va_up_ne _ _ h4, va_up_ne _ _ h3, va_up_ne _ _ h2, va_up_ne _ _ (by omega), va_up_ne _ _ (by omega)]
        exact hs1 k (Or.inr h1)
      · refine (vo_ne (l := [(101, ky), (108, upd (upd (V1 108) 0 0) 1 0)]) ?_).trans (hv1 k h2)
        intro q hq e
        simp at hq
        rcases hq with rfl | rfl
        · exact h1 e.symm
        · exact h3 e.symm
    · skip
      have hkl : k < 4 * F1 19 := Nat.lt_of_not_le (fun q => c76 (nI_le q (by omega)))
      refine j_aload_n dX3_reckoner_79 rfl ?_
      refine j_get 5 dX3_reckoner_80 (by first | rfl | assumption) in_X3 rfl (by decide) q1104 rfl ?_
      refine j_iload_n dX3_reckoner_83 rfl ?_
      refine j_aload_n dX3_reckoner_84 rfl ?_
      refine j_get 20 dX3_reckoner_85 (by first | rfl | assumption) in_X3 rfl (by decide) q1119 rfl ?_
      refine j_iload_n dX3_reckoner_88 rfl ?_
      refine j_iald 0 k dX3_reckoner_89 (by first | rfl | assumption) rfl rfl (by show k < 32; omega) (by decide) ?_
      refine j_iast 0 k dX3_reckoner_90 (by first | rfl | assumption) rfl rfl (by show k < 36; omega) (by decide) ?_
      refine j_mdW (f := upd ky k (V1 103 k)) (by decide) (by decide) rfl ?_
      refine j_iinc dX3_reckoner_91 rfl (by decide) rfl ?_
      refine j_goto (tgt := 69) dX3_reckoner_94 (by decide) ?_
      refine j_less (L' := [some (.ref (r 100)), some (.int (if (pAll T n).1 = 0 then 1 else 0)), some (.int (nI (k + 1)))]) ⟨Or.inr rfl, Or.inr rfl, Or.inr (by rw [← nI_inc]), trivial⟩ ?_
      refine ih (k + 1) _ ⟨by omega, fun j hj => ?_⟩ (by omega)
      by_cases he : j = k
      · rw [he]; exact pk_us
      · exact (pk_un he).trans (hky j (by omega))
  · skip
    have hf := ifE.mp c11
    obtain ⟨b1, b2⟩ := hbad1 hf
    refine j_bipush (v := (-10)) dX3_reckoner_14 (by decide) ?_
    refine j_aload_n dX3_reckoner_16 rfl ?_
    refine j_get 14 dX3_reckoner_17 (by first | rfl | assumption) in_X3 rfl (by decide) q1113 rfl ?_
    refine j_isub dX3_reckoner_20 ?_
    refine j_iret dX3_reckoner_21 rfl rfl (Nat.le_refl _) (Nat.le_refl _) ?_
    refine ⟨rfl, rfl, kI, bs, fg, m, nk, w, x, s, t, va_up F1 6 0, tk1, V1, rfl, va_up_self _ _ _, fun _ => ⟨?_, ⟨rfl, rfl, rfl, rfl, rfl⟩, ⟨rfl, rfl, rfl, rfl⟩, b1, fun k hk => (va_up_ne _ _ (by omega)).trans (hs1 k (Or.inr hk)), hv1⟩, fun q => absurd q hf⟩
    show Outcome.returned (some (.int (-10 - nI (F1 14)))) = _
    rw [b2]
