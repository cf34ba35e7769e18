set_option maxRecDepth 100000
theorem ret0 {f : Nat} (h : ¬ f = 0) : Outcome.returned (some (.int 0)) = .returned (some (.int (if f = 0 then 1 else 0))) := by rw [if_neg h]
theorem ret1 {f : Nat} (h : f = 0) : Outcome.returned (some (.int 1)) = .returned (some (.int (if f = 0 then 1 else 0))) := by rw [if_pos h]
theorem ifE {f : Nat} : (if f = 0 then (1 : Int32) else 0) = 0 ↔ ¬ f = 0 := by
  by_cases h : f = 0
  · rw [if_pos h]; exact ⟨fun q => absurd q (by decide), fun q => absurd h q⟩
  · rw [if_neg h]; exact ⟨fun _ => h, fun _ => rfl⟩
theorem nI_wh (w j : Nat) : nI w + nI j = nI (w + j + 1) - 1 := by rw [nI_add, show (1 : Int32) = nI 1 from rfl, nI_sub (by omega)]; rfl
theorem nI_p1 {a : Nat} (h : 1 ≤ a) : nI a - 1 = nI (a - 1) := by rw [show (1 : Int32) = nI 1 from rfl, nI_sub h]
set_option maxHeartbeats 4000000 in
theorem m_isCost {l : Launch} {D : va_G} {dT : Nat → ClassId} {H0 : Heap} {r : Nat → Nat} {nx : Nat} {g : j_H} {kI : Int32} {bs fg m nk w x s t : Nat} {F : Nat → Nat} {tk : Int64} {V : Nat → Nat → Int32} {T : Nat → Nat} {n p : Nat} (h6 : F 6 = n) (h8 : F 8 = p) (htx : txR (V 102) n T) (hn4 : n ≤ 400) (hp : p ≤ n) (z k9 nm9 ot9 : Nat) (hz : z + 1 < 32) : MC (gG l D dT H0) yX3_isCost cX3_isCost 2 (some .boolean) 3 0 0 [.ref (r 100), .int (nI z)] r (mdS r dT g kI bs fg m nk w x s t F tk V) nx (q_pr (pCE T n p k9 nm9 ot9).1 (pCE T n p k9 nm9 ot9).2.1 (pCE T n p k9 nm9 ot9).2.2.2 (fun F' V' => rdS F F' ∧ V' 103 = upd (V 103) (z + 1) (nI (pCE T n p k9 nm9 ot9).2.2.1.2.1)) r dT g kI bs fg m nk w x s t F V nx) := by
  refine MC.ofJ [some (.ref (r 100)), some (.int (nI z))] rfl (Nat.le_of_ble_eq_true rfl) (by decide) ?_
  refine j_aload_n dX3_isCost_0 rfl ?_
  refine j_iload_n dX3_isCost_1 rfl ?_
  refine j_iconst (v := 1) dX3_isCost_2 (by decide) ?_
  refine j_iadd dX3_isCost_3 ?_
  refine j_eqi (show _ = nI (z + 1 + 1) - 1 from nI_wh z 1) ?_
  refine j_iconst (v := 1) dX3_isCost_4 (by decide) ?_
  refine j_bipush (v := 99) dX3_isCost_5 (by decide) ?_
  refine j_callV (m_isNextP h6 h8 htx hn4 hp (z + 1 + 1) 1 99 (by omega) (by decide) (by decide)) q_pr.isR dX3_isCost_7 pmX3_isNext q1263 q1265 qs31 (by first | rfl | assumption) rfl rfl rfl ⟨Nat.le_of_ble_eq_true rfl, Nat.le_of_ble_eq_true rfl⟩ ⟨Nat.le_of_ble_eq_true rfl, Nat.le_of_ble_eq_true rfl⟩ rfl (Nat.le_of_ble_eq_true rfl) ?_
  rintro v9 r h9 nx ⟨e9, rfl, rfl, F1, tk1, V1, rfl, hs1, hl1, hv1, hok1, hbad1⟩
  cases e9
  show J _ _ _ _ _ _ _ _ _ _ _ _ (.int _ :: _)
  refine j_if_eq (tgt := 24) dX3_isCost_10 (by decide) (fun c10 => ?_) (fun c10 => ?_)
  · skip
    have hf := ifE.mp c10
    have hpc : (pCE T n p k9 nm9 ot9) = pF (pNum T n p 1 99).1 (pNum T n p 1 99).2.1 := if_neg hf
    refine j_iconst (v := 0) dX3_isCost_24 (by decide) ?_
    refine j_iret dX3_isCost_25 rfl rfl (Nat.le_refl _) (Nat.le_refl _) ?_
    rw [hpc]
    exact ⟨ret0 hf, rfl, rfl, F1, tk1, V1, rfl, hs1, hl1, hv1, fun q => absurd q hf, hbad1⟩
  · skip
    have hf : (pNum T n p 1 99).1 = 0 := Classical.byContradiction (fun z => c10 (ifE.mpr z))
    obtain ⟨h81, ha1, hb1, hr1, -, hn1, hw1⟩ := hok1 hf
    have h61 : F1 6 = n := (hs1 6 (Or.inl (by decide))).trans h6
    have hps := pNum_pos hp hf
    have hV1 : V1 103 = upd (V 103) (z + 1) (nI (pNum T n p 1 99).2.1) := by
      rcases hw1 with q | q
      · omega
      · rw [q.2]; rfl
    refine j_aload_n dX3_isCost_13 rfl ?_
    refine j_callV (m_endsP (p := (pNum T n p 1 99).2.2) h61 h81 (by rw [hv1 102 (by decide)]; exact htx) hn4 hps.2.2.1) q_pr.isR dX3_isCost_14 pmX3_ends q1267 q1269 qs32 (by first | rfl | assumption) rfl rfl rfl ⟨Nat.le_of_ble_eq_true rfl, Nat.le_of_ble_eq_true rfl⟩ ⟨Nat.le_of_ble_eq_true rfl, Nat.le_of_ble_eq_true rfl⟩ rfl (Nat.le_of_ble_eq_true rfl) ?_
    rintro v9 r h9 nx ⟨e9, rfl, rfl, F2, tk2, V2, rfl, hs2, hl2, hv2, hok2, hbad2⟩
    cases e9
    show J _ _ _ _ _ _ _ _ _ _ _ _ (.int _ :: _)
    refine j_if_eq (tgt := 24) dX3_isCost_17 (by decide) (fun c17 => ?_) (fun c17 => ?_)
    · skip
      have hf2 := ifE.mp c17
      have hpc : (pCE T n p k9 nm9 ot9) = pF (pEnd T n (pNum T n p 1 99).2.2).1 (pEnd T n (pNum T n p 1 99).2.2).2.1 := by unfold pCE; rw [if_pos hf, if_neg hf2]
      refine j_iconst (v := 0) dX3_isCost_24 (by decide) ?_
      refine j_iret dX3_isCost_25 rfl rfl (Nat.le_refl _) (Nat.le_refl _) ?_
      rw [hpc]
      exact ⟨ret0 hf2, rfl, rfl, F2, tk2, V2, rfl, hs1.trans hs2, by rw [h6]; rw [h61] at hl2; exact hl2, fun k hk => (hv2 k hk).trans (hv1 k hk), fun q => absurd q hf2, hbad2⟩
    · skip
      have hf2 : (pEnd T n (pNum T n p 1 99).2.2).1 = 0 := Classical.byContradiction (fun z => c17 (ifE.mpr z))
      obtain ⟨h82, ha2, hb2, hr2, hw2⟩ := hok2 hf2
      have hpc : (pCE T n p k9 nm9 ot9) = (0, 0, (k9, (pNum T n p 1 99).2.1, nm9, ot9), (pEnd T n (pNum T n p 1 99).2.2).2.2) := by unfold pCE; rw [if_pos hf, if_pos hf2]
      refine j_iconst (v := 1) dX3_isCost_20 (by decide) ?_
      refine j_goto (tgt := 25) dX3_isCost_21 (by decide) ?_
      refine j_iret dX3_isCost_25 rfl rfl (Nat.le_refl _) (Nat.le_refl _) ?_
      rw [hpc]
      exact ⟨rfl, rfl, rfl, F2, tk2, V2, rfl, hs1.trans hs2, by rw [h6]; rw [h61] at hl2; exact hl2, fun k hk => (hv2 k hk).trans (hv1 k hk), fun _ => ⟨h82, ha2.trans ha1, hb2.trans hb1, fun k a b => (hr2 k a b).trans (hr1 k a b), by rw [hw2]; exact hV1⟩, fun q => absurd rfl q⟩
def sgI (k : Nat) : Int32 := if 5 ≤ k ∧ k ≤ 7 then nI (k - 4) else -1
theorem m_tokP {l : Launch} {D : va_G} {dT : Nat → ClassId} {H0 : Heap} {r : Nat → Nat} {nx : Nat} {g : j_H} {kI : Int32} {bs fg m nk w x s t : Nat} {F : Nat → Nat} {tk : Int64} {V : Nat → Nat → Int32} {T : Nat → Nat} {n p : Nat} (h6 : F 6 = n) (h8 : F 8 = p) (htx : txR (V 102) n T) (hn4 : n ≤ 400) (hp : p ≤ n) : MC (gG l D dT H0) yX3_nextToken cX3_nextToken 1 none 1 0 0 [.ref (r 100)] r (mdS r dT g kI bs fg m nk w x s t F tk V) nx (fun o r' h' nx' => o = .returned none ∧ r' = r ∧ nx' = nx ∧ ∃ (F' : Nat → Nat) (tk' : Int64), h' = (mdS r dT g kI bs fg m nk w x s t F' tk' V) ∧ tokS T n p (F' 9) (F' 8) tk' (F' 11) (F' 12) ∧ F' 8 ≤ n ∧ ∀ k, k ≠ 8 → k ≠ 9 → k ≠ 11 → k ≠ 12 → F' k = F k) := by
  subst h6
  subst h8
  exact m_tok htx hn4 hp
set_option maxHeartbeats 4000000 in
theorem m_isNow {l : Launch} {D : va_G} {dT : Nat → ClassId} {H0 : Heap} {r : Nat → Nat} {nx : Nat} {g : j_H} {kI : Int32} {bs fg m nk w x s t : Nat} {F : Nat → Nat} {tk : Int64} {V : Nat → Nat → Int32} {T : Nat → Nat} {n p : Nat} (h6 : F 6 = n) (h8 : F 8 = p) (htx : txR (V 102) n T) (hn4 : n ≤ 400) (hp : p ≤ n) (z b9 m9 : Nat) (hz : z + 3 < 32) (hm9 : F 18 = m9) (hm8 : 1 ≤ m9 ∧ m9 ≤ 100) : MC (gG l D dT H0) yX3_isNow cX3_isNow 2 (some .boolean) 4 0 0 [.ref (r 100), .int (nI z)] r (mdS r dT g kI bs fg m nk w x s t F tk V) nx (q_pr (pKey T n b9 m9 10 p).1 (pKey T n b9 m9 10 p).2.1 (pKey T n b9 m9 10 p).2.2.2 (fun F' V' => rdS F F' ∧ V' 103 = upd (upd (upd (V 103) (z + 3) (nI (pKey T n b9 m9 10 p).2.2.1.2.2.2)) (z + 2) (nI (pKey T n b9 m9 10 p).2.2.1.2.2.1)) (z + 1) (nI (pKey T n b9 m9 10 p).2.2.1.2.1)) r dT g kI bs fg m nk w x s t F V nx) := by
  refine MC.ofJ [some (.ref (r 100)), some (.int (nI z))] rfl (Nat.le_of_ble_eq_true rfl) (by decide) ?_
  refine j_aload_n dX3_isNow_0 rfl ?_
  refine j_callV (m_tokP h6 h8 htx hn4 hp) (fun _ _ _ _ hq => ⟨_, hq.1⟩) dX3_isNow_1 pmX3_nextToken q1242 q1244 qs28 (by first | rfl | assumption) rfl rfl rfl ⟨Nat.le_of_ble_eq_true rfl, Nat.le_of_ble_eq_true rfl⟩ ⟨Nat.le_of_ble_eq_true rfl, Nat.le_of_ble_eq_true rfl⟩ rfl (Nat.le_of_ble_eq_true rfl) ?_
  rintro v9 r h9 nx ⟨e9, rfl, rfl, F1, tk1, rfl, htk, hle1, hsm1⟩
  cases e9
  obtain ⟨hW, hWe⟩ := tok_w htk
  have hq9 : F1 9 = sk T n p := htk.1
  have h61 : F1 6 = n := (hsm1 6 (by decide) (by decide) (by decide) (by decide)).trans h6
  have hqn : sk T n p ≤ n := rgE_le hp
  obtain ⟨k, hk⟩ : ∃ k, wK T n (sk T n p) = k := ⟨_, rfl⟩
  rw [hk] at hW hWe
  refine j_re rfl rfl (h' := (mdS r dT g kI bs fg m nk w x s t F1 tk1 (vo V [(103, V 103)]))) (by rw [vo_same _ (by simp)]) ?_
  refine j_aload_n dX3_isNow_4 rfl ?_
  refine j_get 20 dX3_isNow_5 (by first | rfl | assumption) in_X3 rfl (by decide) q1119 rfl ?_
  refine j_iload_n dX3_isNow_8 rfl ?_
  refine j_iconst (v := 3) dX3_isNow_9 (by decide) ?_
  refine j_iadd dX3_isNow_10 ?_
  refine j_eqi (show _ = nI (z + 3) from nI_add z 3) ?_
  refine j_join (tgt := 57) (fun x => x = sgI k) (fun v11 hv11 => ?_) (fun kj11 => ?_)
  · skip
    subst hv11
    refine j_iast 0 (z + 3) dX3_isNow_57 (by first | rfl | assumption) rfl rfl (by show z + 3 < 32; omega) (by decide) ?_
    refine j_mdW (f := upd (V 103) (z + 3) (sgI k)) (by decide) (by decide) rfl ?_
    refine j_aload_n dX3_isNow_58 rfl ?_
    refine j_get 20 dX3_isNow_59 (by first | rfl | assumption) in_X3 rfl (by decide) q1119 rfl ?_
    refine j_iload_n dX3_isNow_62 rfl ?_
    refine j_iconst (v := 3) dX3_isNow_63 (by decide) ?_
    refine j_iadd dX3_isNow_64 ?_
    refine j_eqi (show _ = nI (z + 3) from nI_add z 3) ?_
    refine j_iald 0 (z + 3) dX3_isNow_65 (by first | rfl | assumption) rfl rfl (by show z + 3 < 32; omega) (by decide) ?_
    refine j_eqi (show _ = sgI k from pk_us) ?_
    refine j_iconst (v := (-1)) dX3_isNow_66 (by decide) ?_
    refine j_icmp_ne (tgt := 76) dX3_isNow_67 (by decide) (fun c67 => ?_) (fun c67 => ?_)
    · skip
      have h67 : 5 ≤ k ∧ k ≤ 7 := Classical.byContradiction (fun q => c67 (if_neg q))
      obtain ⟨h81, hqn2⟩ := hWe (by omega)
      have hsg : sgI k = nI (k - 4) := if_pos h67
      have hwn : we T n (sk T n p) ≤ n := rgE_le hqn
      have h18 : F1 18 = m9 := (hsm1 18 (by decide) (by decide) (by decide) (by decide)).trans hm9
      refine j_aload_n dX3_isNow_76 rfl ?_
      refine j_iload_n dX3_isNow_77 rfl ?_
      refine j_iconst (v := 2) dX3_isNow_78 (by decide) ?_
      refine j_iadd dX3_isNow_79 ?_
      refine j_eqi (show _ = nI (z + 2 + 1) - 1 from nI_wh z 2) ?_
      refine j_iconst (v := 0) dX3_isNow_80 (by decide) ?_
      refine j_aload_n dX3_isNow_81 rfl ?_
      refine j_get 18 dX3_isNow_82 (by first | rfl | assumption) in_X3 rfl (by decide) q1117 rfl ?_
      refine j_iconst (v := 1) dX3_isNow_85 (by decide) ?_
      refine j_isub dX3_isNow_86 ?_
      refine j_eqi (show _ = nI (m9 - 1) by rw [h18]; exact nI_p1 hm8.1) ?_
      refine j_callV (m_isNextP (V := (vo V [(103, upd (V 103) (z + 3) (sgI k))])) (p := (we T n (sk T n p))) h61 h81 htx hn4 hwn (z + 2 + 1) 0 (m9 - 1) (by omega) (by decide) (by omega)) q_pr.isR dX3_isNow_87 pmX3_isNext q1263 q1265 qs31 (by first | rfl | assumption) rfl rfl rfl ⟨Nat.le_of_ble_eq_true rfl, Nat.le_of_ble_eq_true rfl⟩ ⟨Nat.le_of_ble_eq_true rfl, Nat.le_of_ble_eq_true rfl⟩ rfl (Nat.le_of_ble_eq_true rfl) ?_
      rintro v9 r h9 nx ⟨e9, rfl, rfl, F2, tk2, V2, rfl, hs2, hl2, hv2, hok2, hbad2⟩
      cases e9
      show J _ _ _ _ _ _ _ _ _ _ _ _ (.int _ :: _)
      refine j_if_eq (tgt := 105) dX3_isNow_90 (by decide) (fun c90 => ?_) (fun c90 => ?_)
      · skip
        have hf := ifE.mp c90
        have hpk : (pKey T n b9 m9 10 p) = pF (pNum T n (we T n (sk T n p)) 0 (m9 - 1)).1 (pNum T n (we T n (sk T n p)) 0 (m9 - 1)).2.1 := by unfold pKey pNm; rw [if_neg (by decide), if_pos rfl, hk, if_pos h67, if_neg hf]
        refine j_iconst (v := 0) dX3_isNow_105 (by decide) ?_
        refine j_iret dX3_isNow_106 rfl rfl (Nat.le_refl _) (Nat.le_refl _) ?_
        rw [hpk]
        exact ⟨ret0 hf, rfl, rfl, F2, tk2, V2, rfl, (show sameP F F1 from (fun k a => hsm1 k (by omega) (by omega) (by omega) (by omega))).trans hs2, by rw [h6]; rw [h61] at hl2; exact hl2, fun k hk => (hv2 k hk).trans (vo_ne (fun q hq e => by rw [List.mem_singleton.mp hq] at e; exact hk e.symm)), fun q => absurd q hf, hbad2⟩
      · skip
        have hf : (pNum T n (we T n (sk T n p)) 0 (m9 - 1)).1 = 0 := Classical.byContradiction (fun z => c90 (ifE.mpr z))
        obtain ⟨h82, ha2, hb2, hr2, -, hn2, hw2⟩ := hok2 hf
        have h62 : F2 6 = n := (hs2 6 (Or.inl (by decide))).trans h61
        have hps := pNum_pos hwn hf
        have hV2 : V2 103 = upd (upd (V 103) (z + 3) (sgI k)) (z + 2) (nI (pNum T n (we T n (sk T n p)) 0 (m9 - 1)).2.1) := by
          rcases hw2 with q | q
          · omega
          · rw [q.2]; rfl
        refine j_aload_n dX3_isNow_93 rfl ?_
        refine j_iload_n dX3_isNow_94 rfl ?_
        refine j_callV (m_isCost (p := (pNum T n (we T n (sk T n p)) 0 (m9 - 1)).2.2) h62 h82 (by rw [hv2 102 (by decide)]; exact htx) hn4 hps.2.2.1 z 6 (pNum T n (we T n (sk T n p)) 0 (m9 - 1)).2.1 (k - 4) (by omega)) q_pr.isR dX3_isNow_95 pmX3_isCost q1287 q1289 qs35 (by first | rfl | assumption) rfl rfl rfl ⟨Nat.le_of_ble_eq_true rfl, Nat.le_of_ble_eq_true rfl⟩ ⟨Nat.le_of_ble_eq_true rfl, Nat.le_of_ble_eq_true rfl⟩ rfl (Nat.le_of_ble_eq_true rfl) ?_
        rintro v9 r h9 nx ⟨e9, rfl, rfl, F3, tk3, V3, rfl, hs3, hl3, hv3, hok3, hbad3⟩
        cases e9
        show J _ _ _ _ _ _ _ _ _ _ _ _ (.int _ :: _)
        refine j_if_eq (tgt := 105) dX3_isNow_98 (by decide) (fun c98 => ?_) (fun c98 => ?_)
        · skip
          have hf3 := ifE.mp c98
          have hpk : (pKey T n b9 m9 10 p) = (pCE T n (pNum T n (we T n (sk T n p)) 0 (m9 - 1)).2.2 6 (pNum T n (we T n (sk T n p)) 0 (m9 - 1)).2.1 (k - 4)) := by unfold pKey pNm; rw [if_neg (by decide), if_pos rfl, hk, if_pos h67, if_pos hf]
          refine j_iconst (v := 0) dX3_isNow_105 (by decide) ?_
          refine j_iret dX3_isNow_106 rfl rfl (Nat.le_refl _) (Nat.le_refl _) ?_
          rw [hpk]
          exact ⟨ret0 hf3, rfl, rfl, F3, tk3, V3, rfl, ((show sameP F F1 from (fun k a => hsm1 k (by omega) (by omega) (by omega) (by omega))).trans hs2).trans hs3, by rw [h6]; rw [h62] at hl3; exact hl3, fun k hk => ((hv3 k hk).trans (hv2 k hk)).trans (vo_ne (fun q hq e => by rw [List.mem_singleton.mp hq] at e; exact hk e.symm)), fun q => absurd q hf3, hbad3⟩
        · skip
          have hf3 : (pCE T n (pNum T n (we T n (sk T n p)) 0 (m9 - 1)).2.2 6 (pNum T n (we T n (sk T n p)) 0 (m9 - 1)).2.1 (k - 4)).1 = 0 := Classical.byContradiction (fun z => c98 (ifE.mpr z))
          have hpk : (pKey T n b9 m9 10 p) = (pCE T n (pNum T n (we T n (sk T n p)) 0 (m9 - 1)).2.2 6 (pNum T n (we T n (sk T n p)) 0 (m9 - 1)).2.1 (k - 4)) := by unfold pKey pNm; rw [if_neg (by decide), if_pos rfl, hk, if_pos h67, if_pos hf]
          obtain ⟨h83, ha3, hb3, hr3, hw3⟩ := hok3 hf3
          have hcp := pCE_pos hps.2.2.1 hf3
          refine j_iconst (v := 1) dX3_isNow_101 (by decide) ?_
          refine j_goto (tgt := 106) dX3_isNow_102 (by decide) ?_
          refine j_iret dX3_isNow_106 rfl rfl (Nat.le_refl _) (Nat.le_refl _) ?_
          rw [hpk]
          exact ⟨ret1 hf3, rfl, rfl, F3, tk3, V3, rfl, ((show sameP F F1 from (fun k a => hsm1 k (by omega) (by omega) (by omega) (by omega))).trans hs2).trans hs3, by rw [h6]; rw [h62] at hl3; exact hl3, fun k hk => ((hv3 k hk).trans (hv2 k hk)).trans (vo_ne (fun q hq e => by rw [List.mem_singleton.mp hq] at e; exact hk e.symm)), fun _ => ⟨h83, (ha3.trans ha2).trans (hsm1 13 (by decide) (by decide) (by decide) (by decide)), (hb3.trans hb2).trans (hsm1 14 (by decide) (by decide) (by decide) (by decide)), fun k a b => ((hr3 k a b).trans (hr2 k a b)).trans (hsm1 k (by omega) (by omega) (by omega) (by omega)), by rw [hw3, hV2, hcp.2.2.2.2.2.1, hcp.2.2.2.2.2.2, hsg]⟩, fun q => absurd hf3 q⟩
    · skip
      have h67 : ¬ (5 ≤ k ∧ k ≤ 7) := fun q => nI_m1 (show k - 4 < 2 ^ 31 by omega) ((if_pos q).symm.trans c67)
      have hpk : (pKey T n b9 m9 10 p) = pF 1 (sk T n p) := by unfold pKey; rw [if_neg (by decide), if_pos rfl, hk, if_neg h67]
      refine j_aload_n dX3_isNow_70 rfl ?_
      refine j_iconst (v := 1) dX3_isNow_71 (by decide) ?_
      refine j_callVi (m_fails 1) dX3_isNow_72 pmX3_fails q1253 q1255 qs29 (by first | rfl | assumption) rfl rfl rfl ⟨Nat.le_of_ble_eq_true rfl, Nat.le_of_ble_eq_true rfl⟩ ⟨Nat.le_of_ble_eq_true rfl, Nat.le_of_ble_eq_true rfl⟩ rfl (Nat.le_of_ble_eq_true rfl) ?_
      refine j_iret dX3_isNow_75 rfl rfl (Nat.le_refl _) (Nat.le_refl _) ?_
      rw [hpk]
      exact ⟨rfl, rfl, rfl, _, _, _, rfl, (fun k a => by rw [va_up_ne _ _ (by omega), va_up_ne _ _ (by omega)]; exact hsm1 k (by omega) (by omega) (by omega) (by omega)), by rw [h6]; exact hle1, fun k hk => vo_ne (fun q hq e => by rw [List.mem_singleton.mp hq] at e; exact hk e.symm), fun q => Nat.noConfusion q, fun _ => ⟨by show F1 9 + 1 = _; rw [hq9]; rfl, rfl⟩⟩
  · skip
    refine j_aload_n dX3_isNow_11 rfl ?_
    refine j_get 10 dX3_isNow_12 (by first | rfl | assumption) in_X3 rfl (by decide) q1109 rfl ?_
    refine j_ldc2 dX3_isNow_15 q1276 ?_
    refine j_lcmp dX3_isNow_18 ?_
    refine j_if_ne (tgt := 26) dX3_isNow_19 (by decide) (fun c19 => ?_) (fun c19 => ?_)
    · skip
      have n5 : ¬ k = 5 := fun z => c19 (lcmp_0.mpr ((hW 5 (by decide) (by decide)).mpr z))
      refine j_aload_n dX3_isNow_26 rfl ?_
      refine j_get 10 dX3_isNow_27 (by first | rfl | assumption) in_X3 rfl (by decide) q1109 rfl ?_
      refine j_ldc2 dX3_isNow_30 q1277 ?_
      refine j_lcmp dX3_isNow_33 ?_
      refine j_if_ne (tgt := 41) dX3_isNow_34 (by decide) (fun c34 => ?_) (fun c34 => ?_)
      · skip
        have n6 : ¬ k = 6 := fun z => c34 (lcmp_0.mpr ((hW 6 (by decide) (by decide)).mpr z))
        refine j_aload_n dX3_isNow_41 rfl ?_
        refine j_get 10 dX3_isNow_42 (by first | rfl | assumption) in_X3 rfl (by decide) q1109 rfl ?_
        refine j_ldc2 dX3_isNow_45 q1278 ?_
        refine j_lcmp dX3_isNow_48 ?_
        refine j_if_ne (tgt := 56) dX3_isNow_49 (by decide) (fun c49 => ?_) (fun c49 => ?_)
        · skip
          have n7 : ¬ k = 7 := fun z => c49 (lcmp_0.mpr ((hW 7 (by decide) (by decide)).mpr z))
          have hj : (-1 : Int32) = sgI k := by unfold sgI; rw [if_neg (by omega)]
          refine j_iconst (v := (-1)) dX3_isNow_56 (by decide) ?_
          exact kj11 _ hj
        · skip
          have n7 : k = 7 := (hW 7 (by decide) (by decide)).mp (lcmp_0.mp c49)
          have hj : (3 : Int32) = sgI k := by unfold sgI; rw [n7]; rfl
          refine j_iconst (v := 3) dX3_isNow_52 (by decide) ?_
          refine j_goto (tgt := 57) dX3_isNow_53 (by decide) ?_
          exact kj11 _ hj
      · skip
        have n6 : k = 6 := (hW 6 (by decide) (by decide)).mp (lcmp_0.mp c34)
        have hj : (2 : Int32) = sgI k := by unfold sgI; rw [n6]; rfl
        refine j_iconst (v := 2) dX3_isNow_37 (by decide) ?_
        refine j_goto (tgt := 57) dX3_isNow_38 (by decide) ?_
        exact kj11 _ hj
    · skip
      have n5 : k = 5 := (hW 5 (by decide) (by decide)).mp (lcmp_0.mp c19)
      have hj : (1 : Int32) = sgI k := by unfold sgI; rw [n5]; rfl
      refine j_iconst (v := 1) dX3_isNow_22 (by decide) ?_
      refine j_goto (tgt := 57) dX3_isNow_23 (by decide) ?_
      exact kj11 _ hj
