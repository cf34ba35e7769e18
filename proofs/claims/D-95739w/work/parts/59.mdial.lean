set_option maxRecDepth 100000
/-- how many numbers the model counts -/
def mdm (b : Nat) : Nat → Nat
  | 0 => 1
  | k + 1 => if mdm b k * b ≤ 100 then mdm b k * b else 1000
theorem mdm_eq {b : Nat} (hb : 2 ≤ b) : ∀ k, mdm b k = if b ^ k ≤ 100 then b ^ k else 1000
  | 0 => rfl
  | k + 1 => by
    rw [mdm, mdm_eq hb k, Nat.pow_succ]
    by_cases h : b ^ k ≤ 100
    · rw [if_pos h]
    · have h2 : ¬ b ^ k * b ≤ 100 := fun q => h (Nat.le_trans (Nat.le_mul_of_pos_right _ (by omega)) q)
      rw [if_neg h, if_neg (by omega), if_neg h2]
theorem pNm_ok {T : Nat → Nat} {n p lo hi : Nat} {c : Nat → Nat → pR} (h : (pNum T n p lo hi).1 = 0) : pNm T n p lo hi c = c (pNum T n p lo hi).2.1 (pNum T n p lo hi).2.2 := if_pos h
theorem pNm_bad {T : Nat → Nat} {n p lo hi : Nat} {c : Nat → Nat → pR} (h : ¬ (pNum T n p lo hi).1 = 0) : pNm T n p lo hi c = pF (pNum T n p lo hi).1 (pNum T n p lo hi).2.1 := if_neg h
def rkN (k : Nat) : Nat := if k = 2 then 1 else if k = 3 then 2 else 0
set_option maxHeartbeats 4000000 in
theorem m_isDial {l : Launch} {D : va_G} {dT : Nat → ClassId} {H0 : Heap} {r : Nat → Nat} {nx : Nat} {g : j_H} {kI : Int32} {bs fg m nk w x s t : Nat} {F : Nat → Nat} {tk : Int64} {V : Nat → Nat → Int32} {T : Nat → Nat} {n p : Nat} (h6 : F 6 = n) (h8 : F 8 = p) (htx : txR (V 102) n T) (hn4 : n ≤ 400) (hp : p ≤ n) : MC (gG l D dT H0) yX3_isDial cX3_isDial 2 (some .boolean) 4 0 0 [.ref (r 100)] r (mdS r dT g kI bs fg m nk w x s t F tk V) nx (q_pr (pDial T n p).1 (pDial T n p).2.1 (pDial T n p).2.2.2 (fun F' V' => F' 15 = (pDial T n p).2.2.1.1 + 1 ∧ F' 16 = (pDial T n p).2.2.1.2.1 ∧ F' 17 = (pDial T n p).2.2.1.2.2.1 ∧ F' 18 = (pDial T n p).2.2.1.2.2.2 ∧ F' 19 = F 19 ∧ V' 103 = V 103) r dT g kI bs fg m nk w x s t F V nx) := by
  refine MC.ofJ [some (.ref (r 100)), none] rfl (Nat.le_of_ble_eq_true rfl) (by decide) ?_
  refine j_aload_n dX3_isDial_0 rfl ?_
  refine j_callV (m_tokP h6 h8 htx hn4 hp) (fun _ _ _ _ hq => ⟨_, hq.1⟩) dX3_isDial_1 pmX3_nextToken q1242 q1244 qs28 (by first | rfl | assumption) rfl rfl rfl ⟨Nat.le_of_ble_eq_true rfl, Nat.le_of_ble_eq_true rfl⟩ ⟨Nat.le_of_ble_eq_true rfl, Nat.le_of_ble_eq_true rfl⟩ rfl (Nat.le_of_ble_eq_true rfl) ?_
  rintro v9 r h9 nx ⟨e9, rfl, rfl, F1, tk1, rfl, htk, hle1, hsm1⟩
  cases e9
  obtain ⟨hW, hWe⟩ := tok_w htk
  have hq9 : F1 9 = sk T n p := htk.1
  have h61 : F1 6 = n := (hsm1 6 (by decide) (by decide) (by decide) (by decide)).trans h6
  have hqn : sk T n p ≤ n := rgE_le hp
  obtain ⟨k, hk⟩ : ∃ k, wK T n (sk T n p) = k := ⟨_, rfl⟩
  rw [hk] at hW hWe
  refine j_aload_n dX3_isDial_4 rfl ?_
  refine j_join (tgt := 36) (fun x => x = nI (rkN k) - 1) (fun v5 hv5 => ?_) (fun kj5 => ?_)
  · skip
    subst hv5
    refine j_put 15 dX3_isDial_36 (by first | rfl | assumption) in_X3 tyX3_ok nmX3 rfl (by decide) q1114 rfl rfl rfl (by first | decide | simp) ?_
    refine j_mdF (q := 15) (v := rkN k) (by decide) rfl ?_
    obtain ⟨GA, hGA⟩ : ∃ G : Nat → Nat, G = va_up F1 15 (rkN k) := ⟨_, rfl⟩
    rw [← hGA]
    have ga : ∀ j, j ≠ 15 → GA j = F1 j := fun j hj => by rw [hGA]; exact va_up_ne _ _ hj
    have ga15 : GA 15 = rkN k := by rw [hGA]; exact va_up_self _ _ _
    clear hGA
    refine j_aload_n dX3_isDial_39 rfl ?_
    refine j_get 15 dX3_isDial_40 (by first | rfl | assumption) in_X3 rfl (by decide) q1114 rfl ?_
    refine j_eqi (show _ = nI (rkN k) - 1 by rw [ga15]) ?_
    refine j_iconst (v := (-1)) dX3_isDial_43 (by decide) ?_
    refine j_icmp_ne (tgt := 53) dX3_isDial_44 (by decide) (fun c44 => ?_) (fun c44 => ?_)
    · skip
      have hk23 : 2 ≤ k ∧ k ≤ 3 := by
        refine Classical.byContradiction (fun q => c44 ?_)
        have e : rkN k = 0 := by unfold rkN; rw [if_neg (by omega), if_neg (by omega)]
        rw [e]; rfl
      have hrk : rkN k = k - 2 + 1 := by unfold rkN; split <;> first | omega | (split <;> omega)
      obtain ⟨h81, hqn2⟩ := hWe (by omega)
      have hwn : we T n (sk T n p) ≤ n := rgE_le hqn
      have gA6 : GA 6 = n := (ga 6 (by decide)).trans h61
      have gA8 : GA 8 = we T n (sk T n p) := (ga 8 (by decide)).trans h81
      refine j_aload_n dX3_isDial_53 rfl ?_
      refine j_iconst (v := (-1)) dX3_isDial_54 (by decide) ?_
      refine j_eqi (show (-1 : Int32) = nI 0 - 1 by decide) ?_
      refine j_iconst (v := 2) dX3_isDial_55 (by decide) ?_
      refine j_bipush (v := 10) dX3_isDial_56 (by decide) ?_
      refine j_callV (m_isNextP (V := V) (F := GA) (p := (we T n (sk T n p))) gA6 gA8 htx hn4 hwn 0 2 10 (by decide) (by decide) (by decide)) q_pr.isR dX3_isDial_58 pmX3_isNext q1263 q1265 qs31 (by first | rfl | assumption) rfl rfl rfl ⟨Nat.le_of_ble_eq_true rfl, Nat.le_of_ble_eq_true rfl⟩ ⟨Nat.le_of_ble_eq_true rfl, Nat.le_of_ble_eq_true rfl⟩ rfl (Nat.le_of_ble_eq_true rfl) ?_
      rintro v9 r h9 nx ⟨e9, rfl, rfl, F2, tk2, V2, rfl, hs2, hl2, hv2, hok2, hbad2⟩
      cases e9
      show J _ _ _ _ _ _ _ _ _ _ _ _ (.int _ :: _)
      refine j_if_ne (tgt := 66) dX3_isDial_61 (by decide) (fun c61 => ?_) (fun c61 => ?_)
      · skip
        have hf : (pNum T n (we T n (sk T n p)) 2 10).1 = 0 := Classical.byContradiction (fun z => c61 (ifE.mpr z))
        obtain ⟨h82, ha2, hb2, hr2, -, hn2, hw2⟩ := hok2 hf
        have h62 : F2 6 = n := (hs2 6 (Or.inl (by decide))).trans gA6
        have hps := pNum_pos hwn hf
        have hV2 : V2 103 = V 103 := by
          rcases hw2 with q | q
          · exact q.2
          · exact absurd q.1 (by decide)
        refine j_aload_n dX3_isDial_66 rfl ?_
        refine j_aload_n dX3_isDial_67 rfl ?_
        refine j_get 12 dX3_isDial_68 (by first | rfl | assumption) in_X3 rfl (by decide) q1111 rfl ?_
        refine j_eqi (show _ = nI (pNum T n (we T n (sk T n p)) 2 10).2.1 by rw [hn2]) ?_
        refine j_put 16 dX3_isDial_71 (by first | rfl | assumption) in_X3 tyX3_ok nmX3 rfl (by decide) q1115 rfl rfl rfl (by first | decide | simp) ?_
        refine j_mdF (q := 16) (v := (pNum T n (we T n (sk T n p)) 2 10).2.1) (by decide) rfl ?_
        obtain ⟨GC, hGC⟩ : ∃ G : Nat → Nat, G = va_up F2 16 (pNum T n (we T n (sk T n p)) 2 10).2.1 := ⟨_, rfl⟩
        rw [← hGC]
        have gc : ∀ j, j ≠ 16 → GC j = F2 j := fun j hj => by rw [hGC]; exact va_up_ne _ _ hj
        have gc16 : GC 16 = (pNum T n (we T n (sk T n p)) 2 10).2.1 := by rw [hGC]; exact va_up_self _ _ _
        clear hGC
        refine j_aload_n dX3_isDial_74 rfl ?_
        refine j_iconst (v := (-1)) dX3_isDial_75 (by decide) ?_
        refine j_eqi (show (-1 : Int32) = nI 0 - 1 by decide) ?_
        refine j_iconst (v := 1) dX3_isDial_76 (by decide) ?_
        refine j_bipush (v := 6) dX3_isDial_77 (by decide) ?_
        refine j_callV (m_isNextP (V := V2) (F := GC) (p := (pNum T n (we T n (sk T n p)) 2 10).2.2) ((gc 6 (by decide)).trans h62) ((gc 8 (by decide)).trans h82) (by rw [hv2 102 (by decide)]; exact htx) hn4 hps.2.2.1 0 1 6 (by decide) (by decide) (by decide)) q_pr.isR dX3_isDial_79 pmX3_isNext q1263 q1265 qs31 (by first | rfl | assumption) rfl rfl rfl ⟨Nat.le_of_ble_eq_true rfl, Nat.le_of_ble_eq_true rfl⟩ ⟨Nat.le_of_ble_eq_true rfl, Nat.le_of_ble_eq_true rfl⟩ rfl (Nat.le_of_ble_eq_true rfl) ?_
        rintro v9 r h9 nx ⟨e9, rfl, rfl, F3, tk3, V3, rfl, hs3, hl3, hv3, hok3, hbad3⟩
        cases e9
        show J _ _ _ _ _ _ _ _ _ _ _ _ (.int _ :: _)
        refine j_if_ne (tgt := 87) dX3_isDial_82 (by decide) (fun c82 => ?_) (fun c82 => ?_)
        · skip
          have hf2 : (pNum T n (pNum T n (we T n (sk T n p)) 2 10).2.2 1 6).1 = 0 := Classical.byContradiction (fun z => c82 (ifE.mpr z))
          obtain ⟨h83, ha3, hb3, hr3, h93, hn3, hw3⟩ := hok3 hf2
          have h63 : F3 6 = n := ((hs3 6 (Or.inl (by decide))).trans (gc 6 (by decide))).trans h62
          have hps2 := pNum_pos hps.2.2.1 hf2
          have hV3 : V3 103 = V2 103 := by
            rcases hw3 with q | q
            · exact q.2
            · exact absurd q.1 (by decide)
          obtain ⟨b9, hb9⟩ : ∃ b9, (pNum T n (we T n (sk T n p)) 2 10).2.1 = b9 := ⟨_, rfl⟩
          obtain ⟨fg9, hfg9⟩ : ∃ fg9, (pNum T n (pNum T n (we T n (sk T n p)) 2 10).2.2 1 6).2.1 = fg9 := ⟨_, rfl⟩
          have hbb : 2 ≤ b9 ∧ b9 ≤ 10 := by rw [← hb9]; exact hps.2.2.2
          have hff : 1 ≤ fg9 ∧ fg9 ≤ 6 := by rw [← hfg9]; exact hps2.2.2.2
          refine j_aload_n dX3_isDial_87 rfl ?_
          refine j_aload_n dX3_isDial_88 rfl ?_
          refine j_get 12 dX3_isDial_89 (by first | rfl | assumption) in_X3 rfl (by decide) q1111 rfl ?_
          refine j_eqi (show _ = nI fg9 by rw [hn3, hfg9]) ?_
          refine j_put 17 dX3_isDial_92 (by first | rfl | assumption) in_X3 tyX3_ok nmX3 rfl (by decide) q1116 rfl rfl rfl (by first | decide | simp) ?_
          refine j_mdF (q := 17) (v := fg9) (by decide) rfl ?_
          refine j_aload_n dX3_isDial_95 rfl ?_
          refine j_iconst (v := 1) dX3_isDial_96 (by decide) ?_
          refine j_put 18 dX3_isDial_97 (by first | rfl | assumption) in_X3 tyX3_ok nmX3 rfl (by decide) q1117 rfl rfl rfl (by first | decide | simp) ?_
          refine j_mdF (q := 18) (v := 1) (by decide) rfl ?_
          obtain ⟨GB, hGB⟩ : ∃ G : Nat → Nat, G = va_up (va_up F3 17 fg9) 18 1 := ⟨_, rfl⟩
          rw [← hGB]
          have gb : ∀ j, j ≠ 17 → j ≠ 18 → GB j = F3 j := fun j h1 h2 => by rw [hGB, va_up_ne _ _ h2, va_up_ne _ _ h1]
          have gb17 : GB 17 = fg9 := by rw [hGB]; rfl
          have gb18 : GB 18 = mdm b9 0 := by rw [hGB]; rfl
          have gb16 : GB 16 = b9 := (gb 16 (by decide) (by decide)).trans ((hr3 16 (by decide) (by decide)).trans (gc16.trans hb9))
          have gb15 : GB 15 = k - 2 + 1 := (gb 15 (by decide) (by decide)).trans ((hr3 15 (by decide) (by decide)).trans ((gc 15 (by decide)).trans ((hr2 15 (by decide) (by decide)).trans (ga15.trans hrk))))
          have gb19 : GB 19 = F 19 := (gb 19 (by decide) (by decide)).trans ((hr3 19 (by decide) (by decide)).trans ((gc 19 (by decide)).trans ((hr2 19 (by decide) (by decide)).trans ((ga 19 (by decide)).trans (hsm1 19 (by decide) (by decide) (by decide) (by decide))))))
          have gbs : ∀ j, j < 8 ∨ 19 < j → GB j = F j := fun j a => (gb j (by omega) (by omega)).trans ((hs3 j a).trans ((gc j (by omega)).trans ((hs2 j a).trans ((ga j (by omega)).trans (hsm1 j (by omega) (by omega) (by omega) (by omega))))))
          clear hGB
          refine j_iconst (v := 0) dX3_isDial_100 (by decide) ?_
          refine j_istore_n dX3_isDial_101 (by decide) rfl ?_
          refine j_less (L' := [some (.ref (r 100)), some (.int (nI 0))]) ⟨Or.inr rfl, Or.inr rfl, trivial⟩ ?_
          refine j_lp2 (fun (i : Nat) (G : Nat → Nat) => (mdS r dT g kI bs fg m nk w x s t G tk3 V3)) (fun i _ => [some (.ref (r 100)), some (.int (nI i))]) (fun i G => i ≤ fg9 ∧ G 18 = mdm b9 i ∧ ∀ j, j ≠ 18 → G j = GB j) (fun i _ => fg9 - i) ?_ 0 GB ⟨Nat.zero_le _, gb18, fun _ _ => rfl⟩
          intro i G ⟨hi, gi18, gsm⟩ ih
          have gi17 : G 17 = fg9 := (gsm 17 (by decide)).trans gb17
          have gi16 : G 16 = b9 := (gsm 16 (by decide)).trans gb16
          have hml : mdm b9 i ≤ 1000 := by rw [mdm_eq (by omega)]; split <;> omega
          refine j_iload_n dX3_isDial_102 rfl ?_
          refine j_aload_n dX3_isDial_103 rfl ?_
          refine j_get 17 dX3_isDial_104 (by first | rfl | assumption) in_X3 rfl (by decide) q1116 rfl ?_
          refine j_eqi (show _ = nI fg9 by rw [gi17]) ?_
          refine j_icmp_ge (tgt := 149) dX3_isDial_107 (by decide) (fun c107 => ?_) (fun c107 => ?_)
          · skip
            have hie : i = fg9 := by
              have := (nI_leI (by omega) (by omega)).mp c107
              omega
            rw [hie, mdm_eq (by omega)] at gi18
            have g96 : G 6 = n := (gsm 6 (by decide)).trans ((gb 6 (by decide) (by decide)).trans h63)
            have g98 : G 8 = (pNum T n (pNum T n (we T n (sk T n p)) 2 10).2.2 1 6).2.2 := (gsm 8 (by decide)).trans ((gb 8 (by decide) (by decide)).trans h83)
            have hpw : b9 ^ fg9 ≤ 1000000 := Nat.le_trans (Nat.pow_le_pow_left hbb.2 _) (Nat.le_trans (Nat.pow_le_pow_right (by decide) hff.2) (by decide))
            refine j_aload_n dX3_isDial_149 rfl ?_
            refine j_get 18 dX3_isDial_150 (by first | rfl | assumption) in_X3 rfl (by decide) q1117 rfl ?_
            refine j_eqi (show _ = nI (if b9 ^ fg9 ≤ 100 then b9 ^ fg9 else 1000) by rw [gi18]) ?_
            refine j_bipush (v := 100) dX3_isDial_153 (by decide) ?_
            refine j_icmp_le (tgt := 166) dX3_isDial_155 (by decide) (fun c155 => ?_) (fun c155 => ?_)
            · skip
              have h155 : b9 ^ fg9 ≤ 100 := by
                refine Classical.byContradiction (fun q => ?_)
                rw [if_neg q] at c155
                exact absurd c155 (by decide)
              rw [if_pos h155] at gi18
              refine j_aload_n dX3_isDial_166 rfl ?_
              refine j_callV (m_endsP (V := V3) (F := G) (p := (pNum T n (pNum T n (we T n (sk T n p)) 2 10).2.2 1 6).2.2) g96 g98 (by rw [hv3 102 (by decide), hv2 102 (by decide)]; exact htx) hn4 hps2.2.2.1) q_pr.isR dX3_isDial_167 pmX3_ends q1267 q1269 qs32 (by first | rfl | assumption) rfl rfl rfl ⟨Nat.le_of_ble_eq_true rfl, Nat.le_of_ble_eq_true rfl⟩ ⟨Nat.le_of_ble_eq_true rfl, Nat.le_of_ble_eq_true rfl⟩ rfl (Nat.le_of_ble_eq_true rfl) ?_
              rintro v9 r h9 nx ⟨e9, rfl, rfl, F4, tk4, V4, rfl, hs4, hl4, hv4, hok4, hbad4⟩
              cases e9
              show J _ _ _ _ _ _ _ _ _ _ _ _ (.int _ :: _)
              refine j_iret dX3_isDial_170 rfl (by split <;> rfl) (Nat.le_refl _) (Nat.le_refl _) ?_
              by_cases hf4 : (pEnd T n (pNum T n (pNum T n (we T n (sk T n p)) 2 10).2.2 1 6).2.2).1 = 0
              · have hpd : (pDial T n p) = (0, 0, (k - 2, b9, fg9, b9 ^ fg9), (pEnd T n (pNum T n (pNum T n (we T n (sk T n p)) 2 10).2.2 1 6).2.2).2.2) := by unfold pDial; rw [hk, if_pos hk23, pNm_ok hf, pNm_ok hf2, hb9, hfg9, if_pos h155, if_pos hf4]
                obtain ⟨h84, ha4, hb4, hr4, hw4⟩ := hok4 hf4
                rw [hpd]
                refine ⟨by rw [if_pos hf4]; rfl, rfl, rfl, F4, tk4, V4, rfl, fun k a => (hs4 k a).trans ((gsm k (by omega)).trans (gbs k a)), by rw [h6]; rw [g96] at hl4; exact hl4, fun k hk => (hv4 k hk).trans ((hv3 k hk).trans (hv2 k hk)), fun _ => ⟨h84, ?_, ?_, ?_, ?_, ?_, ?_, ?_, ?_⟩, fun q => absurd rfl q⟩
                · rw [ha4, gsm 13 (by decide), gb 13 (by decide) (by decide), ha3, gc 13 (by decide), ha2, ga 13 (by decide)]; exact hsm1 13 (by decide) (by decide) (by decide) (by decide)
                · rw [hb4, gsm 14 (by decide), gb 14 (by decide) (by decide), hb3, gc 14 (by decide), hb2, ga 14 (by decide)]; exact hsm1 14 (by decide) (by decide) (by decide) (by decide)
                · exact (hr4 15 (by decide) (by decide)).trans ((gsm 15 (by decide)).trans gb15)
                · exact (hr4 16 (by decide) (by decide)).trans ((gsm 16 (by decide)).trans gb16)
                · exact (hr4 17 (by decide) (by decide)).trans ((gsm 17 (by decide)).trans gb17)
                · exact (hr4 18 (by decide) (by decide)).trans gi18
                · exact (hr4 19 (by decide) (by decide)).trans ((gsm 19 (by decide)).trans gb19)
                · rw [hw4, hV3, hV2]
              · have hpd : (pDial T n p) = pF (pEnd T n (pNum T n (pNum T n (we T n (sk T n p)) 2 10).2.2 1 6).2.2).1 (pEnd T n (pNum T n (pNum T n (we T n (sk T n p)) 2 10).2.2 1 6).2.2).2.1 := by unfold pDial; rw [hk, if_pos hk23, pNm_ok hf, pNm_ok hf2, hb9, hfg9, if_pos h155, if_neg hf4]
                rw [hpd]
                exact ⟨rfl, rfl, rfl, F4, tk4, V4, rfl, fun k a => (hs4 k a).trans ((gsm k (by omega)).trans (gbs k a)), by rw [h6]; rw [g96] at hl4; exact hl4, fun k hk => (hv4 k hk).trans ((hv3 k hk).trans (hv2 k hk)), fun q => absurd q hf4, hbad4⟩
            · skip
              have h155 : ¬ b9 ^ fg9 ≤ 100 := fun q => by
                rw [if_pos q] at c155
                exact c155 (show nI (b9 ^ fg9) ≤ nI 100 from nI_le q (by decide))
              have hpd : (pDial T n p) = pF 2 (sk T n (pNum T n (we T n (sk T n p)) 2 10).2.2) := by unfold pDial; rw [hk, if_pos hk23, pNm_ok hf, pNm_ok hf2, hb9, hfg9, if_neg h155]
              refine j_aload_n dX3_isDial_158 rfl ?_
              refine j_iconst (v := 2) dX3_isDial_159 (by decide) ?_
              refine j_callVi (m_fails 2) dX3_isDial_160 pmX3_fails q1253 q1255 qs29 (by first | rfl | assumption) rfl rfl rfl ⟨Nat.le_of_ble_eq_true rfl, Nat.le_of_ble_eq_true rfl⟩ ⟨Nat.le_of_ble_eq_true rfl, Nat.le_of_ble_eq_true rfl⟩ rfl (Nat.le_of_ble_eq_true rfl) ?_
              refine j_goto (tgt := 170) dX3_isDial_163 (by decide) ?_
              refine j_iret dX3_isDial_170 rfl rfl (Nat.le_refl _) (Nat.le_refl _) ?_
              rw [hpd]
              exact ⟨rfl, rfl, rfl, _, _, V3, rfl, fun k a => by rw [va_up_ne _ _ (by omega), va_up_ne _ _ (by omega), gsm k (by omega)]; exact gbs k a, by rw [h6]; show G 8 ≤ n; rw [g98]; exact hps2.2.2.1, fun k hk => (hv3 k hk).trans (hv2 k hk), fun q => Nat.noConfusion q, fun _ => ⟨by show G 9 + 1 = _; rw [gsm 9 (by decide), gb 9 (by decide) (by decide), h93]; rfl, rfl⟩⟩
          · skip
            have hie : i < fg9 := Nat.lt_of_not_le (fun q => c107 (nI_le q (by omega)))
            have hmb : mdm b9 i * b9 ≤ 10000 := Nat.le_trans (Nat.mul_le_mul hml hbb.2) (by decide)
            refine j_aload_n dX3_isDial_110 rfl ?_
            refine j_join (tgt := 140) (fun x => x = nI (mdm b9 (i + 1))) (fun v111 hv111 => ?_) (fun kj111 => ?_)
            · skip
              subst hv111
              refine j_put 18 dX3_isDial_140 (by first | rfl | assumption) in_X3 tyX3_ok nmX3 rfl (by decide) q1117 rfl rfl rfl (by first | decide | simp) ?_
              refine j_mdF (q := 18) (v := mdm b9 (i + 1)) (by decide) rfl ?_
              refine j_iinc dX3_isDial_143 rfl (by decide) rfl ?_
              refine j_goto (tgt := 102) dX3_isDial_146 (by decide) ?_
              refine j_less (L' := [some (.ref (r 100)), some (.int (nI (i + 1)))]) ⟨Or.inr rfl, Or.inr (by rw [← nI_inc]), trivial⟩ ?_
              exact ih (i + 1) _ ⟨by omega, va_up_self _ _ _, fun j hj => (va_up_ne _ _ hj).trans (gsm j hj)⟩ (by omega)
            · skip
              refine j_aload_n dX3_isDial_111 rfl ?_
              refine j_get 18 dX3_isDial_112 (by first | rfl | assumption) in_X3 rfl (by decide) q1117 rfl ?_
              refine j_eqi (show _ = nI (mdm b9 i) by rw [gi18]) ?_
              refine j_aload_n dX3_isDial_115 rfl ?_
              refine j_get 16 dX3_isDial_116 (by first | rfl | assumption) in_X3 rfl (by decide) q1115 rfl ?_
              refine j_eqi (show _ = nI b9 by rw [gi16]) ?_
              refine j_imul dX3_isDial_119 ?_
              refine j_eqi (pk_mul _ _) ?_
              refine j_bipush (v := 100) dX3_isDial_120 (by decide) ?_
              refine j_icmp_le (tgt := 131) dX3_isDial_122 (by decide) (fun c122 => ?_) (fun c122 => ?_)
              · skip
                have h122 : mdm b9 i * b9 ≤ 100 := (nI_leI (by omega) (by decide)).mp (show nI (mdm b9 i * b9) ≤ nI 100 from c122)
                have hj : nI (mdm b9 i * b9) = nI (mdm b9 (i + 1)) := by rw [mdm, if_pos h122]
                refine j_aload_n dX3_isDial_131 rfl ?_
                refine j_get 18 dX3_isDial_132 (by first | rfl | assumption) in_X3 rfl (by decide) q1117 rfl ?_
                refine j_eqi (show _ = nI (mdm b9 i) by rw [gi18]) ?_
                refine j_aload_n dX3_isDial_135 rfl ?_
                refine j_get 16 dX3_isDial_136 (by first | rfl | assumption) in_X3 rfl (by decide) q1115 rfl ?_
                refine j_eqi (show _ = nI b9 by rw [gi16]) ?_
                refine j_imul dX3_isDial_139 ?_
                refine j_eqi (pk_mul _ _) ?_
                exact kj111 _ hj
              · skip
                have h122 : ¬ mdm b9 i * b9 ≤ 100 := fun q => c122 (show nI (mdm b9 i * b9) ≤ nI 100 from nI_le q (by decide))
                have hj : (1000 : Int32) = nI (mdm b9 (i + 1)) := by rw [mdm, if_neg h122]; rfl
                refine j_sipush (v := 1000) dX3_isDial_125 (by decide) ?_
                refine j_goto (tgt := 140) dX3_isDial_128 (by decide) ?_
                exact kj111 _ hj
        · skip
          have hf2 : ¬ (pNum T n (pNum T n (we T n (sk T n p)) 2 10).2.2 1 6).1 = 0 := ifE.mp c82
          have hpd : (pDial T n p) = pF (pNum T n (pNum T n (we T n (sk T n p)) 2 10).2.2 1 6).1 (pNum T n (pNum T n (we T n (sk T n p)) 2 10).2.2 1 6).2.1 := by unfold pDial; rw [hk, if_pos hk23, pNm_ok hf, pNm_bad hf2]
          refine j_iconst (v := 0) dX3_isDial_85 (by decide) ?_
          refine j_iret dX3_isDial_86 rfl rfl (Nat.le_refl _) (Nat.le_refl _) ?_
          rw [hpd]
          exact ⟨ret0 hf2, rfl, rfl, F3, tk3, V3, rfl, fun k a => (hs3 k a).trans ((gc k (by omega)).trans ((hs2 k a).trans ((ga k (by omega)).trans (hsm1 k (by omega) (by omega) (by omega) (by omega))))), by rw [h6]; rw [gc 6 (by decide), h62] at hl3; exact hl3, fun k hk => (hv3 k hk).trans (hv2 k hk), fun q => absurd q hf2, hbad3⟩
      · skip
        have hf : ¬ (pNum T n (we T n (sk T n p)) 2 10).1 = 0 := ifE.mp c61
        have hpd : (pDial T n p) = pF (pNum T n (we T n (sk T n p)) 2 10).1 (pNum T n (we T n (sk T n p)) 2 10).2.1 := by unfold pDial; rw [hk, if_pos hk23, pNm_bad hf]
        refine j_iconst (v := 0) dX3_isDial_64 (by decide) ?_
        refine j_iret dX3_isDial_65 rfl rfl (Nat.le_refl _) (Nat.le_refl _) ?_
        rw [hpd]
        exact ⟨ret0 hf, rfl, rfl, F2, tk2, V2, rfl, fun k a => (hs2 k a).trans ((ga k (by omega)).trans (hsm1 k (by omega) (by omega) (by omega) (by omega))), by rw [h6]; rw [gA6] at hl2; exact hl2, hv2, fun q => absurd q hf, hbad2⟩
    · skip
      have hk23 : ¬ (2 ≤ k ∧ k ≤ 3) := fun q => by
        have e : rkN k = k - 2 + 1 := by unfold rkN; split <;> first | omega | (split <;> omega)
        rw [e, ← nI_inc] at c44
        exact nI_m1 (show k - 2 < 2 ^ 31 by omega) ((show nI (k - 2) = _ by rw [nI_inc, nI_p1 (by omega)]; rfl).trans c44)
      have hpd : (pDial T n p) = pF 1 (sk T n p) := by unfold pDial; rw [hk, if_neg hk23]
      refine j_aload_n dX3_isDial_47 rfl ?_
      refine j_iconst (v := 1) dX3_isDial_48 (by decide) ?_
      refine j_callVi (m_fails 1) dX3_isDial_49 pmX3_fails q1253 q1255 qs29 (by first | rfl | assumption) rfl rfl rfl ⟨Nat.le_of_ble_eq_true rfl, Nat.le_of_ble_eq_true rfl⟩ ⟨Nat.le_of_ble_eq_true rfl, Nat.le_of_ble_eq_true rfl⟩ rfl (Nat.le_of_ble_eq_true rfl) ?_
      refine j_iret dX3_isDial_52 rfl rfl (Nat.le_refl _) (Nat.le_refl _) ?_
      rw [hpd]
      exact ⟨rfl, rfl, rfl, _, _, V, rfl, fun k a => by rw [va_up_ne _ _ (by omega), va_up_ne _ _ (by omega), ga k (by omega)]; exact hsm1 k (by omega) (by omega) (by omega) (by omega), by rw [h6]; show GA 8 ≤ n; rw [ga 8 (by decide)]; exact hle1, fun _ _ => rfl, fun q => Nat.noConfusion q, fun _ => ⟨by show GA 9 + 1 = _; rw [ga 9 (by decide), hq9]; rfl, rfl⟩⟩
  · skip
    refine j_aload_n dX3_isDial_5 rfl ?_
    refine j_get 10 dX3_isDial_6 (by first | rfl | assumption) in_X3 rfl (by decide) q1109 rfl ?_
    refine j_ldc2 dX3_isDial_9 q1261 ?_
    refine j_lcmp dX3_isDial_12 ?_
    refine j_if_ne (tgt := 20) dX3_isDial_13 (by decide) (fun c13 => ?_) (fun c13 => ?_)
    · skip
      have n2 : ¬ k = 2 := fun z => c13 (lcmp_0.mpr ((hW 2 (by decide) (by decide)).mpr z))
      refine j_aload_n dX3_isDial_20 rfl ?_
      refine j_get 10 dX3_isDial_21 (by first | rfl | assumption) in_X3 rfl (by decide) q1109 rfl ?_
      refine j_ldc2 dX3_isDial_24 q1262 ?_
      refine j_lcmp dX3_isDial_27 ?_
      refine j_if_ne (tgt := 35) dX3_isDial_28 (by decide) (fun c28 => ?_) (fun c28 => ?_)
      · skip
        have n3 : ¬ k = 3 := fun z => c28 (lcmp_0.mpr ((hW 3 (by decide) (by decide)).mpr z))
        have hj : (-1 : Int32) = nI (rkN k) - 1 := by unfold rkN; rw [if_neg n2, if_neg n3]; rfl
        refine j_iconst (v := (-1)) dX3_isDial_35 (by decide) ?_
        exact kj5 _ hj
      · skip
        have n3 : k = 3 := (hW 3 (by decide) (by decide)).mp (lcmp_0.mp c28)
        have hj : (1 : Int32) = nI (rkN k) - 1 := by rw [n3]; rfl
        refine j_iconst (v := 1) dX3_isDial_31 (by decide) ?_
        refine j_goto (tgt := 36) dX3_isDial_32 (by decide) ?_
        exact kj5 _ hj
    · skip
      have n2 : k = 2 := (hW 2 (by decide) (by decide)).mp (lcmp_0.mp c13)
      have hj : (0 : Int32) = nI (rkN k) - 1 := by rw [n2]; rfl
      refine j_iconst (v := 0) dX3_isDial_16 (by decide) ?_
      refine j_goto (tgt := 36) dX3_isDial_17 (by decide) ?_
      exact kj5 _ hj
