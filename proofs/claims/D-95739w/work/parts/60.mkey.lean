set_option maxRecDepth 100000
def ikI (k : Nat) : Int32 := if 4 ≤ k ∧ k ≤ 11 then nI (k - 4) else -1
/-- one key more, from its word's place q on -/
def pK1 (T : Nat → Nat) (n bs m nk q : Nat) : pR := if wK T n q = 1 then pF 3 q else if wK T n q < 4 then pF 1 q else if nk = 8 then pF 3 q else pKey T n bs m (wK T n q) (we T n q)
theorem wK_le {T : Nat → Nat} {n q : Nat} : wK T n q ≤ 11 := by
  unfold wK wIx
  repeat' split
  all_goals omega
theorem pKeys_step {T : Nat → Nat} {n bs m k p : Nat} {l : List (Nat × Nat × Nat × Nat)} : pKeys T n bs m (k + 1) p l = if n ≤ sk T n p then (0, 0, l) else if (pK1 T n bs m l.length (sk T n p)).1 = 0 then pKeys T n bs m k (pK1 T n bs m l.length (sk T n p)).2.2.2 (l ++ [(pK1 T n bs m l.length (sk T n p)).2.2.1]) else ((pK1 T n bs m l.length (sk T n p)).1, (pK1 T n bs m l.length (sk T n p)).2.1, l) := by
  rw [pKeys]
  by_cases h1 : n ≤ sk T n p
  · rw [if_pos h1, if_pos h1]
  · rw [if_neg h1, if_neg h1]
    unfold pK1
    by_cases h2 : wK T n (sk T n p) = 1
    · rw [if_pos h2, if_pos h2]; rfl
    · rw [if_neg h2, if_neg h2]
      by_cases h3 : wK T n (sk T n p) < 4
      · rw [if_pos h3, if_pos h3]; rfl
      · rw [if_neg h3, if_neg h3]
        by_cases h4 : l.length = 8
        · rw [if_pos h4, if_pos h4]; rfl
        · rw [if_neg h4, if_neg h4]
theorem pKey_o {T : Nat → Nat} {n bs m w p : Nat} (h1 : ¬ w = 4) (h2 : ¬ w = 10) (h3 : ¬ w = 11) : pKey T n bs m w p = pCE T n p (w - 4) 0 0 := by unfold pKey; rw [if_neg h1, if_neg h2, if_neg h3]
theorem pKey_4 {T : Nat → Nat} {n bs m p : Nat} : pKey T n bs m 4 p = pNm T n p 0 (bs - 1) (fun d e => pCE T n e 0 d 0) := rfl
theorem pKey_11 {T : Nat → Nat} {n bs m p : Nat} : pKey T n bs m 11 p = pNm T n p 0 (bs - 1) (fun d e => pNm T n e 0 (bs - 1) (fun d2 e2 => pCE T n e2 7 d d2)) := rfl
theorem pKey_now {T : Nat → Nat} {n b m p : Nat} (hp : p ≤ n) (h : (pKey T n b m 10 p).1 = 0) : (pKey T n b m 10 p).2.2.1.1 = 6 := by
  have hq : sk T n p ≤ n := rgE_le hp
  have hw : we T n (sk T n p) ≤ n := rgE_le hq
  have e : pKey T n b m 10 p = if 5 ≤ wK T n (sk T n p) ∧ wK T n (sk T n p) ≤ 7 then pNm T n (we T n (sk T n p)) 0 (m - 1) (fun v e => pCE T n e 6 v (wK T n (sk T n p) - 4)) else pF 1 (sk T n p) := rfl
  rw [e] at h ⊢
  split at h
  · rename_i hc
    rw [if_pos hc]
    by_cases hf : (pNum T n (we T n (sk T n p)) 0 (m - 1)).1 = 0
    · rw [pNm_ok hf] at h ⊢
      exact (pCE_pos (pNum_pos hw hf).2.2.1 h).2.2.1
    · rw [pNm_bad hf] at h
      exact absurd h hf
  · exact absurd h (fun q => by cases q)
set_option maxHeartbeats 4000000 in
theorem m_isKey {l : Launch} {D : va_G} {dT : Nat → ClassId} {H0 : Heap} {r : Nat → Nat} {nx : Nat} {g : j_H} {kI : Int32} {bs fg m nk w x s t : Nat} {F : Nat → Nat} {tk : Int64} {V : Nat → Nat → Int32} {T : Nat → Nat} {n p : Nat} (h6 : F 6 = n) (htk : tokS T n p (F 9) (F 8) tk (F 11) (F 12)) (h8n : F 8 ≤ n) (htx : txR (V 102) n T) (hn4 : n ≤ 400) (hp : p ≤ n) (b9 m9 n9 : Nat) (hb9 : F 16 = b9) (hm9 : F 18 = m9) (hn9 : F 19 = n9) (hb8 : 1 ≤ b9 ∧ b9 ≤ 100) (hm8 : 1 ≤ m9 ∧ m9 ≤ 100) (hn8 : n9 ≤ 8) : MC (gG l D dT H0) yX3_isKey cX3_isKey 4 (some .boolean) 5 0 0 [.ref (r 100)] r (mdS r dT g kI bs fg m nk w x s t F tk V) nx (q_pr (pK1 T n b9 m9 n9 (sk T n p)).1 (pK1 T n b9 m9 n9 (sk T n p)).2.1 (pK1 T n b9 m9 n9 (sk T n p)).2.2.2 (fun F' V' => F' 19 = n9 + 1 ∧ (∀ k, 15 ≤ k → k ≤ 18 → F' k = F k) ∧ mdQ (V' 103) n9 (pK1 T n b9 m9 n9 (sk T n p)).2.2.1 ∧ ∀ j, j < 4 * n9 → V' 103 j = V 103 j) r dT g kI bs fg m nk w x s t F V nx) := by
  obtain ⟨hW, hWe⟩ := tok_w htk
  have hq9 : F 9 = sk T n p := htk.1
  have hqn : sk T n p ≤ n := rgE_le hp
  obtain ⟨k, hk⟩ : ∃ k, wK T n (sk T n p) = k := ⟨_, rfl⟩
  have hk11 : k ≤ 11 := by rw [← hk]; exact wK_le
  rw [hk] at hW hWe
  refine MC.ofJ [some (.ref (r 100)), none, none, none] rfl (Nat.le_of_ble_eq_true rfl) (by decide) ?_
  refine j_join (tgt := 76) (fun x => ¬ 9 ≤ k → x = ikI k) (fun v0 hv0 => ?_) (fun kj0 => ?_)
  · skip
    generalize v0 = i0 at hv0 ⊢
    refine j_istore_n dX3_isKey_76 (by decide) rfl ?_
    refine j_join (tgt := 125) (fun x => x = ikI k) (fun v77 hv77 => ?_) (fun kj77 => ?_)
    · skip
      subst hv77
      refine j_istore_n dX3_isKey_125 (by decide) rfl ?_
      refine j_aload_n dX3_isKey_126 rfl ?_
      refine j_get 10 dX3_isKey_127 (by first | rfl | assumption) in_X3 rfl (by decide) q1109 rfl ?_
      refine j_ldc2 dX3_isKey_130 q1252 ?_
      refine j_lcmp dX3_isKey_133 ?_
      refine j_if_ne (tgt := 143) dX3_isKey_134 (by decide) (fun c134 => ?_) (fun c134 => ?_)
      · skip
        have n1 : ¬ k = 1 := fun z => c134 (lcmp_0.mpr ((hW 1 (by decide) (by decide)).mpr z))
        refine j_iload_n dX3_isKey_143 rfl ?_
        refine j_iconst (v := (-1)) dX3_isKey_144 (by decide) ?_
        refine j_icmp_ne (tgt := 154) dX3_isKey_145 (by decide) (fun c145 => ?_) (fun c145 => ?_)
        · skip
          have h145 : 4 ≤ k := by
            refine Nat.le_of_not_lt (fun q => c145 ?_)
            unfold ikI
            rw [if_neg (by omega)]
          have hik : ikI k = nI (k - 4) := if_pos ⟨h145, hk11⟩
          obtain ⟨h81, hqn2⟩ := hWe (by omega)
          have hwn : we T n (sk T n p) ≤ n := rgE_le hqn
          refine j_aload_n dX3_isKey_154 rfl ?_
          refine j_get 19 dX3_isKey_155 (by first | rfl | assumption) in_X3 rfl (by decide) q1118 rfl ?_
          refine j_eqi (show _ = nI n9 by rw [hn9]) ?_
          refine j_bipush (v := 8) dX3_isKey_158 (by decide) ?_
          refine j_icmp_ne (tgt := 169) dX3_isKey_160 (by decide) (fun c160 => ?_) (fun c160 => ?_)
          · skip
            have h160 : ¬ n9 = 8 := fun q => c160 (by rw [q]; rfl)
            have hn7 : n9 ≤ 7 := by omega
            have hpk0 : (pK1 T n b9 m9 n9 (sk T n p)) = pKey T n b9 m9 k (we T n (sk T n p)) := by unfold pK1; rw [hk, if_neg n1, if_neg (by omega), if_neg h160]
            refine j_iconst (v := 4) dX3_isKey_169 (by decide) ?_
            refine j_aload_n dX3_isKey_170 rfl ?_
            refine j_get 19 dX3_isKey_171 (by first | rfl | assumption) in_X3 rfl (by decide) q1118 rfl ?_
            refine j_eqi (show _ = nI n9 by rw [hn9]) ?_
            refine j_imul dX3_isKey_174 ?_
            refine j_eqi (show _ = nI (4 * n9) from pk_mul 4 n9) ?_
            refine j_istore_n dX3_isKey_175 (by decide) rfl ?_
            refine j_aload_n dX3_isKey_176 rfl ?_
            refine j_dup dX3_isKey_177 rfl ?_
            refine j_get 19 dX3_isKey_178 (by first | rfl | assumption) in_X3 rfl (by decide) q1118 rfl ?_
            refine j_eqi (show _ = nI n9 by rw [hn9]) ?_
            refine j_iconst (v := 1) dX3_isKey_181 (by decide) ?_
            refine j_iadd dX3_isKey_182 ?_
            refine j_eqi (show _ = nI (n9 + 1) from nI_1 _) ?_
            refine j_put 19 dX3_isKey_183 (by first | rfl | assumption) in_X3 tyX3_ok nmX3 rfl (by decide) q1118 rfl rfl rfl (by first | decide | simp) ?_
            refine j_mdF (q := 19) (v := n9 + 1) (by decide) rfl ?_
            refine j_re rfl rfl (h' := (mdS r dT g kI bs fg m nk w x s t (va_up F 19 (n9 + 1)) tk (vo V [(103, V 103)]))) (by rw [vo_same _ (by simp)]) ?_
            refine j_aload_n dX3_isKey_186 rfl ?_
            refine j_get 20 dX3_isKey_187 (by first | rfl | assumption) in_X3 rfl (by decide) q1119 rfl ?_
            refine j_iload_n dX3_isKey_190 rfl ?_
            refine j_iload_n dX3_isKey_191 rfl ?_
            refine j_eqi hik ?_
            refine j_iast 0 (4 * n9) dX3_isKey_192 (by first | rfl | assumption) rfl rfl (by show 4 * n9 < 32; omega) (by decide) ?_
            refine j_mdW (f := upd (V 103) (4 * n9) (nI (k - 4))) (by decide) (by decide) rfl ?_
            refine j_aload_n dX3_isKey_193 rfl ?_
            refine j_get 20 dX3_isKey_194 (by first | rfl | assumption) in_X3 rfl (by decide) q1119 rfl ?_
            refine j_iload_n dX3_isKey_197 rfl ?_
            refine j_iconst (v := 2) dX3_isKey_198 (by decide) ?_
            refine j_iadd dX3_isKey_199 ?_
            refine j_eqi (show _ = nI (4 * n9 + 2) from nI_add _ 2) ?_
            refine j_iconst (v := (-1)) dX3_isKey_200 (by decide) ?_
            refine j_iast 0 (4 * n9 + 2) dX3_isKey_201 (by first | rfl | assumption) rfl rfl (by show 4 * n9 + 2 < 32; omega) (by decide) ?_
            refine j_mdW (f := upd (upd (V 103) (4 * n9) (nI (k - 4))) (4 * n9 + 2) (-1)) (by decide) (by decide) rfl ?_
            refine j_aload_n dX3_isKey_202 rfl ?_
            refine j_get 20 dX3_isKey_203 (by first | rfl | assumption) in_X3 rfl (by decide) q1119 rfl ?_
            refine j_iload_n dX3_isKey_206 rfl ?_
            refine j_iconst (v := 3) dX3_isKey_207 (by decide) ?_
            refine j_iadd dX3_isKey_208 ?_
            refine j_eqi (show _ = nI (4 * n9 + 3) from nI_add _ 3) ?_
            refine j_iconst (v := (-1)) dX3_isKey_209 (by decide) ?_
            refine j_iast 0 (4 * n9 + 3) dX3_isKey_210 (by first | rfl | assumption) rfl rfl (by show 4 * n9 + 3 < 32; omega) (by decide) ?_
            refine j_mdW (f := (upd (upd (upd (V 103) (4 * n9) (nI (k - 4))) (4 * n9 + 2) (-1)) (4 * n9 + 3) (-1))) (by decide) (by decide) rfl ?_
            have h6z : (va_up F 19 (n9 + 1)) 6 = n := h6
            have h8z : (va_up F 19 (n9 + 1)) 8 = (we T n (sk T n p)) := h81
            have hbz : (va_up F 19 (n9 + 1)) 16 = b9 := hb9
            have hmz : (va_up F 19 (n9 + 1)) 18 = m9 := hm9
            refine j_iload_n dX3_isKey_211 rfl ?_
            refine j_bipush (v := 6) dX3_isKey_212 (by decide) ?_
            refine j_icmp_ne (tgt := 223) dX3_isKey_214 (by decide) (fun c214 => ?_) (fun c214 => ?_)
            · skip
              have h214 : ¬ k = 10 := fun q => c214 (by rw [q]; rfl)
              refine j_iload_n dX3_isKey_223 rfl ?_
              refine j_if_eq (tgt := 233) dX3_isKey_224 (by decide) (fun c224 => ?_) (fun c224 => ?_)
              · skip
                have h224 : k = 4 := by
                  have := (nI_eq (by omega) (by decide)).mp (show nI (k - 4) = nI 0 from hik.symm.trans c224)
                  omega
                rw [h224, pKey_4] at hpk0
                refine j_aload_n dX3_isKey_233 rfl ?_
                refine j_iload_n dX3_isKey_234 rfl ?_
                refine j_iconst (v := 2) dX3_isKey_235 (by decide) ?_
                refine j_iadd dX3_isKey_236 ?_
                refine j_eqi (show _ = nI (4 * n9 + 2 + 1) - 1 from nI_wh (4 * n9) 2) ?_
                refine j_iconst (v := 0) dX3_isKey_237 (by decide) ?_
                refine j_aload_n dX3_isKey_238 rfl ?_
                refine j_get 16 dX3_isKey_239 (by first | rfl | assumption) in_X3 rfl (by decide) q1115 rfl ?_
                refine j_iconst (v := 1) dX3_isKey_242 (by decide) ?_
                refine j_isub dX3_isKey_243 ?_
                refine j_eqi (show _ = nI (b9 - 1) by rw [hbz]; exact nI_p1 hb8.1) ?_
                refine j_callV (m_isNextP (V := (vo V [(103, (upd (upd (upd (V 103) (4 * n9) (nI (k - 4))) (4 * n9 + 2) (-1)) (4 * n9 + 3) (-1)))])) (F := (va_up F 19 (n9 + 1))) (p := (we T n (sk T n p))) h6z h8z htx hn4 hwn (4 * n9 + 2 + 1) 0 (b9 - 1) (by omega) (by decide) (by omega)) q_pr.isR dX3_isKey_244 pmX3_isNext q1263 q1265 qs31 (by first | rfl | assumption) rfl rfl rfl ⟨Nat.le_of_ble_eq_true rfl, Nat.le_of_ble_eq_true rfl⟩ ⟨Nat.le_of_ble_eq_true rfl, Nat.le_of_ble_eq_true rfl⟩ rfl (Nat.le_of_ble_eq_true rfl) ?_
                rintro v9 r h9 nx ⟨e9, rfl, rfl, F1, tk1, V1, rfl, hs1, hl1, hv1, hok1, hbad1⟩
                cases e9
                show J _ _ _ _ _ _ _ _ _ _ _ _ (.int _ :: _)
                refine j_if_eq (tgt := 254) dX3_isKey_247 (by decide) (fun c247 => ?_) (fun c247 => ?_)
                · skip
                  have hf1 := ifE.mp c247
                  rw [pNm_bad hf1] at hpk0
                  have hpk := hpk0
                  refine j_iconst (v := 0) dX3_isKey_254 (by decide) ?_
                  refine j_istore_n dX3_isKey_255 (by decide) rfl ?_
                  refine j_iload_n dX3_isKey_256 rfl ?_
                  refine j_if_eq (tgt := 287) dX3_isKey_257 (by decide) (fun c257 => ?_) (fun c257 => absurd rfl c257)
                  refine j_iconst (v := 0) dX3_isKey_287 (by decide) ?_
                  refine j_istore_n dX3_isKey_288 (by decide) rfl ?_
                  refine j_iload_n dX3_isKey_289 rfl ?_
                  refine j_if_eq (tgt := 305) dX3_isKey_290 (by decide) (fun c290 => ?_) (fun c290 => absurd rfl c290)
                  refine j_iconst (v := 0) dX3_isKey_305 (by decide) ?_
                  refine j_iret dX3_isKey_306 rfl rfl (Nat.le_refl _) (Nat.le_refl _) ?_
                  rw [hpk]
                  exact ⟨ret0 hf1, rfl, rfl, F1, tk1, V1, rfl, ((show sameP F (va_up F 19 (n9 + 1)) from fun k a => va_up_ne _ _ (by omega))).trans hs1, by rw [h6]; rw [h6z] at hl1; exact hl1, fun k hk => ((hv1 k hk).trans (vo_ne (fun q hq e => by rw [List.mem_singleton.mp hq] at e; exact hk e.symm))), fun q => absurd q hf1, hbad1⟩
                · skip
                  have hf1 : (pNum T n (we T n (sk T n p)) 0 (b9 - 1)).1 = 0 := Classical.byContradiction (fun z => c247 (ifE.mpr z))
                  obtain ⟨h81, ha1, hb1, hr1, -, hn1, hw1⟩ := hok1 hf1
                  have h61 : F1 6 = n := (hs1 6 (Or.inl (by decide))).trans h6z
                  have hps := pNum_pos hwn hf1
                  have hV1 : V1 103 = upd (upd (upd (upd (V 103) (4 * n9) (nI (k - 4))) (4 * n9 + 2) (-1)) (4 * n9 + 3) (-1)) (4 * n9 + 2) (nI (pNum T n (we T n (sk T n p)) 0 (b9 - 1)).2.1) := by
                    rcases hw1 with q | q
                    · omega
                    · rw [q.2]; rfl
                  rw [pNm_ok hf1] at hpk0
                  refine j_iconst (v := 1) dX3_isKey_250 (by decide) ?_
                  refine j_goto (tgt := 255) dX3_isKey_251 (by decide) ?_
                  refine j_istore_n dX3_isKey_255 (by decide) rfl ?_
                  refine j_iload_n dX3_isKey_256 rfl ?_
                  refine j_if_eq (tgt := 287) dX3_isKey_257 (by decide) (fun c257 => absurd c257 (by decide)) (fun c257 => ?_)
                  refine j_iload_n dX3_isKey_260 rfl ?_
                  refine j_bipush (v := 7) dX3_isKey_261 (by decide) ?_
                  refine j_icmp_ne (tgt := 283) dX3_isKey_263 (by decide) (fun c263 => ?_) (fun c263 => absurd c263 (fun q => absurd ((nI_eq (by omega) (by decide)).mp (show nI (k - 4) = nI 7 from hik.symm.trans q)) (by omega)))
                  refine j_iconst (v := 1) dX3_isKey_283 (by decide) ?_
                  refine j_goto (tgt := 288) dX3_isKey_284 (by decide) ?_
                  refine j_istore_n dX3_isKey_288 (by decide) rfl ?_
                  refine j_iload_n dX3_isKey_289 rfl ?_
                  refine j_if_eq (tgt := 305) dX3_isKey_290 (by decide) (fun c290 => absurd c290 (by decide)) (fun c290 => ?_)
                  refine j_aload_n dX3_isKey_293 rfl ?_
                  refine j_iload_n dX3_isKey_294 rfl ?_
                  refine j_callV (m_isCost (p := (pNum T n (we T n (sk T n p)) 0 (b9 - 1)).2.2) h61 h81 (by rw [hv1 102 (by decide)]; exact htx) hn4 hps.2.2.1 (4 * n9) 0 (pNum T n (we T n (sk T n p)) 0 (b9 - 1)).2.1 0 (by omega)) q_pr.isR dX3_isKey_295 pmX3_isCost q1287 q1289 qs35 (by first | rfl | assumption) rfl rfl rfl ⟨Nat.le_of_ble_eq_true rfl, Nat.le_of_ble_eq_true rfl⟩ ⟨Nat.le_of_ble_eq_true rfl, Nat.le_of_ble_eq_true rfl⟩ rfl (Nat.le_of_ble_eq_true rfl) ?_
                  rintro v9 r h9 nx ⟨e9, rfl, rfl, F3, tk3, V3, rfl, hs3, hl3, hv3, hok3, hbad3⟩
                  cases e9
                  show J _ _ _ _ _ _ _ _ _ _ _ _ (.int _ :: _)
                  refine j_if_eq (tgt := 305) dX3_isKey_298 (by decide) (fun c298 => ?_) (fun c298 => ?_)
                  · skip
                    have hf3 := ifE.mp c298
                    have hpk := hpk0
                    refine j_iconst (v := 0) dX3_isKey_305 (by decide) ?_
                    refine j_iret dX3_isKey_306 rfl rfl (Nat.le_refl _) (Nat.le_refl _) ?_
                    rw [hpk]
                    exact ⟨ret0 hf3, rfl, rfl, F3, tk3, V3, rfl, (((show sameP F (va_up F 19 (n9 + 1)) from fun k a => va_up_ne _ _ (by omega))).trans hs1).trans hs3, by rw [h6]; rw [h61] at hl3; exact hl3, fun k hk => ((hv3 k hk).trans ((hv1 k hk).trans (vo_ne (fun q hq e => by rw [List.mem_singleton.mp hq] at e; exact hk e.symm)))), fun q => absurd q hf3, hbad3⟩
                  · skip
                    have hf3 : (pCE T n (pNum T n (we T n (sk T n p)) 0 (b9 - 1)).2.2 0 (pNum T n (we T n (sk T n p)) 0 (b9 - 1)).2.1 0).1 = 0 := Classical.byContradiction (fun z => c298 (ifE.mpr z))
                    obtain ⟨h83, ha3, hb3, hr3, hw3⟩ := hok3 hf3
                    have hpk := hpk0
                    have hVp := hV1
                    have hVx : V3 103 = upd (upd (upd (upd (upd (V 103) (4 * n9) (nI (k - 4))) (4 * n9 + 2) (-1)) (4 * n9 + 3) (-1)) (4 * n9 + 2) (nI (pNum T n (we T n (sk T n p)) 0 (b9 - 1)).2.1)) (4 * n9 + 1) (nI (pCE T n (pNum T n (we T n (sk T n p)) 0 (b9 - 1)).2.2 0 (pNum T n (we T n (sk T n p)) 0 (b9 - 1)).2.1 0).2.2.1.2.1) := hw3.trans (by rw [hVp])
                    have hmd : mdQ (V3 103) n9 (pCE T n (pNum T n (we T n (sk T n p)) 0 (b9 - 1)).2.2 0 (pNum T n (we T n (sk T n p)) 0 (b9 - 1)).2.1 0).2.2.1 := by
                      have hcp := pCE_pos hps.2.2.1 hf3
                      refine ⟨?_, ?_, ?_, ?_⟩
                      · rw [hVx, hcp.2.2.1]; simp [upd]; rw [h224]
                      · rw [hVx]; simp [upd]
                      · rw [hVx]; unfold kNum; rw [hcp.2.2.1, hcp.2.2.2.2.2.1]; simp [upd]
                      · rw [hVx]; unfold kOth; rw [hcp.2.2.1, hcp.2.2.2.2.2.2]; simp [upd]
                    have hlow : ∀ j, j < 4 * n9 → V3 103 j = V 103 j := fun j hj => by
                      rw [hVx]
                      repeat rw [pk_un (by omega)]
                    refine j_iconst (v := 1) dX3_isKey_301 (by decide) ?_
                    refine j_goto (tgt := 306) dX3_isKey_302 (by decide) ?_
                    refine j_iret dX3_isKey_306 rfl rfl (Nat.le_refl _) (Nat.le_refl _) ?_
                    rw [hpk]
                    exact ⟨ret1 hf3, rfl, rfl, F3, tk3, V3, rfl, (((show sameP F (va_up F 19 (n9 + 1)) from fun k a => va_up_ne _ _ (by omega))).trans hs1).trans hs3, by rw [h6]; rw [h61] at hl3; exact hl3, fun k hk => ((hv3 k hk).trans ((hv1 k hk).trans (vo_ne (fun q hq e => by rw [List.mem_singleton.mp hq] at e; exact hk e.symm)))), fun _ => ⟨h83, (ha3.trans (ha1.trans (va_up_ne _ _ (by decide)))), (hb3.trans (hb1.trans (va_up_ne _ _ (by decide)))), ((hr3 19 (by decide) (by decide)).trans ((hr1 19 (by decide) (by decide)).trans (va_up_self _ _ _))), fun k a b => ((hr3 k a (by omega)).trans ((hr1 k a (by omega)).trans (va_up_ne _ _ (by omega)))), hmd, hlow⟩, fun q => absurd hf3 q⟩
              · skip
                have h224 : ¬ k = 4 := fun q => c224 (by rw [q]; rfl)
                refine j_iload_n dX3_isKey_227 rfl ?_
                refine j_bipush (v := 7) dX3_isKey_228 (by decide) ?_
                refine j_icmp_ne (tgt := 250) dX3_isKey_230 (by decide) (fun c230 => ?_) (fun c230 => ?_)
                · skip
                  have h230 : ¬ k = 11 := fun q => c230 (by rw [q]; rfl)
                  rw [pKey_o h224 h214 h230] at hpk0
                  refine j_iconst (v := 1) dX3_isKey_250 (by decide) ?_
                  refine j_goto (tgt := 255) dX3_isKey_251 (by decide) ?_
                  refine j_istore_n dX3_isKey_255 (by decide) rfl ?_
                  refine j_iload_n dX3_isKey_256 rfl ?_
                  refine j_if_eq (tgt := 287) dX3_isKey_257 (by decide) (fun c257 => absurd c257 (by decide)) (fun c257 => ?_)
                  refine j_iload_n dX3_isKey_260 rfl ?_
                  refine j_bipush (v := 7) dX3_isKey_261 (by decide) ?_
                  refine j_icmp_ne (tgt := 283) dX3_isKey_263 (by decide) (fun c263 => ?_) (fun c263 => absurd c263 (fun q => absurd ((nI_eq (by omega) (by decide)).mp (show nI (k - 4) = nI 7 from hik.symm.trans q)) (by omega)))
                  refine j_iconst (v := 1) dX3_isKey_283 (by decide) ?_
                  refine j_goto (tgt := 288) dX3_isKey_284 (by decide) ?_
                  refine j_istore_n dX3_isKey_288 (by decide) rfl ?_
                  refine j_iload_n dX3_isKey_289 rfl ?_
                  refine j_if_eq (tgt := 305) dX3_isKey_290 (by decide) (fun c290 => absurd c290 (by decide)) (fun c290 => ?_)
                  refine j_aload_n dX3_isKey_293 rfl ?_
                  refine j_iload_n dX3_isKey_294 rfl ?_
                  refine j_callV (m_isCost (V := (vo V [(103, (upd (upd (upd (V 103) (4 * n9) (nI (k - 4))) (4 * n9 + 2) (-1)) (4 * n9 + 3) (-1)))])) (F := (va_up F 19 (n9 + 1))) (p := (we T n (sk T n p))) h6z h8z htx hn4 hwn (4 * n9) (k - 4) 0 0 (by omega)) q_pr.isR dX3_isKey_295 pmX3_isCost q1287 q1289 qs35 (by first | rfl | assumption) rfl rfl rfl ⟨Nat.le_of_ble_eq_true rfl, Nat.le_of_ble_eq_true rfl⟩ ⟨Nat.le_of_ble_eq_true rfl, Nat.le_of_ble_eq_true rfl⟩ rfl (Nat.le_of_ble_eq_true rfl) ?_
                  rintro v9 r h9 nx ⟨e9, rfl, rfl, F3, tk3, V3, rfl, hs3, hl3, hv3, hok3, hbad3⟩
                  cases e9
                  show J _ _ _ _ _ _ _ _ _ _ _ _ (.int _ :: _)
                  refine j_if_eq (tgt := 305) dX3_isKey_298 (by decide) (fun c298 => ?_) (fun c298 => ?_)
                  · skip
                    have hf3 := ifE.mp c298
                    have hpk := hpk0
                    refine j_iconst (v := 0) dX3_isKey_305 (by decide) ?_
                    refine j_iret dX3_isKey_306 rfl rfl (Nat.le_refl _) (Nat.le_refl _) ?_
                    rw [hpk]
                    exact ⟨ret0 hf3, rfl, rfl, F3, tk3, V3, rfl, ((show sameP F (va_up F 19 (n9 + 1)) from fun k a => va_up_ne _ _ (by omega))).trans hs3, by rw [h6]; rw [h6z] at hl3; exact hl3, fun k hk => ((hv3 k hk).trans (vo_ne (fun q hq e => by rw [List.mem_singleton.mp hq] at e; exact hk e.symm))), fun q => absurd q hf3, hbad3⟩
                  · skip
                    have hf3 : (pCE T n (we T n (sk T n p)) (k - 4) 0 0).1 = 0 := Classical.byContradiction (fun z => c298 (ifE.mpr z))
                    obtain ⟨h83, ha3, hb3, hr3, hw3⟩ := hok3 hf3
                    have hpk := hpk0
                    have hVp : (vo V [(103, (upd (upd (upd (V 103) (4 * n9) (nI (k - 4))) (4 * n9 + 2) (-1)) (4 * n9 + 3) (-1)))]) 103 = (upd (upd (upd (V 103) (4 * n9) (nI (k - 4))) (4 * n9 + 2) (-1)) (4 * n9 + 3) (-1)) := rfl
                    have hVx : V3 103 = upd ((upd (upd (upd (V 103) (4 * n9) (nI (k - 4))) (4 * n9 + 2) (-1)) (4 * n9 + 3) (-1))) (4 * n9 + 1) (nI (pCE T n (we T n (sk T n p)) (k - 4) 0 0).2.2.1.2.1) := hw3.trans (by rw [hVp])
                    have hmd : mdQ (V3 103) n9 (pCE T n (we T n (sk T n p)) (k - 4) 0 0).2.2.1 := by
                      have hcp := pCE_pos hwn hf3
                      refine ⟨?_, ?_, ?_, ?_⟩
                      · rw [hVx, hcp.2.2.1]; simp [upd]
                      · rw [hVx]; simp [upd]
                      · rw [hVx]; unfold kNum; rw [hcp.2.2.1, hcp.2.2.2.2.2.1]; simp [upd]; omega
                      · rw [hVx]; unfold kOth; rw [hcp.2.2.1, hcp.2.2.2.2.2.2]; simp [upd]; omega
                    have hlow : ∀ j, j < 4 * n9 → V3 103 j = V 103 j := fun j hj => by
                      rw [hVx]
                      repeat rw [pk_un (by omega)]
                    refine j_iconst (v := 1) dX3_isKey_301 (by decide) ?_
                    refine j_goto (tgt := 306) dX3_isKey_302 (by decide) ?_
                    refine j_iret dX3_isKey_306 rfl rfl (Nat.le_refl _) (Nat.le_refl _) ?_
                    rw [hpk]
                    exact ⟨ret1 hf3, rfl, rfl, F3, tk3, V3, rfl, ((show sameP F (va_up F 19 (n9 + 1)) from fun k a => va_up_ne _ _ (by omega))).trans hs3, by rw [h6]; rw [h6z] at hl3; exact hl3, fun k hk => ((hv3 k hk).trans (vo_ne (fun q hq e => by rw [List.mem_singleton.mp hq] at e; exact hk e.symm))), fun _ => ⟨h83, (ha3.trans (va_up_ne _ _ (by decide))), (hb3.trans (va_up_ne _ _ (by decide))), ((hr3 19 (by decide) (by decide)).trans (va_up_self _ _ _)), fun k a b => ((hr3 k a (by omega)).trans (va_up_ne _ _ (by omega))), hmd, hlow⟩, fun q => absurd hf3 q⟩
                · skip
                  have h230 : k = 11 := by
                    have := (nI_eq (by omega) (by decide)).mp (show nI (k - 4) = nI 7 from hik.symm.trans c230)
                    omega
                  rw [h230, pKey_11] at hpk0
                  refine j_aload_n dX3_isKey_233 rfl ?_
                  refine j_iload_n dX3_isKey_234 rfl ?_
                  refine j_iconst (v := 2) dX3_isKey_235 (by decide) ?_
                  refine j_iadd dX3_isKey_236 ?_
                  refine j_eqi (show _ = nI (4 * n9 + 2 + 1) - 1 from nI_wh (4 * n9) 2) ?_
                  refine j_iconst (v := 0) dX3_isKey_237 (by decide) ?_
                  refine j_aload_n dX3_isKey_238 rfl ?_
                  refine j_get 16 dX3_isKey_239 (by first | rfl | assumption) in_X3 rfl (by decide) q1115 rfl ?_
                  refine j_iconst (v := 1) dX3_isKey_242 (by decide) ?_
                  refine j_isub dX3_isKey_243 ?_
                  refine j_eqi (show _ = nI (b9 - 1) by rw [hbz]; exact nI_p1 hb8.1) ?_
                  refine j_callV (m_isNextP (V := (vo V [(103, (upd (upd (upd (V 103) (4 * n9) (nI (k - 4))) (4 * n9 + 2) (-1)) (4 * n9 + 3) (-1)))])) (F := (va_up F 19 (n9 + 1))) (p := (we T n (sk T n p))) h6z h8z htx hn4 hwn (4 * n9 + 2 + 1) 0 (b9 - 1) (by omega) (by decide) (by omega)) q_pr.isR dX3_isKey_244 pmX3_isNext q1263 q1265 qs31 (by first | rfl | assumption) rfl rfl rfl ⟨Nat.le_of_ble_eq_true rfl, Nat.le_of_ble_eq_true rfl⟩ ⟨Nat.le_of_ble_eq_true rfl, Nat.le_of_ble_eq_true rfl⟩ rfl (Nat.le_of_ble_eq_true rfl) ?_
                  rintro v9 r h9 nx ⟨e9, rfl, rfl, F1, tk1, V1, rfl, hs1, hl1, hv1, hok1, hbad1⟩
                  cases e9
                  show J _ _ _ _ _ _ _ _ _ _ _ _ (.int _ :: _)
                  refine j_if_eq (tgt := 254) dX3_isKey_247 (by decide) (fun c247 => ?_) (fun c247 => ?_)
                  · skip
                    have hf1 := ifE.mp c247
                    rw [pNm_bad hf1] at hpk0
                    have hpk := hpk0
                    refine j_iconst (v := 0) dX3_isKey_254 (by decide) ?_
                    refine j_istore_n dX3_isKey_255 (by decide) rfl ?_
                    refine j_iload_n dX3_isKey_256 rfl ?_
                    refine j_if_eq (tgt := 287) dX3_isKey_257 (by decide) (fun c257 => ?_) (fun c257 => absurd rfl c257)
                    refine j_iconst (v := 0) dX3_isKey_287 (by decide) ?_
                    refine j_istore_n dX3_isKey_288 (by decide) rfl ?_
                    refine j_iload_n dX3_isKey_289 rfl ?_
                    refine j_if_eq (tgt := 305) dX3_isKey_290 (by decide) (fun c290 => ?_) (fun c290 => absurd rfl c290)
                    refine j_iconst (v := 0) dX3_isKey_305 (by decide) ?_
                    refine j_iret dX3_isKey_306 rfl rfl (Nat.le_refl _) (Nat.le_refl _) ?_
                    rw [hpk]
                    exact ⟨ret0 hf1, rfl, rfl, F1, tk1, V1, rfl, ((show sameP F (va_up F 19 (n9 + 1)) from fun k a => va_up_ne _ _ (by omega))).trans hs1, by rw [h6]; rw [h6z] at hl1; exact hl1, fun k hk => ((hv1 k hk).trans (vo_ne (fun q hq e => by rw [List.mem_singleton.mp hq] at e; exact hk e.symm))), fun q => absurd q hf1, hbad1⟩
                  · skip
                    have hf1 : (pNum T n (we T n (sk T n p)) 0 (b9 - 1)).1 = 0 := Classical.byContradiction (fun z => c247 (ifE.mpr z))
                    obtain ⟨h81, ha1, hb1, hr1, -, hn1, hw1⟩ := hok1 hf1
                    have h61 : F1 6 = n := (hs1 6 (Or.inl (by decide))).trans h6z
                    have hps := pNum_pos hwn hf1
                    have hV1 : V1 103 = upd (upd (upd (upd (V 103) (4 * n9) (nI (k - 4))) (4 * n9 + 2) (-1)) (4 * n9 + 3) (-1)) (4 * n9 + 2) (nI (pNum T n (we T n (sk T n p)) 0 (b9 - 1)).2.1) := by
                      rcases hw1 with q | q
                      · omega
                      · rw [q.2]; rfl
                    rw [pNm_ok hf1] at hpk0
                    refine j_iconst (v := 1) dX3_isKey_250 (by decide) ?_
                    refine j_goto (tgt := 255) dX3_isKey_251 (by decide) ?_
                    refine j_istore_n dX3_isKey_255 (by decide) rfl ?_
                    refine j_iload_n dX3_isKey_256 rfl ?_
                    refine j_if_eq (tgt := 287) dX3_isKey_257 (by decide) (fun c257 => absurd c257 (by decide)) (fun c257 => ?_)
                    refine j_iload_n dX3_isKey_260 rfl ?_
                    refine j_bipush (v := 7) dX3_isKey_261 (by decide) ?_
                    refine j_icmp_ne (tgt := 283) dX3_isKey_263 (by decide) (fun c263 => absurd (hik.trans (by rw [h230]; rfl)) c263) (fun c263 => ?_)
                    refine j_aload_n dX3_isKey_266 rfl ?_
                    refine j_iload_n dX3_isKey_267 rfl ?_
                    refine j_iconst (v := 3) dX3_isKey_268 (by decide) ?_
                    refine j_iadd dX3_isKey_269 ?_
                    refine j_eqi (show _ = nI (4 * n9 + 3 + 1) - 1 from nI_wh (4 * n9) 3) ?_
                    refine j_iconst (v := 0) dX3_isKey_270 (by decide) ?_
                    refine j_aload_n dX3_isKey_271 rfl ?_
                    refine j_get 16 dX3_isKey_272 (by first | rfl | assumption) in_X3 rfl (by decide) q1115 rfl ?_
                    refine j_iconst (v := 1) dX3_isKey_275 (by decide) ?_
                    refine j_isub dX3_isKey_276 ?_
                    refine j_eqi (show _ = nI (b9 - 1) by rw [(hr1 16 (by decide) (by decide)).trans hbz]; exact nI_p1 hb8.1) ?_
                    refine j_callV (m_isNextP (V := V1) (F := F1) (p := (pNum T n (we T n (sk T n p)) 0 (b9 - 1)).2.2) h61 h81 (by rw [hv1 102 (by decide)]; exact htx) hn4 hps.2.2.1 (4 * n9 + 3 + 1) 0 (b9 - 1) (by omega) (by decide) (by omega)) q_pr.isR dX3_isKey_277 pmX3_isNext q1263 q1265 qs31 (by first | rfl | assumption) rfl rfl rfl ⟨Nat.le_of_ble_eq_true rfl, Nat.le_of_ble_eq_true rfl⟩ ⟨Nat.le_of_ble_eq_true rfl, Nat.le_of_ble_eq_true rfl⟩ rfl (Nat.le_of_ble_eq_true rfl) ?_
                    rintro v9 r h9 nx ⟨e9, rfl, rfl, F2, tk2, V2, rfl, hs2, hl2, hv2, hok2, hbad2⟩
                    cases e9
                    show J _ _ _ _ _ _ _ _ _ _ _ _ (.int _ :: _)
                    refine j_if_eq (tgt := 287) dX3_isKey_280 (by decide) (fun c280 => ?_) (fun c280 => ?_)
                    · skip
                      have hf2 := ifE.mp c280
                      rw [pNm_bad hf2] at hpk0
                      have hpk := hpk0
                      refine j_iconst (v := 0) dX3_isKey_287 (by decide) ?_
                      refine j_istore_n dX3_isKey_288 (by decide) rfl ?_
                      refine j_iload_n dX3_isKey_289 rfl ?_
                      refine j_if_eq (tgt := 305) dX3_isKey_290 (by decide) (fun c290 => ?_) (fun c290 => absurd rfl c290)
                      refine j_iconst (v := 0) dX3_isKey_305 (by decide) ?_
                      refine j_iret dX3_isKey_306 rfl rfl (Nat.le_refl _) (Nat.le_refl _) ?_
                      rw [hpk]
                      exact ⟨ret0 hf2, rfl, rfl, F2, tk2, V2, rfl, (((show sameP F (va_up F 19 (n9 + 1)) from fun k a => va_up_ne _ _ (by omega))).trans hs1).trans hs2, by rw [h6]; rw [h61] at hl2; exact hl2, fun k hk => ((hv2 k hk).trans ((hv1 k hk).trans (vo_ne (fun q hq e => by rw [List.mem_singleton.mp hq] at e; exact hk e.symm)))), fun q => absurd q hf2, hbad2⟩
                    · skip
                      have hf2 : (pNum T n (pNum T n (we T n (sk T n p)) 0 (b9 - 1)).2.2 0 (b9 - 1)).1 = 0 := Classical.byContradiction (fun z => c280 (ifE.mpr z))
                      obtain ⟨h82, ha2, hb2, hr2, -, hn2, hw2⟩ := hok2 hf2
                      have h62 : F2 6 = n := (hs2 6 (Or.inl (by decide))).trans h61
                      have hps2 := pNum_pos hps.2.2.1 hf2
                      have hV2 : V2 103 = upd (upd (upd (upd (upd (V 103) (4 * n9) (nI (k - 4))) (4 * n9 + 2) (-1)) (4 * n9 + 3) (-1)) (4 * n9 + 2) (nI (pNum T n (we T n (sk T n p)) 0 (b9 - 1)).2.1)) (4 * n9 + 3) (nI (pNum T n (pNum T n (we T n (sk T n p)) 0 (b9 - 1)).2.2 0 (b9 - 1)).2.1) := by
                        rcases hw2 with q | q
                        · omega
                        · rw [q.2, hV1]; rfl
                      rw [pNm_ok hf2] at hpk0
                      refine j_iconst (v := 1) dX3_isKey_283 (by decide) ?_
                      refine j_goto (tgt := 288) dX3_isKey_284 (by decide) ?_
                      refine j_istore_n dX3_isKey_288 (by decide) rfl ?_
                      refine j_iload_n dX3_isKey_289 rfl ?_
                      refine j_if_eq (tgt := 305) dX3_isKey_290 (by decide) (fun c290 => absurd c290 (by decide)) (fun c290 => ?_)
                      refine j_aload_n dX3_isKey_293 rfl ?_
                      refine j_iload_n dX3_isKey_294 rfl ?_
                      refine j_callV (m_isCost (p := (pNum T n (pNum T n (we T n (sk T n p)) 0 (b9 - 1)).2.2 0 (b9 - 1)).2.2) h62 h82 (by rw [hv2 102 (by decide), hv1 102 (by decide)]; exact htx) hn4 hps2.2.2.1 (4 * n9) 7 (pNum T n (we T n (sk T n p)) 0 (b9 - 1)).2.1 (pNum T n (pNum T n (we T n (sk T n p)) 0 (b9 - 1)).2.2 0 (b9 - 1)).2.1 (by omega)) q_pr.isR dX3_isKey_295 pmX3_isCost q1287 q1289 qs35 (by first | rfl | assumption) rfl rfl rfl ⟨Nat.le_of_ble_eq_true rfl, Nat.le_of_ble_eq_true rfl⟩ ⟨Nat.le_of_ble_eq_true rfl, Nat.le_of_ble_eq_true rfl⟩ rfl (Nat.le_of_ble_eq_true rfl) ?_
                      rintro v9 r h9 nx ⟨e9, rfl, rfl, F3, tk3, V3, rfl, hs3, hl3, hv3, hok3, hbad3⟩
                      cases e9
                      show J _ _ _ _ _ _ _ _ _ _ _ _ (.int _ :: _)
                      refine j_if_eq (tgt := 305) dX3_isKey_298 (by decide) (fun c298 => ?_) (fun c298 => ?_)
                      · skip
                        have hf3 := ifE.mp c298
                        have hpk := hpk0
                        refine j_iconst (v := 0) dX3_isKey_305 (by decide) ?_
                        refine j_iret dX3_isKey_306 rfl rfl (Nat.le_refl _) (Nat.le_refl _) ?_
                        rw [hpk]
                        exact ⟨ret0 hf3, rfl, rfl, F3, tk3, V3, rfl, ((((show sameP F (va_up F 19 (n9 + 1)) from fun k a => va_up_ne _ _ (by omega))).trans hs1).trans hs2).trans hs3, by rw [h6]; rw [h62] at hl3; exact hl3, fun k hk => ((hv3 k hk).trans ((hv2 k hk).trans ((hv1 k hk).trans (vo_ne (fun q hq e => by rw [List.mem_singleton.mp hq] at e; exact hk e.symm))))), fun q => absurd q hf3, hbad3⟩
                      · skip
                        have hf3 : (pCE T n (pNum T n (pNum T n (we T n (sk T n p)) 0 (b9 - 1)).2.2 0 (b9 - 1)).2.2 7 (pNum T n (we T n (sk T n p)) 0 (b9 - 1)).2.1 (pNum T n (pNum T n (we T n (sk T n p)) 0 (b9 - 1)).2.2 0 (b9 - 1)).2.1).1 = 0 := Classical.byContradiction (fun z => c298 (ifE.mpr z))
                        obtain ⟨h83, ha3, hb3, hr3, hw3⟩ := hok3 hf3
                        have hpk := hpk0
                        have hVp := hV2
                        have hVx : V3 103 = upd (upd (upd (upd (upd (upd (V 103) (4 * n9) (nI (k - 4))) (4 * n9 + 2) (-1)) (4 * n9 + 3) (-1)) (4 * n9 + 2) (nI (pNum T n (we T n (sk T n p)) 0 (b9 - 1)).2.1)) (4 * n9 + 3) (nI (pNum T n (pNum T n (we T n (sk T n p)) 0 (b9 - 1)).2.2 0 (b9 - 1)).2.1)) (4 * n9 + 1) (nI (pCE T n (pNum T n (pNum T n (we T n (sk T n p)) 0 (b9 - 1)).2.2 0 (b9 - 1)).2.2 7 (pNum T n (we T n (sk T n p)) 0 (b9 - 1)).2.1 (pNum T n (pNum T n (we T n (sk T n p)) 0 (b9 - 1)).2.2 0 (b9 - 1)).2.1).2.2.1.2.1) := hw3.trans (by rw [hVp])
                        have hmd : mdQ (V3 103) n9 (pCE T n (pNum T n (pNum T n (we T n (sk T n p)) 0 (b9 - 1)).2.2 0 (b9 - 1)).2.2 7 (pNum T n (we T n (sk T n p)) 0 (b9 - 1)).2.1 (pNum T n (pNum T n (we T n (sk T n p)) 0 (b9 - 1)).2.2 0 (b9 - 1)).2.1).2.2.1 := by
                          have hcp := pCE_pos hps2.2.2.1 hf3
                          refine ⟨?_, ?_, ?_, ?_⟩
                          · rw [hVx, hcp.2.2.1]; simp [upd]; rw [h230]
                          · rw [hVx]; simp [upd]
                          · rw [hVx]; unfold kNum; rw [hcp.2.2.1, hcp.2.2.2.2.2.1]; simp [upd]
                          · rw [hVx]; unfold kOth; rw [hcp.2.2.1, hcp.2.2.2.2.2.2]; simp [upd]
                        have hlow : ∀ j, j < 4 * n9 → V3 103 j = V 103 j := fun j hj => by
                          rw [hVx]
                          repeat rw [pk_un (by omega)]
                        refine j_iconst (v := 1) dX3_isKey_301 (by decide) ?_
                        refine j_goto (tgt := 306) dX3_isKey_302 (by decide) ?_
                        refine j_iret dX3_isKey_306 rfl rfl (Nat.le_refl _) (Nat.le_refl _) ?_
                        rw [hpk]
                        exact ⟨ret1 hf3, rfl, rfl, F3, tk3, V3, rfl, ((((show sameP F (va_up F 19 (n9 + 1)) from fun k a => va_up_ne _ _ (by omega))).trans hs1).trans hs2).trans hs3, by rw [h6]; rw [h62] at hl3; exact hl3, fun k hk => ((hv3 k hk).trans ((hv2 k hk).trans ((hv1 k hk).trans (vo_ne (fun q hq e => by rw [List.mem_singleton.mp hq] at e; exact hk e.symm))))), fun _ => ⟨h83, (ha3.trans (ha2.trans (ha1.trans (va_up_ne _ _ (by decide))))), (hb3.trans (hb2.trans (hb1.trans (va_up_ne _ _ (by decide))))), ((hr3 19 (by decide) (by decide)).trans ((hr2 19 (by decide) (by decide)).trans ((hr1 19 (by decide) (by decide)).trans (va_up_self _ _ _)))), fun k a b => ((hr3 k a (by omega)).trans ((hr2 k a (by omega)).trans ((hr1 k a (by omega)).trans (va_up_ne _ _ (by omega))))), hmd, hlow⟩, fun q => absurd hf3 q⟩
            · skip
              have h214 : k = 10 := by
                have := (nI_eq (by omega) (by decide)).mp (show nI (k - 4) = nI 6 from hik.symm.trans c214)
                omega
              rw [h214] at hpk0
              refine j_aload_n dX3_isKey_217 rfl ?_
              refine j_iload_n dX3_isKey_218 rfl ?_
              refine j_callV (m_isNow (V := (vo V [(103, (upd (upd (upd (V 103) (4 * n9) (nI (k - 4))) (4 * n9 + 2) (-1)) (4 * n9 + 3) (-1)))])) (F := (va_up F 19 (n9 + 1))) (p := (we T n (sk T n p))) h6z h8z htx hn4 hwn (4 * n9) b9 m9 (by omega) hmz hm8) q_pr.isR dX3_isKey_219 pmX3_isNow q1283 q1285 qs34 (by first | rfl | assumption) rfl rfl rfl ⟨Nat.le_of_ble_eq_true rfl, Nat.le_of_ble_eq_true rfl⟩ ⟨Nat.le_of_ble_eq_true rfl, Nat.le_of_ble_eq_true rfl⟩ rfl (Nat.le_of_ble_eq_true rfl) ?_
              rintro v9 r h9 nx ⟨e9, rfl, rfl, F1, tk1, V1, rfl, hs1, hl1, hv1, hok1, hbad1⟩
              cases e9
              show J _ _ _ _ _ _ _ _ _ _ _ _ (.int _ :: _)
              refine j_iret dX3_isKey_222 rfl (by split <;> rfl) (Nat.le_refl _) (Nat.le_refl _) ?_
              by_cases hf1 : (pKey T n b9 m9 10 (we T n (sk T n p))).1 = 0
              · obtain ⟨h81b, ha1, hb1, hr1, hw1⟩ := hok1 hf1
                have hkk := pKey_now hwn hf1
                rw [hpk0]
                refine ⟨rfl, rfl, rfl, F1, tk1, V1, rfl, (show sameP F (va_up F 19 (n9 + 1)) from fun k a => va_up_ne _ _ (by omega)).trans hs1, by rw [h6]; rw [h6z] at hl1; exact hl1, fun k hk => (hv1 k hk).trans (vo_ne (fun q hq e => by rw [List.mem_singleton.mp hq] at e; exact hk e.symm)), fun _ => ⟨h81b, ha1.trans (va_up_ne _ _ (by decide)), hb1.trans (va_up_ne _ _ (by decide)), (hr1 19 (by decide) (by decide)).trans (va_up_self _ _ _), fun k a b => (hr1 k a (by omega)).trans (va_up_ne _ _ (by omega)), ?_, fun j hj => ?_⟩, fun q => absurd hf1 q⟩
                · refine ⟨?_, ?_, ?_, ?_⟩
                  · rw [hw1, hkk]; simp [upd, vo, va_up]; rw [h214]
                  · rw [hw1]; simp [upd]
                  · rw [hw1]; unfold kNum; rw [hkk]; simp [upd]
                  · rw [hw1]; unfold kOth; rw [hkk]; simp [upd]
                · rw [hw1]
                  show upd (upd (upd (upd (upd (upd (V 103) (4 * n9) (nI (k - 4))) (4 * n9 + 2) (-1)) (4 * n9 + 3) (-1)) _ _) _ _) _ _ j = _
                  repeat rw [pk_un (by omega)]
              · rw [hpk0]
                exact ⟨rfl, rfl, rfl, F1, tk1, V1, rfl, (show sameP F (va_up F 19 (n9 + 1)) from fun k a => va_up_ne _ _ (by omega)).trans hs1, by rw [h6]; rw [h6z] at hl1; exact hl1, fun k hk => (hv1 k hk).trans (vo_ne (fun q hq e => by rw [List.mem_singleton.mp hq] at e; exact hk e.symm)), fun q => absurd q hf1, hbad1⟩
          · skip
            have h160 : n9 = 8 := (nI_eq (by omega) (by decide)).mp (show nI n9 = nI 8 from c160)
            have hpk : (pK1 T n b9 m9 n9 (sk T n p)) = pF 3 (sk T n p) := by unfold pK1; rw [hk, if_neg n1, if_neg (by omega), if_pos h160]
            refine j_aload_n dX3_isKey_163 rfl ?_
            refine j_iconst (v := 3) dX3_isKey_164 (by decide) ?_
            refine j_callVi (m_fails 3) dX3_isKey_165 pmX3_fails q1253 q1255 qs29 (by first | rfl | assumption) rfl rfl rfl ⟨Nat.le_of_ble_eq_true rfl, Nat.le_of_ble_eq_true rfl⟩ ⟨Nat.le_of_ble_eq_true rfl, Nat.le_of_ble_eq_true rfl⟩ rfl (Nat.le_of_ble_eq_true rfl) ?_
            refine j_iret dX3_isKey_168 rfl rfl (Nat.le_refl _) (Nat.le_refl _) ?_
            rw [hpk]
            exact ⟨rfl, rfl, rfl, _, _, V, rfl, fun k a => by rw [va_up_ne _ _ (by omega), va_up_ne _ _ (by omega)], by rw [h6]; exact h8n, fun _ _ => rfl, fun q => Nat.noConfusion q, fun _ => ⟨by show F 9 + 1 = _; rw [hq9]; rfl, rfl⟩⟩
        · skip
          have h145 : k < 4 := Nat.lt_of_not_le (fun q => nI_m1 (show k - 4 < 2 ^ 31 by omega) ((show nI (k - 4) = ikI k from (if_pos ⟨q, hk11⟩).symm).trans c145))
          have hpk : (pK1 T n b9 m9 n9 (sk T n p)) = pF 1 (sk T n p) := by unfold pK1; rw [hk, if_neg n1, if_pos h145]
          refine j_aload_n dX3_isKey_148 rfl ?_
          refine j_iconst (v := 1) dX3_isKey_149 (by decide) ?_
          refine j_callVi (m_fails 1) dX3_isKey_150 pmX3_fails q1253 q1255 qs29 (by first | rfl | assumption) rfl rfl rfl ⟨Nat.le_of_ble_eq_true rfl, Nat.le_of_ble_eq_true rfl⟩ ⟨Nat.le_of_ble_eq_true rfl, Nat.le_of_ble_eq_true rfl⟩ rfl (Nat.le_of_ble_eq_true rfl) ?_
          refine j_iret dX3_isKey_153 rfl rfl (Nat.le_refl _) (Nat.le_refl _) ?_
          rw [hpk]
          exact ⟨rfl, rfl, rfl, _, _, V, rfl, fun k a => by rw [va_up_ne _ _ (by omega), va_up_ne _ _ (by omega)], by rw [h6]; exact h8n, fun _ _ => rfl, fun q => Nat.noConfusion q, fun _ => ⟨by show F 9 + 1 = _; rw [hq9]; rfl, rfl⟩⟩
      · skip
        have n1 : k = 1 := (hW 1 (by decide) (by decide)).mp (lcmp_0.mp c134)
        have hpk : (pK1 T n b9 m9 n9 (sk T n p)) = pF 3 (sk T n p) := by unfold pK1; rw [hk, if_pos n1]
        refine j_aload_n dX3_isKey_137 rfl ?_
        refine j_iconst (v := 3) dX3_isKey_138 (by decide) ?_
        refine j_callVi (m_fails 3) dX3_isKey_139 pmX3_fails q1253 q1255 qs29 (by first | rfl | assumption) rfl rfl rfl ⟨Nat.le_of_ble_eq_true rfl, Nat.le_of_ble_eq_true rfl⟩ ⟨Nat.le_of_ble_eq_true rfl, Nat.le_of_ble_eq_true rfl⟩ rfl (Nat.le_of_ble_eq_true rfl) ?_
        refine j_iret dX3_isKey_142 rfl rfl (Nat.le_refl _) (Nat.le_refl _) ?_
        rw [hpk]
        exact ⟨rfl, rfl, rfl, _, _, V, rfl, fun k a => by rw [va_up_ne _ _ (by omega), va_up_ne _ _ (by omega)], by rw [h6]; exact h8n, fun _ _ => rfl, fun q => Nat.noConfusion q, fun _ => ⟨by show F 9 + 1 = _; rw [hq9]; rfl, rfl⟩⟩
    · skip
      refine j_aload_n dX3_isKey_77 rfl ?_
      refine j_get 10 dX3_isKey_78 (by first | rfl | assumption) in_X3 rfl (by decide) q1109 rfl ?_
      refine j_ldc2 dX3_isKey_81 q1280 ?_
      refine j_lcmp dX3_isKey_84 ?_
      refine j_if_ne (tgt := 92) dX3_isKey_85 (by decide) (fun c85 => ?_) (fun c85 => ?_)
      · skip
        have n9 : ¬ k = 9 := fun z => c85 (lcmp_0.mpr ((hW 9 (by decide) (by decide)).mpr z))
        refine j_aload_n dX3_isKey_92 rfl ?_
        refine j_get 10 dX3_isKey_93 (by first | rfl | assumption) in_X3 rfl (by decide) q1109 rfl ?_
        refine j_ldc2 dX3_isKey_96 q1281 ?_
        refine j_lcmp dX3_isKey_99 ?_
        refine j_if_ne (tgt := 108) dX3_isKey_100 (by decide) (fun c100 => ?_) (fun c100 => ?_)
        · skip
          have n10 : ¬ k = 10 := fun z => c100 (lcmp_0.mpr ((hW 10 (by decide) (by decide)).mpr z))
          refine j_aload_n dX3_isKey_108 rfl ?_
          refine j_get 10 dX3_isKey_109 (by first | rfl | assumption) in_X3 rfl (by decide) q1109 rfl ?_
          refine j_ldc2 dX3_isKey_112 q1282 ?_
          refine j_lcmp dX3_isKey_115 ?_
          refine j_if_ne (tgt := 124) dX3_isKey_116 (by decide) (fun c116 => ?_) (fun c116 => ?_)
          · skip
            have n11 : ¬ k = 11 := fun z => c116 (lcmp_0.mpr ((hW 11 (by decide) (by decide)).mpr z))
            have hj : i0 = ikI k := hv0 (by omega)
            refine j_iload_n dX3_isKey_124 rfl ?_
            exact kj77 _ hj
          · skip
            have n11 : k = 11 := (hW 11 (by decide) (by decide)).mp (lcmp_0.mp c116)
            have hj : (7 : Int32) = ikI k := by unfold ikI; rw [n11]; rfl
            refine j_bipush (v := 7) dX3_isKey_119 (by decide) ?_
            refine j_goto (tgt := 125) dX3_isKey_121 (by decide) ?_
            exact kj77 _ hj
        · skip
          have n10 : k = 10 := (hW 10 (by decide) (by decide)).mp (lcmp_0.mp c100)
          have hj : (6 : Int32) = ikI k := by unfold ikI; rw [n10]; rfl
          refine j_bipush (v := 6) dX3_isKey_103 (by decide) ?_
          refine j_goto (tgt := 125) dX3_isKey_105 (by decide) ?_
          exact kj77 _ hj
      · skip
        have n9 : k = 9 := (hW 9 (by decide) (by decide)).mp (lcmp_0.mp c85)
        have hj : (5 : Int32) = ikI k := by unfold ikI; rw [n9]; rfl
        refine j_iconst (v := 5) dX3_isKey_88 (by decide) ?_
        refine j_goto (tgt := 125) dX3_isKey_89 (by decide) ?_
        exact kj77 _ hj
  · skip
    refine j_aload_n dX3_isKey_0 rfl ?_
    refine j_get 10 dX3_isKey_1 (by first | rfl | assumption) in_X3 rfl (by decide) q1109 rfl ?_
    refine j_ldc2 dX3_isKey_4 q1275 ?_
    refine j_lcmp dX3_isKey_7 ?_
    refine j_if_ne (tgt := 15) dX3_isKey_8 (by decide) (fun c8 => ?_) (fun c8 => ?_)
    · skip
      have n4 : ¬ k = 4 := fun z => c8 (lcmp_0.mpr ((hW 4 (by decide) (by decide)).mpr z))
      refine j_aload_n dX3_isKey_15 rfl ?_
      refine j_get 10 dX3_isKey_16 (by first | rfl | assumption) in_X3 rfl (by decide) q1109 rfl ?_
      refine j_ldc2 dX3_isKey_19 q1276 ?_
      refine j_lcmp dX3_isKey_22 ?_
      refine j_if_ne (tgt := 30) dX3_isKey_23 (by decide) (fun c23 => ?_) (fun c23 => ?_)
      · skip
        have n5 : ¬ k = 5 := fun z => c23 (lcmp_0.mpr ((hW 5 (by decide) (by decide)).mpr z))
        refine j_aload_n dX3_isKey_30 rfl ?_
        refine j_get 10 dX3_isKey_31 (by first | rfl | assumption) in_X3 rfl (by decide) q1109 rfl ?_
        refine j_ldc2 dX3_isKey_34 q1277 ?_
        refine j_lcmp dX3_isKey_37 ?_
        refine j_if_ne (tgt := 45) dX3_isKey_38 (by decide) (fun c38 => ?_) (fun c38 => ?_)
        · skip
          have n6 : ¬ k = 6 := fun z => c38 (lcmp_0.mpr ((hW 6 (by decide) (by decide)).mpr z))
          refine j_aload_n dX3_isKey_45 rfl ?_
          refine j_get 10 dX3_isKey_46 (by first | rfl | assumption) in_X3 rfl (by decide) q1109 rfl ?_
          refine j_ldc2 dX3_isKey_49 q1278 ?_
          refine j_lcmp dX3_isKey_52 ?_
          refine j_if_ne (tgt := 60) dX3_isKey_53 (by decide) (fun c53 => ?_) (fun c53 => ?_)
          · skip
            have n7 : ¬ k = 7 := fun z => c53 (lcmp_0.mpr ((hW 7 (by decide) (by decide)).mpr z))
            refine j_aload_n dX3_isKey_60 rfl ?_
            refine j_get 10 dX3_isKey_61 (by first | rfl | assumption) in_X3 rfl (by decide) q1109 rfl ?_
            refine j_ldc2 dX3_isKey_64 q1279 ?_
            refine j_lcmp dX3_isKey_67 ?_
            refine j_if_ne (tgt := 75) dX3_isKey_68 (by decide) (fun c68 => ?_) (fun c68 => ?_)
            · skip
              have n8 : ¬ k = 8 := fun z => c68 (lcmp_0.mpr ((hW 8 (by decide) (by decide)).mpr z))
              have hj : ¬ 9 ≤ k → (-1 : Int32) = ikI k := fun z => by unfold ikI; rw [if_neg (by omega)]
              refine j_iconst (v := (-1)) dX3_isKey_75 (by decide) ?_
              exact kj0 _ hj
            · skip
              have n8 : k = 8 := (hW 8 (by decide) (by decide)).mp (lcmp_0.mp c68)
              have hj : ¬ 9 ≤ k → (4 : Int32) = ikI k := fun _ => by rw [n8]; rfl
              refine j_iconst (v := 4) dX3_isKey_71 (by decide) ?_
              refine j_goto (tgt := 76) dX3_isKey_72 (by decide) ?_
              exact kj0 _ hj
          · skip
            have n7 : k = 7 := (hW 7 (by decide) (by decide)).mp (lcmp_0.mp c53)
            have hj : ¬ 9 ≤ k → (3 : Int32) = ikI k := fun _ => by rw [n7]; rfl
            refine j_iconst (v := 3) dX3_isKey_56 (by decide) ?_
            refine j_goto (tgt := 76) dX3_isKey_57 (by decide) ?_
            exact kj0 _ hj
        · skip
          have n6 : k = 6 := (hW 6 (by decide) (by decide)).mp (lcmp_0.mp c38)
          have hj : ¬ 9 ≤ k → (2 : Int32) = ikI k := fun _ => by rw [n6]; rfl
          refine j_iconst (v := 2) dX3_isKey_41 (by decide) ?_
          refine j_goto (tgt := 76) dX3_isKey_42 (by decide) ?_
          exact kj0 _ hj
      · skip
        have n5 : k = 5 := (hW 5 (by decide) (by decide)).mp (lcmp_0.mp c23)
        have hj : ¬ 9 ≤ k → (1 : Int32) = ikI k := fun _ => by rw [n5]; rfl
        refine j_iconst (v := 1) dX3_isKey_26 (by decide) ?_
        refine j_goto (tgt := 76) dX3_isKey_27 (by decide) ?_
        exact kj0 _ hj
    · skip
      have n4 : k = 4 := (hW 4 (by decide) (by decide)).mp (lcmp_0.mp c8)
      have hj : ¬ 9 ≤ k → (0 : Int32) = ikI k := fun _ => by rw [n4]; rfl
      refine j_iconst (v := 0) dX3_isKey_11 (by decide) ?_
      refine j_goto (tgt := 76) dX3_isKey_12 (by decide) ?_
      exact kj0 _ hj
