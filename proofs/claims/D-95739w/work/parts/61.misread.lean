set_option maxRecDepth 100000
theorem tok_2 {T : Nat → Nat} {n p q e : Nat} {tk : Int64} {dg nm : Nat} (h : tokS T n p q e tk dg nm) (hp : p ≤ n) : tk = -2 ↔ n ≤ sk T n p := by
  have hqn : sk T n p ≤ n := rgE_le hp
  obtain ⟨hq, h⟩ := h
  rw [← hq] at hqn ⊢
  rcases h with ⟨h1, h2, h3⟩ | ⟨h1, h2, h3, h4⟩ | ⟨h1, h2, h3, h4, h5, h6⟩ | ⟨h1, h2, h3, h4, h5⟩
  · exact ⟨fun _ => by omega, fun _ => h3⟩
  · refine ⟨fun z => ?_, fun z => by omega⟩
    rw [h4] at z
    unfold wtk at z
    split at z
    · have hlt : wcode T q (e - q) < 27 ^ 9 := Nat.lt_of_lt_of_le (wcode_lt _ (fun i hi => by
        rw [h3] at hi
        exact rgE_in (n := n) (p := q) (by omega) (by show q + i < we T n q; omega))) (Nat.pow_le_pow_right (by decide) (by assumption))
      have hz := congrArg Int64.toInt z
      rw [pk_lT (by omega), show (-2 : Int64).toInt = -2 by decide] at hz
      omega
    · exact absurd z (by decide)
  · exact ⟨fun z => absurd (h4.symm.trans z) (by decide), fun z => by omega⟩
  · refine ⟨fun z => ?_, fun z => by omega⟩
    rw [h5] at z
    split at z <;> exact absurd z (by decide)
theorem pKey_ok {T : Nat → Nat} {n bs m w p : Nat} (hp : p ≤ n) (hw : 4 ≤ w ∧ w ≤ 11) (hb : 1 ≤ bs) (hm : 1 ≤ m) (h : (pKey T n bs m w p).1 = 0) : p < (pKey T n bs m w p).2.2.2 ∧ (pKey T n bs m w p).2.2.2 ≤ n ∧ okK bs m (pKey T n bs m w p).2.2.1 ∧ 1 ≤ (pKey T n bs m w p).2.2.1.2.1 := by
  by_cases h4 : w = 4
  · subst h4
    rw [pKey_4] at h ⊢
    by_cases hf : (pNum T n p 0 (bs - 1)).1 = 0
    · rw [pNm_ok hf] at h ⊢
      obtain ⟨a1, a2, a3, a4, a5⟩ := pNum_pos hp hf
      obtain ⟨b1, b2, b3, b4, b5, b6, b7⟩ := pCE_pos a3 h
      refine ⟨by omega, b2, ⟨by omega, b5, fun _ => by omega, fun q => by omega, fun q => by omega⟩, b4⟩
    · rw [pNm_bad hf] at h
      exact absurd h hf
  · by_cases h10 : w = 10
    · subst h10
      have hq : sk T n p ≤ n := rgE_le hp
      have hq0 : p ≤ sk T n p := rgE_ge
      have hw2 : we T n (sk T n p) ≤ n := rgE_le hq
      have hw3 : sk T n p ≤ we T n (sk T n p) := rgE_ge
      have e : pKey T n bs m 10 p = if 5 ≤ wK T n (sk T n p) ∧ wK T n (sk T n p) ≤ 7 then pNm T n (we T n (sk T n p)) 0 (m - 1) (fun v e => pCE T n e 6 v (wK T n (sk T n p) - 4)) else pF 1 (sk T n p) := rfl
      rw [e] at h ⊢
      by_cases hc : 5 ≤ wK T n (sk T n p) ∧ wK T n (sk T n p) ≤ 7
      · rw [if_pos hc] at h ⊢
        by_cases hf : (pNum T n (we T n (sk T n p)) 0 (m - 1)).1 = 0
        · rw [pNm_ok hf] at h ⊢
          obtain ⟨a1, a2, a3, a4, a5⟩ := pNum_pos hw2 hf
          obtain ⟨b1, b2, b3, b4, b5, b6, b7⟩ := pCE_pos a3 h
          refine ⟨by omega, b2, ⟨by omega, b5, fun q => by omega, fun q => by omega, fun _ => ⟨by omega, by omega, by omega⟩⟩, b4⟩
        · rw [pNm_bad hf] at h
          exact absurd h hf
      · rw [if_neg hc] at h
        exact absurd h (fun q => by cases q)
    · by_cases h11 : w = 11
      · subst h11
        rw [pKey_11] at h ⊢
        by_cases hf : (pNum T n p 0 (bs - 1)).1 = 0
        · rw [pNm_ok hf] at h ⊢
          obtain ⟨a1, a2, a3, a4, a5⟩ := pNum_pos hp hf
          by_cases hg : (pNum T n (pNum T n p 0 (bs - 1)).2.2 0 (bs - 1)).1 = 0
          · rw [pNm_ok hg] at h ⊢
            obtain ⟨c1, c2, c3, c4, c5⟩ := pNum_pos a3 hg
            obtain ⟨b1, b2, b3, b4, b5, b6, b7⟩ := pCE_pos c3 h
            refine ⟨by omega, b2, ⟨by omega, b5, fun q => by omega, fun _ => ⟨by omega, by omega⟩, fun q => by omega⟩, b4⟩
          · rw [pNm_bad hg] at h
            exact absurd h hg
        · rw [pNm_bad hf] at h
          exact absurd h hf
      · rw [pKey_o h4 h10 h11] at h ⊢
        obtain ⟨b1, b2, b3, b4, b5, b6, b7⟩ := pCE_pos hp h
        exact ⟨b1, b2, ⟨by omega, b5, fun q => by omega, fun q => by omega, fun q => by omega⟩, b4⟩
theorem pK1_ok {T : Nat → Nat} {n bs m nk q : Nat} (hq : q ≤ n) (hb : 1 ≤ bs) (hm : 1 ≤ m) (h : (pK1 T n bs m nk q).1 = 0) : q < (pK1 T n bs m nk q).2.2.2 ∧ (pK1 T n bs m nk q).2.2.2 ≤ n ∧ okK bs m (pK1 T n bs m nk q).2.2.1 ∧ 1 ≤ (pK1 T n bs m nk q).2.2.1.2.1 ∧ ¬ nk = 8 := by
  unfold pK1 at h ⊢
  split at h
  · exact absurd h (fun q => by cases q)
  · rename_i h1
    rw [if_neg h1]
    split at h
    · exact absurd h (fun q => by cases q)
    · rename_i h2
      rw [if_neg h2]
      split at h
      · exact absurd h (fun q => by cases q)
      · rename_i h3
        rw [if_neg h3]
        have hle := wK_le (T := T) (n := n) (q := q)
        have hw : we T n q ≤ n := rgE_le hq
        have hw0 : q ≤ we T n q := rgE_ge
        obtain ⟨a1, a2, a3, a4⟩ := pKey_ok hw ⟨by omega, hle⟩ hb hm h
        exact ⟨by omega, a2, a3, a4, h3⟩
theorem pDial_ok {T : Nat → Nat} {n p : Nat} (hp : p ≤ n) (h : (pDial T n p).1 = 0) : p ≤ (pDial T n p).2.2.2 ∧ (pDial T n p).2.2.2 ≤ n ∧ okD (pDial T n p).2.2.1.1 (pDial T n p).2.2.1.2.1 (pDial T n p).2.2.1.2.2.2 := by
  have hq : sk T n p ≤ n := rgE_le hp
  have hq0 : p ≤ sk T n p := rgE_ge
  have hw2 : we T n (sk T n p) ≤ n := rgE_le hq
  have hw3 : sk T n p ≤ we T n (sk T n p) := rgE_ge
  unfold pDial at h ⊢
  by_cases hc : 2 ≤ wK T n (sk T n p) ∧ wK T n (sk T n p) ≤ 3
  · rw [if_pos hc] at h ⊢
    by_cases hf : (pNum T n (we T n (sk T n p)) 2 10).1 = 0
    · rw [pNm_ok hf] at h ⊢
      obtain ⟨a1, a2, a3, a4, a5⟩ := pNum_pos hw2 hf
      by_cases hg : (pNum T n (pNum T n (we T n (sk T n p)) 2 10).2.2 1 6).1 = 0
      · rw [pNm_ok hg] at h ⊢
        obtain ⟨c1, c2, c3, c4, c5⟩ := pNum_pos a3 hg
        by_cases hm : (pNum T n (we T n (sk T n p)) 2 10).2.1 ^ (pNum T n (pNum T n (we T n (sk T n p)) 2 10).2.2 1 6).2.1 ≤ 100
        · rw [if_pos hm] at h ⊢
          by_cases he : (pEnd T n (pNum T n (pNum T n (we T n (sk T n p)) 2 10).2.2 1 6).2.2).1 = 0
          · rw [if_pos he] at h ⊢
            obtain ⟨e1, e2⟩ := pEnd_pos he
            refine ⟨by show p ≤ (pEnd T n (pNum T n (pNum T n (we T n (sk T n p)) 2 10).2.2 1 6).2.2).2.2; omega, e2, by show wK T n (sk T n p) - 2 ≤ 1; omega, a4, a5, ?_, hm⟩
            show (pNum T n (we T n (sk T n p)) 2 10).2.1 ≤ (pNum T n (we T n (sk T n p)) 2 10).2.1 ^ (pNum T n (pNum T n (we T n (sk T n p)) 2 10).2.2 1 6).2.1
            exact Nat.le_pow (by omega)
          · rw [if_neg he] at h
            exact absurd h he
        · rw [if_neg hm] at h
          exact absurd h (fun q => by cases q)
      · rw [pNm_bad hg] at h
        exact absurd h hg
    · rw [pNm_bad hf] at h
      exact absurd h hf
  · rw [if_neg hc] at h
    exact absurd h (fun q => by cases q)
/-- what stands in the model's fields when all has been read -/
def rdAll (D9 : Option (Nat × Nat × Nat × Nat)) (l : List KY) (F' : Nat → Nat) (V' : Nat → Nat → Int32) : Prop := (D9 = none → F' 15 = 0 ∧ F' 16 = 0 ∧ F' 17 = 0 ∧ F' 18 = 0 ∧ F' 19 = 0) ∧ (∀ d, D9 = some d → F' 15 = d.1 + 1 ∧ F' 16 = d.2.1 ∧ F' 17 = d.2.2.1 ∧ F' 18 = d.2.2.2 ∧ F' 19 = l.length ∧ ∀ i e, l[i]? = some e → mdQ (V' 103) i e)
def q_rd (f x : Nat) (D9 : Option (Nat × Nat × Nat × Nat)) (l : List KY) (r : Nat → Nat) (dT : Nat → ClassId) (g : j_H) (kI : Int32) (bs fg m nk w x9 s t : Nat) (F : Nat → Nat) (V : Nat → Nat → Int32) (nx : Nat) : j_Q := fun o r' h' nx' => o = .returned (some (.int (if f = 0 then 1 else 0))) ∧ r' = r ∧ nx' = nx ∧ ∃ (F' : Nat → Nat) (tk' : Int64) (V' : Nat → Nat → Int32), h' = (mdS r dT g kI bs fg m nk w x9 s t F' tk' V') ∧ sameP F F' ∧ (∀ k, k ≠ 103 → V' k = V k) ∧ (f = 0 → rdAll D9 l F' V') ∧ (¬ f = 0 → F' 13 = x + 1 ∧ F' 14 = f)
theorem q_rd.isR {f x : Nat} {D9 : Option (Nat × Nat × Nat × Nat)} {l : List KY} {r : Nat → Nat} {dT : Nat → ClassId} {g : j_H} {kI : Int32} {bs fg m nk w x9 s t : Nat} {F : Nat → Nat} {V : Nat → Nat → Int32} {nx : Nat} : j_isR (q_rd f x D9 l r dT g kI bs fg m nk w x9 s t F V nx) := fun _ _ _ _ hq => ⟨_, hq.1⟩
set_option maxHeartbeats 4000000 in
theorem m_isRead {l : Launch} {D : va_G} {dT : Nat → ClassId} {H0 : Heap} {r : Nat → Nat} {nx : Nat} {g : j_H} {kI : Int32} {bs fg m nk w x s t : Nat} {F : Nat → Nat} {tk : Int64} {V : Nat → Nat → Int32} {T : Nat → Nat} {n : Nat} (h6 : F 6 = n) (htx : txR (V 102) n T) (hn4 : n ≤ 400) : MC (gG l D dT H0) yX3_isRead cX3_isRead 2 (some .boolean) 6 0 0 [.ref (r 100)] r (mdS r dT g kI bs fg m nk w x s t F tk V) nx (q_rd (pAll T n).1 (pAll T n).2.1 (pAll T n).2.2.1 (pAll T n).2.2.2 r dT g kI bs fg m nk w x s t F V nx) := by
  refine MC.ofJ [some (.ref (r 100)), none] rfl (Nat.le_of_ble_eq_true rfl) (by decide) ?_
  refine j_aload_n dX3_isRead_0 rfl ?_
  refine j_iconst (v := 0) dX3_isRead_1 (by decide) ?_
  refine j_put 8 dX3_isRead_2 (by first | rfl | assumption) in_X3 tyX3_ok nmX3 rfl (by decide) q1107 rfl rfl rfl (by first | decide | simp) ?_
  refine j_mdF (q := 8) (v := 0) (by decide) rfl ?_
  refine j_aload_n dX3_isRead_5 rfl ?_
  refine j_iconst (v := (-1)) dX3_isRead_6 (by decide) ?_
  refine j_eqi (show (-1 : Int32) = nI 0 - 1 by decide) ?_
  refine j_put 15 dX3_isRead_7 (by first | rfl | assumption) in_X3 tyX3_ok nmX3 rfl (by decide) q1114 rfl rfl rfl (by first | decide | simp) ?_
  refine j_mdF (q := 15) (v := 0) (by decide) rfl ?_
  refine j_aload_n dX3_isRead_10 rfl ?_
  refine j_iconst (v := 0) dX3_isRead_11 (by decide) ?_
  refine j_put 16 dX3_isRead_12 (by first | rfl | assumption) in_X3 tyX3_ok nmX3 rfl (by decide) q1115 rfl rfl rfl (by first | decide | simp) ?_
  refine j_mdF (q := 16) (v := 0) (by decide) rfl ?_
  refine j_aload_n dX3_isRead_15 rfl ?_
  refine j_iconst (v := 0) dX3_isRead_16 (by decide) ?_
  refine j_put 17 dX3_isRead_17 (by first | rfl | assumption) in_X3 tyX3_ok nmX3 rfl (by decide) q1116 rfl rfl rfl (by first | decide | simp) ?_
  refine j_mdF (q := 17) (v := 0) (by decide) rfl ?_
  refine j_aload_n dX3_isRead_20 rfl ?_
  refine j_iconst (v := 0) dX3_isRead_21 (by decide) ?_
  refine j_put 18 dX3_isRead_22 (by first | rfl | assumption) in_X3 tyX3_ok nmX3 rfl (by decide) q1117 rfl rfl rfl (by first | decide | simp) ?_
  refine j_mdF (q := 18) (v := 0) (by decide) rfl ?_
  refine j_aload_n dX3_isRead_25 rfl ?_
  refine j_iconst (v := 0) dX3_isRead_26 (by decide) ?_
  refine j_put 19 dX3_isRead_27 (by first | rfl | assumption) in_X3 tyX3_ok nmX3 rfl (by decide) q1118 rfl rfl rfl (by first | decide | simp) ?_
  refine j_mdF (q := 19) (v := 0) (by decide) rfl ?_
  obtain ⟨Z, hZ⟩ : ∃ Z : Nat → Nat, Z = (va_up (va_up (va_up (va_up (va_up (va_up F 8 0) 15 0) 16 0) 17 0) 18 0) 19 0) := ⟨_, rfl⟩
  rw [← hZ]
  have zs : sameP F Z := fun k a => by rw [hZ, va_up_ne _ _ (by omega), va_up_ne _ _ (by omega), va_up_ne _ _ (by omega), va_up_ne _ _ (by omega), va_up_ne _ _ (by omega), va_up_ne _ _ (by omega)]
  have z8 : Z 8 = 0 := by rw [hZ]; rfl
  have z15 : Z 15 = 0 := by rw [hZ]; rfl
  have z16 : Z 16 = 0 := by rw [hZ]; rfl
  have z17 : Z 17 = 0 := by rw [hZ]; rfl
  have z18 : Z 18 = 0 := by rw [hZ]; rfl
  have z19 : Z 19 = 0 := by rw [hZ]; rfl
  have z6 : Z 6 = n := (zs 6 (Or.inl (by decide))).trans h6
  clear hZ
  refine j_aload_n dX3_isRead_30 rfl ?_
  refine j_callV (m_tokP (p := 0) z6 z8 htx hn4 (Nat.zero_le _)) (fun _ _ _ _ hq => ⟨_, hq.1⟩) dX3_isRead_31 pmX3_nextToken q1242 q1244 qs28 (by first | rfl | assumption) rfl rfl rfl ⟨Nat.le_of_ble_eq_true rfl, Nat.le_of_ble_eq_true rfl⟩ ⟨Nat.le_of_ble_eq_true rfl, Nat.le_of_ble_eq_true rfl⟩ rfl (Nat.le_of_ble_eq_true rfl) ?_
  rintro v9 r h9 nx ⟨e9, rfl, rfl, F1, tk1, rfl, htk, hle1, hsm1⟩
  cases e9
  obtain ⟨hW, hWe⟩ := tok_w htk
  have hq9 : F1 9 = sk T n 0 := htk.1
  have h61 : F1 6 = n := (hsm1 6 (by decide) (by decide) (by decide) (by decide)).trans z6
  have hqn : sk T n 0 ≤ n := rgE_le (Nat.zero_le _)
  obtain ⟨k, hk⟩ : ∃ k, wK T n (sk T n 0) = k := ⟨_, rfl⟩
  rw [hk] at hW hWe
  have h2t := tok_2 htk (Nat.zero_le _)
  refine j_aload_n dX3_isRead_34 rfl ?_
  refine j_get 10 dX3_isRead_35 (by first | rfl | assumption) in_X3 rfl (by decide) q1109 rfl ?_
  refine j_ldc2 dX3_isRead_38 q1246 ?_
  refine j_lcmp dX3_isRead_41 ?_
  refine j_if_ne (tgt := 47) dX3_isRead_42 (by decide) (fun c42 => ?_) (fun c42 => ?_)
  · skip
    have hnz : ¬ n ≤ sk T n 0 := fun z => c42 (lcmp_0.mpr (h2t.mpr z))
    refine j_aload_n dX3_isRead_47 rfl ?_
    refine j_get 10 dX3_isRead_48 (by first | rfl | assumption) in_X3 rfl (by decide) q1109 rfl ?_
    refine j_ldc2 dX3_isRead_51 q1252 ?_
    refine j_lcmp dX3_isRead_54 ?_
    refine j_if_eq (tgt := 64) dX3_isRead_55 (by decide) (fun c55 => ?_) (fun c55 => ?_)
    · skip
      have hk1 : k = 1 := (hW 1 (by decide) (by decide)).mp (lcmp_0.mp c55)
      obtain ⟨h81, -⟩ := hWe (by omega)
      have hwn : we T n (sk T n 0) ≤ n := rgE_le hqn
      obtain ⟨RK, hRK⟩ : ∃ RK, pKeys T n (pDial T n (we T n (sk T n 0))).2.2.1.2.1 (pDial T n (we T n (sk T n 0))).2.2.1.2.2.2 n (pDial T n (we T n (sk T n 0))).2.2.2 [] = RK := ⟨_, rfl⟩
      refine j_aload_n dX3_isRead_64 rfl ?_
      refine j_callV (m_isDial (V := V) (F := F1) (p := we T n (sk T n 0)) h61 h81 htx hn4 hwn) q_pr.isR dX3_isRead_65 pmX3_isDial q1257 q1259 qs30 (by first | rfl | assumption) rfl rfl rfl ⟨Nat.le_of_ble_eq_true rfl, Nat.le_of_ble_eq_true rfl⟩ ⟨Nat.le_of_ble_eq_true rfl, Nat.le_of_ble_eq_true rfl⟩ rfl (Nat.le_of_ble_eq_true rfl) ?_
      rintro v9 r h9 nx ⟨e9, rfl, rfl, F2, tk2, V2, rfl, hs2, hl2, hv2, hok2, hbad2⟩
      cases e9
      show J _ _ _ _ _ _ _ _ _ _ _ _ (.int _ :: _)
      refine j_istore_n dX3_isRead_68 (by decide) rfl ?_
      refine j_less (L' := [some (.ref (r 100)), some (.int (if (pDial T n (we T n (sk T n 0))).1 = 0 then 1 else 0))]) ⟨Or.inr rfl, Or.inr rfl, trivial⟩ ?_
      refine j_lp6 (fun (f9 p9 : Nat) (l9 : List KY) (G : Nat → Nat) (tk9 : Int64) (W : Nat → Nat → Int32) => (mdS r dT g kI bs fg m nk w x s t G tk9 W)) (fun f9 _ _ _ _ _ => [some (.ref (r 100)), some (.int (if f9 = 0 then 1 else 0))]) (fun f9 p9 l9 G tk9 W => sameP F G ∧ (∀ k, k ≠ 103 → W k = V k) ∧ (f9 = 0 → G 8 = p9 ∧ p9 ≤ n ∧ (pDial T n (we T n (sk T n 0))).1 = 0 ∧ G 15 = (pDial T n (we T n (sk T n 0))).2.2.1.1 + 1 ∧ G 16 = (pDial T n (we T n (sk T n 0))).2.2.1.2.1 ∧ G 17 = (pDial T n (we T n (sk T n 0))).2.2.1.2.2.1 ∧ G 18 = (pDial T n (we T n (sk T n 0))).2.2.1.2.2.2 ∧ G 19 = l9.length ∧ l9.length ≤ 8 ∧ (∀ i e, l9[i]? = some e → mdQ (W 103) i e) ∧ ∃ k, n ≤ p9 + k ∧ pKeys T n (pDial T n (we T n (sk T n 0))).2.2.1.2.1 (pDial T n (we T n (sk T n 0))).2.2.1.2.2.2 k p9 l9 = RK) ∧ (¬ f9 = 0 → (pAll T n).1 = f9 ∧ G 13 = (pAll T n).2.1 + 1 ∧ G 14 = f9)) (fun f9 p9 _ _ _ _ => if f9 = 0 then n - p9 + 1 else 0) ?_ (pDial T n (we T n (sk T n 0))).1 (pDial T n (we T n (sk T n 0))).2.2.2 [] F2 tk2 V2 ⟨?_, hv2, fun hz => ?_, fun hz => ?_⟩
      rotate_left
      · exact fun k a => (hs2 k a).trans ((hsm1 k (by omega) (by omega) (by omega) (by omega)).trans (zs k a))
      · obtain ⟨a1, a2, a3, a4, a5, a6, a7, a8, a9⟩ := hok2 hz
        have hdo := pDial_ok hwn hz
        exact ⟨a1, hdo.2.1, hz, a4, a5, a6, a7, by rw [a8, hsm1 19 (by decide) (by decide) (by decide) (by decide), z19]; rfl, Nat.zero_le _, fun i e he => by simp at he, n, by omega, hRK⟩
      · have hb := hbad2 hz
        have hpa : (pAll T n) = ((pDial T n (we T n (sk T n 0))).1, (pDial T n (we T n (sk T n 0))).2.1, none, []) := by unfold pAll; rw [if_neg hnz, hk, if_pos hk1, if_neg hz]
        rw [hpa]
        exact ⟨rfl, hb.1, hb.2⟩
      intro f9 p9 l9 G tk9 W ⟨gs, gv, gok, gbad⟩ ih
      refine j_iload_n dX3_isRead_69 rfl ?_
      refine j_if_eq (tgt := 98) dX3_isRead_70 (by decide) (fun c70 => ?_) (fun c70 => ?_)
      · skip
        have hf9 := ifE.mp c70
        obtain ⟨b1, b2, b3⟩ := gbad hf9
        refine j_iconst (v := 0) dX3_isRead_98 (by decide) ?_
        refine j_iret dX3_isRead_99 rfl rfl (Nat.le_refl _) (Nat.le_refl _) ?_
        have hfz : ¬ (pAll T n).1 = 0 := by rw [b1]; exact hf9
        exact ⟨ret0 hfz, rfl, rfl, G, tk9, W, rfl, gs, gv, fun q => absurd q hfz, fun _ => ⟨b2, b3.trans b1.symm⟩⟩
      · skip
        have hf9 : f9 = 0 := Classical.byContradiction (fun z => c70 (ifE.mpr z))
        obtain ⟨g8, hp9, hd0, g15, g16, g17, g18, g19, hl8, gmd, kf, hkf, hkr⟩ := gok hf9
        have gG6 : G 6 = n := (gs 6 (Or.inl (by decide))).trans h6
        have hdo := pDial_ok hwn hd0
        have hpa : (pAll T n) = (RK.1, RK.2.1, some (pDial T n (we T n (sk T n 0))).2.2.1, RK.2.2) := by unfold pAll; rw [if_neg hnz, hk, if_pos hk1, if_pos hd0, hRK]
        refine j_aload_n dX3_isRead_73 rfl ?_
        refine j_callV (m_tokP (F := G) (V := W) (p := p9) gG6 g8 (by rw [gv 102 (by decide)]; exact htx) hn4 hp9) (fun _ _ _ _ hq => ⟨_, hq.1⟩) dX3_isRead_74 pmX3_nextToken q1242 q1244 qs28 (by first | rfl | assumption) rfl rfl rfl ⟨Nat.le_of_ble_eq_true rfl, Nat.le_of_ble_eq_true rfl⟩ ⟨Nat.le_of_ble_eq_true rfl, Nat.le_of_ble_eq_true rfl⟩ rfl (Nat.le_of_ble_eq_true rfl) ?_
        rintro v9 r h9 nx ⟨e9, rfl, rfl, F3, tk3, rfl, htk3, hle3, hsm3⟩
        cases e9
        have h2t := tok_2 htk3 hp9
        have hq39 : F3 9 = sk T n p9 := htk3.1
        have h63 : F3 6 = n := (hsm3 6 (by decide) (by decide) (by decide) (by decide)).trans gG6
        refine j_aload_n dX3_isRead_77 rfl ?_
        refine j_get 10 dX3_isRead_78 (by first | rfl | assumption) in_X3 rfl (by decide) q1109 rfl ?_
        refine j_ldc2 dX3_isRead_81 q1246 ?_
        refine j_lcmp dX3_isRead_84 ?_
        refine j_if_ne (tgt := 90) dX3_isRead_85 (by decide) (fun c85 => ?_) (fun c85 => ?_)
        · skip
          have hnz2 : ¬ n ≤ sk T n p9 := fun z => c85 (lcmp_0.mpr (h2t.mpr z))
          refine j_aload_n dX3_isRead_90 rfl ?_
          refine j_callV (m_isKey (V := W) (F := F3) (tk := tk3) (p := p9) h63 htk3 hle3 (by rw [gv 102 (by decide)]; exact htx) hn4 hp9 (pDial T n (we T n (sk T n 0))).2.2.1.2.1 (pDial T n (we T n (sk T n 0))).2.2.1.2.2.2 l9.length ((hsm3 16 (by decide) (by decide) (by decide) (by decide)).trans g16) ((hsm3 18 (by decide) (by decide) (by decide) (by decide)).trans g18) ((hsm3 19 (by decide) (by decide) (by decide) (by decide)).trans g19) (by have := hdo.2.2.2.1; have := hdo.2.2.2.2.1; omega) (by have := hdo.2.2.pos; have := hdo.2.2.le; omega) hl8) q_pr.isR dX3_isRead_91 pmX3_isKey q1271 q1273 qs33 (by first | rfl | assumption) rfl rfl rfl ⟨Nat.le_of_ble_eq_true rfl, Nat.le_of_ble_eq_true rfl⟩ ⟨Nat.le_of_ble_eq_true rfl, Nat.le_of_ble_eq_true rfl⟩ rfl (Nat.le_of_ble_eq_true rfl) ?_
          rintro v9 r h9 nx ⟨e9, rfl, rfl, F4, tk4, V4, rfl, hs4, hl4, hv4, hok4, hbad4⟩
          cases e9
          show J _ _ _ _ _ _ _ _ _ _ _ _ (.int _ :: _)
          refine j_istore_n dX3_isRead_94 (by decide) rfl ?_
          refine j_goto (tgt := 69) dX3_isRead_95 (by decide) ?_
          refine j_less (L' := [some (.ref (r 100)), some (.int (if (pK1 T n (pDial T n (we T n (sk T n 0))).2.2.1.2.1 (pDial T n (we T n (sk T n 0))).2.2.1.2.2.2 l9.length (sk T n p9)).1 = 0 then 1 else 0))]) ⟨Or.inr rfl, Or.inr rfl, trivial⟩ ?_
          obtain ⟨kg, rfl⟩ : ∃ kg, kf = kg + 1 := ⟨kf - 1, by have h9 : p9 ≤ sk T n p9 := rgE_ge; have h8 : sk T n p9 ≤ n := rgE_le hp9; cases kf with | zero => omega | succ z => omega⟩
          rw [pKeys_step, if_neg hnz2] at hkr
          have hq0 : p9 ≤ sk T n p9 := rgE_ge
          have hqn3 : sk T n p9 ≤ n := rgE_le hp9
          refine ih (pK1 T n (pDial T n (we T n (sk T n 0))).2.2.1.2.1 (pDial T n (we T n (sk T n 0))).2.2.1.2.2.2 l9.length (sk T n p9)).1 (pK1 T n (pDial T n (we T n (sk T n 0))).2.2.1.2.1 (pDial T n (we T n (sk T n 0))).2.2.1.2.2.2 l9.length (sk T n p9)).2.2.2 (l9 ++ [(pK1 T n (pDial T n (we T n (sk T n 0))).2.2.1.2.1 (pDial T n (we T n (sk T n 0))).2.2.1.2.2.2 l9.length (sk T n p9)).2.2.1]) F4 tk4 V4 ⟨fun k a => (hs4 k a).trans ((hsm3 k (by omega) (by omega) (by omega) (by omega)).trans (gs k a)), fun k hk => (hv4 k hk).trans (gv k hk), fun hz => ?_, fun hz => ?_⟩ ?_
          · obtain ⟨a1, a2, a3, a4, a5, a6, a7⟩ := hok4 hz
            obtain ⟨b1, b2, b3, b4, b5⟩ := pK1_ok hqn3 (by have := hdo.2.2.2.1; omega) (by have := hdo.2.2.pos; omega) hz
            rw [if_pos hz] at hkr
            refine ⟨a1, b2, hd0, (a5 15 (by decide) (by decide)).trans ((hsm3 15 (by decide) (by decide) (by decide) (by decide)).trans g15), (a5 16 (by decide) (by decide)).trans ((hsm3 16 (by decide) (by decide) (by decide) (by decide)).trans g16), (a5 17 (by decide) (by decide)).trans ((hsm3 17 (by decide) (by decide) (by decide) (by decide)).trans g17), (a5 18 (by decide) (by decide)).trans ((hsm3 18 (by decide) (by decide) (by decide) (by decide)).trans g18), by rw [a4, List.length_append]; rfl, by rw [List.length_append]; show l9.length + 1 ≤ 8; omega, fun i e he => ?_, kg, by omega, hkr⟩
            by_cases hi : i < l9.length
            · rw [List.getElem?_append_left hi] at he
              have h9 := gmd i e he
              exact ⟨(a7 _ (by omega)).trans h9.1, (a7 _ (by omega)).trans h9.2.1, (a7 _ (by omega)).trans h9.2.2.1, (a7 _ (by omega)).trans h9.2.2.2⟩
            · rw [List.getElem?_append_right (by omega)] at he
              have hz9 := (List.getElem?_eq_some_iff.mp he).1
              simp at hz9
              rw [hz9] at he
              simp at he
              rw [show i = l9.length by omega, ← he]
              exact a6
          · have hb := hbad4 hz
            rw [if_neg hz] at hkr
            rw [hpa, ← hkr]
            exact ⟨rfl, hb.1, hb.2⟩
          · rw [if_pos hf9]
            by_cases hz : (pK1 T n (pDial T n (we T n (sk T n 0))).2.2.1.2.1 (pDial T n (we T n (sk T n 0))).2.2.1.2.2.2 l9.length (sk T n p9)).1 = 0
            · rw [if_pos hz]
              obtain ⟨b1, b2, b3, b4, b5⟩ := pK1_ok hqn3 (by have := hdo.2.2.2.1; omega) (by have := hdo.2.2.pos; omega) hz
              omega
            · rw [if_neg hz]; omega
        · skip
          have hnz2 : n ≤ sk T n p9 := h2t.mp (lcmp_0.mp c85)
          have hRe : RK = (0, 0, l9) := by
            rw [← hkr]
            cases kf with
            | zero => rfl
            | succ kf => rw [pKeys_step, if_pos hnz2]
          refine j_iconst (v := 1) dX3_isRead_88 (by decide) ?_
          refine j_iret dX3_isRead_89 rfl rfl (Nat.le_refl _) (Nat.le_refl _) ?_
          rw [hpa, hRe]
          exact ⟨rfl, rfl, rfl, F3, tk3, W, rfl, fun k a => (hsm3 k (by omega) (by omega) (by omega) (by omega)).trans (gs k a), gv, fun _ => ⟨fun q => (by cases q), fun d hd => (by cases hd; exact ⟨(hsm3 15 (by decide) (by decide) (by decide) (by decide)).trans g15, (hsm3 16 (by decide) (by decide) (by decide) (by decide)).trans g16, (hsm3 17 (by decide) (by decide) (by decide) (by decide)).trans g17, (hsm3 18 (by decide) (by decide) (by decide) (by decide)).trans g18, (hsm3 19 (by decide) (by decide) (by decide) (by decide)).trans g19, gmd⟩)⟩, fun q => absurd rfl q⟩
    · skip
      have hk1 : ¬ k = 1 := fun z => c55 (lcmp_0.mpr ((hW 1 (by decide) (by decide)).mpr z))
      have hpa : (pAll T n) = (1, sk T n 0, none, []) := by unfold pAll; rw [if_neg hnz, hk, if_neg hk1]
      refine j_aload_n dX3_isRead_58 rfl ?_
      refine j_iconst (v := 1) dX3_isRead_59 (by decide) ?_
      refine j_callVi (m_fails 1) dX3_isRead_60 pmX3_fails q1253 q1255 qs29 (by first | rfl | assumption) rfl rfl rfl ⟨Nat.le_of_ble_eq_true rfl, Nat.le_of_ble_eq_true rfl⟩ ⟨Nat.le_of_ble_eq_true rfl, Nat.le_of_ble_eq_true rfl⟩ rfl (Nat.le_of_ble_eq_true rfl) ?_
      refine j_iret dX3_isRead_63 rfl rfl (Nat.le_refl _) (Nat.le_refl _) ?_
      rw [hpa]
      exact ⟨rfl, rfl, rfl, _, _, V, rfl, fun k a => by rw [va_up_ne _ _ (by omega), va_up_ne _ _ (by omega)]; exact (hsm1 k (by omega) (by omega) (by omega) (by omega)).trans (zs k a), fun _ _ => rfl, fun q => Nat.noConfusion q, fun _ => ⟨by show F1 9 + 1 = _; rw [hq9], rfl⟩⟩
  · skip
    have hnz : n ≤ sk T n 0 := h2t.mp (lcmp_0.mp c42)
    have hpa : (pAll T n) = (0, 0, none, []) := by unfold pAll; rw [if_pos hnz]
    refine j_iconst (v := 1) dX3_isRead_45 (by decide) ?_
    refine j_iret dX3_isRead_46 rfl rfl (Nat.le_refl _) (Nat.le_refl _) ?_
    rw [hpa]
    exact ⟨rfl, rfl, rfl, F1, tk1, V, rfl, fun k a => (hsm1 k (by omega) (by omega) (by omega) (by omega)).trans (zs k a), fun _ _ => rfl, fun _ => ⟨fun _ => ⟨(hsm1 15 (by decide) (by decide) (by decide) (by decide)).trans z15, (hsm1 16 (by decide) (by decide) (by decide) (by decide)).trans z16, (hsm1 17 (by decide) (by decide) (by decide) (by decide)).trans z17, (hsm1 18 (by decide) (by decide) (by decide) (by decide)).trans z18, (hsm1 19 (by decide) (by decide) (by decide) (by decide)).trans z19⟩, fun d hd => by cases hd⟩, fun q => absurd rfl q⟩
