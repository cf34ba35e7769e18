set_option maxRecDepth 100000
/-- what has been read: dial and keys, as they lie in the heap -/
def rkAll (D9 : Option (Nat × Nat × Nat × Nat)) (l : List KY) (dT : Nat → ClassId) (r : Nat → Nat) (h : j_H) : Prop := ∃ ka : Nat → Option Nat, h 203 = some (.inl (dT 4, 9, .inr (.inr (.inr (.inr ka))))) ∧ (D9 = none → h 201 = some (rcell .null (r 203) 0)) ∧ ∀ d, D9 = some d → h 201 = some (rcell (.ref (r 202)) (r 203) l.length) ∧ h 202 = some (dcell d.1 d.2.1 d.2.2.1 d.2.2.2) ∧ l.length ≤ 8 ∧ ∀ i e, l[i]? = some e → ka i = some (r (i + 220)) ∧ h (i + 220) = some (kcell (r 202) e)
abbrev pRA : Type := Nat × Nat × Option (Nat × Nat × Nat × Nat) × List (Nat × Nat × Nat × Nat)
def q_all1 (res : pRA) (dT : Nat → ClassId) (r : Nat → Nat) (h : j_H) : j_Q := fun o r' h' _ => o = .returned (some (.ref (r' 201))) ∧ (∀ i, i < 200 → r' i = r i ∧ h' i = h i) ∧ rkAll res.2.2.1 res.2.2.2 dT r' h'
theorem q_all1.isR {res : pRA} {dT : Nat → ClassId} {r : Nat → Nat} {h : j_H} : j_isR (q_all1 res dT r h) := fun _ _ _ _ hq => ⟨_, hq.1⟩
def q_allR (res : pRA) (dT : Nat → ClassId) (r : Nat → Nat) (h : j_H) : j_Q := fun o r' h' nx' => (res.1 = 0 ∧ q_all1 res dT r h o r' h' nx') ∨ (¬ res.1 = 0 ∧ q_T res.1 res.2.1 r h o r' h' nx')
theorem q_allR.ok {res : pRA} {dT : Nat → ClassId} {r r' : Nat → Nat} {h h' : j_H} {o : Outcome} {nx' : Nat} (hok : res.1 = 0) (hq : q_allR res dT r h o r' h' nx') : q_all1 res dT r h o r' h' nx' := by
  rcases hq with hq | hq
  · exact hq.2
  · exact absurd hok hq.1
theorem q_allR.no {res : pRA} {dT : Nat → ClassId} {r r' : Nat → Nat} {h h' : j_H} {o : Outcome} {nx' : Nat} (hok : ¬ res.1 = 0) (hq : q_allR res dT r h o r' h' nx') : q_T res.1 res.2.1 r h o r' h' nx' := by
  rcases hq with hq | hq
  · exact absurd hq.1 hok
  · exact hq.2
theorem q_allR.bad {f x : Nat} {l : List KY} {RK : Nat × Nat × List (Nat × Nat × Nat × Nat)} {D9 : Option (Nat × Nat × Nat × Nat)} {dT : Nat → ClassId} {r r' : Nat → Nat} {h h' : j_H} {o : Outcome} {nx' : Nat} (hRe : RK = (f, x, l)) (hno : ¬ f = 0) (hq : q_T f x r h o r' h' nx') : q_allR (RK.1, RK.2.1, D9, RK.2.2) dT r h o r' h' nx' := by
  subst hRe
  exact Or.inr ⟨hno, hq⟩
theorem q_allR.good {l : List KY} {RK : Nat × Nat × List (Nat × Nat × Nat × Nat)} {D9 : Option (Nat × Nat × Nat × Nat)} {dT : Nat → ClassId} {r r' : Nat → Nat} {h h' : j_H} {nx' : Nat} (hRe : RK = (0, 0, l)) (h1 : ∀ i, i < 200 → r' i = r i ∧ h' i = h i) (h2 : rkAll D9 l dT r' h') : q_allR (RK.1, RK.2.1, D9, RK.2.2) dT r h (.returned (some (.ref (r' 201)))) r' h' nx' := by
  subst hRe
  exact Or.inl ⟨rfl, rfl, h1, h2⟩
/-- the reader between two keys -/
def alI (dT : Nat → ClassId) (dTx : Nat → Int32) (n kd bs fg m : Nat) (r : Nat → Nat) (h : j_H) (l : List KY) (p fr : Nat) (ρ : Nat → Nat) (η : j_H) : Prop :=
  η 5 = some (txC dT dTx) ∧ η 200 = some (rdC (ρ 5) n (ρ 201) p fr) ∧ η 201 = some (rcell (.ref (ρ 202)) (ρ 203) l.length) ∧ η 202 = some (dcell kd bs fg m) ∧ (∃ ka : Nat → Option Nat, η 203 = some (.inl (dT 4, 9, .inr (.inr (.inr (.inr ka))))) ∧ ∀ i e, l[i]? = some e → ka i = some (ρ (i + 220)) ∧ η (i + 220) = some (kcell (ρ 202) e)) ∧ (∀ i, l.length ≤ i → i ≤ 8 → η (i + 220) = none) ∧ η 240 = none ∧ scF η ∧ ∀ i, i < 200 → ρ i = r i ∧ η i = h i
theorem sk_sk {T : Nat → Nat} {n p : Nat} : sk T n (sk T n p) = sk T n p := rgE_idem
theorem pK1_1 {T : Nat → Nat} {n bs m nk q : Nat} (h : wK T n q = 1) : pK1 T n bs m nk q = pF 3 q := by unfold pK1; rw [if_pos h]
theorem pK1_2 {T : Nat → Nat} {n bs m nk q : Nat} (h : ¬ wK T n q = 1) (h2 : ¬ 4 ≤ wK T n q) : pK1 T n bs m nk q = pF 1 q := by unfold pK1; rw [if_neg h, if_pos (by omega)]
theorem pK1_3 {T : Nat → Nat} {n bs m nk q : Nat} (h : ¬ wK T n q = 1) (h2 : 4 ≤ wK T n q) (h3 : nk = 8) : pK1 T n bs m nk q = pF 3 q := by unfold pK1; rw [if_neg h, if_neg (by omega), if_pos h3]
theorem pK1_4 {T : Nat → Nat} {n bs m nk q : Nat} (h : ¬ wK T n q = 1) (h2 : 4 ≤ wK T n q) (h3 : ¬ nk = 8) : pK1 T n bs m nk q = pEn T n (pKc T n bs m (wK T n q) (we T n q)) := by unfold pK1; rw [if_neg h, if_neg (by omega), if_neg h3, pKey_C]
theorem pEn_bad {T : Nat → Nat} {n : Nat} {x : pR} (h : ¬ x.1 = 0) : pEn T n x = x := if_neg h
theorem pEn_ok {T : Nat → Nat} {n : Nat} {x : pR} (h : x.1 = 0) (h2 : (pEnd T n x.2.2.2).1 = 0) : pEn T n x = (0, 0, x.2.2.1, (pEnd T n x.2.2.2).2.2) := by unfold pEn; rw [if_pos h, if_pos h2]
theorem pEn_end {T : Nat → Nat} {n : Nat} {x : pR} (h : x.1 = 0) (h2 : ¬ (pEnd T n x.2.2.2).1 = 0) : pEn T n x = pF (pEnd T n x.2.2.2).1 (pEnd T n x.2.2.2).2.1 := by unfold pEn; rw [if_pos h, if_neg h2]
theorem nI_nm {t : Nat} (h : t < 256) : ¬ nI t = -1 := by
  intro z
  have := congrArg Int32.toInt z
  rw [nI_toInt (by omega)] at this
  have e : (-1 : Int32).toInt = -1 := by decide
  rw [e] at this
  omega
theorem pKc_le {T : Nat → Nat} {n bs m w p : Nat} (hp : p ≤ n) (hw : 4 ≤ w ∧ w ≤ 11) (h : (pKc T n bs m w p).1 = 0) : (pKc T n bs m w p).2.2.2 ≤ n := by
  have hC : ∀ e k nm ot, e ≤ n → (pC T n e k nm ot).1 = 0 → (pC T n e k nm ot).2.2.2 ≤ n := by
    intro e k nm ot he h
    by_cases hk : (pNum T n e 1 99).1 = 0
    · rw [pC_ok hk]; exact (pNum_pos he hk).2.2.1
    · rw [pC_no hk] at h; exact absurd h hk
  have hN : ∀ e lo hi (c : Nat → Nat → pR), e ≤ n → (∀ v e2, e2 ≤ n → (c v e2).1 = 0 → (c v e2).2.2.2 ≤ n) → (pNm T n e lo hi c).1 = 0 → (pNm T n e lo hi c).2.2.2 ≤ n := by
    intro e lo hi c he hc h
    by_cases hk : (pNum T n e lo hi).1 = 0
    · rw [pNm_1 hk] at h ⊢; exact hc _ _ (pNum_pos he hk).2.2.1 h
    · rw [pNm_0 hk] at h; exact absurd h hk
  unfold pKc at h ⊢
  split at h
  · rename_i e; rw [if_pos e]; exact hN _ _ _ _ hp (fun v e2 he h => hC e2 _ _ _ he h) h
  · rename_i e; rw [if_neg e]
    split at h
    · rename_i e; rw [if_pos e]
      split at h
      · rename_i e; rw [if_pos e]; exact hN _ _ _ _ (rgE_le (rgE_le hp)) (fun v e2 he h => hC e2 _ _ _ he h) h
      · cases h
    · rename_i e; rw [if_neg e]
      split at h
      · rename_i e; rw [if_pos e]; exact hN _ _ _ _ hp (fun v e2 he h => hN _ _ _ _ he (fun v e3 he h => hC e3 _ _ _ he h) h) h
      · rename_i e; rw [if_neg e]; exact hC _ _ _ _ hp h
set_option maxHeartbeats 4000000 in
theorem r_all {l : Launch} {D : va_G} {dT : Nat → ClassId} {H0 : Heap} {r : Nat → Nat} {h : j_H} {nx : Nat} {dTx : Nat → Int32} {T : Nat → Nat} {n : Nat} (h5 : h 5 = some (txC dT dTx)) (hsb : sbR dTx n T) (hn4 : n ≤ 400) (h200 : h 200 = some (rdC (r 5) n (r 201) 0 0)) (h201 : h 201 = some (rcell .null (r 203) 0)) (h202 : h 202 = none) (h203 : h 203 = some (.inl (dT 4, 9, .inr (.inr (.inr (.inr (fun _ => none))))))) (hks : ∀ i, i ≤ 8 → h (i + 220) = none) (h240 : h 240 = none) (hsc : scF h) : MC (gG l D dT H0) yX4_all cX4_all 3 (some (.object "FewKeys$Reckoner")) 9 250 34000 [.ref (r 200)] r h nx (q_allR (pAll T n) dT r h) := by
  refine MC.ofJ [some (.ref (r 200)), none, none] rfl (Nat.le_of_ble_eq_true rfl) (by decide) ?_
  have hq0n : (sk T n 0) ≤ n := rgE_le (Nat.zero_le _)
  refine j_re rfl rfl (h' := (j_set h 200 (rdC (r 5) n (r 201) 0 0))) (j_set_id h200).symm ?_
  by_cases hbl : ¬ n ≤ (sk T n 0)
  · skip
    refine j_aload_n dX4_all_0 rfl ?_
    refine j_callVi (r_here h5 hsb hn4 (Nat.zero_le _)) dX4_all_1 pmX4_here q258 q260 qs0 j_set_self rfl rfl rfl ⟨Nat.le_of_ble_eq_true rfl, Nat.le_of_ble_eq_true rfl⟩ ⟨Nat.le_of_ble_eq_true rfl, Nat.le_of_ble_eq_true rfl⟩ rfl (Nat.le_of_ble_eq_true rfl) ?_
    rw [if_pos (by omega)]
    have hscR : scF (j_set h 200 (rdC (r 5) n (r 201) (sk T n 0) 0)) := fun i a b => by rw [j_set_ne (by omega)]; exact hsc i a b
    refine j_iconst (v := (-1)) dX4_all_4 (by decide) ?_
    refine j_icmp_eq (tgt := 12) dX4_all_5 (by decide) (fun c5 => absurd c5 (nI_nm (hsb _ (by omega)).2)) (fun c5 => ?_)
    refine j_aload_n dX4_all_8 rfl ?_
    by_cases hdl : (pD T n (sk T n 0)).1 = 0
    · skip
      refine j_callV ((r_dial (a := (sk T n 0)) (fr := 0) (by rw [j_set_ne (by decide)]; exact h5) hsb hn4 hq0n j_set_self (by rw [j_set_ne (by decide)]; exact h201) (by rw [j_set_ne (by decide)]; exact h202) (by rw [j_set_ne (by decide)]; exact h240) hscR).weak (fun _ _ _ _ hq => q_dt.ok hdl hq)) q_d1.isR dX4_all_9 pmX4_dial q262 q264 qs1 j_set_self rfl rfl rfl ⟨Nat.le_of_ble_eq_true rfl, Nat.le_of_ble_eq_true rfl⟩ ⟨Nat.le_of_ble_eq_true rfl, Nat.le_of_ble_eq_true rfl⟩ rfl (Nat.le_of_ble_eq_true rfl) ?_
      rintro v9 r1 h1 nx1 ⟨e9, d201, d202, ⟨f1, d200⟩, dfr⟩
      cases e9
      have hw1 : wK T n (sk T n 0) = 1 := by
        refine Classical.byContradiction (fun z => ?_)
        unfold pD at hdl
        rw [sk_sk, if_neg z] at hdl
        exact absurd hdl (by intro y; cases y)
      have hpd : pD T n (sk T n 0) = (pDial T n (we T n (sk T n 0))) := by unfold pD; rw [sk_sk, if_pos hw1]
      rw [hpd] at hdl d202 d200
      obtain ⟨o1, o2, oD⟩ := pDial_ok (p := we T n (sk T n 0)) (rgE_le hq0n) hdl
      obtain ⟨RK, hRK⟩ : ∃ RK, pKeys T n (pDial T n (we T n (sk T n 0))).2.2.1.2.1 (pDial T n (we T n (sk T n 0))).2.2.1.2.2.2 n (pDial T n (we T n (sk T n 0))).2.2.2 [] = RK := ⟨_, rfl⟩
      have hpa : pAll T n = (RK.1, RK.2.1, some (pDial T n (we T n (sk T n 0))).2.2.1, RK.2.2) := by
        unfold pAll
        rw [if_neg hbl, if_pos hw1, if_pos hdl, hRK]
      rw [hpa]
      refine j_heap (h' := scD h1) (fun i e hi => scD_le hi) ?_
      refine j_re (L' := [some (.ref (r1 200)), none, none]) (by rw [(dfr 200 (Or.inl (by decide)) (by decide)).1]) rfl rfl ?_
      have hI0 : alI dT dTx n (pDial T n (we T n (sk T n 0))).2.2.1.1 (pDial T n (we T n (sk T n 0))).2.2.1.2.1 (pDial T n (we T n (sk T n 0))).2.2.1.2.2.1 (pDial T n (we T n (sk T n 0))).2.2.1.2.2.2 r h [] (pDial T n (we T n (sk T n 0))).2.2.2 f1 r1 (scD h1) := by
        refine ⟨?_, ?_, ?_, ?_, ⟨fun _ => none, ?_, fun i e hi => by cases hi⟩, fun i _ hi => ?_, ?_, scD_F, fun i hi => ⟨?_, ?_⟩⟩
        · rw [scD_k (Or.inl (by decide)), (dfr 5 (Or.inl (by decide)) (by decide)).2 (by decide) (by decide), j_set_ne (by decide)]; exact h5
        · rw [scD_k (Or.inl (by decide)), (dfr 5 (Or.inl (by decide)) (by decide)).1, (dfr 201 (Or.inl (by decide)) (by decide)).1]; exact d200
        · rw [scD_k (Or.inl (by decide))]; exact d201
        · rw [scD_k (Or.inl (by decide))]; exact d202
        · rw [scD_k (Or.inl (by decide)), (dfr 203 (Or.inl (by decide)) (by decide)).2 (by decide) (by decide), j_set_ne (by decide)]; exact h203
        · rw [scD_k (Or.inr (by omega)), (dfr (i + 220) (Or.inr (by omega)) (by omega)).2 (by omega) (by omega), j_set_ne (by omega)]; exact hks i hi
        · rw [scD_k (Or.inr (by decide)), (dfr 240 (Or.inr (by decide)) (by decide)).2 (by decide) (by decide), j_set_ne (by decide)]; exact h240
        · exact (dfr i (by unfold kpI; omega) (by omega)).1
        · rw [scD_k (by unfold kpI; omega), (dfr i (by unfold kpI; omega) (by omega)).2 (by omega) (by omega), j_set_ne (by omega)]
      refine j_wide (c' := 24 + 24 * 0) (s' := 3300 + 3300 * 0) (Nat.le_of_ble_eq_true rfl) (Nat.le_of_ble_eq_true rfl) ?_
      refine j_lpX (A := List KY × Nat × Nat × (Nat → Nat) × j_H × Nat) (fun a => ((24 + 24 * a.1.length, 3300 + 3300 * a.1.length), a.2.2.2.1, a.2.2.2.2.1, a.2.2.2.2.2, [some (.ref (a.2.2.2.1 200)), none, none])) (fun a => alI dT dTx n (pDial T n (we T n (sk T n 0))).2.2.1.1 (pDial T n (we T n (sk T n 0))).2.2.1.2.1 (pDial T n (we T n (sk T n 0))).2.2.1.2.2.1 (pDial T n (we T n (sk T n 0))).2.2.1.2.2.2 r h a.1 a.2.1 a.2.2.1 a.2.2.2.1 a.2.2.2.2.1 ∧ a.2.1 ≤ n ∧ a.1.length ≤ 8 ∧ ∃ kf, n ≤ a.2.1 + kf ∧ pKeys T n (pDial T n (we T n (sk T n 0))).2.2.1.2.1 (pDial T n (we T n (sk T n 0))).2.2.1.2.2.2 kf a.2.1 a.1 = RK) (fun a => n - a.2.1) ?_ ([], (pDial T n (we T n (sk T n 0))).2.2.2, f1, r1, scD h1, nx1) ⟨hI0, o2, Nat.zero_le _, n, by show n ≤ (pDial T n (we T n (sk T n 0))).2.2.2 + n; omega, hRK⟩
      clear hI0 d200 d201 d202 dfr h5 h200 h201 h202 h203 hks h240 hsc hscR hpa hRK hpd
      rintro ⟨l, p, fr, ρ, η, nx2⟩ ⟨⟨h5, h200, h201, h202, ⟨ka, h203, hks⟩, hno8, h240, hsc, hfr⟩, hp, hl8, kf, hkf, hkr⟩ ih
      dsimp only at h5 h200 h201 h202 h203 hks hno8 h240 hsc hfr hp hl8 hkf hkr ih ⊢
      have hqn : sk T n p ≤ n := rgE_le hp
      have hqg : p ≤ sk T n p := rgE_ge
      have hen : we T n (sk T n p) ≤ n := rgE_le hqn
      refine j_re rfl rfl (h' := (j_set η 200 (rdC (ρ 5) n (ρ 201) p fr))) (j_set_id h200).symm ?_
      by_cases hz : ¬ n ≤ sk T n p
      · skip
        refine j_aload_n dX4_all_12 rfl ?_
        refine j_callVi (r_here h5 hsb hn4 hp) dX4_all_13 pmX4_here q258 q260 qs0 j_set_self rfl rfl rfl ⟨Nat.le_of_ble_eq_true rfl, Nat.le_of_ble_eq_true rfl⟩ ⟨(by show 24 + 24 * l.length + 0 ≤ 250; omega), (by show 3300 + 3300 * l.length + 0 ≤ 34000; omega)⟩ rfl (Nat.le_of_ble_eq_true rfl) ?_
        rw [if_pos (by omega)]
        refine j_iconst (v := (-1)) dX4_all_16 (by decide) ?_
        refine j_icmp_eq (tgt := 121) dX4_all_17 (by decide) (fun c17 => absurd c17 (nI_nm (hsb _ (by omega)).2)) (fun c17 => ?_)
        have h5n : (j_set η 200 (rdC (ρ 5) n (ρ 201) (sk T n p) fr)) 5 = some (txC dT dTx) := by rw [j_set_ne (by decide)]; exact h5
        have hscn : scF (j_set η 200 (rdC (ρ 5) n (ρ 201) (sk T n p) fr)) := fun i a b => by rw [j_set_ne (by omega)]; exact hsc i a b
        have hw9 := True.intro
        refine j_aload_n dX4_all_20 rfl ?_
        refine j_callV (r_word h5n hsb hn4 hqn j_set_self hscn) q_word.isR dX4_all_21 pmX4_word q266 q268 qs2 j_set_self rfl rfl rfl ⟨Nat.le_of_ble_eq_true rfl, Nat.le_of_ble_eq_true rfl⟩ ⟨(by show 24 + 24 * l.length + 0 + 10 ≤ 250; omega), (by show 3300 + 3300 * l.length + 0 + 1600 ≤ 34000; omega)⟩ rfl (Nat.le_of_ble_eq_true rfl) ?_
        rintro v9 r1 h1 nx1 ⟨e9, wfr, w200, h213, g, h214, hg⟩
        cases e9
        rw [sk_sk] at w200 h214 hg
        have wη : ∀ i, kpI i → r1 i = ρ i ∧ (i ≠ 200 → h1 i = η i) := fun i hi => ⟨(wfr i hi).1, fun h2 => ((wfr i hi).2 h2).trans (j_set_ne h2)⟩
        have hfr : ∀ i, i < 200 → r1 i = r i ∧ h1 i = h i := fun i hi => ⟨(wη i (by unfold kpI; omega)).1.trans (hfr i hi).1, ((wη i (by unfold kpI; omega)).2 (by omega)).trans (hfr i hi).2⟩
        have h5 : h1 5 = some (txC dT dTx) := by rw [(wη 5 (Or.inl (by decide))).2 (by decide)]; exact h5
        have h200 : h1 200 = some (rdC (r1 5) n (r1 201) (we T n (sk T n p)) (sk T n p)) := by rw [(wη 5 (Or.inl (by decide))).1, (wη 201 (Or.inl (by decide))).1]; exact w200
        have h201 : h1 201 = some (rcell (.ref (r1 202)) (r1 203) l.length) := by rw [(wη 201 (Or.inl (by decide))).2 (by decide), (wη 202 (Or.inl (by decide))).1, (wη 203 (Or.inl (by decide))).1]; exact h201
        have h202 : h1 202 = some (dcell (pDial T n (we T n (sk T n 0))).2.2.1.1 (pDial T n (we T n (sk T n 0))).2.2.1.2.1 (pDial T n (we T n (sk T n 0))).2.2.1.2.2.1 (pDial T n (we T n (sk T n 0))).2.2.1.2.2.2) := by rw [(wη 202 (Or.inl (by decide))).2 (by decide)]; exact h202
        have h203 : h1 203 = some (.inl (dT 4, 9, .inr (.inr (.inr (.inr ka))))) := by rw [(wη 203 (Or.inl (by decide))).2 (by decide)]; exact h203
        have h240 : h1 240 = none := by rw [(wη 240 (Or.inr (by decide))).2 (by decide)]; exact h240
        have hno8 : ∀ i, l.length ≤ i → i ≤ 8 → h1 (i + 220) = none := fun i a b => by rw [(wη (i + 220) (Or.inr (by omega))).2 (by omega)]; exact hno8 i a b
        have hks : ∀ i e, l[i]? = some e → ka i = some (r1 (i + 220)) ∧ h1 (i + 220) = some (kcell (r1 202) e) := fun i e he => by
          rw [(wη (i + 220) (Or.inr (by omega))).1, (wη (i + 220) (Or.inr (by omega))).2 (by omega), (wη 202 (Or.inl (by decide))).1]
          exact hks i e he
        have hw : (we T n (sk T n p)) - (sk T n p) < 2 ^ 30 := by omega
        have h213H : h1 213 = some (strH (r1 214) 0) := h213
        refine j_re (L' := [some (.ref (r1 200)), none, none]) (by rw [(wη 200 (Or.inl (by decide))).1]) rfl rfl ?_
        clear wfr w200 hsc hw9
        obtain ⟨kg, rfl⟩ : ∃ kg, kf = kg + 1 := ⟨kf - 1, by cases kf with | zero => omega | succ z => omega⟩
        rw [pKeys_step, if_neg hz] at hkr
        refine j_astore_n dX4_all_24 (by decide) rfl ?_
        refine j_aload_n dX4_all_25 rfl ?_
        refine j_get 4 dX4_all_26 h200 in_X4 rfl (by decide) q242 rfl ?_
        refine j_istore_n dX4_all_29 (by decide) rfl ?_
        by_cases hw1 : ¬ wK T n (sk T n p) = 1
        · skip
          refine j_aload_n dX4_all_30 rfl ?_
          refine j_ldcS dX4_all_31 (fun _ hs => (hs.2.2.2.1 1 (by decide) (by decide)).2.2.2.2) ?_
          refine j_callVi (b_eq 1 h213H h214 hg hw (by decide) (by decide)) dX4_all_33 pmJ2_equals q461 q462 q463 h213H rfl rfl rfl ⟨Nat.le_of_ble_eq_true rfl, Nat.le_of_ble_eq_true rfl⟩ ⟨(by show 24 + 24 * l.length + 0 + 10 + 0 ≤ 250; omega), (by show 3300 + 3300 * l.length + 0 + 1600 + 0 ≤ 34000; omega)⟩ rfl (Nat.le_of_ble_eq_true rfl) ?_
          refine j_ifb_ne (tgt := 43) dX4_all_36 (by decide) (fun c36 => absurd c36 hw1) (fun c36 => ?_)
          refine j_iconst (v := 1) dX4_all_39 (by decide) ?_
          refine j_goto (tgt := 44) dX4_all_40 (by decide) ?_
          refine j_iconst (v := 3) dX4_all_44 (by decide) ?_
          refine j_iload_n dX4_all_45 rfl ?_
          refine j_callSv (r_want1 3 (nI (sk T n p))) dX4_all_46 pmX4_want q469 q470 rfl ⟨Nat.le_of_ble_eq_true rfl, Nat.le_of_ble_eq_true rfl⟩ ⟨(by show 24 + 24 * l.length + 0 + 10 + 0 + 0 ≤ 250; omega), (by show 3300 + 3300 * l.length + 0 + 1600 + 0 + 0 ≤ 34000; omega)⟩ rfl (Nat.le_of_ble_eq_true rfl) ?_
          refine j_aload_n dX4_all_49 rfl ?_
          refine j_callSi (r_isKey h213H h214 hg hw) dX4_all_50 pmX4_isKey q575 q576 rfl ⟨Nat.le_of_ble_eq_true rfl, Nat.le_of_ble_eq_true rfl⟩ ⟨(by show 24 + 24 * l.length + 0 + 10 + 0 + 0 + 0 ≤ 250; omega), (by show 3300 + 3300 * l.length + 0 + 1600 + 0 + 0 + 0 ≤ 34000; omega)⟩ rfl (Nat.le_of_ble_eq_true rfl) ?_
          by_cases hk4 : 4 ≤ wK T n (sk T n p)
          · skip
            refine j_eqi (j_b_t hk4) ?_
            refine j_iconst (v := 1) dX4_all_53 (by decide) ?_
            refine j_iload_n dX4_all_54 rfl ?_
            refine j_callSv (r_want1 1 (nI (sk T n p))) dX4_all_55 pmX4_want q469 q470 rfl ⟨Nat.le_of_ble_eq_true rfl, Nat.le_of_ble_eq_true rfl⟩ ⟨(by show 24 + 24 * l.length + 0 + 10 + 0 + 0 + 0 + 0 ≤ 250; omega), (by show 3300 + 3300 * l.length + 0 + 1600 + 0 + 0 + 0 + 0 ≤ 34000; omega)⟩ rfl (Nat.le_of_ble_eq_true rfl) ?_
            by_cases hl7 : l.length < 8
            · skip
              refine j_aload_n dX4_all_58 rfl ?_
              refine j_get 2 dX4_all_59 h200 in_X4 rfl (by decide) q240 rfl ?_
              refine j_getN 2 dX4_all_62 h201 in_X1 rfl (by decide) (fun _ hs => hs.1 _ qn110) rfl ?_
              refine j_bipush (v := 8) dX4_all_65 (by decide) ?_
              refine j_icmp_ge (tgt := 74) dX4_all_67 (by decide) (fun c67 => absurd c67 (fun z => absurd ((nI_leI (a := 8) (by omega) (by omega)).mp z) (by omega))) (fun c67 => ?_)
              refine j_iconst (v := 1) dX4_all_70 (by decide) ?_
              refine j_goto (tgt := 75) dX4_all_71 (by decide) ?_
              refine j_iconst (v := 3) dX4_all_75 (by decide) ?_
              refine j_iload_n dX4_all_76 rfl ?_
              refine j_callSv (r_want1 3 (nI (sk T n p))) dX4_all_77 pmX4_want q469 q470 rfl ⟨Nat.le_of_ble_eq_true rfl, Nat.le_of_ble_eq_true rfl⟩ ⟨(by show 24 + 24 * l.length + 0 + 10 + 0 + 0 + 0 + 0 + 0 ≤ 250; omega), (by show 3300 + 3300 * l.length + 0 + 1600 + 0 + 0 + 0 + 0 + 0 ≤ 34000; omega)⟩ rfl (Nat.le_of_ble_eq_true rfl) ?_
              refine j_aload_n dX4_all_80 rfl ?_
              refine j_get 2 dX4_all_81 h200 in_X4 rfl (by decide) q240 rfl ?_
              refine j_getN 1 dX4_all_84 h201 in_X1 rfl (by decide) (fun _ hs => hs.1 _ qn108) rfl ?_
              refine j_aload_n dX4_all_87 rfl ?_
              refine j_get 2 dX4_all_88 h200 in_X4 rfl (by decide) q240 rfl ?_
              refine j_getN 2 dX4_all_91 h201 in_X1 rfl (by decide) (fun _ hs => hs.1 _ qn110) rfl ?_
              refine j_aload_n dX4_all_94 rfl ?_
              refine j_aload_n dX4_all_95 rfl ?_
              refine j_iload_n dX4_all_96 rfl ?_
              by_cases hky : (pKc T n (pDial T n (we T n (sk T n 0))).2.2.1.2.1 (pDial T n (we T n (sk T n 0))).2.2.1.2.2.2 (wK T n (sk T n p)) (we T n (sk T n p))).1 = 0
              · skip
                refine j_callV ((r_key h5 hsb hn4 hen h200 h201 h202 oD (by omega) (hno8 l.length (Nat.le_refl _) (by omega)) h240 h213 h214 hg (sk T n p) (wK T n (sk T n p)) rfl hk4).weak (fun _ _ _ _ hq => q_kt.ok hky hq)) q_k1.isR dX4_all_97 pmX4_key q586 q588 qs6 h200 rfl rfl rfl ⟨Nat.le_of_ble_eq_true rfl, Nat.le_of_ble_eq_true rfl⟩ ⟨(by show 24 + 24 * l.length + 0 + 10 + 0 + 0 + 0 + 0 + 0 + 12 ≤ 250; omega), (by show 3300 + 3300 * l.length + 0 + 1600 + 0 + 0 + 0 + 0 + 0 + 1620 ≤ 34000; omega)⟩ rfl (Nat.le_of_ble_eq_true rfl) ?_
                rintro v9 r2 h2 nx3 ⟨e9, x1, ⟨f2, x2⟩, x3⟩
                cases e9
                have hen2 : (pKc T n (pDial T n (we T n (sk T n 0))).2.2.1.2.1 (pDial T n (we T n (sk T n 0))).2.2.1.2.2.2 (wK T n (sk T n p)) (we T n (sk T n p))).2.2.2 ≤ n := pKc_le hen ⟨hk4, wIx_le⟩ hky
                have xr : ∀ i, i < 210 → r2 i = r1 i := fun i hi => (x3 i (Or.inl hi) (by omega)).1
                have xh : ∀ i, i < 210 → i ≠ 200 → h2 i = h1 i := fun i hi h2 => (x3 i (Or.inl hi) (by omega)).2 h2
                have hfr : ∀ i, i < 200 → r2 i = r i ∧ h2 i = h i := fun i hi => ⟨(xr i (by omega)).trans (hfr i hi).1, (xh i (by omega) (by omega)).trans (hfr i hi).2⟩
                have h203 : h2 203 = some (.inl (dT 4, 9, .inr (.inr (.inr (.inr ka))))) := (xh 203 (by decide) (by decide)).trans h203
                have h201 : h2 201 = some (rcell (.ref (r2 202)) (r2 203) l.length) := by rw [xh 201 (by decide) (by decide), xr 202 (by decide), xr 203 (by decide)]; exact h201
                refine j_re (L' := [some (.ref (r2 200)), some (.ref (r1 213)), some (.int (nI (sk T n p)))]) (st' := [.ref (r2 (l.length + 220)), .int (nI l.length), .ref (r2 203)]) (by rw [xr 200 (by decide)]; first | done | rfl) (by rw [xr 203 (by decide)]; first | done | rfl) rfl ?_
                have x2 : h2 200 = some (rdC (r2 5) n (r2 201) (pKc T n (pDial T n (we T n (sk T n 0))).2.2.1.2.1 (pDial T n (we T n (sk T n 0))).2.2.1.2.2.2 (wK T n (sk T n p)) (we T n (sk T n p))).2.2.2 f2) := by rw [xr 5 (by decide), xr 201 (by decide)]; exact x2
                refine j_kst (i := 203) (ik := l.length + 220) (j := l.length) (n := 9) dX4_all_100 h203 rfl (by omega) (by decide) x1 ?_
                refine j_aload_n dX4_all_101 rfl ?_
                refine j_get 2 dX4_all_102 (by rw [j_set_ne (by decide)]; exact x2) in_X4 rfl (by decide) q240 rfl ?_
                refine j_dup dX4_all_105 rfl ?_
                refine j_getN 2 dX4_all_106 (by rw [j_set_ne (by decide)]; exact h201) in_X1 rfl (by decide) (fun _ hs => hs.1 _ qn110) rfl ?_
                refine j_iconst (v := 1) dX4_all_109 (by decide) ?_
                refine j_iadd dX4_all_110 ?_
                refine j_eqi (nI_1 l.length) ?_
                refine j_putN 2 dX4_all_111 (by rw [j_set_ne (by decide)]; exact h201) in_X1 tyX1_ok nmX1 rfl (by decide) (fun _ hs => hs.1 _ qn110) rfl rfl rfl (by first | decide | simp) ?_
                refine j_re rfl rfl (h' := (j_set (j_set h2 203 (.inl (dT 4, 9, .inr (.inr (.inr (.inr (va_up ka l.length (some (r2 (l.length + 220)))))))))) 201 (rcell (.ref (r2 202)) (r2 203) (l.length + 1)))) rfl ?_
                refine j_re rfl rfl (h' := (j_set (j_set (j_set h2 203 (.inl (dT 4, 9, .inr (.inr (.inr (.inr (va_up ka l.length (some (r2 (l.length + 220)))))))))) 201 (rcell (.ref (r2 202)) (r2 203) (l.length + 1))) 200 (rdC (r2 5) n (r2 201) (pKc T n (pDial T n (we T n (sk T n 0))).2.2.1.2.1 (pDial T n (we T n (sk T n 0))).2.2.1.2.2.2 (wK T n (sk T n p)) (we T n (sk T n p))).2.2.2 f2))) (j_set_id (by rw [j_set_ne (by decide), j_set_ne (by decide)]; exact x2)).symm ?_
                refine j_aload_n dX4_all_114 rfl ?_
                by_cases hed : (pEnd T n (pKc T n (pDial T n (we T n (sk T n 0))).2.2.1.2.1 (pDial T n (we T n (sk T n 0))).2.2.1.2.2.2 (wK T n (sk T n p)) (we T n (sk T n p))).2.2.2).1 = 0
                · skip
                  refine j_callVv (r_end1 (by rw [j_set_ne (by decide), j_set_ne (by decide), xh 5 (by decide) (by decide)]; exact h5) hsb hn4 hen2 hed) dX4_all_115 pmX4_end q571 q573 qs5 j_set_self rfl rfl rfl ⟨Nat.le_of_ble_eq_true rfl, Nat.le_of_ble_eq_true rfl⟩ ⟨(by show 24 + 24 * l.length + 0 + 10 + 0 + 0 + 0 + 0 + 0 + 12 + 0 ≤ 250; omega), (by show 3300 + 3300 * l.length + 0 + 1600 + 0 + 0 + 0 + 0 + 0 + 1620 + 0 ≤ 34000; omega)⟩ rfl (Nat.le_of_ble_eq_true rfl) ?_
                  refine j_goto (tgt := 12) dX4_all_118 (by decide) ?_
                  have h4 := pK1_4 (bs := (pDial T n (we T n (sk T n 0))).2.2.1.2.1) (m := (pDial T n (we T n (sk T n 0))).2.2.1.2.2.2) hw1 hk4 (show ¬ l.length = 8 by omega)
                  rw [pEn_ok hky hed] at h4
                  rw [h4, if_pos rfl] at hkr
                  have hl1 : (l ++ [(pKc T n (pDial T n (we T n (sk T n 0))).2.2.1.2.1 (pDial T n (we T n (sk T n 0))).2.2.1.2.2.2 (wK T n (sk T n p)) (we T n (sk T n p))).2.2.1]).length = l.length + 1 := by rw [List.length_append]; rfl
                  refine j_heap (h' := scD (j_set (j_set (j_set h2 203 (.inl (dT 4, 9, .inr (.inr (.inr (.inr (va_up ka l.length (some (r2 (l.length + 220)))))))))) 201 (rcell (.ref (r2 202)) (r2 203) (l.length + 1))) 200 (rdC (r2 5) n (r2 201) (pEnd T n (pKc T n (pDial T n (we T n (sk T n 0))).2.2.1.2.1 (pDial T n (we T n (sk T n 0))).2.2.1.2.2.2 (wK T n (sk T n p)) (we T n (sk T n p))).2.2.2).2.2 f2))) (fun i e hi => scD_le hi) ?_
                  refine j_less (L' := [some (.ref (r2 200)), none, none]) ⟨Or.inr rfl, Or.inl rfl, Or.inl rfl, trivial⟩ ?_
                  refine j_wide (c' := 24 + 24 * (l ++ [(pKc T n (pDial T n (we T n (sk T n 0))).2.2.1.2.1 (pDial T n (we T n (sk T n 0))).2.2.1.2.2.2 (wK T n (sk T n p)) (we T n (sk T n p))).2.2.1]).length) (s' := 3300 + 3300 * (l ++ [(pKc T n (pDial T n (we T n (sk T n 0))).2.2.1.2.1 (pDial T n (we T n (sk T n 0))).2.2.1.2.2.2 (wK T n (sk T n p)) (we T n (sk T n p))).2.2.1]).length) (by rw [hl1]; omega) (by rw [hl1]; omega) ?_
                  obtain ⟨pe1, pe2⟩ := pEnd_pos hed
                  have hIn : alI dT dTx n (pDial T n (we T n (sk T n 0))).2.2.1.1 (pDial T n (we T n (sk T n 0))).2.2.1.2.1 (pDial T n (we T n (sk T n 0))).2.2.1.2.2.1 (pDial T n (we T n (sk T n 0))).2.2.1.2.2.2 r h (l ++ [(pKc T n (pDial T n (we T n (sk T n 0))).2.2.1.2.1 (pDial T n (we T n (sk T n 0))).2.2.1.2.2.2 (wK T n (sk T n p)) (we T n (sk T n p))).2.2.1]) (pEnd T n (pKc T n (pDial T n (we T n (sk T n 0))).2.2.1.2.1 (pDial T n (we T n (sk T n 0))).2.2.1.2.2.2 (wK T n (sk T n p)) (we T n (sk T n p))).2.2.2).2.2 f2 r2 (scD (j_set (j_set (j_set h2 203 (.inl (dT 4, 9, .inr (.inr (.inr (.inr (va_up ka l.length (some (r2 (l.length + 220)))))))))) 201 (rcell (.ref (r2 202)) (r2 203) (l.length + 1))) 200 (rdC (r2 5) n (r2 201) (pEnd T n (pKc T n (pDial T n (we T n (sk T n 0))).2.2.1.2.1 (pDial T n (we T n (sk T n 0))).2.2.1.2.2.2 (wK T n (sk T n p)) (we T n (sk T n p))).2.2.2).2.2 f2))) := by
                    refine ⟨?_, ?_, ?_, ?_, ⟨va_up ka l.length (some (r2 (l.length + 220))), ?_, fun i e he => ?_⟩, fun i hi1 hi2 => ?_, ?_, scD_F, fun i hi => ⟨(hfr i hi).1, ?_⟩⟩
                    · rw [scD_k (Or.inl (by decide)), j_set_ne (by decide)]; exact (by rw [j_set_ne (by decide), j_set_ne (by decide), xh 5 (by decide) (by decide)]; exact h5)
                    · rw [scD_k (Or.inl (by decide)), j_set_self]
                    · rw [scD_k (Or.inl (by decide)), j_set_ne (by decide), j_set_self, hl1]
                    · rw [scD_k (Or.inl (by decide)), j_set_ne (by decide), j_set_ne (by decide), j_set_ne (by decide), xh 202 (by decide) (by decide)]; exact h202
                    · rw [scD_k (Or.inl (by decide)), j_set_ne (by decide), j_set_ne (by decide), j_set_self]
                    · rw [scD_k (Or.inr (by omega)), j_set_ne (by omega), j_set_ne (by omega), j_set_ne (by omega), xr 202 (by decide)]
                      by_cases hi : i < l.length
                      · rw [List.getElem?_append_left hi] at he
                        rw [va_up_ne _ _ (by omega), (x3 (i + 220) (Or.inr (by omega)) (by omega)).1, (x3 (i + 220) (Or.inr (by omega)) (by omega)).2 (by omega)]
                        exact hks i e he
                      · rw [List.getElem?_append_right (by omega)] at he
                        have hz9 := (List.getElem?_eq_some_iff.mp he).1
                        simp at hz9
                        rw [hz9] at he
                        simp at he
                        have hie : i = l.length := by omega
                        rw [hie, va_up_self, ← he]
                        exact ⟨rfl, x1⟩
                    · rw [hl1] at hi1
                      rw [scD_k (Or.inr (by omega)), j_set_ne (by omega), j_set_ne (by omega), j_set_ne (by omega), (x3 (i + 220) (Or.inr (by omega)) (by omega)).2 (by omega)]
                      exact hno8 i (by omega) hi2
                    · rw [scD_k (Or.inr (by decide)), j_set_ne (by decide)]; exact (by rw [j_set_ne (by decide), j_set_ne (by decide), (x3 240 (Or.inr (by decide)) (by omega)).2 (by decide)]; exact h240)
                    · rw [scD_k (by unfold kpI; omega), j_set_ne (by omega), j_set_ne (by omega), j_set_ne (by omega)]; exact (hfr i hi).2
                  have hge := (pKey_ok (bs := (pDial T n (we T n (sk T n 0))).2.2.1.2.1) (m := (pDial T n (we T n (sk T n 0))).2.2.1.2.2.2) hen ⟨hk4, wIx_le⟩ (by have := oD.2.1; omega) oD.pos (by rw [pKey_C, pEn_ok hky hed])).1
                  rw [pKey_C, pEn_ok hky hed] at hge
                  have hge2 : (sk T n p) ≤ (we T n (sk T n p)) := rgE_ge
                  have hge : (we T n (sk T n p)) < (pEnd T n (pKc T n (pDial T n (we T n (sk T n 0))).2.2.1.2.1 (pDial T n (we T n (sk T n 0))).2.2.1.2.2.2 (wK T n (sk T n p)) (we T n (sk T n p))).2.2.2).2.2 := hge
                  exact ih (l ++ [(pKc T n (pDial T n (we T n (sk T n 0))).2.2.1.2.1 (pDial T n (we T n (sk T n 0))).2.2.1.2.2.2 (wK T n (sk T n p)) (we T n (sk T n p))).2.2.1], (pEnd T n (pKc T n (pDial T n (we T n (sk T n 0))).2.2.1.2.1 (pDial T n (we T n (sk T n 0))).2.2.1.2.2.2 (wK T n (sk T n p)) (we T n (sk T n p))).2.2.2).2.2, f2, r2, scD (j_set (j_set (j_set h2 203 (.inl (dT 4, 9, .inr (.inr (.inr (.inr (va_up ka l.length (some (r2 (l.length + 220)))))))))) 201 (rcell (.ref (r2 202)) (r2 203) (l.length + 1))) 200 (rdC (r2 5) n (r2 201) (pEnd T n (pKc T n (pDial T n (we T n (sk T n 0))).2.2.1.2.1 (pDial T n (we T n (sk T n 0))).2.2.1.2.2.2 (wK T n (sk T n p)) (we T n (sk T n p))).2.2.2).2.2 f2)), nx3) ⟨hIn, pe2, (show (l ++ [(pKc T n (pDial T n (we T n (sk T n 0))).2.2.1.2.1 (pDial T n (we T n (sk T n 0))).2.2.1.2.2.2 (wK T n (sk T n p)) (we T n (sk T n p))).2.2.1]).length ≤ 8 by rw [hl1]; omega), kg, (show n ≤ (pEnd T n (pKc T n (pDial T n (we T n (sk T n 0))).2.2.1.2.1 (pDial T n (we T n (sk T n 0))).2.2.1.2.2.2 (wK T n (sk T n p)) (we T n (sk T n p))).2.2.2).2.2 + kg by omega), hkr⟩ (show n - (pEnd T n (pKc T n (pDial T n (we T n (sk T n 0))).2.2.1.2.1 (pDial T n (we T n (sk T n 0))).2.2.1.2.2.2 (wK T n (sk T n p)) (we T n (sk T n p))).2.2.2).2.2 < n - p by omega)
                · skip
                  have hRe : RK = ((pEnd T n (pKc T n (pDial T n (we T n (sk T n 0))).2.2.1.2.1 (pDial T n (we T n (sk T n 0))).2.2.1.2.2.2 (wK T n (sk T n p)) (we T n (sk T n p))).2.2.2).1, (pEnd T n (pKc T n (pDial T n (we T n (sk T n 0))).2.2.1.2.1 (pDial T n (we T n (sk T n 0))).2.2.1.2.2.2 (wK T n (sk T n p)) (we T n (sk T n p))).2.2.2).2.1, l) := by
                    have h4 := pK1_4 (bs := (pDial T n (we T n (sk T n 0))).2.2.1.2.1) (m := (pDial T n (we T n (sk T n 0))).2.2.1.2.2.2) hw1 hk4 (show ¬ l.length = 8 by omega)
                    rw [pEn_end hky hed] at h4
                    rw [← hkr, h4, if_neg (show ¬ (pF (pEnd T n (pKc T n (pDial T n (we T n (sk T n 0))).2.2.1.2.1 (pDial T n (we T n (sk T n 0))).2.2.1.2.2.2 (wK T n (sk T n p)) (we T n (sk T n p))).2.2.2).1 (pEnd T n (pKc T n (pDial T n (we T n (sk T n 0))).2.2.1.2.1 (pDial T n (we T n (sk T n 0))).2.2.1.2.2.2 (wK T n (sk T n p)) (we T n (sk T n p))).2.2.2).2.1).1 = 0 from hed)]
                    rfl
                  have hno := hed
                  refine j_callVT (s_end0 (by rw [j_set_ne (by decide), j_set_ne (by decide), xh 5 (by decide) (by decide)]; exact h5) hsb hn4 hen2 hed (by rw [j_set_ne (by decide), j_set_ne (by decide), (x3 240 (Or.inr (by decide)) (by omega)).2 (by decide)]; exact h240)) q_T.isT rfl dX4_all_115 pmX4_end q571 q573 qs5 j_set_self rfl rfl rfl ⟨(Nat.le_of_ble_eq_true rfl), (Nat.le_of_ble_eq_true rfl)⟩ ⟨(by show 24 + 24 * l.length + 0 + 10 + 0 + 0 + 0 + 0 + 0 + 12 + 1 ≤ 250; omega), (by show 3300 + 3300 * l.length + 0 + 1600 + 0 + 0 + 0 + 0 + 0 + 1620 + 8 ≤ 34000; omega)⟩ rfl (Nat.le_of_ble_eq_true rfl) (by show 24 + 24 * l.length + 0 + 10 + 0 + 0 + 0 + 0 + 0 + 12 + 1 ≤ 250; omega) (by show 3300 + 3300 * l.length + 0 + 1600 + 0 + 0 + 0 + 0 + 0 + 1620 + 8 ≤ 34000; omega) ?_
                  intro v9 r9 h9 nx9 hq9
                  exact q_allR.bad hRe hno (hq9.up rfl rfl (fun i hi => ⟨(hfr i hi).1, (by rw [j_set_ne (by omega), j_set_ne (by omega), j_set_ne (by omega)]; exact (hfr i hi).2)⟩))
              · skip
                have hRe : RK = ((pKc T n (pDial T n (we T n (sk T n 0))).2.2.1.2.1 (pDial T n (we T n (sk T n 0))).2.2.1.2.2.2 (wK T n (sk T n p)) (we T n (sk T n p))).1, (pKc T n (pDial T n (we T n (sk T n 0))).2.2.1.2.1 (pDial T n (we T n (sk T n 0))).2.2.1.2.2.2 (wK T n (sk T n p)) (we T n (sk T n p))).2.1, l) := by
                  have h4 := pK1_4 (bs := (pDial T n (we T n (sk T n 0))).2.2.1.2.1) (m := (pDial T n (we T n (sk T n 0))).2.2.1.2.2.2) hw1 hk4 (show ¬ l.length = 8 by omega)
                  rw [pEn_bad hky] at h4
                  rw [← hkr, h4, if_neg hky]
                have hno := hky
                refine j_callVT ((r_key h5 hsb hn4 hen h200 h201 h202 oD (by omega) (hno8 l.length (Nat.le_refl _) (by omega)) h240 h213 h214 hg (sk T n p) (wK T n (sk T n p)) rfl hk4).weak (fun _ _ _ _ hq => q_kt.no hky hq)) q_T.isT rfl dX4_all_97 pmX4_key q586 q588 qs6 h200 rfl rfl rfl ⟨(Nat.le_of_ble_eq_true rfl), (Nat.le_of_ble_eq_true rfl)⟩ ⟨(by show 24 + 24 * l.length + 0 + 10 + 0 + 0 + 0 + 0 + 0 + 12 ≤ 250; omega), (by show 3300 + 3300 * l.length + 0 + 1600 + 0 + 0 + 0 + 0 + 0 + 1620 ≤ 34000; omega)⟩ rfl (Nat.le_of_ble_eq_true rfl) (by show 24 + 24 * l.length + 0 + 10 + 0 + 0 + 0 + 0 + 0 + 12 ≤ 250; omega) (by show 3300 + 3300 * l.length + 0 + 1600 + 0 + 0 + 0 + 0 + 0 + 1620 ≤ 34000; omega) ?_
                intro v9 r9 h9 nx9 hq9
                exact q_allR.bad hRe hno (hq9.up rfl rfl hfr)
            · skip
              have hRe : RK = (3, (sk T n p), l) := by
                rw [← hkr, pK1_3 hw1 hk4 (by omega)]
                rfl
              have hno : ¬ (3 : Nat) = 0 := by decide
              refine j_aload_n dX4_all_58 rfl ?_
              refine j_get 2 dX4_all_59 h200 in_X4 rfl (by decide) q240 rfl ?_
              refine j_getN 2 dX4_all_62 h201 in_X1 rfl (by decide) (fun _ hs => hs.1 _ qn110) rfl ?_
              refine j_bipush (v := 8) dX4_all_65 (by decide) ?_
              refine j_icmp_ge (tgt := 74) dX4_all_67 (by decide) (fun c67 => ?_) (fun c67 => absurd (nI_le (by omega) (by omega) : nI 8 ≤ nI l.length) c67)
              refine j_iconst (v := 0) dX4_all_74 (by decide) ?_
              refine j_iconst (v := 3) dX4_all_75 (by decide) ?_
              refine j_iload_n dX4_all_76 rfl ?_
              refine j_callST (s_want0 3 (sk T n p) h240) q_T.isT rfl dX4_all_77 pmX4_want q469 q470 rfl ⟨(Nat.le_of_ble_eq_true rfl), (Nat.le_of_ble_eq_true rfl)⟩ ⟨(by show 24 + 24 * l.length + 0 + 10 + 0 + 0 + 0 + 0 + 1 ≤ 250; omega), (by show 3300 + 3300 * l.length + 0 + 1600 + 0 + 0 + 0 + 0 + 8 ≤ 34000; omega)⟩ rfl (Nat.le_of_ble_eq_true rfl) (by show 24 + 24 * l.length + 0 + 10 + 0 + 0 + 0 + 0 + 1 ≤ 250; omega) (by show 3300 + 3300 * l.length + 0 + 1600 + 0 + 0 + 0 + 0 + 8 ≤ 34000; omega) ?_
              intro v9 r9 h9 nx9 hq9
              exact q_allR.bad hRe hno (hq9.up rfl rfl hfr)
          · skip
            refine j_eqi (j_b_f hk4) ?_
            have hRe : RK = (1, (sk T n p), l) := by
              rw [← hkr, pK1_2 hw1 hk4]
              rfl
            have hno : ¬ (1 : Nat) = 0 := by decide
            refine j_iconst (v := 1) dX4_all_53 (by decide) ?_
            refine j_iload_n dX4_all_54 rfl ?_
            refine j_callST (s_want0 1 (sk T n p) h240) q_T.isT rfl dX4_all_55 pmX4_want q469 q470 rfl ⟨(Nat.le_of_ble_eq_true rfl), (Nat.le_of_ble_eq_true rfl)⟩ ⟨(by show 24 + 24 * l.length + 0 + 10 + 0 + 0 + 0 + 1 ≤ 250; omega), (by show 3300 + 3300 * l.length + 0 + 1600 + 0 + 0 + 0 + 8 ≤ 34000; omega)⟩ rfl (Nat.le_of_ble_eq_true rfl) (by show 24 + 24 * l.length + 0 + 10 + 0 + 0 + 0 + 1 ≤ 250; omega) (by show 3300 + 3300 * l.length + 0 + 1600 + 0 + 0 + 0 + 8 ≤ 34000; omega) ?_
            intro v9 r9 h9 nx9 hq9
            exact q_allR.bad hRe hno (hq9.up rfl rfl hfr)
        · skip
          have hw1 := Classical.not_not.mp hw1
          have hRe : RK = (3, (sk T n p), l) := by
            rw [← hkr, pK1_1 hw1]
            rfl
          have hno : ¬ (3 : Nat) = 0 := by decide
          refine j_aload_n dX4_all_30 rfl ?_
          refine j_ldcS dX4_all_31 (fun _ hs => (hs.2.2.2.1 1 (by decide) (by decide)).2.2.2.2) ?_
          refine j_callVi (b_eq 1 h213H h214 hg hw (by decide) (by decide)) dX4_all_33 pmJ2_equals q461 q462 q463 h213H rfl rfl rfl ⟨Nat.le_of_ble_eq_true rfl, Nat.le_of_ble_eq_true rfl⟩ ⟨(by show 24 + 24 * l.length + 0 + 10 + 0 ≤ 250; omega), (by show 3300 + 3300 * l.length + 0 + 1600 + 0 ≤ 34000; omega)⟩ rfl (Nat.le_of_ble_eq_true rfl) ?_
          refine j_ifb_ne (tgt := 43) dX4_all_36 (by decide) (fun c36 => ?_) (fun c36 => absurd hw1 c36)
          refine j_iconst (v := 0) dX4_all_43 (by decide) ?_
          refine j_iconst (v := 3) dX4_all_44 (by decide) ?_
          refine j_iload_n dX4_all_45 rfl ?_
          refine j_callST (s_want0 3 (sk T n p) h240) q_T.isT rfl dX4_all_46 pmX4_want q469 q470 rfl ⟨(Nat.le_of_ble_eq_true rfl), (Nat.le_of_ble_eq_true rfl)⟩ ⟨(by show 24 + 24 * l.length + 0 + 10 + 0 + 1 ≤ 250; omega), (by show 3300 + 3300 * l.length + 0 + 1600 + 0 + 8 ≤ 34000; omega)⟩ rfl (Nat.le_of_ble_eq_true rfl) (by show 24 + 24 * l.length + 0 + 10 + 0 + 1 ≤ 250; omega) (by show 3300 + 3300 * l.length + 0 + 1600 + 0 + 8 ≤ 34000; omega) ?_
          intro v9 r9 h9 nx9 hq9
          exact q_allR.bad hRe hno (hq9.up rfl rfl hfr)
      · skip
        have hz := Classical.not_not.mp hz
        refine j_aload_n dX4_all_12 rfl ?_
        refine j_callVi (r_here h5 hsb hn4 hp) dX4_all_13 pmX4_here q258 q260 qs0 j_set_self rfl rfl rfl ⟨Nat.le_of_ble_eq_true rfl, Nat.le_of_ble_eq_true rfl⟩ ⟨(by show 24 + 24 * l.length + 0 ≤ 250; omega), (by show 3300 + 3300 * l.length + 0 ≤ 34000; omega)⟩ rfl (Nat.le_of_ble_eq_true rfl) ?_
        rw [if_neg (by omega)]
        refine j_iconst (v := (-1)) dX4_all_16 (by decide) ?_
        refine j_icmp_eq (tgt := 121) dX4_all_17 (by decide) (fun c17 => ?_) (fun c17 => absurd rfl c17)
        refine j_aload_n dX4_all_121 rfl ?_
        refine j_get 2 dX4_all_122 j_set_self in_X4 rfl (by decide) q240 rfl ?_
        refine j_aret dX4_all_125 rfl (Or.inl ⟨_, rfl⟩) (Or.inr ⟨_, rfl⟩) (by show 24 + 24 * l.length + 0 ≤ 250; omega) (by show 3300 + 3300 * l.length + 0 ≤ 34000; omega) ?_
        have hRe : RK = (0, 0, l) := by
          rw [← hkr]
          cases kf with
          | zero => rfl
          | succ kf => rw [pKeys_step, if_pos hz]
        refine q_allR.good hRe (fun i hi => ⟨(hfr i hi).1, (j_set_ne (by omega)).trans (hfr i hi).2⟩) ⟨ka, (by rw [j_set_ne (by decide)]; exact h203), fun hd => (by cases hd), fun d hd => ?_⟩
        cases hd
        exact ⟨(by rw [j_set_ne (by decide)]; exact h201), (by rw [j_set_ne (by decide)]; exact h202), hl8, fun i e he => ⟨(hks i e he).1, (by rw [j_set_ne (by omega)]; exact (hks i e he).2)⟩⟩
    · skip
      have hpd : ¬ (pD T n (sk T n 0)).1 = 0 := hdl
      refine j_callVT ((r_dial (a := (sk T n 0)) (fr := 0) (by rw [j_set_ne (by decide)]; exact h5) hsb hn4 hq0n j_set_self (by rw [j_set_ne (by decide)]; exact h201) (by rw [j_set_ne (by decide)]; exact h202) (by rw [j_set_ne (by decide)]; exact h240) hscR).weak (fun _ _ _ _ hq => q_dt.no hdl hq)) q_T.isT rfl dX4_all_9 pmX4_dial q262 q264 qs1 j_set_self rfl rfl rfl ⟨(Nat.le_of_ble_eq_true rfl), (Nat.le_of_ble_eq_true rfl)⟩ ⟨(Nat.le_of_ble_eq_true rfl), (Nat.le_of_ble_eq_true rfl)⟩ rfl (Nat.le_of_ble_eq_true rfl) (Nat.le_of_ble_eq_true rfl) (Nat.le_of_ble_eq_true rfl) ?_
      intro v9 r9 h9 nx9 hq9
      have hpa : (pAll T n).1 = (pD T n (sk T n 0)).1 ∧ (pAll T n).2.1 = (pD T n (sk T n 0)).2.1 := by
        unfold pD at hdl ⊢
        unfold pAll
        rw [sk_sk] at hdl ⊢
        rw [if_neg hbl]
        by_cases hw1 : wK T n (sk T n 0) = 1
        · rw [if_pos hw1] at hdl ⊢
          rw [if_pos hw1, if_neg hdl]
          exact ⟨rfl, rfl⟩
        · rw [if_neg hw1, if_neg hw1]
          exact ⟨rfl, rfl⟩
      exact Or.inr ⟨by rw [hpa.1]; exact hdl, hq9.up hpa.1.symm hpa.2.symm (fun i hi => ⟨rfl, j_set_ne (by omega)⟩)⟩
  · skip
    have hbl := Classical.not_not.mp hbl
    have hpa : pAll T n = (0, 0, none, []) := by unfold pAll; rw [if_pos hbl]
    rw [hpa]
    refine j_aload_n dX4_all_0 rfl ?_
    refine j_callVi (r_here h5 hsb hn4 (Nat.zero_le _)) dX4_all_1 pmX4_here q258 q260 qs0 j_set_self rfl rfl rfl ⟨Nat.le_of_ble_eq_true rfl, Nat.le_of_ble_eq_true rfl⟩ ⟨Nat.le_of_ble_eq_true rfl, Nat.le_of_ble_eq_true rfl⟩ rfl (Nat.le_of_ble_eq_true rfl) ?_
    rw [if_neg (by omega)]
    refine j_iconst (v := (-1)) dX4_all_4 (by decide) ?_
    refine j_icmp_eq (tgt := 12) dX4_all_5 (by decide) (fun c5 => ?_) (fun c5 => absurd rfl c5)
    refine j_aload_n dX4_all_12 rfl ?_
    refine j_callVi (r_here h5 hsb hn4 hq0n) dX4_all_13 pmX4_here q258 q260 qs0 j_set_self rfl rfl rfl ⟨Nat.le_of_ble_eq_true rfl, Nat.le_of_ble_eq_true rfl⟩ ⟨Nat.le_of_ble_eq_true rfl, Nat.le_of_ble_eq_true rfl⟩ rfl (Nat.le_of_ble_eq_true rfl) ?_
    rw [sk_sk, if_neg (by omega)]
    refine j_iconst (v := (-1)) dX4_all_16 (by decide) ?_
    refine j_icmp_eq (tgt := 121) dX4_all_17 (by decide) (fun c17 => ?_) (fun c17 => absurd rfl c17)
    refine j_aload_n dX4_all_121 rfl ?_
    refine j_get 2 dX4_all_122 j_set_self in_X4 rfl (by decide) q240 rfl ?_
    refine j_aret dX4_all_125 rfl (Or.inl ⟨_, rfl⟩) (Or.inr ⟨_, rfl⟩) (Nat.le_of_ble_eq_true rfl) (Nat.le_of_ble_eq_true rfl) ?_
    refine Or.inl ⟨rfl, rfl, fun i hi => ⟨rfl, j_set_ne (by omega)⟩, _, (by rw [j_set_ne (by decide)]; exact h203), fun _ => (by rw [j_set_ne (by decide)]; exact h201), fun d hd => by cases hd⟩
