set_option maxRecDepth 100000
/-! ===== strokes, as mathematics: a state is (waits, held, shown, typed) ===== -/
abbrev A4 : Type := Nat × Nat × Nat × Nat
def sS (m s : Nat) : Nat := s / 2 % m
def sH (m s : Nat) : Nat := s / 2 / m % m
def sW (m s : Nat) : Nat := s / 2 / m / m
def enc (m w h s t : Nat) : Nat := ((w * m + h) * m + s) * 2 + t
def encA (m : Nat) (a : A4) : Nat := enc m a.1 a.2.1 a.2.2.1 a.2.2.2
def decA (m s : Nat) : A4 := (sW m s, sH m s, sS m s, s % 2)
def okA (m : Nat) (a : A4) : Prop := a.1 < 4 ∧ a.2.1 < m ∧ a.2.2.1 < m ∧ a.2.2.2 < 2
def reck (kd m sg x y : Nat) : Nat :=
  if kd = 1 then (if sg = 1 then min (m - 1) (x + y) else if sg = 2 then x - y else min (m - 1) (x * y))
  else (if sg = 1 then (x + y) % m else if sg = 2 then (x + (m - y)) % m else x * y % m)
def figA (kd bs m d : Nat) (a : A4) : A4 := (a.1, a.2.1, if a.2.2.2 = 1 then (if kd = 1 ∧ m ≤ a.2.2.1 * bs + d then a.2.2.1 else (a.2.2.1 * bs + d) % m) else d, 1)
/-- a key: kind, cost, number (figure), other (second figure, sign) -/
abbrev KY : Type := Nat × Nat × Nat × Nat
def stk (kd bs m : Nat) (q : KY) (a : A4) : A4 :=
  if q.1 = 0 then figA kd bs m q.2.2.1 a
  else if q.1 = 7 then figA kd bs m q.2.2.2 (figA kd bs m q.2.2.1 a)
  else if q.1 = 4 then (0, 0, if 0 < a.1 then reck kd m a.1 a.2.1 a.2.2.1 else a.2.2.1, 0)
  else if q.1 = 5 then (0, 0, 0, 0)
  else if q.1 = 6 then (a.1, a.2.1, reck kd m q.2.2.2 a.2.2.1 q.2.2.1, 0)
  else (q.1, if 0 < a.1 ∧ a.2.2.2 = 1 then reck kd m a.1 a.2.1 a.2.2.1 else a.2.2.1, if 0 < a.1 ∧ a.2.2.2 = 1 then reck kd m a.1 a.2.1 a.2.2.1 else a.2.2.1, 0)
/-- a key that the reader makes, or one that could be more -/
def okK (bs m : Nat) (q : KY) : Prop := q.1 ≤ 7 ∧ q.2.1 ≤ 99 ∧ (q.1 = 0 → q.2.2.1 < bs) ∧ (q.1 = 7 → q.2.2.1 < bs ∧ q.2.2.2 < bs) ∧ (q.1 = 6 → q.2.2.1 < m ∧ 1 ≤ q.2.2.2 ∧ q.2.2.2 ≤ 3)
def okD (kd bs m : Nat) : Prop := kd ≤ 1 ∧ 2 ≤ bs ∧ bs ≤ 10 ∧ bs ≤ m ∧ m ≤ 100
theorem sS_enc {m w h s t : Nat} (hs : s < m) (ht : t < 2) : sS m (enc m w h s t) = s := by
  unfold sS enc
  rw [show (((w * m + h) * m + s) * 2 + t) / 2 = s + m * (w * m + h) by rw [Nat.mul_comm m]; omega, Nat.add_mul_mod_self_left, Nat.mod_eq_of_lt hs]
theorem enc_d2 {m w h s t : Nat} (hs : s < m) (ht : t < 2) : enc m w h s t / 2 / m = w * m + h := by
  unfold enc
  rw [show (((w * m + h) * m + s) * 2 + t) / 2 = s + m * (w * m + h) by rw [Nat.mul_comm m]; omega, Nat.add_mul_div_left _ _ (by omega), Nat.div_eq_of_lt hs, Nat.zero_add]
theorem sH_enc {m w h s t : Nat} (hh : h < m) (hs : s < m) (ht : t < 2) : sH m (enc m w h s t) = h := by
  unfold sH
  rw [enc_d2 hs ht, Nat.add_comm, Nat.mul_comm, Nat.add_mul_mod_self_left, Nat.mod_eq_of_lt hh]
theorem sW_enc {m w h s t : Nat} (hh : h < m) (hs : s < m) (ht : t < 2) : sW m (enc m w h s t) = w := by
  unfold sW
  rw [enc_d2 hs ht, Nat.add_comm, Nat.mul_comm, Nat.add_mul_div_left _ _ (by omega), Nat.div_eq_of_lt hh, Nat.zero_add]
theorem enc_t {m w h s t : Nat} (ht : t < 2) : enc m w h s t % 2 = t := by unfold enc; omega
theorem decA_encA {m : Nat} {a : A4} (h : okA m a) : decA m (encA m a) = a := by
  obtain ⟨w, x, s, t⟩ := a
  obtain ⟨h1, h2, h3, h4⟩ := h
  show (sW m (enc m w x s t), sH m (enc m w x s t), sS m (enc m w x s t), enc m w x s t % 2) = _
  rw [sW_enc h2 h3 h4, sH_enc h2 h3 h4, sS_enc h3 h4, enc_t h4]
theorem encA_lt {m : Nat} {a : A4} (h : okA m a) : encA m a < 8 * m * m := by
  obtain ⟨w, x, s, t⟩ := a
  obtain ⟨h1, h2, h3, h4⟩ := h
  show ((w * m + x) * m + s) * 2 + t < 8 * m * m
  have e1 : w * m + x < 4 * m := by
    have : w * m ≤ 3 * m := Nat.mul_le_mul_right m (Nat.le_of_lt_succ h1)
    have h2 : x < m := h2
    omega
  have e2 : (w * m + x) * m + s < 4 * m * m := by
    have : (w * m + x) * m ≤ (4 * m - 1) * m := Nat.mul_le_mul_right m (by omega)
    have e3 : (4 * m - 1) * m = 4 * m * m - m := by rw [Nat.sub_mul, Nat.one_mul]
    have e4 : m ≤ 4 * m * m := by
      have : 1 * m ≤ 4 * m * m := Nat.mul_le_mul_right m (by omega)
      omega
    have h3 : s < m := h3
    omega
  have e5 : 8 * m * m = 2 * (4 * m * m) := by rw [← Nat.mul_assoc, ← Nat.mul_assoc]
  have h4 : t < 2 := h4
  omega
theorem decA_ok {m s : Nat} (hm : 0 < m) (h : s < 8 * m * m) : okA m (decA m s) := by
  refine ⟨?_, Nat.mod_lt _ hm, Nat.mod_lt _ hm, Nat.mod_lt _ (by decide)⟩
  show s / 2 / m / m < 4
  rw [Nat.div_div_eq_div_mul, Nat.div_div_eq_div_mul]
  apply Nat.div_lt_of_lt_mul
  have : 2 * (m * m) * 4 = 8 * m * m := by rw [Nat.mul_assoc, Nat.mul_comm (m * m) 4, ← Nat.mul_assoc, ← Nat.mul_assoc]
  have e : 2 * m * m = 2 * (m * m) := Nat.mul_assoc _ _ _
  omega
theorem encA_decA {m s : Nat} : encA m (decA m s) = s := by
  show ((s / 2 / m / m * m + s / 2 / m % m) * m + s / 2 % m) * 2 + s % 2 = s
  rw [Nat.mul_comm (s / 2 / m / m) m, Nat.div_add_mod, Nat.mul_comm (s / 2 / m) m, Nat.div_add_mod]
  omega
theorem reck_lt {kd m sg x y : Nat} (hm : 0 < m) (hx : x < m) : reck kd m sg x y < m := by
  unfold reck
  split
  · split
    · omega
    · split <;> omega
  · split
    · exact Nat.mod_lt _ hm
    · split <;> exact Nat.mod_lt _ hm
theorem figA_ok {kd bs m d : Nat} {a : A4} (hm : 0 < m) (hd : d < m) (h : okA m a) : okA m (figA kd bs m d a) := by
  refine ⟨h.1, h.2.1, ?_, by show 1 < 2; decide⟩
  show (if _ then _ else _) < m
  split
  · split
    · exact h.2.2.1
    · exact Nat.mod_lt _ hm
  · exact hd
theorem stk_ok {kd bs m : Nat} {q : KY} {a : A4} (hD : okD kd bs m) (hq : okK bs m q) (h : okA m a) : okA m (stk kd bs m q a) := by
  obtain ⟨d1, d2, d3, d4, d5⟩ := hD
  obtain ⟨k1, k2, k3, k4, k5⟩ := hq
  obtain ⟨a1, a2, a3, a4⟩ := id h
  unfold stk
  by_cases c0 : q.1 = 0
  · rw [if_pos c0]; exact figA_ok (by omega) (by have := k3 c0; omega) h
  rw [if_neg c0]
  by_cases c7 : q.1 = 7
  · rw [if_pos c7]; exact figA_ok (by omega) (by have := k4 c7; omega) (figA_ok (by omega) (by have := k4 c7; omega) h)
  rw [if_neg c7]
  by_cases c4 : q.1 = 4
  · rw [if_pos c4]
    refine ⟨by show 0 < 4; decide, by show 0 < m; omega, ?_, by show 0 < 2; decide⟩
    show (if _ then _ else _) < m
    split
    · exact reck_lt (by omega) a2
    · exact a3
  rw [if_neg c4]
  by_cases c5 : q.1 = 5
  · rw [if_pos c5]; exact ⟨by show 0 < 4; decide, by show 0 < m; omega, by show 0 < m; omega, by show 0 < 2; decide⟩
  rw [if_neg c5]
  by_cases c6 : q.1 = 6
  · rw [if_pos c6]; exact ⟨a1, a2, reck_lt (by omega) a3, by show 0 < 2; decide⟩
  rw [if_neg c6]
  have hv : (if 0 < a.1 ∧ a.2.2.2 = 1 then reck kd m a.1 a.2.1 a.2.2.1 else a.2.2.1) < m := by
    split
    · exact reck_lt (by omega) a2
    · exact a3
  exact ⟨by show q.1 < 4; omega, hv, hv, by show 0 < 2; decide⟩
/-! the dial's arithmetic in ints -/
def vI (sg x y : Nat) : Int32 := if sg = 1 then nI x + nI y else if sg = 2 then nI x - nI y else nI x * nI y
theorem neg_sub {x y : Nat} (h : x < y) (hy : y < 2 ^ 30) : nI x - nI y = -nI (y - x) := by
  apply Int32.toInt_inj.mp
  rw [pk_sub_toInt (by omega) hy, sb_negT (by omega)]
  omega
theorem reck_stop {m sg x y : Nat} (hm : 0 < m) (hm2 : m ≤ 100) (hx : x < m) (hy : y < m) :
    (if 0 < (if vI sg x y < nI m - 1 then vI sg x y else nI m - 1) then (if vI sg x y < nI m - 1 then vI sg x y else nI m - 1) else 0) = nI (reck 1 m sg x y) := by
  have hxy : x * y ≤ 10000 := Nat.le_trans (Nat.mul_le_mul (show x ≤ 100 by omega) (show y ≤ 100 by omega)) (by decide)
  have e1 : nI m - 1 = nI (m - 1) := pk_sub (b := 1) hm
  have nat : ∀ z : Nat, z ≤ 20000 → (if 0 < (if nI z < nI (m - 1) then nI z else nI (m - 1)) then (if nI z < nI (m - 1) then nI z else nI (m - 1)) else 0) = nI (min (m - 1) z) := by
    intro z hz
    have e2 : (if nI z < nI (m - 1) then nI z else nI (m - 1)) = nI (min (m - 1) z) := by
      by_cases h : z < m - 1
      · rw [if_pos (nI_lt h (by omega)), Nat.min_eq_right (by omega)]
      · rw [if_neg (nI_nlt (by omega) (by omega)), Nat.min_eq_left (by omega)]
    rw [e2]
    by_cases h0 : 0 < min (m - 1) z
    · rw [if_pos (show (0 : Int32) < nI (min (m - 1) z) from nI_lt (a := 0) h0 (by omega))]
    · have : min (m - 1) z = 0 := by omega
      rw [this]
      rfl
  rw [e1]
  unfold reck vI
  rw [if_pos rfl]
  by_cases c1 : sg = 1
  · rw [if_pos c1, if_pos c1, nI_add, nat _ (by omega)]
  rw [if_neg c1, if_neg c1]
  by_cases c2 : sg = 2
  · rw [if_pos c2, if_pos c2]
    by_cases h : y ≤ x
    · rw [pk_sub h, nat _ (by omega), Nat.min_eq_right (by omega)]
    · have hn : nI x - nI y < 0 := pk_sneg (by omega) (by omega)
      rw [if_pos (c := nI x - nI y < nI (m - 1)), if_neg, show x - y = 0 by omega]
      · rfl
      · rw [Int32.lt_iff_toInt_lt] at *; simp only [Int32.toInt_zero] at *; omega
      · have h3 := nI_toInt (n := m - 1) (by omega)
        rw [Int32.lt_iff_toInt_lt] at *; simp only [Int32.toInt_zero] at *; omega
  · rw [if_neg c2, if_neg c2, pk_mul, nat _ (by omega)]
theorem reck_round {kd m sg x y : Nat} (hk : kd ≠ 1) (hm : 0 < m) (hm2 : m ≤ 100) (hx : x < m) (hy : y < m) {rest : Int32} (hr : rest = vI sg x y - vI sg x y / nI m * nI m) :
    (0 ≤ rest → rest = nI (reck kd m sg x y)) ∧ (¬ 0 ≤ rest → rest + nI m = nI (reck kd m sg x y)) := by
  have hxy : x * y ≤ 10000 := Nat.le_trans (Nat.mul_le_mul (show x ≤ 100 by omega) (show y ≤ 100 by omega)) (by decide)
  have nat : ∀ z : Nat, z ≤ 20000 → vI sg x y = nI z → reck kd m sg x y = z % m → (0 ≤ rest → rest = nI (reck kd m sg x y)) ∧ (¬ 0 ≤ rest → rest + nI m = nI (reck kd m sg x y)) := by
    intro z hz hv he
    rw [hv, pk_rem (by omega) hm (by omega)] at hr
    have hlt := Nat.mod_lt z hm
    refine ⟨fun _ => by rw [hr, he], fun h => absurd ?_ h⟩
    rw [hr]
    exact nI_pos' (by omega)
  by_cases c1 : sg = 1
  · refine nat (x + y) (by omega) (by unfold vI; rw [if_pos c1, nI_add]) (by unfold reck; rw [if_neg hk, if_pos c1])
  by_cases c2 : sg = 2
  · by_cases h : y ≤ x
    · refine nat (x - y) (by omega) (by unfold vI; rw [if_neg c1, if_pos c2, pk_sub h]) ?_
      unfold reck
      rw [if_neg hk, if_neg c1, if_pos c2, show x + (m - y) = (x - y) + m by omega, Nat.add_mod_right]
    · have hv : vI sg x y = -nI (y - x) := by unfold vI; rw [if_neg c1, if_pos c2, neg_sub (by omega) (by omega)]
      have hrt : rest = -nI (y - x) := by
        apply Int32.toInt_inj.mp
        rw [hr, hv, rem_toInt, sb_negT (by omega), nI_toInt (by omega)]
        rw [Int.neg_tmod, Int.tmod_eq_of_lt (by omega) (by omega)]
      have hneg : ¬ 0 ≤ rest := by
        rw [hrt, Int32.le_iff_toInt_le, sb_negT (by omega), Int32.toInt_zero]
        omega
      refine ⟨fun h0 => absurd h0 hneg, fun _ => ?_⟩
      rw [hrt]
      have e2 : -nI (y - x) + nI m = nI m - nI (y - x) := by grind
      rw [e2, pk_sub (by omega)]
      congr 1
      unfold reck
      rw [if_neg hk, if_neg c1, if_pos c2, show x + (m - y) = m - (y - x) by omega, Nat.mod_eq_of_lt (by omega)]
  · refine nat (x * y) (by omega) (by unfold vI; rw [if_neg c1, if_neg c2, pk_mul]) (by unfold reck; rw [if_neg hk, if_neg c1, if_neg c2])
theorem fig_u {kd bs m d s : Nat} (h : ¬ s % 2 = 1) : encA m (figA kd bs m d (decA m s)) = enc m (sW m s) (sH m s) d 1 := by
  show enc m (sW m s) (sH m s) (if s % 2 = 1 then _ else d) 1 = _
  rw [if_neg h]
theorem fig_k {kd bs m d s : Nat} (h : s % 2 = 1) (h1 : kd = 1) (h2 : m ≤ sS m s * bs + d) : encA m (figA kd bs m d (decA m s)) = enc m (sW m s) (sH m s) (sS m s) 1 := by
  show enc m (sW m s) (sH m s) (if s % 2 = 1 then (if kd = 1 ∧ m ≤ sS m s * bs + d then sS m s else _) else d) 1 = _
  rw [if_pos h, if_pos ⟨h1, h2⟩]
theorem fig_n {kd bs m d s : Nat} (h : s % 2 = 1) (h1 : ¬ kd = 1) : encA m (figA kd bs m d (decA m s)) = enc m (sW m s) (sH m s) ((sS m s * bs + d) % m) 1 := by
  show enc m (sW m s) (sH m s) (if s % 2 = 1 then (if kd = 1 ∧ m ≤ sS m s * bs + d then sS m s else _) else d) 1 = _
  rw [if_pos h, if_neg (fun q => h1 q.1)]
  rfl
theorem fig_l {kd bs m d s : Nat} (h : s % 2 = 1) (h1 : sS m s * bs + d < m) : encA m (figA kd bs m d (decA m s)) = enc m (sW m s) (sH m s) ((sS m s * bs + d) % m) 1 := by
  show enc m (sW m s) (sH m s) (if s % 2 = 1 then (if kd = 1 ∧ m ≤ sS m s * bs + d then sS m s else _) else d) 1 = _
  rw [if_pos h, if_neg (fun q => by have := q.2; omega)]
  rfl
/-- the dial's cell -/
abbrev dcell (kd bs fg m : Nat) : va_E := .inr (6, [.int (nI kd), .int (nI bs), .int (nI fg), .int (nI m)])

set_option maxHeartbeats 4000000 in
theorem c_shown {l : Launch} {D : va_G} {dT : Nat → ClassId} {H0 : Heap} {r : Nat → Nat} {h : j_H} {nx : Nat} (i kd bs fg m : Nat) (hi : h i = some (dcell kd bs fg m)) (hm : 0 < m) (hm2 : m ≤ 100) (s : Nat) (hs : s < 80000) : MC (gG l D dT H0) yX6_shown cX6_shown 2 (some .int) 0 0 0 [.ref (r i), .int (nI s)] r h nx (jq_i (nI (sS m s)) r h nx) := by
  refine MC.ofJ [some (.ref (r i)), some (.int (nI s))] rfl (Nat.le_of_ble_eq_true rfl) (by decide) ?_
  refine j_iload_n dX6_shown_0 rfl ?_
  refine j_iconst (v := 2) dX6_shown_1 (by decide) ?_
  refine j_idiv dX6_shown_2 (by decide) ?_
  refine j_aload_n dX6_shown_3 rfl ?_
  refine j_get 3 dX6_shown_4 (by first | rfl | assumption) in_X6 rfl (by decide) q559 rfl ?_
  refine j_irem dX6_shown_7 (nI_ne hm (by omega)) ?_
  refine j_iret dX6_shown_8 rfl rfl (Nat.le_refl _) (Nat.le_refl _) ?_
  exact jr_i (by rw [nI_d2 (by omega), pk_rem (by omega) hm (by omega)]; rfl)
set_option maxHeartbeats 4000000 in
theorem c_waits {l : Launch} {D : va_G} {dT : Nat → ClassId} {H0 : Heap} {r : Nat → Nat} {h : j_H} {nx : Nat} (i kd bs fg m : Nat) (hi : h i = some (dcell kd bs fg m)) (hm : 0 < m) (hm2 : m ≤ 100) (s : Nat) (hs : s < 80000) : MC (gG l D dT H0) yX6_waits cX6_waits 2 (some .int) 0 0 0 [.ref (r i), .int (nI s)] r h nx (jq_i (nI (sW m s)) r h nx) := by
  refine MC.ofJ [some (.ref (r i)), some (.int (nI s))] rfl (Nat.le_of_ble_eq_true rfl) (by decide) ?_
  refine j_iload_n dX6_waits_0 rfl ?_
  refine j_iconst (v := 2) dX6_waits_1 (by decide) ?_
  refine j_idiv dX6_waits_2 (by decide) ?_
  refine j_aload_n dX6_waits_3 rfl ?_
  refine j_get 3 dX6_waits_4 (by first | rfl | assumption) in_X6 rfl (by decide) q559 rfl ?_
  refine j_idiv dX6_waits_7 (nI_ne hm (by omega)) ?_
  refine j_aload_n dX6_waits_8 rfl ?_
  refine j_get 3 dX6_waits_9 (by first | rfl | assumption) in_X6 rfl (by decide) q559 rfl ?_
  refine j_idiv dX6_waits_12 (nI_ne hm (by omega)) ?_
  refine j_iret dX6_waits_13 rfl rfl (Nat.le_refl _) (Nat.le_refl _) ?_
  exact jr_i (by rw [nI_d2 (by omega), pk_div (by omega) hm (by omega), pk_div (Nat.lt_of_le_of_lt (Nat.div_le_self _ _) (by omega)) hm (by omega)]; rfl)
set_option maxHeartbeats 4000000 in
theorem c_held {l : Launch} {D : va_G} {dT : Nat → ClassId} {H0 : Heap} {r : Nat → Nat} {h : j_H} {nx : Nat} (i kd bs fg m : Nat) (hi : h i = some (dcell kd bs fg m)) (hm : 0 < m) (hm2 : m ≤ 100) (s : Nat) (hs : s < 80000) : MC (gG l D dT H0) yX6_held cX6_held 2 (some .int) 0 0 0 [.ref (r i), .int (nI s)] r h nx (jq_i (nI (sH m s)) r h nx) := by
  refine MC.ofJ [some (.ref (r i)), some (.int (nI s))] rfl (Nat.le_of_ble_eq_true rfl) (by decide) ?_
  refine j_iload_n dX6_held_0 rfl ?_
  refine j_iconst (v := 2) dX6_held_1 (by decide) ?_
  refine j_idiv dX6_held_2 (by decide) ?_
  refine j_aload_n dX6_held_3 rfl ?_
  refine j_get 3 dX6_held_4 (by first | rfl | assumption) in_X6 rfl (by decide) q559 rfl ?_
  refine j_idiv dX6_held_7 (nI_ne hm (by omega)) ?_
  refine j_aload_n dX6_held_8 rfl ?_
  refine j_get 3 dX6_held_9 (by first | rfl | assumption) in_X6 rfl (by decide) q559 rfl ?_
  refine j_irem dX6_held_12 (nI_ne hm (by omega)) ?_
  refine j_iret dX6_held_13 rfl rfl (Nat.le_refl _) (Nat.le_refl _) ?_
  exact jr_i (by rw [nI_d2 (by omega), pk_div (by omega) hm (by omega), pk_rem (Nat.lt_of_le_of_lt (Nat.div_le_self _ _) (by omega)) hm (by omega)]; rfl)
set_option maxHeartbeats 4000000 in
theorem c_isTyped {l : Launch} {D : va_G} {dT : Nat → ClassId} {H0 : Heap} {r : Nat → Nat} {h : j_H} {nx : Nat} (i s : Nat) (hs : s < 80000) : MC (gG l D dT H0) yX6_isTyped cX6_isTyped 2 (some .boolean) 0 0 0 [.ref (r i), .int (nI s)] r h nx (jq_i (j_b (s % 2 = 1)) r h nx) := by
  refine MC.ofJ [some (.ref (r i)), some (.int (nI s))] rfl (Nat.le_of_ble_eq_true rfl) (by decide) ?_
  refine j_iload_n dX6_isTyped_0 rfl ?_
  refine j_iconst (v := 2) dX6_isTyped_1 (by decide) ?_
  refine j_irem dX6_isTyped_2 (by decide) ?_
  refine j_eqi (nI_r2 (by omega)) ?_
  refine j_iconst (v := 1) dX6_isTyped_3 (by decide) ?_
  refine j_icmp_ne (tgt := 11) dX6_isTyped_4 (by decide) (fun c4 => ?_) (fun c4 => ?_)
  · skip
    have c4 : ¬ s % 2 = 1 := fun q => c4 (by rw [q]; rfl)
    refine j_iconst (v := 0) dX6_isTyped_11 (by decide) ?_
    refine j_iret dX6_isTyped_12 rfl rfl (Nat.le_refl _) (Nat.le_refl _) ?_
    first | exact jr_f c4 | exact jr_t c4
  · skip
    have c4 : s % 2 = 1 := (nI_eq (by omega) (by decide)).mp c4
    refine j_iconst (v := 1) dX6_isTyped_7 (by decide) ?_
    refine j_goto (tgt := 12) dX6_isTyped_8 (by decide) ?_
    refine j_iret dX6_isTyped_12 rfl rfl (Nat.le_refl _) (Nat.le_refl _) ?_
    first | exact jr_f c4 | exact jr_t c4
set_option maxHeartbeats 4000000 in
theorem c_states {l : Launch} {D : va_G} {dT : Nat → ClassId} {H0 : Heap} {r : Nat → Nat} {h : j_H} {nx : Nat} (i kd bs fg m : Nat) (hi : h i = some (dcell kd bs fg m)) (hm : 0 < m) (hm2 : m ≤ 100) : MC (gG l D dT H0) yX6_states cX6_states 1 (some .int) 0 0 0 [.ref (r i)] r h nx (jq_i (nI (8 * m * m)) r h nx) := by
  refine MC.ofJ [some (.ref (r i))] rfl (Nat.le_of_ble_eq_true rfl) (by decide) ?_
  refine j_bipush (v := 8) dX6_states_0 (by decide) ?_
  refine j_aload_n dX6_states_2 rfl ?_
  refine j_get 3 dX6_states_3 (by first | rfl | assumption) in_X6 rfl (by decide) q559 rfl ?_
  refine j_imul dX6_states_6 ?_
  refine j_aload_n dX6_states_7 rfl ?_
  refine j_get 3 dX6_states_8 (by first | rfl | assumption) in_X6 rfl (by decide) q559 rfl ?_
  refine j_imul dX6_states_11 ?_
  refine j_iret dX6_states_12 rfl rfl (Nat.le_refl _) (Nat.le_refl _) ?_
  exact jr_i (by rw [show (8 : Int32) = nI 8 from rfl, pk_mul, pk_mul])
set_option maxHeartbeats 4000000 in
theorem c_state {l : Launch} {D : va_G} {dT : Nat → ClassId} {H0 : Heap} {r : Nat → Nat} {h : j_H} {nx : Nat} (i kd bs fg m : Nat) (hi : h i = some (dcell kd bs fg m)) (hm : 0 < m) (hm2 : m ≤ 100) (w x s t : Nat) (ht : t < 2) : MC (gG l D dT H0) yX6_state cX6_state 5 (some .int) 0 0 0 [.ref (r i), .int (nI w), .int (nI x), .int (nI s), .int (nI t)] r h nx (jq_i (nI (enc m w x s t)) r h nx) := by
  refine MC.ofJ [some (.ref (r i)), some (.int (nI w)), some (.int (nI x)), some (.int (nI s)), some (.int (nI t))] rfl (Nat.le_of_ble_eq_true rfl) (by decide) ?_
  refine j_iload_n dX6_state_0 rfl ?_
  refine j_aload_n dX6_state_1 rfl ?_
  refine j_get 3 dX6_state_2 (by first | rfl | assumption) in_X6 rfl (by decide) q559 rfl ?_
  refine j_imul dX6_state_5 ?_
  refine j_iload_n dX6_state_6 rfl ?_
  refine j_iadd dX6_state_7 ?_
  refine j_aload_n dX6_state_8 rfl ?_
  refine j_get 3 dX6_state_9 (by first | rfl | assumption) in_X6 rfl (by decide) q559 rfl ?_
  refine j_imul dX6_state_12 ?_
  refine j_iload_n dX6_state_13 rfl ?_
  refine j_iadd dX6_state_14 ?_
  refine j_iconst (v := 2) dX6_state_15 (by decide) ?_
  refine j_imul dX6_state_16 ?_
  refine j_eqi (show _ = nI (((w * m + x) * m + s) * 2) by rw [pk_mul, nI_add, pk_mul, nI_add, nI_two, pk_mul]) ?_
  refine j_iload dX6_state_17 rfl ?_
  refine j_if_eq (tgt := 26) dX6_state_19 (by decide) (fun c19 => ?_) (fun c19 => ?_)
  · skip
    have c19 : t = 0 := (nI_eq (by omega) (by decide)).mp c19
    subst c19
    refine j_iconst (v := 0) dX6_state_26 (by decide) ?_
    refine j_iadd dX6_state_27 ?_
    refine j_iret dX6_state_28 rfl rfl (Nat.le_refl _) (Nat.le_refl _) ?_
    first | exact jr_i (by rw [show (0 : Int32) = nI 0 from rfl, nI_add]; rfl) | exact jr_i (by rw [show (1 : Int32) = nI 1 from rfl, nI_add]; rfl)
  · skip
    have c19 : t = 1 := by
      rcases (show t = 0 ∨ t = 1 by omega) with q | q
      · exact absurd (by rw [q]; rfl) c19
      · exact q
    subst c19
    refine j_iconst (v := 1) dX6_state_22 (by decide) ?_
    refine j_goto (tgt := 27) dX6_state_23 (by decide) ?_
    refine j_iadd dX6_state_27 ?_
    refine j_iret dX6_state_28 rfl rfl (Nat.le_refl _) (Nat.le_refl _) ?_
    first | exact jr_i (by rw [show (0 : Int32) = nI 0 from rfl, nI_add]; rfl) | exact jr_i (by rw [show (1 : Int32) = nI 1 from rfl, nI_add]; rfl)
set_option maxHeartbeats 4000000 in
theorem c_reckon {l : Launch} {D : va_G} {dT : Nat → ClassId} {H0 : Heap} {r : Nat → Nat} {h : j_H} {nx : Nat} (i kd bs fg m : Nat) (hi : h i = some (dcell kd bs fg m)) (hm : 0 < m) (hm2 : m ≤ 100) (hk : kd ≤ 1) (sg x y : Nat) (hsg : sg ≤ 3) (hx : x < m) (hy : y < m) : MC (gG l D dT H0) yX6_reckon cX6_reckon 6 (some .int) 1 0 0 [.ref (r i), .int (nI sg), .int (nI x), .int (nI y)] r h nx (jq_i (nI (reck kd m sg x y)) r h nx) := by
  refine MC.ofJ [some (.ref (r i)), some (.int (nI sg)), some (.int (nI x)), some (.int (nI y)), none, none] rfl (Nat.le_of_ble_eq_true rfl) (by decide) ?_
  refine j_join (tgt := 25) (fun v => v = vI sg x y) (fun v0 hv0 => ?_) (fun kj0 => ?_)
  · skip
    refine j_istore dX6_reckon_25 (by decide) rfl ?_
    refine j_aload_n dX6_reckon_27 rfl ?_
    refine j_get 0 dX6_reckon_28 (by first | rfl | assumption) in_X6 rfl (by decide) q552 rfl ?_
    refine j_iconst (v := 1) dX6_reckon_31 (by decide) ?_
    refine j_icmp_ne (tgt := 51) dX6_reckon_32 (by decide) (fun c32 => ?_) (fun c32 => ?_)
    · skip
      have c32 : ¬ kd = 1 := fun q => c32 (by rw [q]; rfl)
      refine j_iload dX6_reckon_51 rfl ?_
      refine j_aload_n dX6_reckon_53 rfl ?_
      refine j_get 3 dX6_reckon_54 (by first | rfl | assumption) in_X6 rfl (by decide) q559 rfl ?_
      refine j_irem dX6_reckon_57 (nI_ne hm (by omega)) ?_
      refine j_topi (fun rest hrest => ?_)
      subst hv0
      have hrr := reck_round c32 hm hm2 hx hy hrest
      refine j_istore dX6_reckon_58 (by decide) rfl ?_
      refine j_iload dX6_reckon_60 rfl ?_
      refine j_if_ge (tgt := 75) dX6_reckon_62 (by decide) (fun c62 => ?_) (fun c62 => ?_)
      · skip
        refine j_iload dX6_reckon_75 rfl ?_
        refine j_iret dX6_reckon_77 rfl rfl (Nat.le_refl _) (Nat.le_refl _) ?_
        first | exact jr_i (hrr.1 c62) | exact jr_i (hrr.2 c62)
      · skip
        refine j_iload dX6_reckon_65 rfl ?_
        refine j_aload_n dX6_reckon_67 rfl ?_
        refine j_get 3 dX6_reckon_68 (by first | rfl | assumption) in_X6 rfl (by decide) q559 rfl ?_
        refine j_iadd dX6_reckon_71 ?_
        refine j_goto (tgt := 77) dX6_reckon_72 (by decide) ?_
        refine j_iret dX6_reckon_77 rfl rfl (Nat.le_refl _) (Nat.le_refl _) ?_
        first | exact jr_i (hrr.1 c62) | exact jr_i (hrr.2 c62)
    · skip
      have c32 : kd = 1 := (nI_eq (by omega) (by decide)).mp c32
      refine j_iconst (v := 0) dX6_reckon_35 (by decide) ?_
      refine j_aload_n dX6_reckon_36 rfl ?_
      refine j_get 3 dX6_reckon_37 (by first | rfl | assumption) in_X6 rfl (by decide) q559 rfl ?_
      refine j_iconst (v := 1) dX6_reckon_40 (by decide) ?_
      refine j_isub dX6_reckon_41 ?_
      refine j_iload dX6_reckon_42 rfl ?_
      refine j_min dX6_reckon_44 q887 ⟨Nat.le_of_ble_eq_true rfl, Nat.le_of_ble_eq_true rfl, Nat.le_of_ble_eq_true rfl, Nat.le_of_ble_eq_true rfl⟩ ?_
      refine j_max dX6_reckon_47 q888 ⟨Nat.le_of_ble_eq_true rfl, Nat.le_of_ble_eq_true rfl, Nat.le_of_ble_eq_true rfl, Nat.le_of_ble_eq_true rfl⟩ ?_
      refine j_iret dX6_reckon_50 rfl rfl (Nat.le_refl _) (Nat.le_refl _) ?_
      subst hv0
      subst c32
      exact jr_i (reck_stop hm hm2 hx hy)
  · skip
    refine j_iload_n dX6_reckon_0 rfl ?_
    refine j_iconst (v := 1) dX6_reckon_1 (by decide) ?_
    refine j_icmp_ne (tgt := 11) dX6_reckon_2 (by decide) (fun c2 => ?_) (fun c2 => ?_)
    · skip
      have c2 : ¬ sg = 1 := fun q => c2 (by rw [q]; rfl)
      refine j_iload_n dX6_reckon_11 rfl ?_
      refine j_iconst (v := 2) dX6_reckon_12 (by decide) ?_
      refine j_icmp_ne (tgt := 22) dX6_reckon_13 (by decide) (fun c13 => ?_) (fun c13 => ?_)
      · skip
        have c13 : ¬ sg = 2 := fun q => c13 (by rw [q]; rfl)
        refine j_iload_n dX6_reckon_22 rfl ?_
        refine j_iload_n dX6_reckon_23 rfl ?_
        refine j_imul dX6_reckon_24 ?_
        exact kj0 _ (by unfold vI; first | rw [if_pos c2] | rw [if_neg c2, if_pos c13] | rw [if_neg c2, if_neg c13])
      · skip
        have c13 : sg = 2 := (nI_eq (by omega) (by decide)).mp c13
        refine j_iload_n dX6_reckon_16 rfl ?_
        refine j_iload_n dX6_reckon_17 rfl ?_
        refine j_isub dX6_reckon_18 ?_
        refine j_goto (tgt := 25) dX6_reckon_19 (by decide) ?_
        exact kj0 _ (by unfold vI; first | rw [if_pos c2] | rw [if_neg c2, if_pos c13] | rw [if_neg c2, if_neg c13])
    · skip
      have c2 : sg = 1 := (nI_eq (by omega) (by decide)).mp c2
      refine j_iload_n dX6_reckon_5 rfl ?_
      refine j_iload_n dX6_reckon_6 rfl ?_
      refine j_iadd dX6_reckon_7 ?_
      refine j_goto (tgt := 25) dX6_reckon_8 (by decide) ?_
      exact kj0 _ (by unfold vI; first | rw [if_pos c2] | rw [if_neg c2, if_pos c13] | rw [if_neg c2, if_neg c13])
set_option maxHeartbeats 4000000 in
theorem c_type {l : Launch} {D : va_G} {dT : Nat → ClassId} {H0 : Heap} {r : Nat → Nat} {h : j_H} {nx : Nat} (i kd bs fg m : Nat) (hi : h i = some (dcell kd bs fg m)) (hm : 0 < m) (hm2 : m ≤ 100) (hk : kd ≤ 1) (hbs : bs ≤ 10) (s d : Nat) (hs : s < 80000) (hd : d < 10) : MC (gG l D dT H0) yX6_type cX6_type 5 (some .int) 1 0 0 [.ref (r i), .int (nI s), .int (nI d)] r h nx (jq_i (nI (encA m (figA kd bs m d (decA m s)))) r h nx) := by
  refine MC.ofJ [some (.ref (r i)), some (.int (nI s)), some (.int (nI d)), none, none] rfl (Nat.le_of_ble_eq_true rfl) (by decide) ?_
  refine j_iload_n dX6_type_0 rfl ?_
  refine j_istore_n dX6_type_1 (by decide) rfl ?_
  refine j_aload_n dX6_type_2 rfl ?_
  refine j_iload_n dX6_type_3 rfl ?_
  refine j_callVi (c_isTyped i s hs) dX6_type_4 pmX6_isTyped q866 q867 q868 (by first | rfl | assumption) rfl rfl rfl ⟨Nat.le_of_ble_eq_true rfl, Nat.le_of_ble_eq_true rfl⟩ ⟨Nat.le_of_ble_eq_true rfl, Nat.le_of_ble_eq_true rfl⟩ rfl (Nat.le_of_ble_eq_true rfl) ?_
  refine j_ifb_eq (tgt := 57) dX6_type_7 (by decide) (fun c7 => ?_) (fun c7 => ?_)
  · skip
    refine j_aload_n dX6_type_57 rfl ?_
    refine j_aload_n dX6_type_58 rfl ?_
    refine j_iload_n dX6_type_59 rfl ?_
    refine j_callVi (c_waits i kd bs fg m hi hm hm2 s hs) dX6_type_60 pmX6_waits q871 q780 q781 (by first | rfl | assumption) rfl rfl rfl ⟨Nat.le_of_ble_eq_true rfl, Nat.le_of_ble_eq_true rfl⟩ ⟨Nat.le_of_ble_eq_true rfl, Nat.le_of_ble_eq_true rfl⟩ rfl (Nat.le_of_ble_eq_true rfl) ?_
    refine j_aload_n dX6_type_63 rfl ?_
    refine j_iload_n dX6_type_64 rfl ?_
    refine j_callVi (c_held i kd bs fg m hi hm hm2 s hs) dX6_type_65 pmX6_held q872 q784 q785 (by first | rfl | assumption) rfl rfl rfl ⟨Nat.le_of_ble_eq_true rfl, Nat.le_of_ble_eq_true rfl⟩ ⟨Nat.le_of_ble_eq_true rfl, Nat.le_of_ble_eq_true rfl⟩ rfl (Nat.le_of_ble_eq_true rfl) ?_
    refine j_iload_n dX6_type_68 rfl ?_
    refine j_iconst (v := 1) dX6_type_69 (by decide) ?_
    refine j_callVi (c_state i kd bs fg m hi hm hm2 (sW m s) (sH m s) _ 1 (by decide)) dX6_type_70 pmX6_state q873 q874 q875 (by first | rfl | assumption) rfl rfl rfl ⟨Nat.le_of_ble_eq_true rfl, Nat.le_of_ble_eq_true rfl⟩ ⟨Nat.le_of_ble_eq_true rfl, Nat.le_of_ble_eq_true rfl⟩ rfl (Nat.le_of_ble_eq_true rfl) ?_
    refine j_iret dX6_type_73 rfl rfl (Nat.le_refl _) (Nat.le_refl _) ?_
    first | exact jr_i (congrArg nI (fig_u c7).symm) | exact jr_i (congrArg nI (fig_k c7 c29 c38).symm) | exact jr_i (congrArg nI (fig_n c7 c29).symm) | exact jr_i (congrArg nI (fig_l c7 c38).symm)
  · skip
    refine j_aload_n dX6_type_10 rfl ?_
    refine j_iload_n dX6_type_11 rfl ?_
    refine j_callVi (c_shown i kd bs fg m hi hm hm2 s hs) dX6_type_12 pmX6_shown q870 q776 q777 (by first | rfl | assumption) rfl rfl rfl ⟨Nat.le_of_ble_eq_true rfl, Nat.le_of_ble_eq_true rfl⟩ ⟨Nat.le_of_ble_eq_true rfl, Nat.le_of_ble_eq_true rfl⟩ rfl (Nat.le_of_ble_eq_true rfl) ?_
    refine j_aload_n dX6_type_15 rfl ?_
    refine j_get 1 dX6_type_16 (by first | rfl | assumption) in_X6 rfl (by decide) q554 rfl ?_
    refine j_imul dX6_type_19 ?_
    refine j_iload_n dX6_type_20 rfl ?_
    refine j_iadd dX6_type_21 ?_
    have hss : sS m s < m := Nat.mod_lt _ hm
    have hmul : sS m s * bs ≤ 1000 := Nat.le_trans (Nat.mul_le_mul (show sS m s ≤ 100 by omega) hbs) (by decide)
    refine j_eqi (show _ = nI (sS m s * bs + d) by rw [pk_mul, nI_add]) ?_
    refine j_istore dX6_type_22 (by decide) rfl ?_
    refine j_aload_n dX6_type_24 rfl ?_
    refine j_get 0 dX6_type_25 (by first | rfl | assumption) in_X6 rfl (by decide) q552 rfl ?_
    refine j_iconst (v := 1) dX6_type_28 (by decide) ?_
    refine j_icmp_ne (tgt := 49) dX6_type_29 (by decide) (fun c29 => ?_) (fun c29 => ?_)
    · skip
      have c29 : ¬ kd = 1 := fun q => c29 (by rw [q]; rfl)
      refine j_iload dX6_type_49 rfl ?_
      refine j_aload_n dX6_type_51 rfl ?_
      refine j_get 3 dX6_type_52 (by first | rfl | assumption) in_X6 rfl (by decide) q559 rfl ?_
      refine j_irem dX6_type_55 (nI_ne hm (by omega)) ?_
      refine j_eqi (show _ = nI ((sS m s * bs + d) % m) from pk_rem (by omega) hm (by omega)) ?_
      refine j_istore_n dX6_type_56 (by decide) rfl ?_
      refine j_aload_n dX6_type_57 rfl ?_
      refine j_aload_n dX6_type_58 rfl ?_
      refine j_iload_n dX6_type_59 rfl ?_
      refine j_callVi (c_waits i kd bs fg m hi hm hm2 s hs) dX6_type_60 pmX6_waits q871 q780 q781 (by first | rfl | assumption) rfl rfl rfl ⟨Nat.le_of_ble_eq_true rfl, Nat.le_of_ble_eq_true rfl⟩ ⟨Nat.le_of_ble_eq_true rfl, Nat.le_of_ble_eq_true rfl⟩ rfl (Nat.le_of_ble_eq_true rfl) ?_
      refine j_aload_n dX6_type_63 rfl ?_
      refine j_iload_n dX6_type_64 rfl ?_
      refine j_callVi (c_held i kd bs fg m hi hm hm2 s hs) dX6_type_65 pmX6_held q872 q784 q785 (by first | rfl | assumption) rfl rfl rfl ⟨Nat.le_of_ble_eq_true rfl, Nat.le_of_ble_eq_true rfl⟩ ⟨Nat.le_of_ble_eq_true rfl, Nat.le_of_ble_eq_true rfl⟩ rfl (Nat.le_of_ble_eq_true rfl) ?_
      refine j_iload_n dX6_type_68 rfl ?_
      refine j_iconst (v := 1) dX6_type_69 (by decide) ?_
      refine j_callVi (c_state i kd bs fg m hi hm hm2 (sW m s) (sH m s) _ 1 (by decide)) dX6_type_70 pmX6_state q873 q874 q875 (by first | rfl | assumption) rfl rfl rfl ⟨Nat.le_of_ble_eq_true rfl, Nat.le_of_ble_eq_true rfl⟩ ⟨Nat.le_of_ble_eq_true rfl, Nat.le_of_ble_eq_true rfl⟩ rfl (Nat.le_of_ble_eq_true rfl) ?_
      refine j_iret dX6_type_73 rfl rfl (Nat.le_refl _) (Nat.le_refl _) ?_
      first | exact jr_i (congrArg nI (fig_u c7).symm) | exact jr_i (congrArg nI (fig_k c7 c29 c38).symm) | exact jr_i (congrArg nI (fig_n c7 c29).symm) | exact jr_i (congrArg nI (fig_l c7 c38).symm)
    · skip
      have c29 : kd = 1 := (nI_eq (by omega) (by decide)).mp c29
      refine j_iload dX6_type_32 rfl ?_
      refine j_aload_n dX6_type_34 rfl ?_
      refine j_get 3 dX6_type_35 (by first | rfl | assumption) in_X6 rfl (by decide) q559 rfl ?_
      refine j_icmp_lt (tgt := 49) dX6_type_38 (by decide) (fun c38 => ?_) (fun c38 => ?_)
      · skip
        have c38 : sS m s * bs + d < m := (nI_ltI (by omega) (by omega)).mp c38
        refine j_iload dX6_type_49 rfl ?_
        refine j_aload_n dX6_type_51 rfl ?_
        refine j_get 3 dX6_type_52 (by first | rfl | assumption) in_X6 rfl (by decide) q559 rfl ?_
        refine j_irem dX6_type_55 (nI_ne hm (by omega)) ?_
        refine j_eqi (show _ = nI ((sS m s * bs + d) % m) from pk_rem (by omega) hm (by omega)) ?_
        refine j_istore_n dX6_type_56 (by decide) rfl ?_
        refine j_aload_n dX6_type_57 rfl ?_
        refine j_aload_n dX6_type_58 rfl ?_
        refine j_iload_n dX6_type_59 rfl ?_
        refine j_callVi (c_waits i kd bs fg m hi hm hm2 s hs) dX6_type_60 pmX6_waits q871 q780 q781 (by first | rfl | assumption) rfl rfl rfl ⟨Nat.le_of_ble_eq_true rfl, Nat.le_of_ble_eq_true rfl⟩ ⟨Nat.le_of_ble_eq_true rfl, Nat.le_of_ble_eq_true rfl⟩ rfl (Nat.le_of_ble_eq_true rfl) ?_
        refine j_aload_n dX6_type_63 rfl ?_
        refine j_iload_n dX6_type_64 rfl ?_
        refine j_callVi (c_held i kd bs fg m hi hm hm2 s hs) dX6_type_65 pmX6_held q872 q784 q785 (by first | rfl | assumption) rfl rfl rfl ⟨Nat.le_of_ble_eq_true rfl, Nat.le_of_ble_eq_true rfl⟩ ⟨Nat.le_of_ble_eq_true rfl, Nat.le_of_ble_eq_true rfl⟩ rfl (Nat.le_of_ble_eq_true rfl) ?_
        refine j_iload_n dX6_type_68 rfl ?_
        refine j_iconst (v := 1) dX6_type_69 (by decide) ?_
        refine j_callVi (c_state i kd bs fg m hi hm hm2 (sW m s) (sH m s) _ 1 (by decide)) dX6_type_70 pmX6_state q873 q874 q875 (by first | rfl | assumption) rfl rfl rfl ⟨Nat.le_of_ble_eq_true rfl, Nat.le_of_ble_eq_true rfl⟩ ⟨Nat.le_of_ble_eq_true rfl, Nat.le_of_ble_eq_true rfl⟩ rfl (Nat.le_of_ble_eq_true rfl) ?_
        refine j_iret dX6_type_73 rfl rfl (Nat.le_refl _) (Nat.le_refl _) ?_
        first | exact jr_i (congrArg nI (fig_u c7).symm) | exact jr_i (congrArg nI (fig_k c7 c29 c38).symm) | exact jr_i (congrArg nI (fig_n c7 c29).symm) | exact jr_i (congrArg nI (fig_l c7 c38).symm)
      · skip
        have c38 : m ≤ sS m s * bs + d := Nat.le_of_not_lt (fun q => c38 (nI_lt q (by omega)))
        refine j_aload_n dX6_type_41 rfl ?_
        refine j_iload_n dX6_type_42 rfl ?_
        refine j_callVi (c_shown i kd bs fg m hi hm hm2 s hs) dX6_type_43 pmX6_shown q870 q776 q777 (by first | rfl | assumption) rfl rfl rfl ⟨Nat.le_of_ble_eq_true rfl, Nat.le_of_ble_eq_true rfl⟩ ⟨Nat.le_of_ble_eq_true rfl, Nat.le_of_ble_eq_true rfl⟩ rfl (Nat.le_of_ble_eq_true rfl) ?_
        refine j_goto (tgt := 56) dX6_type_46 (by decide) ?_
        refine j_istore_n dX6_type_56 (by decide) rfl ?_
        refine j_aload_n dX6_type_57 rfl ?_
        refine j_aload_n dX6_type_58 rfl ?_
        refine j_iload_n dX6_type_59 rfl ?_
        refine j_callVi (c_waits i kd bs fg m hi hm hm2 s hs) dX6_type_60 pmX6_waits q871 q780 q781 (by first | rfl | assumption) rfl rfl rfl ⟨Nat.le_of_ble_eq_true rfl, Nat.le_of_ble_eq_true rfl⟩ ⟨Nat.le_of_ble_eq_true rfl, Nat.le_of_ble_eq_true rfl⟩ rfl (Nat.le_of_ble_eq_true rfl) ?_
        refine j_aload_n dX6_type_63 rfl ?_
        refine j_iload_n dX6_type_64 rfl ?_
        refine j_callVi (c_held i kd bs fg m hi hm hm2 s hs) dX6_type_65 pmX6_held q872 q784 q785 (by first | rfl | assumption) rfl rfl rfl ⟨Nat.le_of_ble_eq_true rfl, Nat.le_of_ble_eq_true rfl⟩ ⟨Nat.le_of_ble_eq_true rfl, Nat.le_of_ble_eq_true rfl⟩ rfl (Nat.le_of_ble_eq_true rfl) ?_
        refine j_iload_n dX6_type_68 rfl ?_
        refine j_iconst (v := 1) dX6_type_69 (by decide) ?_
        refine j_callVi (c_state i kd bs fg m hi hm hm2 (sW m s) (sH m s) _ 1 (by decide)) dX6_type_70 pmX6_state q873 q874 q875 (by first | rfl | assumption) rfl rfl rfl ⟨Nat.le_of_ble_eq_true rfl, Nat.le_of_ble_eq_true rfl⟩ ⟨Nat.le_of_ble_eq_true rfl, Nat.le_of_ble_eq_true rfl⟩ rfl (Nat.le_of_ble_eq_true rfl) ?_
        refine j_iret dX6_type_73 rfl rfl (Nat.le_refl _) (Nat.le_refl _) ?_
        first | exact jr_i (congrArg nI (fig_u c7).symm) | exact jr_i (congrArg nI (fig_k c7 c29 c38).symm) | exact jr_i (congrArg nI (fig_n c7 c29).symm) | exact jr_i (congrArg nI (fig_l c7 c38).symm)
