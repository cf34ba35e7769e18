set_option maxRecDepth 100000
def swI (n : Nat) (x : Nat → Int32) (d v : Int32) : Int32 := if 0 ≤ v.toInt ∧ v.toInt ≤ n then x v.toInt.toNat else d
theorem sw_out {v : Int32} {n : Nat} (hn : n < 2 ^ 31) (h : ∀ k, k ≤ n → ¬ v = nI k) : v.toInt < 0 ∨ (n : Int) < v.toInt := by
  by_cases h0 : v.toInt < 0
  · exact Or.inl h0
  · right
    apply Int.lt_of_not_ge
    intro h1
    refine h v.toInt.toNat (by omega) (Int32.toInt_inj.mp ?_)
    rw [nI_toInt (by omega)]
    omega
theorem swI_out {v : Int32} {n : Nat} {x : Nat → Int32} {d : Int32} (h : v.toInt < 0 ∨ (n : Int) < v.toInt) : swI n x d v = d := if_neg (by omega)
def told1 (F : Nat → Nat) (kd bs fg m nk : Nat) (k : Nat) : Int32 := match k with
  | 0 => nI kd | 1 => nI bs | 2 => nI fg | 3 => nI m | 4 => nI nk | 5 => nI (F 5) | 6 => nI (sS m (F 0)) | 7 => nI (sW m (F 0)) | 8 => nI (sH m (F 0)) | 9 => nI (F 0 % 2) | 10 => nI (F 1) | 11 => nI (F 2) | _ => nI (F 4)
def told0 (F : Nat → Nat) (nk : Nat) (k : Nat) : Int32 := match k with
  | 0 => -1 | 1 => 0 | 2 => 0 | 3 => nI 0 | 4 => nI nk | 5 => nI (F 5) | 6 => 0 | 7 => 0 | 8 => 0 | 9 => nI (F 0 % 2) | 10 => nI (F 1) | 11 => nI (F 2) | _ => nI (F 4)
set_option maxHeartbeats 4000000 in
theorem f_told1 {l : Launch} {D : va_G} {dT : Nat → ClassId} {H0 : Heap} {r : Nat → Nat} {nx : Nat} {g : j_H} {F : Nat → Nat} {V : Nat → Nat → Int32} {a nk : Nat} (h60 : g 60 = some (rcell (.ref (r 61)) a nk)) {kd bs fg m : Nat} (h61 : g 61 = some (dcell kd bs fg m)) (hm : 0 < m) (hm2 : m ≤ 100) (hs : F 0 < 80000) (v : Int32) : MC (gG l D dT H0) yX0_told cX0_told 2 (some .int) 3 0 0 [.ref (r 0), .int v] r (fkS r dT g F V) nx (jq_i (swI 12 (told1 F kd bs fg m nk) (-1000000002) v) r (fkS r dT g F V) nx) := by
  refine MC.ofJ [some (.ref (r 0)), some (.int v)] rfl (Nat.le_of_ble_eq_true rfl) (by decide) ?_
  refine j_iload_n dX0_told_0 rfl ?_
  skip
  by_cases q0 : v = 0
  · subst q0
    refine j_tabI (off := 67) (tgt := 68) dX0_told_1 (by decide) (by decide) (by decide) (by decide) ?_
    refine j_aload_n dX0_told_68 rfl ?_
    refine j_callVi (f_isNone1 h60) dX0_told_69 pmX0_isNone q759 q761 qs13 (by first | rfl | assumption) rfl rfl rfl ⟨Nat.le_of_ble_eq_true rfl, Nat.le_of_ble_eq_true rfl⟩ ⟨Nat.le_of_ble_eq_true rfl, Nat.le_of_ble_eq_true rfl⟩ rfl (Nat.le_of_ble_eq_true rfl) ?_
    refine j_if_eq (tgt := 79) dX0_told_72 (by decide) (fun c72 => ?_) (fun c72 => absurd rfl c72)
    refine j_aload_n dX0_told_79 rfl ?_
    refine j_get 0 dX0_told_80 (by first | rfl | assumption) in_X0 rfl (by decide) q153 rfl ?_
    refine j_getN 0 dX0_told_83 (by first | rfl | assumption) in_X1 rfl (by decide) (fun _ hs => hs.1 _ qn104) rfl ?_
    refine j_getN 0 dX0_told_86 (by first | rfl | assumption) in_X6 rfl (by decide) (fun _ hs => hs.1 _ qn553) rfl ?_
    refine j_iret dX0_told_89 rfl rfl (Nat.le_refl _) (Nat.le_refl _) ?_
    exact jr_i rfl
  by_cases q1 : v = 1
  · subst q1
    refine j_tabI (off := 89) (tgt := 90) dX0_told_1 (by decide) (by decide) (by decide) (by decide) ?_
    refine j_aload_n dX0_told_90 rfl ?_
    refine j_callVi (f_isNone1 h60) dX0_told_91 pmX0_isNone q759 q761 qs13 (by first | rfl | assumption) rfl rfl rfl ⟨Nat.le_of_ble_eq_true rfl, Nat.le_of_ble_eq_true rfl⟩ ⟨Nat.le_of_ble_eq_true rfl, Nat.le_of_ble_eq_true rfl⟩ rfl (Nat.le_of_ble_eq_true rfl) ?_
    refine j_if_eq (tgt := 101) dX0_told_94 (by decide) (fun c94 => ?_) (fun c94 => absurd rfl c94)
    refine j_aload_n dX0_told_101 rfl ?_
    refine j_get 0 dX0_told_102 (by first | rfl | assumption) in_X0 rfl (by decide) q153 rfl ?_
    refine j_getN 0 dX0_told_105 (by first | rfl | assumption) in_X1 rfl (by decide) (fun _ hs => hs.1 _ qn104) rfl ?_
    refine j_getN 1 dX0_told_108 (by first | rfl | assumption) in_X6 rfl (by decide) (fun _ hs => hs.1 _ qn556) rfl ?_
    refine j_iret dX0_told_111 rfl rfl (Nat.le_refl _) (Nat.le_refl _) ?_
    exact jr_i rfl
  by_cases q2 : v = 2
  · subst q2
    refine j_tabI (off := 111) (tgt := 112) dX0_told_1 (by decide) (by decide) (by decide) (by decide) ?_
    refine j_aload_n dX0_told_112 rfl ?_
    refine j_callVi (f_isNone1 h60) dX0_told_113 pmX0_isNone q759 q761 qs13 (by first | rfl | assumption) rfl rfl rfl ⟨Nat.le_of_ble_eq_true rfl, Nat.le_of_ble_eq_true rfl⟩ ⟨Nat.le_of_ble_eq_true rfl, Nat.le_of_ble_eq_true rfl⟩ rfl (Nat.le_of_ble_eq_true rfl) ?_
    refine j_if_eq (tgt := 123) dX0_told_116 (by decide) (fun c116 => ?_) (fun c116 => absurd rfl c116)
    refine j_aload_n dX0_told_123 rfl ?_
    refine j_get 0 dX0_told_124 (by first | rfl | assumption) in_X0 rfl (by decide) q153 rfl ?_
    refine j_getN 0 dX0_told_127 (by first | rfl | assumption) in_X1 rfl (by decide) (fun _ hs => hs.1 _ qn104) rfl ?_
    refine j_getN 2 dX0_told_130 (by first | rfl | assumption) in_X6 rfl (by decide) (fun _ hs => hs.1 _ qn558) rfl ?_
    refine j_iret dX0_told_133 rfl rfl (Nat.le_refl _) (Nat.le_refl _) ?_
    exact jr_i rfl
  by_cases q3 : v = 3
  · subst q3
    refine j_tabI (off := 133) (tgt := 134) dX0_told_1 (by decide) (by decide) (by decide) (by decide) ?_
    refine j_aload_n dX0_told_134 rfl ?_
    refine j_callVi (f_many1 h60 h61 hm hm2) dX0_told_135 pmX0_many q755 q757 qs12 (by first | rfl | assumption) rfl rfl rfl ⟨Nat.le_of_ble_eq_true rfl, Nat.le_of_ble_eq_true rfl⟩ ⟨Nat.le_of_ble_eq_true rfl, Nat.le_of_ble_eq_true rfl⟩ rfl (Nat.le_of_ble_eq_true rfl) ?_
    refine j_iret dX0_told_138 rfl rfl (Nat.le_refl _) (Nat.le_refl _) ?_
    exact jr_i rfl
  by_cases q4 : v = 4
  · subst q4
    refine j_tabI (off := 138) (tgt := 139) dX0_told_1 (by decide) (by decide) (by decide) (by decide) ?_
    refine j_aload_n dX0_told_139 rfl ?_
    refine j_get 0 dX0_told_140 (by first | rfl | assumption) in_X0 rfl (by decide) q153 rfl ?_
    refine j_getN 2 dX0_told_143 (by first | rfl | assumption) in_X1 rfl (by decide) (fun _ hs => hs.1 _ qn109) rfl ?_
    refine j_iret dX0_told_146 rfl rfl (Nat.le_refl _) (Nat.le_refl _) ?_
    exact jr_i rfl
  by_cases q5 : v = 5
  · subst q5
    refine j_tabI (off := 146) (tgt := 147) dX0_told_1 (by decide) (by decide) (by decide) (by decide) ?_
    refine j_aload_n dX0_told_147 rfl ?_
    refine j_get 6 dX0_told_148 (by first | rfl | assumption) in_X0 rfl (by decide) q159 rfl ?_
    refine j_iret dX0_told_151 rfl rfl (Nat.le_refl _) (Nat.le_refl _) ?_
    exact jr_i rfl
  by_cases q6 : v = 6
  · subst q6
    refine j_tabI (off := 151) (tgt := 152) dX0_told_1 (by decide) (by decide) (by decide) (by decide) ?_
    refine j_aload_n dX0_told_152 rfl ?_
    refine j_aload_n dX0_told_153 rfl ?_
    refine j_get 1 dX0_told_154 (by first | rfl | assumption) in_X0 rfl (by decide) q154 rfl ?_
    refine j_getN 0 dX0_told_157 (by first | rfl | assumption) in_X2 rfl (by decide) (fun _ hs => hs.1 _ qn125) rfl ?_
    refine j_callVi (f_shown1 h60 h61 hm hm2 (F 0) hs) dX0_told_160 pmX0_shown q771 q773 qs14 (by first | rfl | assumption) rfl rfl rfl ⟨Nat.le_of_ble_eq_true rfl, Nat.le_of_ble_eq_true rfl⟩ ⟨Nat.le_of_ble_eq_true rfl, Nat.le_of_ble_eq_true rfl⟩ rfl (Nat.le_of_ble_eq_true rfl) ?_
    refine j_iret dX0_told_163 rfl rfl (Nat.le_refl _) (Nat.le_refl _) ?_
    exact jr_i rfl
  by_cases q7 : v = 7
  · subst q7
    refine j_tabI (off := 163) (tgt := 164) dX0_told_1 (by decide) (by decide) (by decide) (by decide) ?_
    refine j_aload_n dX0_told_164 rfl ?_
    refine j_callVi (f_isNone1 h60) dX0_told_165 pmX0_isNone q759 q761 qs13 (by first | rfl | assumption) rfl rfl rfl ⟨Nat.le_of_ble_eq_true rfl, Nat.le_of_ble_eq_true rfl⟩ ⟨Nat.le_of_ble_eq_true rfl, Nat.le_of_ble_eq_true rfl⟩ rfl (Nat.le_of_ble_eq_true rfl) ?_
    refine j_if_eq (tgt := 175) dX0_told_168 (by decide) (fun c168 => ?_) (fun c168 => absurd rfl c168)
    refine j_aload_n dX0_told_175 rfl ?_
    refine j_get 0 dX0_told_176 (by first | rfl | assumption) in_X0 rfl (by decide) q153 rfl ?_
    refine j_getN 0 dX0_told_179 (by first | rfl | assumption) in_X1 rfl (by decide) (fun _ hs => hs.1 _ qn104) rfl ?_
    refine j_aload_n dX0_told_182 rfl ?_
    refine j_get 1 dX0_told_183 (by first | rfl | assumption) in_X0 rfl (by decide) q154 rfl ?_
    refine j_getN 0 dX0_told_186 (by first | rfl | assumption) in_X2 rfl (by decide) (fun _ hs => hs.1 _ qn125) rfl ?_
    refine j_callVi (c_waits 61 kd bs fg m (by exact h61) hm hm2 (F 0) hs) dX0_told_189 pmX6_waits q779 q780 q781 (by first | rfl | assumption) rfl rfl rfl ⟨Nat.le_of_ble_eq_true rfl, Nat.le_of_ble_eq_true rfl⟩ ⟨Nat.le_of_ble_eq_true rfl, Nat.le_of_ble_eq_true rfl⟩ rfl (Nat.le_of_ble_eq_true rfl) ?_
    refine j_iret dX0_told_192 rfl rfl (Nat.le_refl _) (Nat.le_refl _) ?_
    exact jr_i rfl
  by_cases q8 : v = 8
  · subst q8
    refine j_tabI (off := 192) (tgt := 193) dX0_told_1 (by decide) (by decide) (by decide) (by decide) ?_
    refine j_aload_n dX0_told_193 rfl ?_
    refine j_callVi (f_isNone1 h60) dX0_told_194 pmX0_isNone q759 q761 qs13 (by first | rfl | assumption) rfl rfl rfl ⟨Nat.le_of_ble_eq_true rfl, Nat.le_of_ble_eq_true rfl⟩ ⟨Nat.le_of_ble_eq_true rfl, Nat.le_of_ble_eq_true rfl⟩ rfl (Nat.le_of_ble_eq_true rfl) ?_
    refine j_if_eq (tgt := 204) dX0_told_197 (by decide) (fun c197 => ?_) (fun c197 => absurd rfl c197)
    refine j_aload_n dX0_told_204 rfl ?_
    refine j_get 0 dX0_told_205 (by first | rfl | assumption) in_X0 rfl (by decide) q153 rfl ?_
    refine j_getN 0 dX0_told_208 (by first | rfl | assumption) in_X1 rfl (by decide) (fun _ hs => hs.1 _ qn104) rfl ?_
    refine j_aload_n dX0_told_211 rfl ?_
    refine j_get 1 dX0_told_212 (by first | rfl | assumption) in_X0 rfl (by decide) q154 rfl ?_
    refine j_getN 0 dX0_told_215 (by first | rfl | assumption) in_X2 rfl (by decide) (fun _ hs => hs.1 _ qn125) rfl ?_
    refine j_callVi (c_held 61 kd bs fg m (by exact h61) hm hm2 (F 0) hs) dX0_told_218 pmX6_held q783 q784 q785 (by first | rfl | assumption) rfl rfl rfl ⟨Nat.le_of_ble_eq_true rfl, Nat.le_of_ble_eq_true rfl⟩ ⟨Nat.le_of_ble_eq_true rfl, Nat.le_of_ble_eq_true rfl⟩ rfl (Nat.le_of_ble_eq_true rfl) ?_
    refine j_iret dX0_told_221 rfl rfl (Nat.le_refl _) (Nat.le_refl _) ?_
    exact jr_i rfl
  by_cases q9 : v = 9
  · subst q9
    refine j_tabI (off := 221) (tgt := 222) dX0_told_1 (by decide) (by decide) (by decide) (by decide) ?_
    refine j_aload_n dX0_told_222 rfl ?_
    refine j_get 1 dX0_told_223 (by first | rfl | assumption) in_X0 rfl (by decide) q154 rfl ?_
    refine j_getN 0 dX0_told_226 (by first | rfl | assumption) in_X2 rfl (by decide) (fun _ hs => hs.1 _ qn125) rfl ?_
    refine j_iconst (v := 2) dX0_told_229 (by decide) ?_
    refine j_irem dX0_told_230 (by decide) ?_
    refine j_eqi (nI_r2 (by omega)) ?_
    refine j_iret dX0_told_231 rfl rfl (Nat.le_refl _) (Nat.le_refl _) ?_
    exact jr_i rfl
  by_cases q10 : v = 10
  · subst q10
    refine j_tabI (off := 231) (tgt := 232) dX0_told_1 (by decide) (by decide) (by decide) (by decide) ?_
    refine j_aload_n dX0_told_232 rfl ?_
    refine j_get 1 dX0_told_233 (by first | rfl | assumption) in_X0 rfl (by decide) q154 rfl ?_
    refine j_getN 1 dX0_told_236 (by first | rfl | assumption) in_X2 rfl (by decide) (fun _ hs => hs.1 _ qn127) rfl ?_
    refine j_iret dX0_told_239 rfl rfl (Nat.le_refl _) (Nat.le_refl _) ?_
    exact jr_i rfl
  by_cases q11 : v = 11
  · subst q11
    refine j_tabI (off := 239) (tgt := 240) dX0_told_1 (by decide) (by decide) (by decide) (by decide) ?_
    refine j_aload_n dX0_told_240 rfl ?_
    refine j_get 1 dX0_told_241 (by first | rfl | assumption) in_X0 rfl (by decide) q154 rfl ?_
    refine j_getN 3 dX0_told_244 (by first | rfl | assumption) in_X2 rfl (by decide) (fun _ hs => hs.1 _ qn131) rfl ?_
    refine j_iret dX0_told_247 rfl rfl (Nat.le_refl _) (Nat.le_refl _) ?_
    exact jr_i rfl
  by_cases q12 : v = 12
  · subst q12
    refine j_tabI (off := 247) (tgt := 248) dX0_told_1 (by decide) (by decide) (by decide) (by decide) ?_
    refine j_aload_n dX0_told_248 rfl ?_
    refine j_get 4 dX0_told_249 (by first | rfl | assumption) in_X0 rfl (by decide) q157 rfl ?_
    refine j_iret dX0_told_252 rfl rfl (Nat.le_refl _) (Nat.le_refl _) ?_
    exact jr_i rfl
  have ho : v.toInt < 0 ∨ ((12 : Nat) : Int) < v.toInt := sw_out (by decide) (fun k hk e => by
    match k, hk, e with
    | 0, _, e => exact q0 e
    | 1, _, e => exact q1 e
    | 2, _, e => exact q2 e
    | 3, _, e => exact q3 e
    | 4, _, e => exact q4 e
    | 5, _, e => exact q5 e
    | 6, _, e => exact q6 e
    | 7, _, e => exact q7 e
    | 8, _, e => exact q8 e
    | 9, _, e => exact q9 e
    | 10, _, e => exact q10 e
    | 11, _, e => exact q11 e
    | 12, _, e => exact q12 e
    | k + 13, hk, _ => omega)
  refine j_tabO (tgt := 253) dX0_told_1 ho (by decide) ?_
  refine j_ldc dX0_told_253 q223 ?_
  refine j_iret dX0_told_255 rfl rfl (Nat.le_refl _) (Nat.le_refl _) ?_
  exact jr_i (swI_out ho).symm
set_option maxHeartbeats 4000000 in
theorem f_told0 {l : Launch} {D : va_G} {dT : Nat → ClassId} {H0 : Heap} {r : Nat → Nat} {nx : Nat} {g : j_H} {F : Nat → Nat} {V : Nat → Nat → Int32} {a nk : Nat} (h60 : g 60 = some (rcell .null a nk)) (hs : F 0 < 80000) (v : Int32) : MC (gG l D dT H0) yX0_told cX0_told 2 (some .int) 3 0 0 [.ref (r 0), .int v] r (fkS r dT g F V) nx (jq_i (swI 12 (told0 F nk) (-1000000002) v) r (fkS r dT g F V) nx) := by
  refine MC.ofJ [some (.ref (r 0)), some (.int v)] rfl (Nat.le_of_ble_eq_true rfl) (by decide) ?_
  refine j_iload_n dX0_told_0 rfl ?_
  skip
  by_cases q0 : v = 0
  · subst q0
    refine j_tabI (off := 67) (tgt := 68) dX0_told_1 (by decide) (by decide) (by decide) (by decide) ?_
    refine j_aload_n dX0_told_68 rfl ?_
    refine j_callVi (f_isNone0 h60) dX0_told_69 pmX0_isNone q759 q761 qs13 (by first | rfl | assumption) rfl rfl rfl ⟨Nat.le_of_ble_eq_true rfl, Nat.le_of_ble_eq_true rfl⟩ ⟨Nat.le_of_ble_eq_true rfl, Nat.le_of_ble_eq_true rfl⟩ rfl (Nat.le_of_ble_eq_true rfl) ?_
    refine j_if_eq (tgt := 79) dX0_told_72 (by decide) (fun c72 => absurd c72 (by decide)) (fun c72 => ?_)
    refine j_iconst (v := (-1)) dX0_told_75 (by decide) ?_
    refine j_goto (tgt := 89) dX0_told_76 (by decide) ?_
    refine j_iret dX0_told_89 rfl rfl (Nat.le_refl _) (Nat.le_refl _) ?_
    exact jr_i rfl
  by_cases q1 : v = 1
  · subst q1
    refine j_tabI (off := 89) (tgt := 90) dX0_told_1 (by decide) (by decide) (by decide) (by decide) ?_
    refine j_aload_n dX0_told_90 rfl ?_
    refine j_callVi (f_isNone0 h60) dX0_told_91 pmX0_isNone q759 q761 qs13 (by first | rfl | assumption) rfl rfl rfl ⟨Nat.le_of_ble_eq_true rfl, Nat.le_of_ble_eq_true rfl⟩ ⟨Nat.le_of_ble_eq_true rfl, Nat.le_of_ble_eq_true rfl⟩ rfl (Nat.le_of_ble_eq_true rfl) ?_
    refine j_if_eq (tgt := 101) dX0_told_94 (by decide) (fun c94 => absurd c94 (by decide)) (fun c94 => ?_)
    refine j_iconst (v := 0) dX0_told_97 (by decide) ?_
    refine j_goto (tgt := 111) dX0_told_98 (by decide) ?_
    refine j_iret dX0_told_111 rfl rfl (Nat.le_refl _) (Nat.le_refl _) ?_
    exact jr_i rfl
  by_cases q2 : v = 2
  · subst q2
    refine j_tabI (off := 111) (tgt := 112) dX0_told_1 (by decide) (by decide) (by decide) (by decide) ?_
    refine j_aload_n dX0_told_112 rfl ?_
    refine j_callVi (f_isNone0 h60) dX0_told_113 pmX0_isNone q759 q761 qs13 (by first | rfl | assumption) rfl rfl rfl ⟨Nat.le_of_ble_eq_true rfl, Nat.le_of_ble_eq_true rfl⟩ ⟨Nat.le_of_ble_eq_true rfl, Nat.le_of_ble_eq_true rfl⟩ rfl (Nat.le_of_ble_eq_true rfl) ?_
    refine j_if_eq (tgt := 123) dX0_told_116 (by decide) (fun c116 => absurd c116 (by decide)) (fun c116 => ?_)
    refine j_iconst (v := 0) dX0_told_119 (by decide) ?_
    refine j_goto (tgt := 133) dX0_told_120 (by decide) ?_
    refine j_iret dX0_told_133 rfl rfl (Nat.le_refl _) (Nat.le_refl _) ?_
    exact jr_i rfl
  by_cases q3 : v = 3
  · subst q3
    refine j_tabI (off := 133) (tgt := 134) dX0_told_1 (by decide) (by decide) (by decide) (by decide) ?_
    refine j_aload_n dX0_told_134 rfl ?_
    refine j_callVi (f_many0 h60) dX0_told_135 pmX0_many q755 q757 qs12 (by first | rfl | assumption) rfl rfl rfl ⟨Nat.le_of_ble_eq_true rfl, Nat.le_of_ble_eq_true rfl⟩ ⟨Nat.le_of_ble_eq_true rfl, Nat.le_of_ble_eq_true rfl⟩ rfl (Nat.le_of_ble_eq_true rfl) ?_
    refine j_iret dX0_told_138 rfl rfl (Nat.le_refl _) (Nat.le_refl _) ?_
    exact jr_i rfl
  by_cases q4 : v = 4
  · subst q4
    refine j_tabI (off := 138) (tgt := 139) dX0_told_1 (by decide) (by decide) (by decide) (by decide) ?_
    refine j_aload_n dX0_told_139 rfl ?_
    refine j_get 0 dX0_told_140 (by first | rfl | assumption) in_X0 rfl (by decide) q153 rfl ?_
    refine j_getN 2 dX0_told_143 (by first | rfl | assumption) in_X1 rfl (by decide) (fun _ hs => hs.1 _ qn109) rfl ?_
    refine j_iret dX0_told_146 rfl rfl (Nat.le_refl _) (Nat.le_refl _) ?_
    exact jr_i rfl
  by_cases q5 : v = 5
  · subst q5
    refine j_tabI (off := 146) (tgt := 147) dX0_told_1 (by decide) (by decide) (by decide) (by decide) ?_
    refine j_aload_n dX0_told_147 rfl ?_
    refine j_get 6 dX0_told_148 (by first | rfl | assumption) in_X0 rfl (by decide) q159 rfl ?_
    refine j_iret dX0_told_151 rfl rfl (Nat.le_refl _) (Nat.le_refl _) ?_
    exact jr_i rfl
  by_cases q6 : v = 6
  · subst q6
    refine j_tabI (off := 151) (tgt := 152) dX0_told_1 (by decide) (by decide) (by decide) (by decide) ?_
    refine j_aload_n dX0_told_152 rfl ?_
    refine j_aload_n dX0_told_153 rfl ?_
    refine j_get 1 dX0_told_154 (by first | rfl | assumption) in_X0 rfl (by decide) q154 rfl ?_
    refine j_getN 0 dX0_told_157 (by first | rfl | assumption) in_X2 rfl (by decide) (fun _ hs => hs.1 _ qn125) rfl ?_
    refine j_callVi (f_shown0 h60 _) dX0_told_160 pmX0_shown q771 q773 qs14 (by first | rfl | assumption) rfl rfl rfl ⟨Nat.le_of_ble_eq_true rfl, Nat.le_of_ble_eq_true rfl⟩ ⟨Nat.le_of_ble_eq_true rfl, Nat.le_of_ble_eq_true rfl⟩ rfl (Nat.le_of_ble_eq_true rfl) ?_
    refine j_iret dX0_told_163 rfl rfl (Nat.le_refl _) (Nat.le_refl _) ?_
    exact jr_i rfl
  by_cases q7 : v = 7
  · subst q7
    refine j_tabI (off := 163) (tgt := 164) dX0_told_1 (by decide) (by decide) (by decide) (by decide) ?_
    refine j_aload_n dX0_told_164 rfl ?_
    refine j_callVi (f_isNone0 h60) dX0_told_165 pmX0_isNone q759 q761 qs13 (by first | rfl | assumption) rfl rfl rfl ⟨Nat.le_of_ble_eq_true rfl, Nat.le_of_ble_eq_true rfl⟩ ⟨Nat.le_of_ble_eq_true rfl, Nat.le_of_ble_eq_true rfl⟩ rfl (Nat.le_of_ble_eq_true rfl) ?_
    refine j_if_eq (tgt := 175) dX0_told_168 (by decide) (fun c168 => absurd c168 (by decide)) (fun c168 => ?_)
    refine j_iconst (v := 0) dX0_told_171 (by decide) ?_
    refine j_goto (tgt := 192) dX0_told_172 (by decide) ?_
    refine j_iret dX0_told_192 rfl rfl (Nat.le_refl _) (Nat.le_refl _) ?_
    exact jr_i rfl
  by_cases q8 : v = 8
  · subst q8
    refine j_tabI (off := 192) (tgt := 193) dX0_told_1 (by decide) (by decide) (by decide) (by decide) ?_
    refine j_aload_n dX0_told_193 rfl ?_
    refine j_callVi (f_isNone0 h60) dX0_told_194 pmX0_isNone q759 q761 qs13 (by first | rfl | assumption) rfl rfl rfl ⟨Nat.le_of_ble_eq_true rfl, Nat.le_of_ble_eq_true rfl⟩ ⟨Nat.le_of_ble_eq_true rfl, Nat.le_of_ble_eq_true rfl⟩ rfl (Nat.le_of_ble_eq_true rfl) ?_
    refine j_if_eq (tgt := 204) dX0_told_197 (by decide) (fun c197 => absurd c197 (by decide)) (fun c197 => ?_)
    refine j_iconst (v := 0) dX0_told_200 (by decide) ?_
    refine j_goto (tgt := 221) dX0_told_201 (by decide) ?_
    refine j_iret dX0_told_221 rfl rfl (Nat.le_refl _) (Nat.le_refl _) ?_
    exact jr_i rfl
  by_cases q9 : v = 9
  · subst q9
    refine j_tabI (off := 221) (tgt := 222) dX0_told_1 (by decide) (by decide) (by decide) (by decide) ?_
    refine j_aload_n dX0_told_222 rfl ?_
    refine j_get 1 dX0_told_223 (by first | rfl | assumption) in_X0 rfl (by decide) q154 rfl ?_
    refine j_getN 0 dX0_told_226 (by first | rfl | assumption) in_X2 rfl (by decide) (fun _ hs => hs.1 _ qn125) rfl ?_
    refine j_iconst (v := 2) dX0_told_229 (by decide) ?_
    refine j_irem dX0_told_230 (by decide) ?_
    refine j_eqi (nI_r2 (by omega)) ?_
    refine j_iret dX0_told_231 rfl rfl (Nat.le_refl _) (Nat.le_refl _) ?_
    exact jr_i rfl
  by_cases q10 : v = 10
  · subst q10
    refine j_tabI (off := 231) (tgt := 232) dX0_told_1 (by decide) (by decide) (by decide) (by decide) ?_
    refine j_aload_n dX0_told_232 rfl ?_
    refine j_get 1 dX0_told_233 (by first | rfl | assumption) in_X0 rfl (by decide) q154 rfl ?_
    refine j_getN 1 dX0_told_236 (by first | rfl | assumption) in_X2 rfl (by decide) (fun _ hs => hs.1 _ qn127) rfl ?_
    refine j_iret dX0_told_239 rfl rfl (Nat.le_refl _) (Nat.le_refl _) ?_
    exact jr_i rfl
  by_cases q11 : v = 11
  · subst q11
    refine j_tabI (off := 239) (tgt := 240) dX0_told_1 (by decide) (by decide) (by decide) (by decide) ?_
    refine j_aload_n dX0_told_240 rfl ?_
    refine j_get 1 dX0_told_241 (by first | rfl | assumption) in_X0 rfl (by decide) q154 rfl ?_
    refine j_getN 3 dX0_told_244 (by first | rfl | assumption) in_X2 rfl (by decide) (fun _ hs => hs.1 _ qn131) rfl ?_
    refine j_iret dX0_told_247 rfl rfl (Nat.le_refl _) (Nat.le_refl _) ?_
    exact jr_i rfl
  by_cases q12 : v = 12
  · subst q12
    refine j_tabI (off := 247) (tgt := 248) dX0_told_1 (by decide) (by decide) (by decide) (by decide) ?_
    refine j_aload_n dX0_told_248 rfl ?_
    refine j_get 4 dX0_told_249 (by first | rfl | assumption) in_X0 rfl (by decide) q157 rfl ?_
    refine j_iret dX0_told_252 rfl rfl (Nat.le_refl _) (Nat.le_refl _) ?_
    exact jr_i rfl
  have ho : v.toInt < 0 ∨ ((12 : Nat) : Int) < v.toInt := sw_out (by decide) (fun k hk e => by
    match k, hk, e with
    | 0, _, e => exact q0 e
    | 1, _, e => exact q1 e
    | 2, _, e => exact q2 e
    | 3, _, e => exact q3 e
    | 4, _, e => exact q4 e
    | 5, _, e => exact q5 e
    | 6, _, e => exact q6 e
    | 7, _, e => exact q7 e
    | 8, _, e => exact q8 e
    | 9, _, e => exact q9 e
    | 10, _, e => exact q10 e
    | 11, _, e => exact q11 e
    | 12, _, e => exact q12 e
    | k + 13, hk, _ => omega)
  refine j_tabO (tgt := 253) dX0_told_1 ho (by decide) ?_
  refine j_ldc dX0_told_253 q223 ?_
  refine j_iret dX0_told_255 rfl rfl (Nat.le_refl _) (Nat.le_refl _) ?_
  exact jr_i (swI_out ho).symm
theorem in_nI {v : Int32} {n : Nat} (hn : n < 2 ^ 31) (h : 0 ≤ v ∧ v ≤ nI n - 1) : ∃ k : Nat, k < n ∧ v = nI k := by
  obtain ⟨h1, h2⟩ := h
  rcases Nat.eq_zero_or_pos n with rfl | hp
  · exfalso
    rw [Int32.le_iff_toInt_le] at h1 h2
    simp only [Int32.toInt_zero] at h1
    have : (nI 0 - 1).toInt = -1 := by decide
    omega
  · rw [show nI n - 1 = nI (n - 1) from pk_sub (b := 1) hp] at h2
    rw [Int32.le_iff_toInt_le] at h1 h2
    simp only [Int32.toInt_zero] at h1
    rw [nI_toInt (by omega)] at h2
    refine ⟨v.toInt.toNat, by omega, Int32.toInt_inj.mp ?_⟩
    rw [nI_toInt (by omega)]
    omega
theorem nI_inr {k n : Nat} (hk : k < n) (hn : n < 2 ^ 31) : 0 ≤ nI k ∧ nI k ≤ nI n - 1 := by
  refine ⟨nI_pos' (by omega), ?_⟩
  rw [show nI n - 1 = nI (n - 1) from pk_sub (b := 1) (by omega)]
  exact nI_le (by omega) (by omega)
def keyV (q : KY) (what : Int32) : Int32 := if what = 0 then nI q.1 else if what = 1 then nI q.2.1 else if what = 2 then kNum q else if what = 3 then kOth q else -1000000002
/-- a key's cost field, whatever its kind -/
theorem kcost {a : Nat} {q : KY} : ∃ (ci : Nat) (rest : List Value), kcell a q = .inr (ci, .ref a :: .int (nI q.2.1) :: rest) ∧ (ci = 8 ∨ ci = 12 ∨ ci = 9 ∨ ci = 10 ∨ ci = 11 ∨ ci = 13) := by
  unfold kcell
  split
  · exact ⟨_, _, rfl, by simp⟩
  split
  · exact ⟨_, _, rfl, by simp⟩
  split
  · exact ⟨_, _, rfl, by simp⟩
  split
  · exact ⟨_, _, rfl, by simp⟩
  split
  · exact ⟨_, _, rfl, by simp⟩
  · exact ⟨_, _, rfl, by simp⟩
set_option maxHeartbeats 4000000 in
theorem j_kcost {l : Launch} {D : va_G} {dT : Nat → ClassId} {H0 : Heap} {cc : ByteArray} {nL : Nat} {ret : Option FieldType} {nm : String} {R : Room} {xt : Code → Prop} {Q : j_Q} {mc ms cells slots : Nat} {r : Nat → Nat} {h : j_H} {nx pc : Nat} {L : List (Option Value)} {st : List Value} {ik a : Nat} {q : KY} (hd : decode cc pc = .ok (.getfield 173, 3)) (hk : h ik = some (kcell a q)) (k : J (gG l D dT H0) (cc, "FewKeys", nL, ret, nm, R, xt) Q mc ms cells slots r h nx (pc + 3) L (.int (nI q.2.1) :: st)) : J (gG l D dT H0) (cc, "FewKeys", nL, ret, nm, R, xt) Q mc ms cells slots r h nx pc L (.ref (r ik) :: st) := by
  obtain ⟨ci, rest, e, hc⟩ := kcost (a := a) (q := q)
  rw [e] at hk
  rcases hc with rfl | rfl | rfl | rfl | rfl | rfl
  · exact j_get 1 hd hk in_X8 rfl (by decide) q673 rfl k
  · exact j_get 1 hd hk in_X12 rfl (by decide) q673 rfl k
  · exact j_get 1 hd hk in_X9 rfl (by decide) q673 rfl k
  · exact j_get 1 hd hk in_X10 rfl (by decide) q673 rfl k
  · exact j_get 1 hd hk in_X11 rfl (by decide) q673 rfl k
  · exact j_get 1 hd hk in_X13 rfl (by decide) q673 rfl k
set_option maxHeartbeats 4000000 in
theorem f_key1 {l : Launch} {D : va_G} {dT : Nat → ClassId} {H0 : Heap} {r : Nat → Nat} {nx : Nat} {g : j_H} {F : Nat → Nat} {V : Nat → Nat → Int32} {d0 : Value} {nk : Nat} (h60 : g 60 = some (rcell d0 (r 62) nk)) {kd bs fg m : Nat} {ks : Nat → KY} (hK : fkK r dT g kd bs fg m nk ks) (k : Nat) (hk : k < nk) (w : Int32) : MC (gG l D dT H0) yX0_key cX0_key 4 (some .int) 4 0 0 [.ref (r 0), .int (nI k), .int w] r (fkS r dT g F V) nx (jq_i (keyV (ks k) w) r (fkS r dT g F V) nx) := by
  obtain ⟨h61, hD, hkn, ka, h62, hks⟩ := id hK
  have hm := hD.pos
  have hm2 := hD.le
  have hkc := (hks k hk).2.1
  refine MC.ofJ [some (.ref (r 0)), some (.int (nI k)), some (.int w), none] rfl (Nat.le_of_ble_eq_true rfl) (by decide) ?_
  refine j_aload_n dX0_key_0 rfl ?_
  refine j_iload_n dX0_key_1 rfl ?_
  refine j_callVi (f_isKey h60 _) dX0_key_2 pmX0_isKey q791 q793 qs15 (by first | rfl | assumption) rfl rfl rfl ⟨Nat.le_of_ble_eq_true rfl, Nat.le_of_ble_eq_true rfl⟩ ⟨Nat.le_of_ble_eq_true rfl, Nat.le_of_ble_eq_true rfl⟩ rfl (Nat.le_of_ble_eq_true rfl) ?_
  refine j_ifb_ne (tgt := 11) dX0_key_5 (by decide) (fun c5 => ?_) (fun c5 => absurd (nI_inr hk (by omega)) c5)
  refine j_aload_n dX0_key_11 rfl ?_
  refine j_get 0 dX0_key_12 (by first | rfl | assumption) in_X0 rfl (by decide) q153 rfl ?_
  refine j_getN 1 dX0_key_15 (by first | rfl | assumption) in_X1 rfl (by decide) (fun _ hs => hs.1 _ qn107) rfl ?_
  refine j_iload_n dX0_key_18 rfl ?_
  refine j_aald (w := .ref (r (k + 63))) 4 _ dX0_key_19 (by first | rfl | assumption) rfl rfl rfl (by omega) (by decide) (by rw [(hks _ hk).1]; rfl) ?_
  refine j_astore_n dX0_key_20 (by decide) rfl ?_
  refine j_iload_n dX0_key_21 rfl ?_
  refine j_if_ne (tgt := 32) dX0_key_22 (by decide) (fun c22 => ?_) (fun c22 => ?_)
  · skip
    refine j_iload_n dX0_key_32 rfl ?_
    refine j_iconst (v := 1) dX0_key_33 (by decide) ?_
    refine j_icmp_ne (tgt := 44) dX0_key_34 (by decide) (fun c34 => ?_) (fun c34 => ?_)
    · skip
      refine j_iload_n dX0_key_44 rfl ?_
      refine j_iconst (v := 2) dX0_key_45 (by decide) ?_
      refine j_icmp_ne (tgt := 56) dX0_key_46 (by decide) (fun c46 => ?_) (fun c46 => ?_)
      · skip
        refine j_iload_n dX0_key_56 rfl ?_
        refine j_iconst (v := 3) dX0_key_57 (by decide) ?_
        refine j_icmp_ne (tgt := 68) dX0_key_58 (by decide) (fun c58 => ?_) (fun c58 => ?_)
        · skip
          refine j_ldc dX0_key_68 q223 ?_
          refine j_iret dX0_key_70 rfl rfl (Nat.le_refl _) (Nat.le_refl _) ?_
          refine jr_i ?_
          unfold keyV
          simp [*]
        · skip
          refine j_aload_n dX0_key_61 rfl ?_
          refine j_other (i := 61) (q := ks k) dX0_key_62 (by exact hkc) ⟨Nat.le_of_ble_eq_true rfl, Nat.le_of_ble_eq_true rfl, Nat.le_of_ble_eq_true rfl, Nat.le_of_ble_eq_true rfl⟩ (Nat.le_of_ble_eq_true rfl) ?_
          refine j_goto (tgt := 70) dX0_key_65 (by decide) ?_
          refine j_iret dX0_key_70 rfl rfl (Nat.le_refl _) (Nat.le_refl _) ?_
          refine jr_i ?_
          unfold keyV
          simp [*]
      · skip
        refine j_aload_n dX0_key_49 rfl ?_
        refine j_number (i := 61) (q := ks k) dX0_key_50 (by exact hkc) ⟨Nat.le_of_ble_eq_true rfl, Nat.le_of_ble_eq_true rfl, Nat.le_of_ble_eq_true rfl, Nat.le_of_ble_eq_true rfl⟩ (Nat.le_of_ble_eq_true rfl) ?_
        refine j_goto (tgt := 70) dX0_key_53 (by decide) ?_
        refine j_iret dX0_key_70 rfl rfl (Nat.le_refl _) (Nat.le_refl _) ?_
        refine jr_i ?_
        unfold keyV
        simp [*]
    · skip
      refine j_aload_n dX0_key_37 rfl ?_
      refine j_kcost (q := ks k) dX0_key_38 (by exact hkc) ?_
      refine j_goto (tgt := 70) dX0_key_41 (by decide) ?_
      refine j_iret dX0_key_70 rfl rfl (Nat.le_refl _) (Nat.le_refl _) ?_
      refine jr_i ?_
      unfold keyV
      simp [*]
  · skip
    refine j_aload_n dX0_key_25 rfl ?_
    refine j_kind (i := 61) (q := ks k) dX0_key_26 (by exact hkc) ⟨Nat.le_of_ble_eq_true rfl, Nat.le_of_ble_eq_true rfl, Nat.le_of_ble_eq_true rfl, Nat.le_of_ble_eq_true rfl⟩ (Nat.le_of_ble_eq_true rfl) ?_
    refine j_goto (tgt := 70) dX0_key_29 (by decide) ?_
    refine j_iret dX0_key_70 rfl rfl (Nat.le_refl _) (Nat.le_refl _) ?_
    refine jr_i ?_
    unfold keyV
    simp [*]
set_option maxHeartbeats 4000000 in
theorem f_key0 {l : Launch} {D : va_G} {dT : Nat → ClassId} {H0 : Heap} {r : Nat → Nat} {nx : Nat} {g : j_H} {F : Nat → Nat} {V : Nat → Nat → Int32} {d0 : Value} {a nk : Nat} (h60 : g 60 = some (rcell d0 a nk)) (v w : Int32) (hv : ¬ (0 ≤ v ∧ v ≤ nI nk - 1)) : MC (gG l D dT H0) yX0_key cX0_key 4 (some .int) 4 0 0 [.ref (r 0), .int v, .int w] r (fkS r dT g F V) nx (jq_i (-1000000001) r (fkS r dT g F V) nx) := by
  refine MC.ofJ [some (.ref (r 0)), some (.int v), some (.int w), none] rfl (Nat.le_of_ble_eq_true rfl) (by decide) ?_
  refine j_aload_n dX0_key_0 rfl ?_
  refine j_iload_n dX0_key_1 rfl ?_
  refine j_callVi (f_isKey h60 _) dX0_key_2 pmX0_isKey q791 q793 qs15 (by first | rfl | assumption) rfl rfl rfl ⟨Nat.le_of_ble_eq_true rfl, Nat.le_of_ble_eq_true rfl⟩ ⟨Nat.le_of_ble_eq_true rfl, Nat.le_of_ble_eq_true rfl⟩ rfl (Nat.le_of_ble_eq_true rfl) ?_
  refine j_ifb_ne (tgt := 11) dX0_key_5 (by decide) (fun c5 => absurd c5 hv) (fun c5 => ?_)
  refine j_ldc dX0_key_8 q795 ?_
  refine j_iret dX0_key_10 rfl rfl (Nat.le_refl _) (Nat.le_refl _) ?_
  exact jr_i rfl
set_option maxHeartbeats 4000000 in
theorem f_strikeNow {l : Launch} {D : va_G} {dT : Nat → ClassId} {H0 : Heap} {r : Nat → Nat} {nx : Nat} {g : j_H} {F : Nat → Nat} {V : Nat → Nat → Int32} {d0 : Value} {nk : Nat} (h60 : g 60 = some (rcell d0 (r 62) nk)) {kd bs fg m : Nat} {ks : Nat → KY} (hK : fkK r dT g kd bs fg m nk ks) (k : Nat) (hk : k < nk) (hs : F 0 < 8 * m * m) : MC (gG l D dT H0) yX0_strikeNow cX0_strikeNow 2 none 4 0 0 [.ref (r 0), .int (nI k)] r (fkS r dT g F V) nx (jq_v r (fkS r dT g (va_up (va_up F 0 (strk kd bs m (ks k) (F 0))) 1 (F 1 + (ks k).2.1)) V) nx) := by
  obtain ⟨h61, hD, hkn, ka, h62, hks⟩ := id hK
  have hm := hD.pos
  have hm2 := hD.le
  have hkc := (hks k hk).2.1
  refine MC.ofJ [some (.ref (r 0)), some (.int (nI k))] rfl (Nat.le_of_ble_eq_true rfl) (by decide) ?_
  refine j_aload_n dX0_strikeNow_0 rfl ?_
  refine j_get 1 dX0_strikeNow_1 (by first | rfl | assumption) in_X0 rfl (by decide) q154 rfl ?_
  refine j_aload_n dX0_strikeNow_4 rfl ?_
  refine j_get 0 dX0_strikeNow_5 (by first | rfl | assumption) in_X0 rfl (by decide) q153 rfl ?_
  refine j_getN 1 dX0_strikeNow_8 (by first | rfl | assumption) in_X1 rfl (by decide) (fun _ hs => hs.1 _ qn107) rfl ?_
  refine j_iload_n dX0_strikeNow_11 rfl ?_
  refine j_aald (w := .ref (r (k + 63))) 4 _ dX0_strikeNow_12 (by first | rfl | assumption) rfl rfl rfl (by omega) (by decide) (by rw [(hks _ hk).1]; rfl) ?_
  refine j_aload_n dX0_strikeNow_13 rfl ?_
  refine j_get 1 dX0_strikeNow_14 (by first | rfl | assumption) in_X0 rfl (by decide) q154 rfl ?_
  refine j_getN 0 dX0_strikeNow_17 (by first | rfl | assumption) in_X2 rfl (by decide) (fun _ hs => hs.1 _ qn125) rfl ?_
  refine j_strike (i := 61) (q := ks k) dX0_strikeNow_20 (by exact hkc) (by exact h61) hD (hks k hk).2.2 hs ⟨Nat.le_of_ble_eq_true rfl, Nat.le_of_ble_eq_true rfl, Nat.le_of_ble_eq_true rfl, Nat.le_of_ble_eq_true rfl⟩ (Nat.le_of_ble_eq_true rfl) ?_
  refine j_putN 0 dX0_strikeNow_23 (by first | rfl | assumption) in_X2 tyX2_ok nmX2 rfl (by decide) (fun _ hs => hs.1 _ qn125) rfl rfl rfl (by first | decide | simp) ?_
  refine j_fkF (F' := va_up F 0 (strk kd bs m (ks k) (F 0))) (by decide) fo0 rfl ?_
  refine j_aload_n dX0_strikeNow_26 rfl ?_
  refine j_get 1 dX0_strikeNow_27 (by first | rfl | assumption) in_X0 rfl (by decide) q154 rfl ?_
  refine j_dup dX0_strikeNow_30 rfl ?_
  refine j_getN 1 dX0_strikeNow_31 (by first | rfl | assumption) in_X2 rfl (by decide) (fun _ hs => hs.1 _ qn127) rfl ?_
  refine j_aload_n dX0_strikeNow_34 rfl ?_
  refine j_get 0 dX0_strikeNow_35 (by first | rfl | assumption) in_X0 rfl (by decide) q153 rfl ?_
  refine j_getN 1 dX0_strikeNow_38 (by first | rfl | assumption) in_X1 rfl (by decide) (fun _ hs => hs.1 _ qn107) rfl ?_
  refine j_iload_n dX0_strikeNow_41 rfl ?_
  refine j_aald (w := .ref (r (k + 63))) 4 _ dX0_strikeNow_42 (by first | rfl | assumption) rfl rfl rfl (by omega) (by decide) (by rw [(hks _ hk).1]; rfl) ?_
  refine j_kcost (q := ks k) dX0_strikeNow_43 (by exact hkc) ?_
  refine j_iadd dX0_strikeNow_46 ?_
  refine j_eqi (nI_add _ _) ?_
  refine j_putN 1 dX0_strikeNow_47 (by first | rfl | assumption) in_X2 tyX2_ok nmX2 rfl (by decide) (fun _ hs => hs.1 _ qn127) rfl rfl rfl (by first | decide | simp) ?_
  refine j_fkF (F' := va_up (va_up F 0 (strk kd bs m (ks k) (F 0))) 1 (F 1 + (ks k).2.1)) (by decide) fo1 rfl ?_
  refine j_vret dX0_strikeNow_50 rfl (Nat.le_refl _) (Nat.le_refl _) ?_
  exact jr_v rfl
set_option maxHeartbeats 4000000 in
theorem f_strike1 {l : Launch} {D : va_G} {dT : Nat → ClassId} {H0 : Heap} {r : Nat → Nat} {nx : Nat} {g : j_H} {F : Nat → Nat} {V : Nat → Nat → Int32} {nk : Nat} (h60 : g 60 = some (rcell (.ref (r 61)) (r 62) nk)) {kd bs fg m : Nat} {ks : Nat → KY} (hK : fkK r dT g kd bs fg m nk ks) (k : Nat) (hk : k < nk) (hs : F 0 < 8 * m * m) : MC (gG l D dT H0) yX0_strike cX0_strike 2 (some .int) 5 0 0 [.ref (r 0), .int (nI k)] r (fkS r dT g F V) nx (jq_i (nI (sS m (strk kd bs m (ks k) (F 0)))) r (fkS r dT g (va_up (va_up F 0 (strk kd bs m (ks k) (F 0))) 1 (F 1 + (ks k).2.1)) V) nx) := by
  obtain ⟨h61, hD, hkn, ka, h62, hks⟩ := id hK
  have hm := hD.pos
  have hm2 := hD.le
  have hl := strk_lt hD (hks k hk).2.2 hs
  refine MC.ofJ [some (.ref (r 0)), some (.int (nI k))] rfl (Nat.le_of_ble_eq_true rfl) (by decide) ?_
  refine j_aload_n dX0_strike_0 rfl ?_
  refine j_iload_n dX0_strike_1 rfl ?_
  refine j_callVi (f_isKey h60 _) dX0_strike_2 pmX0_isKey q791 q793 qs15 (by first | rfl | assumption) rfl rfl rfl ⟨Nat.le_of_ble_eq_true rfl, Nat.le_of_ble_eq_true rfl⟩ ⟨Nat.le_of_ble_eq_true rfl, Nat.le_of_ble_eq_true rfl⟩ rfl (Nat.le_of_ble_eq_true rfl) ?_
  refine j_ifb_ne (tgt := 11) dX0_strike_5 (by decide) (fun c5 => ?_) (fun c5 => absurd (nI_inr hk (by omega)) c5)
  refine j_aload_n dX0_strike_11 rfl ?_
  refine j_iload_n dX0_strike_12 rfl ?_
  refine j_callVv (f_strikeNow h60 hK k hk hs) dX0_strike_13 pmX0_strikeNow q849 q851 qs16 (by first | rfl | assumption) rfl rfl rfl ⟨Nat.le_of_ble_eq_true rfl, Nat.le_of_ble_eq_true rfl⟩ ⟨Nat.le_of_ble_eq_true rfl, Nat.le_of_ble_eq_true rfl⟩ rfl (Nat.le_of_ble_eq_true rfl) ?_
  refine j_aload_n dX0_strike_16 rfl ?_
  refine j_aload_n dX0_strike_17 rfl ?_
  refine j_get 1 dX0_strike_18 (by first | rfl | assumption) in_X0 rfl (by decide) q154 rfl ?_
  refine j_getN 0 dX0_strike_21 (by first | rfl | assumption) in_X2 rfl (by decide) (fun _ hs => hs.1 _ qn125) rfl ?_
  refine j_callVi (f_shown1 h60 h61 hm hm2 (strk kd bs m (ks k) (F 0)) (Nat.lt_of_lt_of_le hl (mm_le hm2))) dX0_strike_24 pmX0_shown q771 q773 qs14 (by first | rfl | assumption) rfl rfl rfl ⟨Nat.le_of_ble_eq_true rfl, Nat.le_of_ble_eq_true rfl⟩ ⟨Nat.le_of_ble_eq_true rfl, Nat.le_of_ble_eq_true rfl⟩ rfl (Nat.le_of_ble_eq_true rfl) ?_
  refine j_iret dX0_strike_27 rfl rfl (Nat.le_refl _) (Nat.le_refl _) ?_
  exact jr_i rfl
set_option maxHeartbeats 4000000 in
theorem f_strike0 {l : Launch} {D : va_G} {dT : Nat → ClassId} {H0 : Heap} {r : Nat → Nat} {nx : Nat} {g : j_H} {F : Nat → Nat} {V : Nat → Nat → Int32} {d0 : Value} {a nk : Nat} (h60 : g 60 = some (rcell d0 a nk)) (v : Int32) (hv : ¬ (0 ≤ v ∧ v ≤ nI nk - 1)) : MC (gG l D dT H0) yX0_strike cX0_strike 2 (some .int) 5 0 0 [.ref (r 0), .int v] r (fkS r dT g F V) nx (jq_i (-1000000001) r (fkS r dT g F V) nx) := by
  refine MC.ofJ [some (.ref (r 0)), some (.int v)] rfl (Nat.le_of_ble_eq_true rfl) (by decide) ?_
  refine j_aload_n dX0_strike_0 rfl ?_
  refine j_iload_n dX0_strike_1 rfl ?_
  refine j_callVi (f_isKey h60 _) dX0_strike_2 pmX0_isKey q791 q793 qs15 (by first | rfl | assumption) rfl rfl rfl ⟨Nat.le_of_ble_eq_true rfl, Nat.le_of_ble_eq_true rfl⟩ ⟨Nat.le_of_ble_eq_true rfl, Nat.le_of_ble_eq_true rfl⟩ rfl (Nat.le_of_ble_eq_true rfl) ?_
  refine j_ifb_ne (tgt := 11) dX0_strike_5 (by decide) (fun c5 => absurd c5 hv) (fun c5 => ?_)
  refine j_ldc dX0_strike_8 q795 ?_
  refine j_iret dX0_strike_10 rfl rfl (Nat.le_refl _) (Nat.le_refl _) ?_
  exact jr_i rfl
set_option maxHeartbeats 4000000 in
theorem f_target1o {l : Launch} {D : va_G} {dT : Nat → ClassId} {H0 : Heap} {r : Nat → Nat} {nx : Nat} {g : j_H} {F : Nat → Nat} {V : Nat → Nat → Int32} {a nk : Nat} (h60 : g 60 = some (rcell (.ref (r 61)) a nk)) {kd bs fg m : Nat} (h61 : g 61 = some (dcell kd bs fg m)) (hm : 0 < m) (hm2 : m ≤ 100) (v : Int32) (hv : ¬ (0 ≤ v ∧ v ≤ nI m - 1)) : MC (gG l D dT H0) yX0_target cX0_target 2 (some .int) 3 0 0 [.ref (r 0), .int v] r (fkS r dT g F V) nx (jq_i (-1000000002) r (fkS r dT g F V) nx) := by
  refine MC.ofJ [some (.ref (r 0)), some (.int v)] rfl (Nat.le_of_ble_eq_true rfl) (by decide) ?_
  refine j_aload_n dX0_target_0 rfl ?_
  refine j_iload_n dX0_target_1 rfl ?_
  refine j_callVi (f_isNumber1 h60 h61 hm hm2 _) dX0_target_2 pmX0_isNumber q920 q922 qs17 (by first | rfl | assumption) rfl rfl rfl ⟨Nat.le_of_ble_eq_true rfl, Nat.le_of_ble_eq_true rfl⟩ ⟨Nat.le_of_ble_eq_true rfl, Nat.le_of_ble_eq_true rfl⟩ rfl (Nat.le_of_ble_eq_true rfl) ?_
  refine j_ifb_ne (tgt := 11) dX0_target_5 (by decide) (fun c5 => absurd c5 hv) (fun c5 => ?_)
  refine j_ldc dX0_target_8 q223 ?_
  refine j_iret dX0_target_10 rfl rfl (Nat.le_refl _) (Nat.le_refl _) ?_
  exact jr_i rfl
set_option maxHeartbeats 4000000 in
theorem f_target0o {l : Launch} {D : va_G} {dT : Nat → ClassId} {H0 : Heap} {r : Nat → Nat} {nx : Nat} {g : j_H} {F : Nat → Nat} {V : Nat → Nat → Int32} {a nk : Nat} (h60 : g 60 = some (rcell .null a nk)) (v : Int32) (hv : ¬ (0 ≤ v ∧ v ≤ nI 0 - 1)) : MC (gG l D dT H0) yX0_target cX0_target 2 (some .int) 3 0 0 [.ref (r 0), .int v] r (fkS r dT g F V) nx (jq_i (-1000000002) r (fkS r dT g F V) nx) := by
  refine MC.ofJ [some (.ref (r 0)), some (.int v)] rfl (Nat.le_of_ble_eq_true rfl) (by decide) ?_
  refine j_aload_n dX0_target_0 rfl ?_
  refine j_iload_n dX0_target_1 rfl ?_
  refine j_callVi (f_isNumber0 h60 _) dX0_target_2 pmX0_isNumber q920 q922 qs17 (by first | rfl | assumption) rfl rfl rfl ⟨Nat.le_of_ble_eq_true rfl, Nat.le_of_ble_eq_true rfl⟩ ⟨Nat.le_of_ble_eq_true rfl, Nat.le_of_ble_eq_true rfl⟩ rfl (Nat.le_of_ble_eq_true rfl) ?_
  refine j_ifb_ne (tgt := 11) dX0_target_5 (by decide) (fun c5 => absurd c5 hv) (fun c5 => ?_)
  refine j_ldc dX0_target_8 q223 ?_
  refine j_iret dX0_target_10 rfl rfl (Nat.le_refl _) (Nat.le_refl _) ?_
  exact jr_i rfl
set_option maxHeartbeats 4000000 in
theorem f_target1f {l : Launch} {D : va_G} {dT : Nat → ClassId} {H0 : Heap} {r : Nat → Nat} {nx : Nat} {g : j_H} {F : Nat → Nat} {V : Nat → Nat → Int32} {a nk : Nat} (h60 : g 60 = some (rcell (.ref (r 61)) a nk)) {kd bs fg m : Nat} (h61 : g 61 = some (dcell kd bs fg m)) (hm : 0 < m) (hm2 : m ≤ 100) (v : Int32) (hv : 0 ≤ v ∧ v ≤ nI m - 1) (hf : F 2 = 6) : MC (gG l D dT H0) yX0_target cX0_target 2 (some .int) 3 0 0 [.ref (r 0), .int v] r (fkS r dT g F V) nx (jq_i (-1000000004) r (fkS r dT g F V) nx) := by
  refine MC.ofJ [some (.ref (r 0)), some (.int v)] rfl (Nat.le_of_ble_eq_true rfl) (by decide) ?_
  refine j_aload_n dX0_target_0 rfl ?_
  refine j_iload_n dX0_target_1 rfl ?_
  refine j_callVi (f_isNumber1 h60 h61 hm hm2 _) dX0_target_2 pmX0_isNumber q920 q922 qs17 (by first | rfl | assumption) rfl rfl rfl ⟨Nat.le_of_ble_eq_true rfl, Nat.le_of_ble_eq_true rfl⟩ ⟨Nat.le_of_ble_eq_true rfl, Nat.le_of_ble_eq_true rfl⟩ rfl (Nat.le_of_ble_eq_true rfl) ?_
  refine j_ifb_ne (tgt := 11) dX0_target_5 (by decide) (fun c5 => ?_) (fun c5 => absurd hv c5)
  refine j_aload_n dX0_target_11 rfl ?_
  refine j_get 1 dX0_target_12 (by first | rfl | assumption) in_X0 rfl (by decide) q154 rfl ?_
  refine j_getN 3 dX0_target_15 (by first | rfl | assumption) in_X2 rfl (by decide) (fun _ hs => hs.1 _ qn131) rfl ?_
  refine j_bipush (v := 6) dX0_target_18 (by decide) ?_
  refine j_icmp_ne (tgt := 26) dX0_target_20 (by decide) (fun c20 => absurd (by rw [hf]; decide) c20) (fun c20 => ?_)
  refine j_ldc dX0_target_23 q224 ?_
  refine j_iret dX0_target_25 rfl rfl (Nat.le_refl _) (Nat.le_refl _) ?_
  exact jr_i rfl
set_option maxHeartbeats 4000000 in
theorem f_target1 {l : Launch} {D : va_G} {dT : Nat → ClassId} {H0 : Heap} {r : Nat → Nat} {nx : Nat} {g : j_H} {F : Nat → Nat} {V : Nat → Nat → Int32} {a nk : Nat} (h60 : g 60 = some (rcell (.ref (r 61)) a nk)) {kd bs fg m : Nat} (h61 : g 61 = some (dcell kd bs fg m)) (hm : 0 < m) (hm2 : m ≤ 100) (v : Int32) (hv : 0 ≤ v ∧ v ≤ nI m - 1) (hf : F 2 < 6) : MC (gG l D dT H0) yX0_target cX0_target 2 (some .int) 3 0 0 [.ref (r 0), .int v] r (fkS r dT g F V) nx (jq_i (nI (F 2 + 1)) r (fkS r dT g (va_up F 2 (F 2 + 1)) (va_up V 2 (upd (V 2) (F 2) v))) nx) := by
  refine MC.ofJ [some (.ref (r 0)), some (.int v)] rfl (Nat.le_of_ble_eq_true rfl) (by decide) ?_
  refine j_aload_n dX0_target_0 rfl ?_
  refine j_iload_n dX0_target_1 rfl ?_
  refine j_callVi (f_isNumber1 h60 h61 hm hm2 _) dX0_target_2 pmX0_isNumber q920 q922 qs17 (by first | rfl | assumption) rfl rfl rfl ⟨Nat.le_of_ble_eq_true rfl, Nat.le_of_ble_eq_true rfl⟩ ⟨Nat.le_of_ble_eq_true rfl, Nat.le_of_ble_eq_true rfl⟩ rfl (Nat.le_of_ble_eq_true rfl) ?_
  refine j_ifb_ne (tgt := 11) dX0_target_5 (by decide) (fun c5 => ?_) (fun c5 => absurd hv c5)
  refine j_aload_n dX0_target_11 rfl ?_
  refine j_get 1 dX0_target_12 (by first | rfl | assumption) in_X0 rfl (by decide) q154 rfl ?_
  refine j_getN 3 dX0_target_15 (by first | rfl | assumption) in_X2 rfl (by decide) (fun _ hs => hs.1 _ qn131) rfl ?_
  refine j_bipush (v := 6) dX0_target_18 (by decide) ?_
  refine j_icmp_ne (tgt := 26) dX0_target_20 (by decide) (fun c20 => ?_) (fun c20 => absurd c20 (fun q => by have := (nI_eq (by omega) (by decide)).mp (show nI (F 2) = nI 6 from q); omega))
  refine j_aload_n dX0_target_26 rfl ?_
  refine j_get 1 dX0_target_27 (by first | rfl | assumption) in_X0 rfl (by decide) q154 rfl ?_
  refine j_getN 2 dX0_target_30 (by first | rfl | assumption) in_X2 rfl (by decide) (fun _ hs => hs.1 _ qn129) rfl ?_
  refine j_aload_n dX0_target_33 rfl ?_
  refine j_get 1 dX0_target_34 (by first | rfl | assumption) in_X0 rfl (by decide) q154 rfl ?_
  refine j_getN 3 dX0_target_37 (by first | rfl | assumption) in_X2 rfl (by decide) (fun _ hs => hs.1 _ qn131) rfl ?_
  refine j_iload_n dX0_target_40 rfl ?_
  refine j_iast 0 _ dX0_target_41 (by first | rfl | assumption) rfl rfl (by first | assumption | omega) (by decide) ?_
  refine j_fkV (f := upd (V 2) (F 2) v) (by decide) rfl ?_
  refine j_aload_n dX0_target_42 rfl ?_
  refine j_get 1 dX0_target_43 (by first | rfl | assumption) in_X0 rfl (by decide) q154 rfl ?_
  refine j_dup dX0_target_46 rfl ?_
  refine j_getN 3 dX0_target_47 (by first | rfl | assumption) in_X2 rfl (by decide) (fun _ hs => hs.1 _ qn131) rfl ?_
  refine j_iconst (v := 1) dX0_target_50 (by decide) ?_
  refine j_iadd dX0_target_51 ?_
  refine j_eqi (nI_1 _) ?_
  refine j_putN 3 dX0_target_52 (by first | rfl | assumption) in_X2 tyX2_ok nmX2 rfl (by decide) (fun _ hs => hs.1 _ qn131) rfl rfl rfl (by first | decide | simp) ?_
  refine j_fkF (F' := va_up F 2 (F 2 + 1)) (by decide) fo2 rfl ?_
  refine j_aload_n dX0_target_55 rfl ?_
  refine j_get 1 dX0_target_56 (by first | rfl | assumption) in_X0 rfl (by decide) q154 rfl ?_
  refine j_getN 3 dX0_target_59 (by first | rfl | assumption) in_X2 rfl (by decide) (fun _ hs => hs.1 _ qn131) rfl ?_
  refine j_iret dX0_target_62 rfl rfl (Nat.le_refl _) (Nat.le_refl _) ?_
  exact jr_i rfl
set_option maxHeartbeats 4000000 in
theorem f_targetAt1 {l : Launch} {D : va_G} {dT : Nat → ClassId} {H0 : Heap} {r : Nat → Nat} {nx : Nat} {g : j_H} {F : Nat → Nat} {V : Nat → Nat → Int32} (k : Nat) (hk : k < F 2) (hf : F 2 ≤ 6) : MC (gG l D dT H0) yX0_targetAt cX0_targetAt 2 (some .int) 1 0 0 [.ref (r 0), .int (nI k)] r (fkS r dT g F V) nx (jq_i (V 2 k) r (fkS r dT g F V) nx) := by
  refine MC.ofJ [some (.ref (r 0)), some (.int (nI k))] rfl (Nat.le_of_ble_eq_true rfl) (by decide) ?_
  refine j_iload_n dX0_targetAt_0 rfl ?_
  refine j_iconst (v := 0) dX0_targetAt_1 (by decide) ?_
  refine j_aload_n dX0_targetAt_2 rfl ?_
  refine j_get 1 dX0_targetAt_3 (by first | rfl | assumption) in_X0 rfl (by decide) q154 rfl ?_
  refine j_getN 3 dX0_targetAt_6 (by first | rfl | assumption) in_X2 rfl (by decide) (fun _ hs => hs.1 _ qn131) rfl ?_
  refine j_iconst (v := 1) dX0_targetAt_9 (by decide) ?_
  refine j_isub dX0_targetAt_10 ?_
  refine j_callSi (c_X0_isIn _ _ _) dX0_targetAt_11 pmX0_isIn q220 q221 rfl ⟨Nat.le_of_ble_eq_true rfl, Nat.le_of_ble_eq_true rfl⟩ ⟨Nat.le_of_ble_eq_true rfl, Nat.le_of_ble_eq_true rfl⟩ rfl (Nat.le_of_ble_eq_true rfl) ?_
  refine j_ifb_eq (tgt := 29) dX0_targetAt_14 (by decide) (fun c14 => absurd (nI_inr hk (by omega)) c14) (fun c14 => ?_)
  refine j_aload_n dX0_targetAt_17 rfl ?_
  refine j_get 1 dX0_targetAt_18 (by first | rfl | assumption) in_X0 rfl (by decide) q154 rfl ?_
  refine j_getN 2 dX0_targetAt_21 (by first | rfl | assumption) in_X2 rfl (by decide) (fun _ hs => hs.1 _ qn129) rfl ?_
  refine j_iload_n dX0_targetAt_24 rfl ?_
  refine j_iald 0 _ dX0_targetAt_25 (by first | rfl | assumption) rfl rfl (by first | assumption | omega) (by decide) ?_
  refine j_goto (tgt := 31) dX0_targetAt_26 (by decide) ?_
  refine j_iret dX0_targetAt_31 rfl rfl (Nat.le_refl _) (Nat.le_refl _) ?_
  exact jr_i rfl
set_option maxHeartbeats 4000000 in
theorem f_targetAt0 {l : Launch} {D : va_G} {dT : Nat → ClassId} {H0 : Heap} {r : Nat → Nat} {nx : Nat} {g : j_H} {F : Nat → Nat} {V : Nat → Nat → Int32} (v : Int32) (hv : ¬ (0 ≤ v ∧ v ≤ nI (F 2) - 1)) : MC (gG l D dT H0) yX0_targetAt cX0_targetAt 2 (some .int) 1 0 0 [.ref (r 0), .int v] r (fkS r dT g F V) nx (jq_i (-1000000001) r (fkS r dT g F V) nx) := by
  refine MC.ofJ [some (.ref (r 0)), some (.int v)] rfl (Nat.le_of_ble_eq_true rfl) (by decide) ?_
  refine j_iload_n dX0_targetAt_0 rfl ?_
  refine j_iconst (v := 0) dX0_targetAt_1 (by decide) ?_
  refine j_aload_n dX0_targetAt_2 rfl ?_
  refine j_get 1 dX0_targetAt_3 (by first | rfl | assumption) in_X0 rfl (by decide) q154 rfl ?_
  refine j_getN 3 dX0_targetAt_6 (by first | rfl | assumption) in_X2 rfl (by decide) (fun _ hs => hs.1 _ qn131) rfl ?_
  refine j_iconst (v := 1) dX0_targetAt_9 (by decide) ?_
  refine j_isub dX0_targetAt_10 ?_
  refine j_callSi (c_X0_isIn _ _ _) dX0_targetAt_11 pmX0_isIn q220 q221 rfl ⟨Nat.le_of_ble_eq_true rfl, Nat.le_of_ble_eq_true rfl⟩ ⟨Nat.le_of_ble_eq_true rfl, Nat.le_of_ble_eq_true rfl⟩ rfl (Nat.le_of_ble_eq_true rfl) ?_
  refine j_ifb_eq (tgt := 29) dX0_targetAt_14 (by decide) (fun c14 => ?_) (fun c14 => absurd c14 hv)
  refine j_ldc dX0_targetAt_29 q795 ?_
  refine j_iret dX0_targetAt_31 rfl rfl (Nat.le_refl _) (Nat.le_refl _) ?_
  exact jr_i rfl
set_option maxHeartbeats 4000000 in
theorem f_write0 {l : Launch} {D : va_G} {dT : Nat → ClassId} {H0 : Heap} {r : Nat → Nat} {nx : Nat} {g : j_H} {F : Nat → Nat} {V : Nat → Nat → Int32} {d0 : Value} {a nk : Nat} (h60 : g 60 = some (rcell d0 a nk)) (v w : Int32) (hv : ¬ (0 ≤ v ∧ v ≤ nI nk - 1)) : MC (gG l D dT H0) yX0_write cX0_write 3 (some .int) 3 0 0 [.ref (r 0), .int v, .int w] r (fkS r dT g F V) nx (jq_i (-1000000001) r (fkS r dT g F V) nx) := by
  refine MC.ofJ [some (.ref (r 0)), some (.int v), some (.int w)] rfl (Nat.le_of_ble_eq_true rfl) (by decide) ?_
  refine j_aload_n dX0_write_0 rfl ?_
  refine j_iload_n dX0_write_1 rfl ?_
  refine j_callVi (f_isKey h60 _) dX0_write_2 pmX0_isKey q791 q793 qs15 (by first | rfl | assumption) rfl rfl rfl ⟨Nat.le_of_ble_eq_true rfl, Nat.le_of_ble_eq_true rfl⟩ ⟨Nat.le_of_ble_eq_true rfl, Nat.le_of_ble_eq_true rfl⟩ rfl (Nat.le_of_ble_eq_true rfl) ?_
  refine j_ifb_ne (tgt := 11) dX0_write_5 (by decide) (fun c5 => absurd c5 hv) (fun c5 => ?_)
  refine j_ldc dX0_write_8 q795 ?_
  refine j_iret dX0_write_10 rfl rfl (Nat.le_refl _) (Nat.le_refl _) ?_
  exact jr_i rfl
set_option maxHeartbeats 4000000 in
theorem f_writeo {l : Launch} {D : va_G} {dT : Nat → ClassId} {H0 : Heap} {r : Nat → Nat} {nx : Nat} {g : j_H} {F : Nat → Nat} {V : Nat → Nat → Int32} {a nk : Nat} (h60 : g 60 = some (rcell (.ref (r 61)) a nk)) {kd bs fg m : Nat} (h61 : g 61 = some (dcell kd bs fg m)) (hm : 0 < m) (hm2 : m ≤ 100) (v w : Int32) (hv : 0 ≤ v ∧ v ≤ nI nk - 1) (hw : ¬ (0 ≤ w ∧ w ≤ nI m - 1)) : MC (gG l D dT H0) yX0_write cX0_write 3 (some .int) 3 0 0 [.ref (r 0), .int v, .int w] r (fkS r dT g F V) nx (jq_i (-1000000002) r (fkS r dT g F V) nx) := by
  refine MC.ofJ [some (.ref (r 0)), some (.int v), some (.int w)] rfl (Nat.le_of_ble_eq_true rfl) (by decide) ?_
  refine j_aload_n dX0_write_0 rfl ?_
  refine j_iload_n dX0_write_1 rfl ?_
  refine j_callVi (f_isKey h60 _) dX0_write_2 pmX0_isKey q791 q793 qs15 (by first | rfl | assumption) rfl rfl rfl ⟨Nat.le_of_ble_eq_true rfl, Nat.le_of_ble_eq_true rfl⟩ ⟨Nat.le_of_ble_eq_true rfl, Nat.le_of_ble_eq_true rfl⟩ rfl (Nat.le_of_ble_eq_true rfl) ?_
  refine j_ifb_ne (tgt := 11) dX0_write_5 (by decide) (fun c5 => ?_) (fun c5 => absurd hv c5)
  refine j_aload_n dX0_write_11 rfl ?_
  refine j_iload_n dX0_write_12 rfl ?_
  refine j_callVi (f_isNumber1 h60 h61 hm hm2 _) dX0_write_13 pmX0_isNumber q920 q922 qs17 (by first | rfl | assumption) rfl rfl rfl ⟨Nat.le_of_ble_eq_true rfl, Nat.le_of_ble_eq_true rfl⟩ ⟨Nat.le_of_ble_eq_true rfl, Nat.le_of_ble_eq_true rfl⟩ rfl (Nat.le_of_ble_eq_true rfl) ?_
  refine j_ifb_ne (tgt := 22) dX0_write_16 (by decide) (fun c16 => absurd c16 hw) (fun c16 => ?_)
  refine j_ldc dX0_write_19 q223 ?_
  refine j_iret dX0_write_21 rfl rfl (Nat.le_refl _) (Nat.le_refl _) ?_
  exact jr_i rfl
set_option maxHeartbeats 4000000 in
theorem f_writef {l : Launch} {D : va_G} {dT : Nat → ClassId} {H0 : Heap} {r : Nat → Nat} {nx : Nat} {g : j_H} {F : Nat → Nat} {V : Nat → Nat → Int32} {a nk : Nat} (h60 : g 60 = some (rcell (.ref (r 61)) a nk)) {kd bs fg m : Nat} (h61 : g 61 = some (dcell kd bs fg m)) (hm : 0 < m) (hm2 : m ≤ 100) (v w : Int32) (hv : 0 ≤ v ∧ v ≤ nI nk - 1) (hw : 0 ≤ w ∧ w ≤ nI m - 1) (hf : F 4 = 40) : MC (gG l D dT H0) yX0_write cX0_write 3 (some .int) 3 0 0 [.ref (r 0), .int v, .int w] r (fkS r dT g F V) nx (jq_i (-1000000004) r (fkS r dT g F V) nx) := by
  refine MC.ofJ [some (.ref (r 0)), some (.int v), some (.int w)] rfl (Nat.le_of_ble_eq_true rfl) (by decide) ?_
  refine j_aload_n dX0_write_0 rfl ?_
  refine j_iload_n dX0_write_1 rfl ?_
  refine j_callVi (f_isKey h60 _) dX0_write_2 pmX0_isKey q791 q793 qs15 (by first | rfl | assumption) rfl rfl rfl ⟨Nat.le_of_ble_eq_true rfl, Nat.le_of_ble_eq_true rfl⟩ ⟨Nat.le_of_ble_eq_true rfl, Nat.le_of_ble_eq_true rfl⟩ rfl (Nat.le_of_ble_eq_true rfl) ?_
  refine j_ifb_ne (tgt := 11) dX0_write_5 (by decide) (fun c5 => ?_) (fun c5 => absurd hv c5)
  refine j_aload_n dX0_write_11 rfl ?_
  refine j_iload_n dX0_write_12 rfl ?_
  refine j_callVi (f_isNumber1 h60 h61 hm hm2 _) dX0_write_13 pmX0_isNumber q920 q922 qs17 (by first | rfl | assumption) rfl rfl rfl ⟨Nat.le_of_ble_eq_true rfl, Nat.le_of_ble_eq_true rfl⟩ ⟨Nat.le_of_ble_eq_true rfl, Nat.le_of_ble_eq_true rfl⟩ rfl (Nat.le_of_ble_eq_true rfl) ?_
  refine j_ifb_ne (tgt := 22) dX0_write_16 (by decide) (fun c16 => ?_) (fun c16 => absurd hw c16)
  refine j_aload_n dX0_write_22 rfl ?_
  refine j_get 4 dX0_write_23 (by first | rfl | assumption) in_X0 rfl (by decide) q157 rfl ?_
  refine j_bipush (v := 40) dX0_write_26 (by decide) ?_
  refine j_icmp_ne (tgt := 34) dX0_write_28 (by decide) (fun c28 => absurd (by rw [hf]; decide) c28) (fun c28 => ?_)
  refine j_ldc dX0_write_31 q224 ?_
  refine j_iret dX0_write_33 rfl rfl (Nat.le_refl _) (Nat.le_refl _) ?_
  exact jr_i rfl
set_option maxHeartbeats 4000000 in
theorem f_write1 {l : Launch} {D : va_G} {dT : Nat → ClassId} {H0 : Heap} {r : Nat → Nat} {nx : Nat} {g : j_H} {F : Nat → Nat} {V : Nat → Nat → Int32} {a nk : Nat} (h60 : g 60 = some (rcell (.ref (r 61)) a nk)) {kd bs fg m : Nat} (h61 : g 61 = some (dcell kd bs fg m)) (hm : 0 < m) (hm2 : m ≤ 100) (v w : Int32) (hv : 0 ≤ v ∧ v ≤ nI nk - 1) (hw : 0 ≤ w ∧ w ≤ nI m - 1) (hf : F 4 < 40) : MC (gG l D dT H0) yX0_write cX0_write 3 (some .int) 3 0 0 [.ref (r 0), .int v, .int w] r (fkS r dT g F V) nx (jq_i (nI (F 4 + 1)) r (fkS r dT g (va_up F 4 (F 4 + 1)) (va_up (va_up V 3 (upd (V 3) (F 4) v)) 4 (upd (V 4) (F 4) w))) nx) := by
  refine MC.ofJ [some (.ref (r 0)), some (.int v), some (.int w)] rfl (Nat.le_of_ble_eq_true rfl) (by decide) ?_
  refine j_aload_n dX0_write_0 rfl ?_
  refine j_iload_n dX0_write_1 rfl ?_
  refine j_callVi (f_isKey h60 _) dX0_write_2 pmX0_isKey q791 q793 qs15 (by first | rfl | assumption) rfl rfl rfl ⟨Nat.le_of_ble_eq_true rfl, Nat.le_of_ble_eq_true rfl⟩ ⟨Nat.le_of_ble_eq_true rfl, Nat.le_of_ble_eq_true rfl⟩ rfl (Nat.le_of_ble_eq_true rfl) ?_
  refine j_ifb_ne (tgt := 11) dX0_write_5 (by decide) (fun c5 => ?_) (fun c5 => absurd hv c5)
  refine j_aload_n dX0_write_11 rfl ?_
  refine j_iload_n dX0_write_12 rfl ?_
  refine j_callVi (f_isNumber1 h60 h61 hm hm2 _) dX0_write_13 pmX0_isNumber q920 q922 qs17 (by first | rfl | assumption) rfl rfl rfl ⟨Nat.le_of_ble_eq_true rfl, Nat.le_of_ble_eq_true rfl⟩ ⟨Nat.le_of_ble_eq_true rfl, Nat.le_of_ble_eq_true rfl⟩ rfl (Nat.le_of_ble_eq_true rfl) ?_
  refine j_ifb_ne (tgt := 22) dX0_write_16 (by decide) (fun c16 => ?_) (fun c16 => absurd hw c16)
  refine j_aload_n dX0_write_22 rfl ?_
  refine j_get 4 dX0_write_23 (by first | rfl | assumption) in_X0 rfl (by decide) q157 rfl ?_
  refine j_bipush (v := 40) dX0_write_26 (by decide) ?_
  refine j_icmp_ne (tgt := 34) dX0_write_28 (by decide) (fun c28 => ?_) (fun c28 => absurd c28 (fun q => by have := (nI_eq (by omega) (by decide)).mp (show nI (F 4) = nI 40 from q); omega))
  refine j_aload_n dX0_write_34 rfl ?_
  refine j_get 2 dX0_write_35 (by first | rfl | assumption) in_X0 rfl (by decide) q155 rfl ?_
  refine j_aload_n dX0_write_38 rfl ?_
  refine j_get 4 dX0_write_39 (by first | rfl | assumption) in_X0 rfl (by decide) q157 rfl ?_
  refine j_iload_n dX0_write_42 rfl ?_
  refine j_iast 0 _ dX0_write_43 (by first | rfl | assumption) rfl rfl (by first | assumption | omega) (by decide) ?_
  refine j_fkV (f := upd (V 3) (F 4) v) (by decide) rfl ?_
  refine j_aload_n dX0_write_44 rfl ?_
  refine j_get 3 dX0_write_45 (by first | rfl | assumption) in_X0 rfl (by decide) q156 rfl ?_
  refine j_aload_n dX0_write_48 rfl ?_
  refine j_get 4 dX0_write_49 (by first | rfl | assumption) in_X0 rfl (by decide) q157 rfl ?_
  refine j_iload_n dX0_write_52 rfl ?_
  refine j_iast 0 _ dX0_write_53 (by first | rfl | assumption) rfl rfl (by first | assumption | omega) (by decide) ?_
  refine j_fkV (f := upd (V 4) (F 4) w) (by decide) rfl ?_
  refine j_aload_n dX0_write_54 rfl ?_
  refine j_dup dX0_write_55 rfl ?_
  refine j_get 4 dX0_write_56 (by first | rfl | assumption) in_X0 rfl (by decide) q157 rfl ?_
  refine j_iconst (v := 1) dX0_write_59 (by decide) ?_
  refine j_iadd dX0_write_60 ?_
  refine j_eqi (nI_1 _) ?_
  refine j_put 4 dX0_write_61 (by first | rfl | assumption) in_X0 tyX0_ok nmX0 rfl (by decide) q157 rfl rfl rfl (by first | decide | simp) ?_
  refine j_fkF (F' := va_up F 4 (F 4 + 1)) (by decide) fo4 rfl ?_
  refine j_aload_n dX0_write_64 rfl ?_
  refine j_get 4 dX0_write_65 (by first | rfl | assumption) in_X0 rfl (by decide) q157 rfl ?_
  refine j_iret dX0_write_68 rfl rfl (Nat.le_refl _) (Nat.le_refl _) ?_
  exact jr_i rfl
