set_option maxRecDepth 100000
set_option maxHeartbeats 4000000 in
theorem c_iDesk {l : Launch} {D : va_G} {dT : Nat → ClassId} {H0 : Heap} {r : Nat → Nat} {h : j_H} {nx : Nat} (i j : Nat) (hij : i ≠ j) (hi : h i = some (.inr (2, [.int 0, .int 0, .null, .int 0, .int 0, .int 0]))) (hj : r j = nx) : MC (gG l D dT H0) yX2_init cX2_init 1 none 1 1 6 [.ref (r i)] r h nx (jq_v r (j_set (j_set h j (.inl (dT 0, 6, .inl (fun _ => 0)))) i (.inr (2, [.int 0, .int 0, .ref (r j), .int 0, .int 0, .int 0]))) (nx + 1)) := by
  refine MC.ofJ [some (.ref (r i))] rfl (Nat.le_of_ble_eq_true rfl) (by decide) ?_
  refine j_aload_n dX2_init_0 rfl ?_
  refine j_objInit dX2_init_1 q123 q94 q95 (Nat.le_of_ble_eq_true rfl) (Nat.le_of_ble_eq_true rfl) ?_
  refine j_aload_n dX2_init_4 rfl ?_
  refine j_bipush (v := 6) dX2_init_5 (by decide) ?_
  refine j_newa (n := 6) (a0 := (6, .inl (fun _ => 0))) j 0 hj dX2_init_7 q148 rfl rfl rfl (by decide) (fun _ => rfl) (by decide) (Nat.le_of_ble_eq_true rfl) (Nat.le_of_ble_eq_true rfl) ?_
  refine j_putF 2 dX2_init_9 (by rw [j_set_ne hij]; exact hi) in_X2 tyX2_ok nmX2 rfl (by decide) q128 rfl rfl rfl rfl rfl (by first | decide | simp) ?_
  refine j_vret dX2_init_12 rfl (Nat.le_of_ble_eq_true rfl) (Nat.le_of_ble_eq_true rfl) ?_
  exact jr_v rfl
/-- cells that the machine can't tell apart -/
theorem j_holds.eqv {G : j_G} {r : Nat → Nat} {h h' : j_H} {nx : Nat} {H : Heap} (hH : j_holds G r h nx H) (hv : ∀ i e', h' i = some e' → ∃ e, h i = some e ∧ (va_at G.2.1 G.2.2.1 (r i, e) H → va_at G.2.1 G.2.2.1 (r i, e') H)) : j_holds G r h' nx H := by
  obtain ⟨h1, h2, h3, h4, h5⟩ := hH
  refine ⟨h1, h2, h3, fun i e' hi => ?_, fun i j a b hi hj hij => ?_⟩
  · obtain ⟨e, k1, k2⟩ := hv i e' hi
    exact ⟨(h4 i e k1).1, k2 (h4 i e k1).2⟩
  · obtain ⟨e, k1, -⟩ := hv i a hi
    obtain ⟨e2, l1, -⟩ := hv j b hj
    exact h5 i j e e2 k1 l1 hij
/-- the ids in the order in which FewKeys' constructor makes their cells -/
def ctO : Nat → Nat
  | 0 => 60 | 1 => 62 | 2 => 1 | 3 => 2 | 4 => 3 | 5 => 4 | 6 => 5 | 7 => 6 | 8 => 7 | 9 => 8 | 10 => 9 | 11 => 10 | 12 => 11 | 13 => 12 | 14 => 13 | 15 => 14 | 16 => 15 | 17 => 22 | 18 => 23 | 19 => 24 | 20 => 25 | 21 => 26 | 22 => 16 | 23 => 27 | 24 => 28 | 25 => 29 | 26 => 30 | 27 => 31 | 28 => 17 | 29 => 18 | 30 => 19 | 31 => 20 | 32 => 21 | _ => 0
def fk0 : va_E := .inr (0, [.null, .null, .null, .null, .int 0, .null, .int 0, .int 0, .null, .null, .null, .null, .null, .null, .null, .null, .null, .null, .null, .null])
set_option maxHeartbeats 4000000 in
theorem f_init {l : Launch} {D : va_G} {dT : Nat → ClassId} {H0 : Heap} {r : Nat → Nat} {h : j_H} {nx : Nat} (h0 : h 0 = some fk0) (hr : ∀ k, k < 33 → r (ctO k) = nx + k) : MC (gG l D dT H0) yX0_init cX0_init 2 none 2 33 640720 [.ref (r 0)] r h nx (jq_v r (fkS r dT (j_set (j_set h 62 (.inl (dT 4, 9, .inr (.inr (.inr (.inr (fun _ => none))))))) 60 (rcell .null (r 62) 0)) (fun _ => 0) (fun _ _ => 0)) (nx + 33)) := by
  refine MC.ofJ [some (.ref (r 0)), none] rfl (Nat.le_of_ble_eq_true rfl) (by decide) ?_
  refine j_aload_n dX0_init_0 rfl ?_
  refine j_objInit dX0_init_1 q93 q94 q95 (Nat.le_of_ble_eq_true rfl) (Nat.le_of_ble_eq_true rfl) ?_
  refine j_re rfl rfl (h' := j_set h 0 fk0) (j_set_id h0).symm ?_
  refine j_aload_n dX0_init_4 rfl ?_
  refine j_new (ci := 1) (fs := [.null, .null, .int 0]) 60 (hr 0 (by decide)) dX0_init_5 in_X1 tyX1_ok rfl q96 q97 q62 (fun j hj => by
    have hj3 : j = 0 ∨ j = 1 ∨ j = 2 := by have hj4 : j < 3 := hj; omega
    rcases hj3 with rfl | rfl | rfl <;> rfl) (Nat.le_of_ble_eq_true rfl) (Nat.le_of_ble_eq_true rfl) ?_
  refine j_dup dX0_init_8 rfl ?_
  refine j_callINv (c_iReck 60 62 (by decide) j_set_self (hr 1 (by decide))) dX0_init_9 pmX1_init (fun _ hs => hs.1 _ qn98) q99 rfl rfl ⟨Nat.le_of_ble_eq_true rfl, Nat.le_of_ble_eq_true rfl⟩ ⟨Nat.le_of_ble_eq_true rfl, Nat.le_of_ble_eq_true rfl⟩ rfl (Nat.le_of_ble_eq_true rfl) ?_
  refine j_put 0 dX0_init_12 (by rfl) in_X0 tyX0_ok nmX0 rfl (by decide) q153 rfl rfl rfl (by first | decide | simp) ?_
  refine j_aload_n dX0_init_15 rfl ?_
  refine j_new (ci := 2) (fs := [.int 0, .int 0, .null, .int 0, .int 0, .int 0]) 1 (hr 2 (by decide)) dX0_init_16 in_X2 tyX2_ok rfl q118 q119 q63 (fun j hj => by
    have hj3 : j = 0 ∨ j = 1 ∨ j = 2 ∨ j = 3 ∨ j = 4 ∨ j = 5 := by have hj4 : j < 6 := hj; omega
    rcases hj3 with rfl | rfl | rfl | rfl | rfl | rfl <;> rfl) (Nat.le_of_ble_eq_true rfl) (Nat.le_of_ble_eq_true rfl) ?_
  refine j_dup dX0_init_19 rfl ?_
  refine j_callINv (c_iDesk 1 2 (by decide) j_set_self (hr 3 (by decide))) dX0_init_20 pmX2_init (fun _ hs => hs.1 _ qn120) q121 rfl rfl ⟨Nat.le_of_ble_eq_true rfl, Nat.le_of_ble_eq_true rfl⟩ ⟨Nat.le_of_ble_eq_true rfl, Nat.le_of_ble_eq_true rfl⟩ rfl (Nat.le_of_ble_eq_true rfl) ?_
  refine j_putF 1 dX0_init_23 (by rfl) in_X0 tyX0_ok nmX0 rfl (by decide) q154 rfl rfl rfl rfl rfl (by first | decide | simp) ?_
  refine j_aload_n dX0_init_26 rfl ?_
  refine j_bipush (v := 40) dX0_init_27 (by decide) ?_
  refine j_newa (n := 40) (a0 := (40, .inl (fun _ => 0))) 3 0 (hr 4 (by decide)) dX0_init_29 q148 rfl rfl rfl (by decide) (fun _ => rfl) (by decide) (Nat.le_of_ble_eq_true rfl) (Nat.le_of_ble_eq_true rfl) ?_
  refine j_putF 2 dX0_init_31 (by rfl) in_X0 tyX0_ok nmX0 rfl (by decide) q155 rfl rfl rfl rfl rfl (by first | decide | simp) ?_
  refine j_aload_n dX0_init_34 rfl ?_
  refine j_bipush (v := 40) dX0_init_35 (by decide) ?_
  refine j_newa (n := 40) (a0 := (40, .inl (fun _ => 0))) 4 0 (hr 5 (by decide)) dX0_init_37 q148 rfl rfl rfl (by decide) (fun _ => rfl) (by decide) (Nat.le_of_ble_eq_true rfl) (Nat.le_of_ble_eq_true rfl) ?_
  refine j_putF 3 dX0_init_39 (by rfl) in_X0 tyX0_ok nmX0 rfl (by decide) q156 rfl rfl rfl rfl rfl (by first | decide | simp) ?_
  refine j_aload_n dX0_init_42 rfl ?_
  refine j_sipush (v := 400) dX0_init_43 (by decide) ?_
  refine j_newa (n := 400) (a0 := (400, .inl (fun _ => 0))) 5 1 (hr 6 (by decide)) dX0_init_46 q214 rfl rfl rfl (by decide) (fun _ => rfl) (by decide) (Nat.le_of_ble_eq_true rfl) (Nat.le_of_ble_eq_true rfl) ?_
  refine j_putF 5 dX0_init_48 (by rfl) in_X0 tyX0_ok nmX0 rfl (by decide) q158 rfl rfl rfl rfl rfl (by first | decide | simp) ?_
  refine j_aload_n dX0_init_51 rfl ?_
  refine j_iconst (v := (-1)) dX0_init_52 (by decide) ?_
  refine j_put 7 dX0_init_53 (by rfl) in_X0 tyX0_ok nmX0 rfl (by decide) q160 rfl rfl rfl (by first | decide | simp) ?_
  refine j_aload_n dX0_init_56 rfl ?_
  refine j_ldc dX0_init_57 q149 ?_
  refine j_newa (n := 80000) (a0 := (80000, .inl (fun _ => 0))) 6 0 (hr 7 (by decide)) dX0_init_59 q148 rfl rfl rfl (by decide) (fun _ => rfl) (by decide) (Nat.le_of_ble_eq_true rfl) (Nat.le_of_ble_eq_true rfl) ?_
  refine j_putF 8 dX0_init_61 (by rfl) in_X0 tyX0_ok nmX0 rfl (by decide) q161 rfl rfl rfl rfl rfl (by first | decide | simp) ?_
  refine j_aload_n dX0_init_64 rfl ?_
  refine j_ldc dX0_init_65 q149 ?_
  refine j_newa (n := 80000) (a0 := (80000, .inl (fun _ => 0))) 7 0 (hr 8 (by decide)) dX0_init_67 q148 rfl rfl rfl (by decide) (fun _ => rfl) (by decide) (Nat.le_of_ble_eq_true rfl) (Nat.le_of_ble_eq_true rfl) ?_
  refine j_putF 9 dX0_init_69 (by rfl) in_X0 tyX0_ok nmX0 rfl (by decide) q162 rfl rfl rfl rfl rfl (by first | decide | simp) ?_
  refine j_aload_n dX0_init_72 rfl ?_
  refine j_ldc dX0_init_73 q149 ?_
  refine j_newa (n := 80000) (a0 := (80000, .inl (fun _ => 0))) 8 0 (hr 9 (by decide)) dX0_init_75 q148 rfl rfl rfl (by decide) (fun _ => rfl) (by decide) (Nat.le_of_ble_eq_true rfl) (Nat.le_of_ble_eq_true rfl) ?_
  refine j_putF 10 dX0_init_77 (by rfl) in_X0 tyX0_ok nmX0 rfl (by decide) q163 rfl rfl rfl rfl rfl (by first | decide | simp) ?_
  refine j_aload_n dX0_init_80 rfl ?_
  refine j_ldc dX0_init_81 q149 ?_
  refine j_newa (n := 80000) (a0 := (80000, .inl (fun _ => 0))) 9 1 (hr 10 (by decide)) dX0_init_83 q214 rfl rfl rfl (by decide) (fun _ => rfl) (by decide) (Nat.le_of_ble_eq_true rfl) (Nat.le_of_ble_eq_true rfl) ?_
  refine j_putF 11 dX0_init_85 (by rfl) in_X0 tyX0_ok nmX0 rfl (by decide) q164 rfl rfl rfl rfl rfl (by first | decide | simp) ?_
  refine j_aload_n dX0_init_88 rfl ?_
  refine j_bipush (v := 100) dX0_init_89 (by decide) ?_
  refine j_newa (n := 100) (a0 := (100, .inl (fun _ => 0))) 10 0 (hr 11 (by decide)) dX0_init_91 q148 rfl rfl rfl (by decide) (fun _ => rfl) (by decide) (Nat.le_of_ble_eq_true rfl) (Nat.le_of_ble_eq_true rfl) ?_
  refine j_putF 12 dX0_init_93 (by rfl) in_X0 tyX0_ok nmX0 rfl (by decide) q165 rfl rfl rfl rfl rfl (by first | decide | simp) ?_
  refine j_aload_n dX0_init_96 rfl ?_
  refine j_ldc dX0_init_97 q149 ?_
  refine j_newa (n := 80000) (a0 := (80000, .inl (fun _ => 0))) 11 0 (hr 12 (by decide)) dX0_init_99 q148 rfl rfl rfl (by decide) (fun _ => rfl) (by decide) (Nat.le_of_ble_eq_true rfl) (Nat.le_of_ble_eq_true rfl) ?_
  refine j_putF 13 dX0_init_101 (by rfl) in_X0 tyX0_ok nmX0 rfl (by decide) q166 rfl rfl rfl rfl rfl (by first | decide | simp) ?_
  refine j_aload_n dX0_init_104 rfl ?_
  refine j_ldc dX0_init_105 q149 ?_
  refine j_newa (n := 80000) (a0 := (80000, .inl (fun _ => 0))) 12 2 (hr 13 (by decide)) dX0_init_107 q215 rfl rfl rfl (by decide) (fun _ => rfl) (by decide) (Nat.le_of_ble_eq_true rfl) (Nat.le_of_ble_eq_true rfl) ?_
  refine j_putF 14 dX0_init_109 (by rfl) in_X0 tyX0_ok nmX0 rfl (by decide) q167 rfl rfl rfl rfl rfl (by first | decide | simp) ?_
  refine j_aload_n dX0_init_112 rfl ?_
  refine j_ldc dX0_init_113 q149 ?_
  refine j_newa (n := 80000) (a0 := (80000, .inl (fun _ => 0))) 13 0 (hr 14 (by decide)) dX0_init_115 q148 rfl rfl rfl (by decide) (fun _ => rfl) (by decide) (Nat.le_of_ble_eq_true rfl) (Nat.le_of_ble_eq_true rfl) ?_
  refine j_putF 15 dX0_init_117 (by rfl) in_X0 tyX0_ok nmX0 rfl (by decide) q168 rfl rfl rfl rfl rfl (by first | decide | simp) ?_
  refine j_aload_n dX0_init_120 rfl ?_
  refine j_ldc dX0_init_121 q149 ?_
  refine j_newa (n := 80000) (a0 := (80000, .inl (fun _ => 0))) 14 0 (hr 15 (by decide)) dX0_init_123 q148 rfl rfl rfl (by decide) (fun _ => rfl) (by decide) (Nat.le_of_ble_eq_true rfl) (Nat.le_of_ble_eq_true rfl) ?_
  refine j_putF 16 dX0_init_125 (by rfl) in_X0 tyX0_ok nmX0 rfl (by decide) q169 rfl rfl rfl rfl rfl (by first | decide | simp) ?_
  refine j_aload_n dX0_init_128 rfl ?_
  refine j_iconst (v := 5) dX0_init_129 (by decide) ?_
  refine j_bipush (v := 8) dX0_init_130 (by decide) ?_
  refine j_multi 15 22 (hr 16 (by decide)) (by
    intro j hj
    have hj3 : j = 0 ∨ j = 1 ∨ j = 2 ∨ j = 3 ∨ j = 4 := by omega
    rcases hj3 with rfl | rfl | rfl | rfl | rfl
    · exact hr 17 (by decide)
    · exact hr 18 (by decide)
    · exact hr 19 (by decide)
    · exact hr 20 (by decide)
    · exact hr 21 (by decide)) (Or.inl (by decide)) dX0_init_132 q150 q148 (Nat.le_of_ble_eq_true rfl) (Nat.le_of_ble_eq_true rfl) ?_
  refine j_putF 17 dX0_init_136 (by rfl) in_X0 tyX0_ok nmX0 rfl (by decide) q170 rfl rfl rfl rfl rfl (by first | decide | simp) ?_
  refine j_aload_n dX0_init_139 rfl ?_
  refine j_iconst (v := 5) dX0_init_140 (by decide) ?_
  refine j_bipush (v := 8) dX0_init_141 (by decide) ?_
  refine j_multi 16 27 (hr 22 (by decide)) (by
    intro j hj
    have hj3 : j = 0 ∨ j = 1 ∨ j = 2 ∨ j = 3 ∨ j = 4 := by omega
    rcases hj3 with rfl | rfl | rfl | rfl | rfl
    · exact hr 23 (by decide)
    · exact hr 24 (by decide)
    · exact hr 25 (by decide)
    · exact hr 26 (by decide)
    · exact hr 27 (by decide)) (Or.inl (by decide)) dX0_init_143 q150 q148 (Nat.le_of_ble_eq_true rfl) (Nat.le_of_ble_eq_true rfl) ?_
  refine j_putF 18 dX0_init_147 (by rfl) in_X0 tyX0_ok nmX0 rfl (by decide) q171 rfl rfl rfl rfl rfl (by first | decide | simp) ?_
  refine j_aload_n dX0_init_150 rfl ?_
  refine j_iconst (v := 2) dX0_init_151 (by decide) ?_
  refine j_newq (n := 2) 17 5 (hr 28 (by decide)) dX0_init_152 q118 (fun _ hs => hs.2.2.1) rfl rfl (by decide) (by decide) (Nat.le_of_ble_eq_true rfl) (Nat.le_of_ble_eq_true rfl) ?_
  refine j_putF 19 dX0_init_155 (by rfl) in_X0 tyX0_ok nmX0 rfl (by decide) q172 rfl rfl rfl rfl rfl (by first | decide | simp) ?_
  refine j_iconst (v := 0) dX0_init_158 (by decide) ?_
  refine j_istore_n dX0_init_159 (by decide) rfl ?_
  refine j_iload_n dX0_init_160 rfl ?_
  refine j_aload_n dX0_init_161 rfl ?_
  refine j_get 19 dX0_init_162 (by rfl) in_X0 rfl (by decide) q172 rfl ?_
  refine j_alen 5 dX0_init_165 (by rfl) rfl ?_
  refine j_icmp_ge (tgt := 188) dX0_init_166 (by decide) (fun c166 => absurd c166 (show ¬ nI 2 ≤ 0 by decide)) (fun c166 => ?_)
  refine j_aload_n dX0_init_169 rfl ?_
  refine j_get 19 dX0_init_170 (by rfl) in_X0 rfl (by decide) q172 rfl ?_
  refine j_iload_n dX0_init_173 rfl ?_
  refine j_new (ci := 2) (fs := [.int 0, .int 0, .null, .int 0, .int 0, .int 0]) 18 (hr 29 (by decide)) dX0_init_174 in_X2 tyX2_ok rfl q118 q119 q63 (fun j hj => by
    have hj3 : j = 0 ∨ j = 1 ∨ j = 2 ∨ j = 3 ∨ j = 4 ∨ j = 5 := by have hj4 : j < 6 := hj; omega
    rcases hj3 with rfl | rfl | rfl | rfl | rfl | rfl <;> rfl) (Nat.le_of_ble_eq_true rfl) (Nat.le_of_ble_eq_true rfl) ?_
  refine j_dup dX0_init_177 rfl ?_
  refine j_callINv (c_iDesk 18 19 (by decide) j_set_self (hr 30 (by decide))) dX0_init_178 pmX2_init (fun _ hs => hs.1 _ qn120) q121 rfl rfl ⟨Nat.le_of_ble_eq_true rfl, Nat.le_of_ble_eq_true rfl⟩ ⟨Nat.le_of_ble_eq_true rfl, Nat.le_of_ble_eq_true rfl⟩ rfl (Nat.le_of_ble_eq_true rfl) ?_
  refine j_aast 5 0 (iv := 18) (i := 17) dX0_init_181 (by rfl) rfl rfl (by decide) (by decide) (by rfl) rfl (fun s9 comp c9 _ z1 z2 => by cases z1.symm.trans z2; exact vm_refl) ?_
  refine j_iinc dX0_init_182 rfl (by decide) rfl ?_
  refine j_re (L' := [some (.ref (r 0)), some (.int 1)]) (by rw [show ((0 : Int32) + Int32.ofInt 1) = 1 by decide]; first | done | rfl) rfl rfl ?_
  refine j_goto (tgt := 160) dX0_init_185 (by decide) ?_
  refine j_iload_n dX0_init_160 rfl ?_
  refine j_aload_n dX0_init_161 rfl ?_
  refine j_get 19 dX0_init_162 (by rfl) in_X0 rfl (by decide) q172 rfl ?_
  refine j_alen 5 dX0_init_165 (by rfl) rfl ?_
  refine j_icmp_ge (tgt := 188) dX0_init_166 (by decide) (fun c166 => absurd c166 (show ¬ nI 2 ≤ 1 by decide)) (fun c166 => ?_)
  refine j_aload_n dX0_init_169 rfl ?_
  refine j_get 19 dX0_init_170 (by rfl) in_X0 rfl (by decide) q172 rfl ?_
  refine j_iload_n dX0_init_173 rfl ?_
  refine j_new (ci := 2) (fs := [.int 0, .int 0, .null, .int 0, .int 0, .int 0]) 20 (hr 31 (by decide)) dX0_init_174 in_X2 tyX2_ok rfl q118 q119 q63 (fun j hj => by
    have hj3 : j = 0 ∨ j = 1 ∨ j = 2 ∨ j = 3 ∨ j = 4 ∨ j = 5 := by have hj4 : j < 6 := hj; omega
    rcases hj3 with rfl | rfl | rfl | rfl | rfl | rfl <;> rfl) (Nat.le_of_ble_eq_true rfl) (Nat.le_of_ble_eq_true rfl) ?_
  refine j_dup dX0_init_177 rfl ?_
  refine j_callINv (c_iDesk 20 21 (by decide) j_set_self (hr 32 (by decide))) dX0_init_178 pmX2_init (fun _ hs => hs.1 _ qn120) q121 rfl rfl ⟨Nat.le_of_ble_eq_true rfl, Nat.le_of_ble_eq_true rfl⟩ ⟨Nat.le_of_ble_eq_true rfl, Nat.le_of_ble_eq_true rfl⟩ rfl (Nat.le_of_ble_eq_true rfl) ?_
  refine j_aast 5 1 (iv := 20) (i := 17) dX0_init_181 (by rfl) rfl rfl (by decide) (by decide) (by rfl) rfl (fun s9 comp c9 _ z1 z2 => by cases z1.symm.trans z2; exact vm_refl) ?_
  refine j_iinc dX0_init_182 rfl (by decide) rfl ?_
  refine j_re (L' := [some (.ref (r 0)), some (.int 2)]) (by rw [show ((1 : Int32) + Int32.ofInt 1) = 2 by decide]; first | done | rfl) rfl rfl ?_
  refine j_goto (tgt := 160) dX0_init_185 (by decide) ?_
  refine j_iload_n dX0_init_160 rfl ?_
  refine j_aload_n dX0_init_161 rfl ?_
  refine j_get 19 dX0_init_162 (by rfl) in_X0 rfl (by decide) q172 rfl ?_
  refine j_alen 5 dX0_init_165 (by rfl) rfl ?_
  refine j_icmp_ge (tgt := 188) dX0_init_166 (by decide) (fun c166 => ?_) (fun c166 => absurd (show nI 2 ≤ 2 by decide) c166)
  refine j_reH (r' := r) (h' := (fkS r dT (j_set (j_set h 62 (.inl (dT 4, 9, .inr (.inr (.inr (.inr (fun _ => none))))))) 60 (rcell .null (r 62) 0)) (fun _ => 0) (fun _ _ => 0))) (fun H hH => hH.eqv (fun i e' hi => ?_)) ?_
  · by_cases h32 : i < 32
    · have hc : i = 0 ∨ i = 1 ∨ i = 2 ∨ i = 3 ∨ i = 4 ∨ i = 5 ∨ i = 6 ∨ i = 7 ∨ i = 8 ∨ i = 9 ∨ i = 10 ∨ i = 11 ∨ i = 12 ∨ i = 13 ∨ i = 14 ∨ i = 15 ∨ i = 16 ∨ i = 17 ∨ i = 18 ∨ i = 19 ∨ i = 20 ∨ i = 21 ∨ i = 22 ∨ i = 23 ∨ i = 24 ∨ i = 25 ∨ i = 26 ∨ i = 27 ∨ i = 28 ∨ i = 29 ∨ i = 30 ∨ i = 31 := by omega
      rw [fkS_lo h32] at hi
      rcases hc with rfl | rfl | rfl | rfl | rfl | rfl | rfl | rfl | rfl | rfl | rfl | rfl | rfl | rfl | rfl | rfl | rfl | rfl | rfl | rfl | rfl | rfl | rfl | rfl | rfl | rfl | rfl | rfl | rfl | rfl | rfl | rfl
      all_goals first
        | (cases hi; exact ⟨_, rfl, id⟩)
        | (cases hi; exact ⟨_, rfl, fun h => Eq.trans h (congrArg some (vpr_cg (fun j hj => if_pos hj)))⟩)
        | (cases hi; exact ⟨_, rfl, fun h => Eq.trans h (congrArg some (vpr_cg (fun j hj => by
            have hj2 : j = 0 ∨ j = 1 := by omega
            rcases hj2 with rfl | rfl <;> rfl)))⟩)
    · rw [fkS_hi (by omega)] at hi
      have e60 := hi
      by_cases h60 : i = 60
      · subst h60; exact ⟨_, hi, id⟩
      by_cases h62 : i = 62
      · subst h62; exact ⟨_, hi, id⟩
      refine ⟨e', ?_, id⟩
      rw [j_set_ne h60, j_set_ne h62] at hi
      have hb22 : (Nat.ble 22 i && Nat.blt i (22 + 5)) = false := by rw [blt_f (by omega), Bool.and_false]
      have hb27 : (Nat.ble 27 i && Nat.blt i (27 + 5)) = false := by rw [blt_f (by omega), Bool.and_false]
      simp only [j_set, mgH, hb22, hb27, j_beq_f (show i ≠ 0 by omega), j_beq_f (show i ≠ 60 by omega), j_beq_f (show i ≠ 62 by omega), j_beq_f (show i ≠ 1 by omega), j_beq_f (show i ≠ 2 by omega), j_beq_f (show i ≠ 3 by omega), j_beq_f (show i ≠ 4 by omega), j_beq_f (show i ≠ 5 by omega), j_beq_f (show i ≠ 6 by omega), j_beq_f (show i ≠ 7 by omega), j_beq_f (show i ≠ 8 by omega), j_beq_f (show i ≠ 9 by omega), j_beq_f (show i ≠ 10 by omega), j_beq_f (show i ≠ 11 by omega), j_beq_f (show i ≠ 12 by omega), j_beq_f (show i ≠ 13 by omega), j_beq_f (show i ≠ 14 by omega), j_beq_f (show i ≠ 15 by omega), j_beq_f (show i ≠ 16 by omega), j_beq_f (show i ≠ 17 by omega), j_beq_f (show i ≠ 18 by omega), j_beq_f (show i ≠ 19 by omega), j_beq_f (show i ≠ 20 by omega), j_beq_f (show i ≠ 21 by omega), cond_false]
      exact hi
  refine j_vret dX0_init_188 rfl (Nat.le_of_ble_eq_true rfl) (Nat.le_of_ble_eq_true rfl) ?_
  exact ⟨rfl, rfl, rfl, rfl⟩
def md0 : va_E := .inr (3, [.int 0, .int 0, .int 0, .int 0, .int 0, .null, .int 0, .null, .int 0, .int 0, .long 0, .int 0, .int 0, .int 0, .int 0, .int 0, .int 0, .int 0, .int 0, .int 0, .null, .int 0, .int 0, .int 0, .int 0, .int 0, .long 0, .int 0, .null, .int 0, .null, .null, .null, .null, .null, .null, .null, .null, .null, .null, .null])
set_option maxHeartbeats 4000000 in
theorem m_init {l : Launch} {D : va_G} {dT : Nat → ClassId} {H0 : Heap} {r : Nat → Nat} {h : j_H} {nx : Nat} (h0 : h 100 = some md0) (hr : ∀ k, k < 15 → r (k + 101) = nx + k) : MC (gG l D dT H0) yX3_init cX3_init 1 none 1 15 320876 [.ref (r 100)] r h nx (jq_v r (mdS r dT h (-1) 0 0 0 0 0 0 0 0 (fun i => if i = 15 then 1 else 0) 0 (fun _ _ => 0)) (nx + 15)) := by
  refine MC.ofJ [some (.ref (r 100))] rfl (Nat.le_of_ble_eq_true rfl) (by decide) ?_
  refine j_aload_n dX3_init_0 rfl ?_
  refine j_objInit dX3_init_1 q1097 q94 q95 (Nat.le_of_ble_eq_true rfl) (Nat.le_of_ble_eq_true rfl) ?_
  refine j_re rfl rfl (h' := j_set h 100 md0) (j_set_id h0).symm ?_
  refine j_aload_n dX3_init_4 rfl ?_
  refine j_iconst (v := (-1)) dX3_init_5 (by decide) ?_
  refine j_put 0 dX3_init_6 (by rfl) in_X3 tyX3_ok nmX3 rfl (by decide) q1099 rfl rfl rfl (by first | decide | simp) ?_
  refine j_aload_n dX3_init_9 rfl ?_
  refine j_bipush (v := 36) dX3_init_10 (by decide) ?_
  refine j_newa (n := 36) (a0 := (36, .inl (fun _ => 0))) 101 0 (hr 0 (by decide)) dX3_init_12 q148 rfl rfl rfl (by decide) (fun _ => rfl) (by decide) (Nat.le_of_ble_eq_true rfl) (Nat.le_of_ble_eq_true rfl) ?_
  refine j_putF 5 dX3_init_14 (by rfl) in_X3 tyX3_ok nmX3 rfl (by decide) q1104 rfl rfl rfl rfl rfl (by first | decide | simp) ?_
  refine j_aload_n dX3_init_17 rfl ?_
  refine j_sipush (v := 400) dX3_init_18 (by decide) ?_
  refine j_newa (n := 400) (a0 := (400, .inl (fun _ => 0))) 102 0 (hr 1 (by decide)) dX3_init_21 q148 rfl rfl rfl (by decide) (fun _ => rfl) (by decide) (Nat.le_of_ble_eq_true rfl) (Nat.le_of_ble_eq_true rfl) ?_
  refine j_putF 7 dX3_init_23 (by rfl) in_X3 tyX3_ok nmX3 rfl (by decide) q1106 rfl rfl rfl rfl rfl (by first | decide | simp) ?_
  refine j_aload_n dX3_init_26 rfl ?_
  refine j_iconst (v := (-1)) dX3_init_27 (by decide) ?_
  refine j_put 13 dX3_init_28 (by rfl) in_X3 tyX3_ok nmX3 rfl (by decide) q1112 rfl rfl rfl (by first | decide | simp) ?_
  refine j_aload_n dX3_init_31 rfl ?_
  refine j_bipush (v := 32) dX3_init_32 (by decide) ?_
  refine j_newa (n := 32) (a0 := (32, .inl (fun _ => 0))) 103 0 (hr 2 (by decide)) dX3_init_34 q148 rfl rfl rfl (by decide) (fun _ => rfl) (by decide) (Nat.le_of_ble_eq_true rfl) (Nat.le_of_ble_eq_true rfl) ?_
  refine j_putF 20 dX3_init_36 (by rfl) in_X3 tyX3_ok nmX3 rfl (by decide) q1119 rfl rfl rfl rfl rfl (by first | decide | simp) ?_
  refine j_aload_n dX3_init_39 rfl ?_
  refine j_bipush (v := 6) dX3_init_40 (by decide) ?_
  refine j_newa (n := 6) (a0 := (6, .inl (fun _ => 0))) 104 0 (hr 3 (by decide)) dX3_init_42 q148 rfl rfl rfl (by decide) (fun _ => rfl) (by decide) (Nat.le_of_ble_eq_true rfl) (Nat.le_of_ble_eq_true rfl) ?_
  refine j_putF 28 dX3_init_44 (by rfl) in_X3 tyX3_ok nmX3 rfl (by decide) q1127 rfl rfl rfl rfl rfl (by first | decide | simp) ?_
  refine j_aload_n dX3_init_47 rfl ?_
  refine j_bipush (v := 80) dX3_init_48 (by decide) ?_
  refine j_newa (n := 80) (a0 := (80, .inl (fun _ => 0))) 105 0 (hr 4 (by decide)) dX3_init_50 q148 rfl rfl rfl (by decide) (fun _ => rfl) (by decide) (Nat.le_of_ble_eq_true rfl) (Nat.le_of_ble_eq_true rfl) ?_
  refine j_putF 30 dX3_init_52 (by rfl) in_X3 tyX3_ok nmX3 rfl (by decide) q1129 rfl rfl rfl rfl rfl (by first | decide | simp) ?_
  refine j_aload_n dX3_init_55 rfl ?_
  refine j_bipush (v := 18) dX3_init_56 (by decide) ?_
  refine j_newa (n := 18) (a0 := (18, .inl (fun _ => 0))) 106 0 (hr 5 (by decide)) dX3_init_58 q148 rfl rfl rfl (by decide) (fun _ => rfl) (by decide) (Nat.le_of_ble_eq_true rfl) (Nat.le_of_ble_eq_true rfl) ?_
  refine j_putF 31 dX3_init_60 (by rfl) in_X3 tyX3_ok nmX3 rfl (by decide) q1130 rfl rfl rfl rfl rfl (by first | decide | simp) ?_
  refine j_aload_n dX3_init_63 rfl ?_
  refine j_iconst (v := 2) dX3_init_64 (by decide) ?_
  refine j_newa (n := 2) (a0 := (2, .inr (.inl (fun _ => 0)))) 107 3 (hr 6 (by decide)) dX3_init_65 q1223 rfl rfl rfl (by decide) (fun _ => rfl) (by decide) (Nat.le_of_ble_eq_true rfl) (Nat.le_of_ble_eq_true rfl) ?_
  refine j_putF 32 dX3_init_67 (by rfl) in_X3 tyX3_ok nmX3 rfl (by decide) q1131 rfl rfl rfl rfl rfl (by first | decide | simp) ?_
  refine j_aload_n dX3_init_70 rfl ?_
  refine j_iconst (v := 2) dX3_init_71 (by decide) ?_
  refine j_newa (n := 2) (a0 := (2, .inl (fun _ => 0))) 108 2 (hr 7 (by decide)) dX3_init_72 q215 rfl rfl rfl (by decide) (fun _ => rfl) (by decide) (Nat.le_of_ble_eq_true rfl) (Nat.le_of_ble_eq_true rfl) ?_
  refine j_putF 33 dX3_init_74 (by rfl) in_X3 tyX3_ok nmX3 rfl (by decide) q1132 rfl rfl rfl rfl rfl (by first | decide | simp) ?_
  refine j_aload_n dX3_init_77 rfl ?_
  refine j_ldc dX3_init_78 q1098 ?_
  refine j_newa (n := 80000) (a0 := (80000, .inl (fun _ => 0))) 109 0 (hr 8 (by decide)) dX3_init_80 q148 rfl rfl rfl (by decide) (fun _ => rfl) (by decide) (Nat.le_of_ble_eq_true rfl) (Nat.le_of_ble_eq_true rfl) ?_
  refine j_putF 34 dX3_init_82 (by rfl) in_X3 tyX3_ok nmX3 rfl (by decide) q1133 rfl rfl rfl rfl rfl (by first | decide | simp) ?_
  refine j_aload_n dX3_init_85 rfl ?_
  refine j_ldc dX3_init_86 q1098 ?_
  refine j_newa (n := 80000) (a0 := (80000, .inl (fun _ => 0))) 110 0 (hr 9 (by decide)) dX3_init_88 q148 rfl rfl rfl (by decide) (fun _ => rfl) (by decide) (Nat.le_of_ble_eq_true rfl) (Nat.le_of_ble_eq_true rfl) ?_
  refine j_putF 35 dX3_init_90 (by rfl) in_X3 tyX3_ok nmX3 rfl (by decide) q1134 rfl rfl rfl rfl rfl (by first | decide | simp) ?_
  refine j_aload_n dX3_init_93 rfl ?_
  refine j_ldc dX3_init_94 q1098 ?_
  refine j_newa (n := 80000) (a0 := (80000, .inl (fun _ => 0))) 111 0 (hr 10 (by decide)) dX3_init_96 q148 rfl rfl rfl (by decide) (fun _ => rfl) (by decide) (Nat.le_of_ble_eq_true rfl) (Nat.le_of_ble_eq_true rfl) ?_
  refine j_putF 36 dX3_init_98 (by rfl) in_X3 tyX3_ok nmX3 rfl (by decide) q1135 rfl rfl rfl rfl rfl (by first | decide | simp) ?_
  refine j_aload_n dX3_init_101 rfl ?_
  refine j_ldc dX3_init_102 q1098 ?_
  refine j_newa (n := 80000) (a0 := (80000, .inl (fun _ => 0))) 112 0 (hr 11 (by decide)) dX3_init_104 q148 rfl rfl rfl (by decide) (fun _ => rfl) (by decide) (Nat.le_of_ble_eq_true rfl) (Nat.le_of_ble_eq_true rfl) ?_
  refine j_putF 37 dX3_init_106 (by rfl) in_X3 tyX3_ok nmX3 rfl (by decide) q1136 rfl rfl rfl rfl rfl (by first | decide | simp) ?_
  refine j_aload_n dX3_init_109 rfl ?_
  refine j_bipush (v := 100) dX3_init_110 (by decide) ?_
  refine j_newa (n := 100) (a0 := (100, .inl (fun _ => 0))) 113 0 (hr 12 (by decide)) dX3_init_112 q148 rfl rfl rfl (by decide) (fun _ => rfl) (by decide) (Nat.le_of_ble_eq_true rfl) (Nat.le_of_ble_eq_true rfl) ?_
  refine j_putF 38 dX3_init_114 (by rfl) in_X3 tyX3_ok nmX3 rfl (by decide) q1137 rfl rfl rfl rfl rfl (by first | decide | simp) ?_
  refine j_aload_n dX3_init_117 rfl ?_
  refine j_bipush (v := 100) dX3_init_118 (by decide) ?_
  refine j_newa (n := 100) (a0 := (100, .inl (fun _ => 0))) 114 0 (hr 13 (by decide)) dX3_init_120 q148 rfl rfl rfl (by decide) (fun _ => rfl) (by decide) (Nat.le_of_ble_eq_true rfl) (Nat.le_of_ble_eq_true rfl) ?_
  refine j_putF 39 dX3_init_122 (by rfl) in_X3 tyX3_ok nmX3 rfl (by decide) q1138 rfl rfl rfl rfl rfl (by first | decide | simp) ?_
  refine j_aload_n dX3_init_125 rfl ?_
  refine j_bipush (v := 100) dX3_init_126 (by decide) ?_
  refine j_newa (n := 100) (a0 := (100, .inl (fun _ => 0))) 115 0 (hr 14 (by decide)) dX3_init_128 q148 rfl rfl rfl (by decide) (fun _ => rfl) (by decide) (Nat.le_of_ble_eq_true rfl) (Nat.le_of_ble_eq_true rfl) ?_
  refine j_putF 40 dX3_init_130 (by rfl) in_X3 tyX3_ok nmX3 rfl (by decide) q1139 rfl rfl rfl rfl rfl (by first | decide | simp) ?_
  refine j_re rfl rfl (h' := (mdS r dT h (-1) 0 0 0 0 0 0 0 0 (fun i => if i = 15 then 1 else 0) 0 (fun _ _ => 0))) (by
    funext i
    by_cases hm : 100 ≤ i ∧ i < 116
    · have hc : i = 100 ∨ i = 101 ∨ i = 102 ∨ i = 103 ∨ i = 104 ∨ i = 105 ∨ i = 106 ∨ i = 107 ∨ i = 108 ∨ i = 109 ∨ i = 110 ∨ i = 111 ∨ i = 112 ∨ i = 113 ∨ i = 114 ∨ i = 115 := by omega
      rcases hc with rfl | rfl | rfl | rfl | rfl | rfl | rfl | rfl | rfl | rfl | rfl | rfl | rfl | rfl | rfl | rfl <;> rfl
    · unfold mdS
      rw [md_f (by omega), cond_false]
      simp only [j_set, j_beq_f (show i ≠ 100 by omega), j_beq_f (show i ≠ 101 by omega), j_beq_f (show i ≠ 102 by omega), j_beq_f (show i ≠ 103 by omega), j_beq_f (show i ≠ 104 by omega), j_beq_f (show i ≠ 105 by omega), j_beq_f (show i ≠ 106 by omega), j_beq_f (show i ≠ 107 by omega), j_beq_f (show i ≠ 108 by omega), j_beq_f (show i ≠ 109 by omega), j_beq_f (show i ≠ 110 by omega), j_beq_f (show i ≠ 111 by omega), j_beq_f (show i ≠ 112 by omega), j_beq_f (show i ≠ 113 by omega), j_beq_f (show i ≠ 114 by omega), j_beq_f (show i ≠ 115 by omega), cond_false]) ?_
  refine j_vret dX3_init_133 rfl (Nat.le_of_ble_eq_true rfl) (Nat.le_of_ble_eq_true rfl) ?_
  exact ⟨rfl, rfl, rfl, rfl⟩
