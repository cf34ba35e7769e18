set_option maxRecDepth 100000
abbrev jcl : List vw_C := [(RX0, TX0, 20), (RX1, TX1, 3), (RX2, TX2, 6), (RX3, TX3, 41), (RX4, TX4, 5), (RX5, TX5, 8), (RX6, TX6, 4), (RJ1, TJ1, 4), (RX8, TX8, 3), (RX9, TX9, 2), (RX10, TX10, 2), (RX11, TX11, 4), (RX12, TX12, 4), (RX13, TX13, 3), (RJ2, TJ2, 4)]
abbrev jtys (dT : Nat → ClassId) : List (ClassId × FieldType) := [(dT 0, .int), (dT 1, .byte), (dT 2, .boolean), (dT 3, .long), (dT 4, .object "FewKeys$Key"), (dT 5, .object "FewKeys$Desk"), (dT 6, .array .int)]
theorem jAI.moved {u U : State} (hvm : u.vm.Alike U.vm) (h : va_Nw (.arrayOver (.array .int)) u) : va_Nw (.arrayOver (.array .int)) U := by
  unfold va_Nw Cond.before Cond.holds at h ⊢
  simp only [Cond.value, beq_iff_eq] at h ⊢
  cases hc : u.vm.findClass (FieldType.array .int).toString with
  | none => simp [hc] at h
  | some comp =>
    have f1 : U.vm.findClass (FieldType.array .int).toString = some comp := by rw [hvm.findClass]; exact hc
    rw [hc, Option.bind_some] at h
    rw [f1, Option.bind_some]
    have hi : (U.vm.classes.findIdx? fun (x : Class) => match x.kind with | .array component _ => component == comp | _ => false) = (u.vm.classes.findIdx? fun (x : Class) => match x.kind with | .array component _ => component == comp | _ => false) := by
      refine (va_idx_bare U.vm comp).symm.trans (Eq.trans ?_ (va_idx_bare u.vm comp))
      first | rw [hvm.bare_eq] | rw [← hvm.bare_eq]
    obtain ⟨c, h1, h2⟩ := Option.bind_eq_some_iff.mp h
    refine Option.bind_eq_some_iff.mpr ⟨c, hi.trans h1, ?_⟩
    obtain ⟨k, hk, hb⟩ := Option.map_eq_some_iff.mp h2
    obtain ⟨k', hk', he⟩ := hvm.2.2 _ _ hk
    refine Option.map_eq_some_iff.mpr ⟨k', hk', ?_⟩
    have hkd : k'.kind = k.kind := by rw [he]
    rw [hkd, hvm.findClass]
    exact hb
theorem jSel.moved {C : String} {x y : MethodName} {u U : State} (hW : u.WarmedH U.vm) (h : va_Nw (.selects C x y) u) : va_Nw (.selects C x y) U := word_at hW (Or.inl (by rfl)) h
def jXW : List Cond := [(Jvm.Cond.methodLinkNest "FewKeys" (11 : Nat) ({ cls := "FewKeys$Reckoner", name := "<init>", desc := "()V" } : Jvm.MethodName) "FewKeys"), (Jvm.Cond.fieldLinkNest "FewKeys" (119 : Nat) "FewKeys$Reckoner" "dial" "LFewKeys$Dial;" "FewKeys"), (Jvm.Cond.fieldLinkNest "FewKeys$Reader" (89 : Nat) "FewKeys$Reckoner" "dial" "LFewKeys$Dial;" "FewKeys"), (Jvm.Cond.fieldLinkNest "FewKeys" (165 : Nat) "FewKeys$Reckoner" "keys" "[LFewKeys$Key;" "FewKeys"), (Jvm.Cond.fieldLinkNest "FewKeys$Reader" (165 : Nat) "FewKeys$Reckoner" "keys" "[LFewKeys$Key;" "FewKeys"), (Jvm.Cond.fieldLinkNest "FewKeys" (131 : Nat) "FewKeys$Reckoner" "many" "I" "FewKeys"), (Jvm.Cond.fieldLinkNest "FewKeys$Reader" (164 : Nat) "FewKeys$Reckoner" "many" "I" "FewKeys"), (Jvm.Cond.methodLinkNest "FewKeys" (18 : Nat) ({ cls := "FewKeys$Desk", name := "<init>", desc := "()V" } : Jvm.MethodName) "FewKeys"), (Jvm.Cond.fieldLinkNest "FewKeys" (145 : Nat) "FewKeys$Desk" "state" "I" "FewKeys"), (Jvm.Cond.fieldLinkNest "FewKeys" (154 : Nat) "FewKeys$Desk" "spent" "I" "FewKeys"), (Jvm.Cond.fieldLinkNest "FewKeys" (223 : Nat) "FewKeys$Desk" "target" "[I" "FewKeys"), (Jvm.Cond.fieldLinkNest "FewKeys" (157 : Nat) "FewKeys$Desk" "targets" "I" "FewKeys"), (Jvm.Cond.fieldLinkNest "FewKeys" (283 : Nat) "FewKeys$Desk" "seed" "I" "FewKeys"), (Jvm.Cond.fieldLinkNest "FewKeys" (111 : Nat) "FewKeys$Desk" "isKept" "Z" "FewKeys"), (Jvm.Cond.methodLinkNest "FewKeys$Reader" (11 : Nat) ({ cls := "FewKeys$Reckoner", name := "<init>", desc := "()V" } : Jvm.MethodName) "FewKeys"), (Jvm.Cond.methodLinkNest "FewKeys$Reader" (44 : Nat) ({ cls := "FewKeys", name := "isIn", desc := "(III)Z" } : Jvm.MethodName) "FewKeys"), (Jvm.Cond.castable "[B" "java/lang/Cloneable"), (Jvm.Cond.castable "FewKeys$Fault" "FewKeys$Fault"), (Jvm.Cond.declares ({ cls := "java/lang/Exception", name := "<init>", desc := "()V" } : Jvm.MethodName)), (Jvm.Cond.declares ({ cls := "java/lang/Exception", name := "<init>", desc := "(Ljava/lang/String;)V" } : Jvm.MethodName)), (Jvm.Cond.declares ({ cls := "java/lang/Throwable", name := "<init>", desc := "()V" } : Jvm.MethodName)), (Jvm.Cond.declares ({ cls := "java/lang/Throwable", name := "<init>", desc := "(Ljava/lang/String;)V" } : Jvm.MethodName)), (Jvm.Cond.fieldLinkNest "FewKeys" (102 : Nat) "FewKeys$Fault" "number" "I" "FewKeys"), (Jvm.Cond.fieldLinkNest "FewKeys" (99 : Nat) "FewKeys$Fault" "place" "I" "FewKeys"), (Jvm.Cond.fieldLinkNest "FewKeys" (136 : Nat) "FewKeys$Dial" "kind" "I" "FewKeys"), (Jvm.Cond.fieldLinkNest "FewKeys$Reader" (95 : Nat) "FewKeys$Dial" "base" "I" "FewKeys"), (Jvm.Cond.fieldLinkNest "FewKeys" (139 : Nat) "FewKeys$Dial" "base" "I" "FewKeys"), (Jvm.Cond.fieldLinkNest "FewKeys" (142 : Nat) "FewKeys$Dial" "figures" "I" "FewKeys"), (Jvm.Cond.fieldLinkNest "FewKeys" (127 : Nat) "FewKeys$Dial" "many" "I" "FewKeys"), (Jvm.Cond.fieldLinkNest "FewKeys$Reader" (108 : Nat) "FewKeys$Dial" "many" "I" "FewKeys"), (Jvm.Cond.declares ({ cls := "jdk/internal/access/JavaLangAccess", name := "getUTF16Char", desc := "([BI)C" } : Jvm.MethodName)), (Jvm.Cond.castable "java/lang/System$2" "jdk/internal/access/JavaLangAccess"), (Jvm.Cond.declares ({ cls := "FewKeys$Key", name := "kind", desc := "()I" } : Jvm.MethodName)), (Jvm.Cond.declares ({ cls := "FewKeys$Key", name := "strike", desc := "(I)I" } : Jvm.MethodName)), (Jvm.Cond.castable "FewKeys$FigureKey" "FewKeys$Key"), (Jvm.Cond.castable "FewKeys$IsKey" "FewKeys$Key"), (Jvm.Cond.castable "FewKeys$ClearKey" "FewKeys$Key"), (Jvm.Cond.castable "FewKeys$NowKey" "FewKeys$Key"), (Jvm.Cond.castable "FewKeys$StuckKey" "FewKeys$Key"), (Jvm.Cond.castable "FewKeys$SignKey" "FewKeys$Key"), (Jvm.Cond.selects "java/lang/StringBuilder" ({ cls := "java/lang/AbstractStringBuilder", name := "ensureCapacityInternal", desc := "(I)V" } : Jvm.MethodName) ({ cls := "java/lang/AbstractStringBuilder", name := "ensureCapacityInternal", desc := "(I)V" } : Jvm.MethodName)), (Jvm.Cond.selects "java/lang/StringBuilder" ({ cls := "java/lang/AbstractStringBuilder", name := "newCapacity", desc := "(I)I" } : Jvm.MethodName) ({ cls := "java/lang/AbstractStringBuilder", name := "newCapacity", desc := "(I)I" } : Jvm.MethodName)), (Jvm.Cond.arrayOver (.array .int))]
theorem qn98 : (Jvm.Cond.methodLinkNest "FewKeys" (11 : Nat) ({ cls := "FewKeys$Reckoner", name := "<init>", desc := "()V" } : Jvm.MethodName) "FewKeys") ∈ jXW := List.mem_of_getElem? (i := 0) rfl
theorem qn104 : (Jvm.Cond.fieldLinkNest "FewKeys" (119 : Nat) "FewKeys$Reckoner" "dial" "LFewKeys$Dial;" "FewKeys") ∈ jXW := List.mem_of_getElem? (i := 1) rfl
theorem qn105 : (Jvm.Cond.fieldLinkNest "FewKeys$Reader" (89 : Nat) "FewKeys$Reckoner" "dial" "LFewKeys$Dial;" "FewKeys") ∈ jXW := List.mem_of_getElem? (i := 2) rfl
theorem qn107 : (Jvm.Cond.fieldLinkNest "FewKeys" (165 : Nat) "FewKeys$Reckoner" "keys" "[LFewKeys$Key;" "FewKeys") ∈ jXW := List.mem_of_getElem? (i := 3) rfl
theorem qn108 : (Jvm.Cond.fieldLinkNest "FewKeys$Reader" (165 : Nat) "FewKeys$Reckoner" "keys" "[LFewKeys$Key;" "FewKeys") ∈ jXW := List.mem_of_getElem? (i := 4) rfl
theorem qn109 : (Jvm.Cond.fieldLinkNest "FewKeys" (131 : Nat) "FewKeys$Reckoner" "many" "I" "FewKeys") ∈ jXW := List.mem_of_getElem? (i := 5) rfl
theorem qn110 : (Jvm.Cond.fieldLinkNest "FewKeys$Reader" (164 : Nat) "FewKeys$Reckoner" "many" "I" "FewKeys") ∈ jXW := List.mem_of_getElem? (i := 6) rfl
theorem qn120 : (Jvm.Cond.methodLinkNest "FewKeys" (18 : Nat) ({ cls := "FewKeys$Desk", name := "<init>", desc := "()V" } : Jvm.MethodName) "FewKeys") ∈ jXW := List.mem_of_getElem? (i := 7) rfl
theorem qn125 : (Jvm.Cond.fieldLinkNest "FewKeys" (145 : Nat) "FewKeys$Desk" "state" "I" "FewKeys") ∈ jXW := List.mem_of_getElem? (i := 8) rfl
theorem qn127 : (Jvm.Cond.fieldLinkNest "FewKeys" (154 : Nat) "FewKeys$Desk" "spent" "I" "FewKeys") ∈ jXW := List.mem_of_getElem? (i := 9) rfl
theorem qn129 : (Jvm.Cond.fieldLinkNest "FewKeys" (223 : Nat) "FewKeys$Desk" "target" "[I" "FewKeys") ∈ jXW := List.mem_of_getElem? (i := 10) rfl
theorem qn131 : (Jvm.Cond.fieldLinkNest "FewKeys" (157 : Nat) "FewKeys$Desk" "targets" "I" "FewKeys") ∈ jXW := List.mem_of_getElem? (i := 11) rfl
theorem qn133 : (Jvm.Cond.fieldLinkNest "FewKeys" (283 : Nat) "FewKeys$Desk" "seed" "I" "FewKeys") ∈ jXW := List.mem_of_getElem? (i := 12) rfl
theorem qn134 : (Jvm.Cond.fieldLinkNest "FewKeys" (111 : Nat) "FewKeys$Desk" "isKept" "Z" "FewKeys") ∈ jXW := List.mem_of_getElem? (i := 13) rfl
theorem qn237 : (Jvm.Cond.methodLinkNest "FewKeys$Reader" (11 : Nat) ({ cls := "FewKeys$Reckoner", name := "<init>", desc := "()V" } : Jvm.MethodName) "FewKeys") ∈ jXW := List.mem_of_getElem? (i := 14) rfl
theorem qn301 : (Jvm.Cond.methodLinkNest "FewKeys$Reader" (44 : Nat) ({ cls := "FewKeys", name := "isIn", desc := "(III)Z" } : Jvm.MethodName) "FewKeys") ∈ jXW := List.mem_of_getElem? (i := 15) rfl
theorem qn336 : (Jvm.Cond.castable "[B" "java/lang/Cloneable") ∈ jXW := List.mem_of_getElem? (i := 16) rfl
theorem qn474 : (Jvm.Cond.castable "FewKeys$Fault" "FewKeys$Fault") ∈ jXW := List.mem_of_getElem? (i := 17) rfl
theorem qn475 : (Jvm.Cond.declares ({ cls := "java/lang/Exception", name := "<init>", desc := "()V" } : Jvm.MethodName)) ∈ jXW := List.mem_of_getElem? (i := 18) rfl
theorem qn476 : (Jvm.Cond.declares ({ cls := "java/lang/Exception", name := "<init>", desc := "(Ljava/lang/String;)V" } : Jvm.MethodName)) ∈ jXW := List.mem_of_getElem? (i := 19) rfl
theorem qn477 : (Jvm.Cond.declares ({ cls := "java/lang/Throwable", name := "<init>", desc := "()V" } : Jvm.MethodName)) ∈ jXW := List.mem_of_getElem? (i := 20) rfl
theorem qn478 : (Jvm.Cond.declares ({ cls := "java/lang/Throwable", name := "<init>", desc := "(Ljava/lang/String;)V" } : Jvm.MethodName)) ∈ jXW := List.mem_of_getElem? (i := 21) rfl
theorem qn519 : (Jvm.Cond.fieldLinkNest "FewKeys" (102 : Nat) "FewKeys$Fault" "number" "I" "FewKeys") ∈ jXW := List.mem_of_getElem? (i := 22) rfl
theorem qn521 : (Jvm.Cond.fieldLinkNest "FewKeys" (99 : Nat) "FewKeys$Fault" "place" "I" "FewKeys") ∈ jXW := List.mem_of_getElem? (i := 23) rfl
theorem qn553 : (Jvm.Cond.fieldLinkNest "FewKeys" (136 : Nat) "FewKeys$Dial" "kind" "I" "FewKeys") ∈ jXW := List.mem_of_getElem? (i := 24) rfl
theorem qn555 : (Jvm.Cond.fieldLinkNest "FewKeys$Reader" (95 : Nat) "FewKeys$Dial" "base" "I" "FewKeys") ∈ jXW := List.mem_of_getElem? (i := 25) rfl
theorem qn556 : (Jvm.Cond.fieldLinkNest "FewKeys" (139 : Nat) "FewKeys$Dial" "base" "I" "FewKeys") ∈ jXW := List.mem_of_getElem? (i := 26) rfl
theorem qn558 : (Jvm.Cond.fieldLinkNest "FewKeys" (142 : Nat) "FewKeys$Dial" "figures" "I" "FewKeys") ∈ jXW := List.mem_of_getElem? (i := 27) rfl
theorem qn560 : (Jvm.Cond.fieldLinkNest "FewKeys" (127 : Nat) "FewKeys$Dial" "many" "I" "FewKeys") ∈ jXW := List.mem_of_getElem? (i := 28) rfl
theorem qn561 : (Jvm.Cond.fieldLinkNest "FewKeys$Reader" (108 : Nat) "FewKeys$Dial" "many" "I" "FewKeys") ∈ jXW := List.mem_of_getElem? (i := 29) rfl
theorem qn616 : (Jvm.Cond.declares ({ cls := "jdk/internal/access/JavaLangAccess", name := "getUTF16Char", desc := "([BI)C" } : Jvm.MethodName)) ∈ jXW := List.mem_of_getElem? (i := 30) rfl
theorem qn617 : (Jvm.Cond.castable "java/lang/System$2" "jdk/internal/access/JavaLangAccess") ∈ jXW := List.mem_of_getElem? (i := 31) rfl
theorem qn797 : (Jvm.Cond.declares ({ cls := "FewKeys$Key", name := "kind", desc := "()I" } : Jvm.MethodName)) ∈ jXW := List.mem_of_getElem? (i := 32) rfl
theorem qn854 : (Jvm.Cond.declares ({ cls := "FewKeys$Key", name := "strike", desc := "(I)I" } : Jvm.MethodName)) ∈ jXW := List.mem_of_getElem? (i := 33) rfl
theorem qn1511 : (Jvm.Cond.castable "FewKeys$FigureKey" "FewKeys$Key") ∈ jXW := List.mem_of_getElem? (i := 34) rfl
theorem qn1512 : (Jvm.Cond.castable "FewKeys$IsKey" "FewKeys$Key") ∈ jXW := List.mem_of_getElem? (i := 35) rfl
theorem qn1513 : (Jvm.Cond.castable "FewKeys$ClearKey" "FewKeys$Key") ∈ jXW := List.mem_of_getElem? (i := 36) rfl
theorem qn1514 : (Jvm.Cond.castable "FewKeys$NowKey" "FewKeys$Key") ∈ jXW := List.mem_of_getElem? (i := 37) rfl
theorem qn1515 : (Jvm.Cond.castable "FewKeys$StuckKey" "FewKeys$Key") ∈ jXW := List.mem_of_getElem? (i := 38) rfl
theorem qn1516 : (Jvm.Cond.castable "FewKeys$SignKey" "FewKeys$Key") ∈ jXW := List.mem_of_getElem? (i := 39) rfl
theorem qnS1 : (Jvm.Cond.selects "java/lang/StringBuilder" ({ cls := "java/lang/AbstractStringBuilder", name := "ensureCapacityInternal", desc := "(I)V" } : Jvm.MethodName) ({ cls := "java/lang/AbstractStringBuilder", name := "ensureCapacityInternal", desc := "(I)V" } : Jvm.MethodName)) ∈ jXW := List.mem_of_getElem? (i := 40) rfl
theorem qnS2 : (Jvm.Cond.selects "java/lang/StringBuilder" ({ cls := "java/lang/AbstractStringBuilder", name := "newCapacity", desc := "(I)I" } : Jvm.MethodName) ({ cls := "java/lang/AbstractStringBuilder", name := "newCapacity", desc := "(I)I" } : Jvm.MethodName)) ∈ jXW := List.mem_of_getElem? (i := 41) rfl
theorem qnAI : (Jvm.Cond.arrayOver (.array .int)) ∈ jXW := List.mem_of_getElem? (i := 42) rfl
def jLw : Nat → List Nat
  | 1 => [100, 105, 97, 108]
  | 2 => [114, 111, 117, 110, 100]
  | 3 => [115, 116, 111, 112]
  | 4 => [102, 105, 103, 117, 114, 101]
  | 5 => [112, 108, 117, 115]
  | 6 => [108, 101, 115, 115]
  | 7 => [116, 105, 109, 101, 115]
  | 8 => [105, 115]
  | 9 => [99, 108, 101, 97, 114]
  | 10 => [110, 111, 119]
  | 11 => [115, 116, 117, 99, 107]
  | _ => []
def jLx : Nat → Nat
  | 1 => 69
  | 2 => 77
  | 3 => 79
  | 4 => 125
  | 5 => 98
  | 6 => 100
  | 7 => 102
  | 8 => 126
  | 9 => 128
  | 10 => 130
  | 11 => 132
  | _ => 0
def jLt : Nat → String
  | 1 => "dial"
  | 2 => "round"
  | 3 => "stop"
  | 4 => "figure"
  | 5 => "plus"
  | 6 => "less"
  | 7 => "times"
  | 8 => "is"
  | 9 => "clear"
  | 10 => "now"
  | 11 => "stuck"
  | _ => ""
def jA (H0 : Heap) : Nat → Prop := fun a => H0.size ≤ a
/-- a literal as it lies in the heap at the law's start -/
def jLit (dT : Nat → ClassId) (H0 : Heap) (i : Nat) (s : State) : Prop := va_O "java/lang/String" (dT (i + 100)) (jA H0) s H0 ∧ va_OF "java/lang/String" "coder" "B" (.int 0) (dT (i + 100)) (jA H0) s H0 ∧ va_OF "java/lang/String" "value" "[B" (.ref (dT (i + 200))) (dT (i + 100)) (jA H0) s H0 ∧ va_T .byte (dT (i + 200)) (jLw i).length (fun j => .int (nI ((jLw i).getD j 0))) (jA H0) s H0 ∧ vk_R "FewKeys$Reader" (jLx i) (jLt i) (dT (i + 100)) s
def jSt (dT : Nat → ClassId) (H0 : Heap) (s : State) : Prop := (∀ i, 1 ≤ i → i ≤ 11 → jLit dT H0 i s) ∧ va_Z "java/lang/String" "COMPACT_STRINGS" "Z" (.int 1) (jA H0) s H0 ∧ va_Z "java/lang/Throwable" "UNASSIGNED_STACK" "[Ljava/lang/StackTraceElement;" (.ref (dT 301)) (jA H0) s H0 ∧ va_Z "java/lang/Throwable" "SUPPRESSED_SENTINEL" "Ljava/util/List;" (.ref (dT 302)) (jA H0) s H0 ∧ va_T .int (dT 400) (dT 401) (fun j => .int (Int32.ofNat (dT (j + 500)))) (jA H0) s H0
theorem jSt.warm {dT : Nat → ClassId} {H0 : Heap} {s U : State} (hW : s.WarmedH U.vm) (h : jSt dT H0 s) : jSt dT H0 U := ⟨fun i h1 h2 => ⟨(h.1 i h1 h2).1.moved hW.alike, (h.1 i h1 h2).2.1.moved hW.alike, (h.1 i h1 h2).2.2.1.moved hW.alike, (h.1 i h1 h2).2.2.2.1.moved hW.alike, (h.1 i h1 h2).2.2.2.2.warm hW⟩, h.2.1.moved hW.alike, h.2.2.1.moved hW.alike, h.2.2.2.1.moved hW.alike, h.2.2.2.2.moved hW.alike⟩
def jKE (dT : Nat → ClassId) (H0 : Heap) (s : State) : Prop := (∀ w ∈ jXW, va_Nw w s) ∧ va_AO "FewKeys$Key" s ∧ va_AO "FewKeys$Desk" s ∧ jSt dT H0 s
theorem jKE_ok {dT : Nat → ClassId} {H0 : Heap} : ∀ s U : State, s.WarmedH U.vm → jKE dT H0 s → jKE dT H0 U := by
  intro s U hW h
  refine ⟨fun w hw => ?_, h.2.1.moved hW.alike, h.2.2.1.moved hW.alike, h.2.2.2.warm hW⟩
  have h1 := h.1 w hw
  simp only [jXW, List.mem_cons, List.not_mem_nil, or_false] at hw
  rcases hw with rfl | rfl | rfl | rfl | rfl | rfl | rfl | rfl | rfl | rfl | rfl | rfl | rfl | rfl | rfl | rfl | rfl | rfl | rfl | rfl | rfl | rfl | rfl | rfl | rfl | rfl | rfl | rfl | rfl | rfl | rfl | rfl | rfl | rfl | rfl | rfl | rfl | rfl | rfl | rfl | rfl | rfl | rfl
  all_goals first | exact va_Nw.warmF hW h1 | exact va_Nw.warmM hW h1 | exact va_Nw.warmD hW h1 | exact va_Nw.warmC hW h1 | exact jSel.moved hW h1 | exact jAI.moved hW.alike h1
abbrev gG (l : Launch) (D : va_G) (dT : Nat → ClassId) (H0 : Heap) : j_G := (l, D, jcl, jtys dT, H0, jKE dT H0)
theorem pmJ0_init : j_pm yJ0_init cJ0_init 2 none 1 := ⟨q277, q66, by decide +kernel, by decide +kernel, by decide +kernel⟩
theorem pmJ0_append : j_pm yJ0_append cJ0_append 2 (some (.object "java/lang/AbstractStringBuilder")) 1 := ⟨q308, q66, by decide +kernel, by decide +kernel, by decide +kernel⟩
theorem pmJ0_ensureCapacityInternal : j_pm yJ0_ensureCapacityInternal cJ0_ensureCapacityInternal 3 none 1 := ⟨q312, q66, by decide +kernel, by decide +kernel, by decide +kernel⟩
theorem pmJ0_newCapacity : j_pm yJ0_newCapacity cJ0_newCapacity 6 (some .int) 1 := ⟨q316, q66, by decide +kernel, by decide +kernel, by decide +kernel⟩
theorem pmJ0_isLatin1 : j_pm yJ0_isLatin1 cJ0_isLatin1 1 (some .boolean) 0 := ⟨q348, q66, by decide +kernel, by decide +kernel, by decide +kernel⟩
theorem pmJ0_inflate : j_pm yJ0_inflate cJ0_inflate 2 none 0 := ⟨q355, q66, by decide +kernel, by decide +kernel, by decide +kernel⟩
theorem pmJ0_getValue : j_pm yJ0_getValue cJ0_getValue 1 (some (.array .byte)) 0 := ⟨q414, q66, by decide +kernel, by decide +kernel, by decide +kernel⟩
theorem pmJ0_length : j_pm yJ0_length cJ0_length 1 (some .int) 0 := ⟨q422, q66, by decide +kernel, by decide +kernel, by decide +kernel⟩
theorem pmJ1_init : j_pm yJ1_init cJ1_init 1 none 0 := ⟨q274, q67, by decide +kernel, by decide +kernel, by decide +kernel⟩
theorem pmJ1_append : j_pm yJ1_append cJ1_append 2 (some (.object "java/lang/StringBuilder")) 1 := ⟨q305, q67, by decide +kernel, by decide +kernel, by decide +kernel⟩
theorem pmJ1_toString : j_pm yJ1_toString cJ1_toString 1 (some (.object "java/lang/String")) 0 := ⟨q400, q67, by decide +kernel, by decide +kernel, by decide +kernel⟩
theorem pmJ1_length : j_pm yJ1_length cJ1_length 1 (some .int) 0 := ⟨q420, q67, by decide +kernel, by decide +kernel, by decide +kernel⟩
theorem pmJ10_init : j_pm yJ10_init cJ10_init 5 none 4 := ⟨q514, q77, by decide +kernel, by decide +kernel, by decide +kernel⟩
theorem pmJ11_bitCount : j_pm yJ11_bitCount cJ11_bitCount 1 (some .int) 1 := ⟨q1031, q87, by decide +kernel, by decide +kernel, by decide +kernel⟩
theorem pmJ2_checkBoundsOffCount : j_pm yJ2_checkBoundsOffCount cJ2_checkBoundsOffCount 3 (some .int) 3 := ⟨q370, q68, by decide +kernel, by decide +kernel, by decide +kernel⟩
theorem pmJ2_checkIndex : j_pm yJ2_checkIndex cJ2_checkIndex 2 none 2 := ⟨q393, q68, by decide +kernel, by decide +kernel, by decide +kernel⟩
theorem pmJ2_init : j_pm yJ2_init cJ2_init 2 none 1 := ⟨q405, q68, by decide +kernel, by decide +kernel, by decide +kernel⟩
theorem pmJ2_init_2 : j_pm yJ2_init_2 cJ2_init_2 5 none 2 := ⟨q408, q68, by decide +kernel, by decide +kernel, by decide +kernel⟩
theorem pmJ2_equals : j_pm yJ2_equals cJ2_equals 3 (some .boolean) 1 := ⟨q464, q68, by decide +kernel, by decide +kernel, by decide +kernel⟩
theorem pmJ2_hashCode : j_pm yJ2_hashCode cJ2_hashCode 2 (some .int) 0 := ⟨q593, q68, by decide +kernel, by decide +kernel, by decide +kernel⟩
theorem pmJ2_isLatin1 : j_pm yJ2_isLatin1 cJ2_isLatin1 1 (some .boolean) 0 := ⟨q597, q68, by decide +kernel, by decide +kernel, by decide +kernel⟩
theorem pmJ3_newBytesFor : j_pm yJ3_newBytesFor cJ3_newBytesFor 1 (some (.array .byte)) 1 := ⟨q283, q69, by decide +kernel, by decide +kernel, by decide +kernel⟩
theorem pmJ3_newBytesLength : j_pm yJ3_newBytesLength cJ3_newBytesLength 1 (some .int) 1 := ⟨q286, q69, by decide +kernel, by decide +kernel, by decide +kernel⟩
theorem pmJ3_inflate : j_pm yJ3_inflate cJ3_inflate 6 none 5 := ⟨q361, q69, by decide +kernel, by decide +kernel, by decide +kernel⟩
theorem pmJ3_checkBoundsOffCount : j_pm yJ3_checkBoundsOffCount cJ3_checkBoundsOffCount 3 none 3 := ⟨q364, q69, by decide +kernel, by decide +kernel, by decide +kernel⟩
theorem pmJ3_length : j_pm yJ3_length cJ3_length 1 (some .int) 1 := ⟨q367, q69, by decide +kernel, by decide +kernel, by decide +kernel⟩
theorem pmJ3_putChar : j_pm yJ3_putChar cJ3_putChar 3 none 3 := ⟨q378, q69, by decide +kernel, by decide +kernel, by decide +kernel⟩
theorem pmJ3_putCharSB : j_pm yJ3_putCharSB cJ3_putCharSB 3 none 3 := ⟨q387, q69, by decide +kernel, by decide +kernel, by decide +kernel⟩
theorem pmJ3_checkIndex : j_pm yJ3_checkIndex cJ3_checkIndex 2 none 2 := ⟨q390, q69, by decide +kernel, by decide +kernel, by decide +kernel⟩
theorem pmJ3_compress : j_pm yJ3_compress cJ3_compress 6 (some (.array .byte)) 3 := ⟨q436, q69, by decide +kernel, by decide +kernel, by decide +kernel⟩
theorem pmJ3_compress_2 : j_pm yJ3_compress_2 cJ3_compress_2 7 (some .int) 5 := ⟨q439, q69, by decide +kernel, by decide +kernel, by decide +kernel⟩
theorem pmJ3_getChar : j_pm yJ3_getChar cJ3_getChar 2 (some .char) 2 := ⟨q442, q69, by decide +kernel, by decide +kernel, by decide +kernel⟩
theorem pmJ3_coderFromArrayLen : j_pm yJ3_coderFromArrayLen cJ3_coderFromArrayLen 2 (some .byte) 2 := ⟨q446, q69, by decide +kernel, by decide +kernel, by decide +kernel⟩
theorem pmJ3_hashCode : j_pm yJ3_hashCode cJ3_hashCode 1 (some .int) 1 := ⟨q641, q69, by decide +kernel, by decide +kernel, by decide +kernel⟩
theorem pmJ4_newLength : j_pm yJ4_newLength cJ4_newLength 4 (some .int) 3 := ⟨q319, q70, by decide +kernel, by decide +kernel, by decide +kernel⟩
theorem pmJ4_hugeLength : j_pm yJ4_hugeLength cJ4_hugeLength 3 (some .int) 2 := ⟨q326, q70, by decide +kernel, by decide +kernel, by decide +kernel⟩
theorem pmJ4_vectorizedHashCode : j_pm yJ4_vectorizedHashCode cJ4_vectorizedHashCode 5 (some .int) 5 := ⟨q603, q70, by decide +kernel, by decide +kernel, by decide +kernel⟩
theorem pmJ4_signedHashCode : j_pm yJ4_signedHashCode cJ4_signedHashCode 6 (some .int) 4 := ⟨q607, q70, by decide +kernel, by decide +kernel, by decide +kernel⟩
theorem pmJ4_utf16hashCode : j_pm yJ4_utf16hashCode cJ4_utf16hashCode 6 (some .int) 4 := ⟨q610, q70, by decide +kernel, by decide +kernel, by decide +kernel⟩
theorem pmJ4_hashCode : j_pm yJ4_hashCode cJ4_hashCode 6 (some .int) 4 := ⟨q627, q70, by decide +kernel, by decide +kernel, by decide +kernel⟩
theorem pmJ4_hashCode_2 : j_pm yJ4_hashCode_2 cJ4_hashCode_2 6 (some .int) 4 := ⟨q630, q70, by decide +kernel, by decide +kernel, by decide +kernel⟩
theorem pmJ4_hashCode_3 : j_pm yJ4_hashCode_3 cJ4_hashCode_3 6 (some .int) 4 := ⟨q634, q70, by decide +kernel, by decide +kernel, by decide +kernel⟩
theorem pmJ4_hashCode_4 : j_pm yJ4_hashCode_4 cJ4_hashCode_4 6 (some .int) 4 := ⟨q638, q70, by decide +kernel, by decide +kernel, by decide +kernel⟩
theorem pmJ5_max : j_pm yJ5_max cJ5_max 2 (some .int) 2 := ⟨q322, q71, by decide +kernel, by decide +kernel, by decide +kernel⟩
theorem pmJ5_min : j_pm yJ5_min cJ5_min 2 (some .int) 2 := ⟨q340, q71, by decide +kernel, by decide +kernel, by decide +kernel⟩
theorem pmJ5_abs : j_pm yJ5_abs cJ5_abs 1 (some .int) 1 := ⟨q1015, q71, by decide +kernel, by decide +kernel, by decide +kernel⟩
theorem pmJ6_copyOf : j_pm yJ6_copyOf cJ6_copyOf 3 (some (.array .byte)) 2 := ⟨q330, q72, by decide +kernel, by decide +kernel, by decide +kernel⟩
theorem pmJ6_copyOfRange : j_pm yJ6_copyOfRange cJ6_copyOfRange 3 (some (.array .byte)) 3 := ⟨q426, q72, by decide +kernel, by decide +kernel, by decide +kernel⟩
theorem pmJ6_copyOfRangeByte : j_pm yJ6_copyOfRangeByte cJ6_copyOfRangeByte 5 (some (.array .byte)) 3 := ⟨q429, q72, by decide +kernel, by decide +kernel, by decide +kernel⟩
theorem pmJ6_checkLength : j_pm yJ6_checkLength cJ6_checkLength 2 none 2 := ⟨q432, q72, by decide +kernel, by decide +kernel, by decide +kernel⟩
theorem pmJ6_fill : j_pm yJ6_fill cJ6_fill 5 none 4 := ⟨q934, q72, by decide +kernel, by decide +kernel, by decide +kernel⟩
theorem pmJ6_rangeCheck : j_pm yJ6_rangeCheck cJ6_rangeCheck 3 none 3 := ⟨q937, q72, by decide +kernel, by decide +kernel, by decide +kernel⟩
theorem pmJ6_fill_2 : j_pm yJ6_fill_2 cJ6_fill_2 4 none 2 := ⟨q940, q72, by decide +kernel, by decide +kernel, by decide +kernel⟩
theorem pmJ6_fill_3 : j_pm yJ6_fill_3 cJ6_fill_3 5 none 4 := ⟨q960, q72, by decide +kernel, by decide +kernel, by decide +kernel⟩
theorem pmJ7_canEncode : j_pm yJ7_canEncode cJ7_canEncode 1 (some .boolean) 1 := ⟨q351, q74, by decide +kernel, by decide +kernel, by decide +kernel⟩
theorem pmJ7_inflate : j_pm yJ7_inflate cJ7_inflate 5 none 5 := ⟨q358, q74, by decide +kernel, by decide +kernel, by decide +kernel⟩
theorem pmJ7_equals : j_pm yJ7_equals cJ7_equals 3 (some .boolean) 2 := ⟨q468, q74, by decide +kernel, by decide +kernel, by decide +kernel⟩
theorem pmJ7_hashCode : j_pm yJ7_hashCode cJ7_hashCode 1 (some .int) 1 := ⟨q600, q74, by decide +kernel, by decide +kernel, by decide +kernel⟩
theorem pmJ8_checkFromIndexSize : j_pm yJ8_checkFromIndexSize cJ8_checkFromIndexSize 4 (some .int) 4 := ⟨q375, q75, by decide +kernel, by decide +kernel, by decide +kernel⟩
theorem pmJ8_checkIndex : j_pm yJ8_checkIndex cJ8_checkIndex 3 (some .int) 3 := ⟨q396, q75, by decide +kernel, by decide +kernel, by decide +kernel⟩
theorem pmJ9_init : j_pm yJ9_init cJ9_init 1 none 0 := ⟨q494, q76, by decide +kernel, by decide +kernel, by decide +kernel⟩
theorem pmJ9_init_2 : j_pm yJ9_init_2 cJ9_init_2 5 none 4 := ⟨q517, q76, by decide +kernel, by decide +kernel, by decide +kernel⟩
theorem pmX0_init : j_pm yX0_init cX0_init 2 none 0 := ⟨q92, q61, by decide +kernel, by decide +kernel, by decide +kernel⟩
theorem pmX0_feed : j_pm yX0_feed cX0_feed 5 (some .int) 2 := ⟨q219, q61, by decide +kernel, by decide +kernel, by decide +kernel⟩
theorem pmX0_isIn : j_pm yX0_isIn cX0_isIn 3 (some .boolean) 3 := ⟨q222, q61, by decide +kernel, by decide +kernel, by decide +kernel⟩
theorem pmX0_many : j_pm yX0_many cX0_many 1 (some .int) 0 := ⟨q758, q61, by decide +kernel, by decide +kernel, by decide +kernel⟩
theorem pmX0_isNone : j_pm yX0_isNone cX0_isNone 1 (some .boolean) 0 := ⟨q762, q61, by decide +kernel, by decide +kernel, by decide +kernel⟩
theorem pmX0_fault : j_pm yX0_fault cX0_fault 1 (some .int) 0 := ⟨q766, q61, by decide +kernel, by decide +kernel, by decide +kernel⟩
theorem pmX0_told : j_pm yX0_told cX0_told 2 (some .int) 1 := ⟨q770, q61, by decide +kernel, by decide +kernel, by decide +kernel⟩
theorem pmX0_shown : j_pm yX0_shown cX0_shown 2 (some .int) 1 := ⟨q774, q61, by decide +kernel, by decide +kernel, by decide +kernel⟩
theorem pmX0_key : j_pm yX0_key cX0_key 4 (some .int) 2 := ⟨q790, q61, by decide +kernel, by decide +kernel, by decide +kernel⟩
theorem pmX0_isKey : j_pm yX0_isKey cX0_isKey 2 (some .boolean) 1 := ⟨q794, q61, by decide +kernel, by decide +kernel, by decide +kernel⟩
theorem pmX0_strike : j_pm yX0_strike cX0_strike 2 (some .int) 1 := ⟨q848, q61, by decide +kernel, by decide +kernel, by decide +kernel⟩
theorem pmX0_strikeNow : j_pm yX0_strikeNow cX0_strikeNow 2 none 1 := ⟨q852, q61, by decide +kernel, by decide +kernel, by decide +kernel⟩
theorem pmX0_begin : j_pm yX0_begin cX0_begin 2 (some .int) 0 := ⟨q915, q61, by decide +kernel, by decide +kernel, by decide +kernel⟩
theorem pmX0_fewest : j_pm yX0_fewest cX0_fewest 2 (some .int) 1 := ⟨q919, q61, by decide +kernel, by decide +kernel, by decide +kernel⟩
theorem pmX0_isNumber : j_pm yX0_isNumber cX0_isNumber 2 (some .boolean) 1 := ⟨q923, q61, by decide +kernel, by decide +kernel, by decide +kernel⟩
theorem pmX0_spread : j_pm yX0_spread cX0_spread 8 none 2 := ⟨q927, q61, by decide +kernel, by decide +kernel, by decide +kernel⟩
theorem pmX0_fewestTo : j_pm yX0_fewestTo cX0_fewestTo 2 (some .int) 1 := ⟨q944, q61, by decide +kernel, by decide +kernel, by decide +kernel⟩
theorem pmX0_way : j_pm yX0_way cX0_way 6 (some .int) 2 := ⟨q948, q61, by decide +kernel, by decide +kernel, by decide +kernel⟩
theorem pmX0_least : j_pm yX0_least cX0_least 4 (some .int) 1 := ⟨q952, q61, by decide +kernel, by decide +kernel, by decide +kernel⟩
theorem pmX0_spreadCosts : j_pm yX0_spreadCosts cX0_spreadCosts 7 none 0 := ⟨q956, q61, by decide +kernel, by decide +kernel, by decide +kernel⟩
theorem pmX0_never : j_pm yX0_never cX0_never 4 (some .int) 1 := ⟨q965, q61, by decide +kernel, by decide +kernel, by decide +kernel⟩
theorem pmX0_farthest : j_pm yX0_farthest cX0_farthest 5 (some .int) 1 := ⟨q969, q61, by decide +kernel, by decide +kernel, by decide +kernel⟩
theorem pmX0_target : j_pm yX0_target cX0_target 2 (some .int) 1 := ⟨q974, q61, by decide +kernel, by decide +kernel, by decide +kernel⟩
theorem pmX0_targetAt : j_pm yX0_targetAt cX0_targetAt 2 (some .int) 1 := ⟨q978, q61, by decide +kernel, by decide +kernel, by decide +kernel⟩
theorem pmX0_forget : j_pm yX0_forget cX0_forget 2 (some .int) 0 := ⟨q982, q61, by decide +kernel, by decide +kernel, by decide +kernel⟩
theorem pmX0_more : j_pm yX0_more cX0_more 6 (some .int) 1 := ⟨q986, q61, by decide +kernel, by decide +kernel, by decide +kernel⟩
theorem pmX0_candidate : j_pm yX0_candidate cX0_candidate 4 (some (.object "FewKeys$Key")) 1 := ⟨q990, q61, by decide +kernel, by decide +kernel, by decide +kernel⟩
theorem pmX0_sumWith : j_pm yX0_sumWith cX0_sumWith 5 (some .int) 1 := ⟨q1000, q61, by decide +kernel, by decide +kernel, by decide +kernel⟩
theorem pmX0_list : j_pm yX0_list cX0_list 3 (some .int) 0 := ⟨q1004, q61, by decide +kernel, by decide +kernel, by decide +kernel⟩
theorem pmX0_goOn : j_pm yX0_goOn cX0_goOn 6 none 0 := ⟨q1008, q61, by decide +kernel, by decide +kernel, by decide +kernel⟩
theorem pmX0_quick : j_pm yX0_quick cX0_quick 9 (some .int) 2 := ⟨q1012, q61, by decide +kernel, by decide +kernel, by decide +kernel⟩
theorem pmX0_struck : j_pm yX0_struck cX0_struck 7 (some .int) 3 := ⟨q1019, q61, by decide +kernel, by decide +kernel, by decide +kernel⟩
theorem pmX0_rowsTo : j_pm yX0_rowsTo cX0_rowsTo 8 (some .int) 3 := ⟨q1023, q61, by decide +kernel, by decide +kernel, by decide +kernel⟩
theorem pmX0_lost : j_pm yX0_lost cX0_lost 3 (some .int) 1 := ⟨q1028, q61, by decide +kernel, by decide +kernel, by decide +kernel⟩
theorem pmX0_has : j_pm yX0_has cX0_has 2 (some .boolean) 2 := ⟨q1037, q61, by decide +kernel, by decide +kernel, by decide +kernel⟩
theorem pmX0_parts : j_pm yX0_parts cX0_parts 12 (some .boolean) 3 := ⟨q1041, q61, by decide +kernel, by decide +kernel, by decide +kernel⟩
theorem pmX0_game : j_pm yX0_game cX0_game 7 (some .int) 3 := ⟨q1045, q61, by decide +kernel, by decide +kernel, by decide +kernel⟩
theorem pmX0_worth : j_pm yX0_worth cX0_worth 7 (some .int) 3 := ⟨q1049, q61, by decide +kernel, by decide +kernel, by decide +kernel⟩
theorem pmX0_write : j_pm yX0_write cX0_write 3 (some .int) 2 := ⟨q1054, q61, by decide +kernel, by decide +kernel, by decide +kernel⟩
theorem pmX0_tear : j_pm yX0_tear cX0_tear 2 (some .int) 0 := ⟨q1058, q61, by decide +kernel, by decide +kernel, by decide +kernel⟩
theorem pmX0_judge : j_pm yX0_judge cX0_judge 3 (some .int) 0 := ⟨q1062, q61, by decide +kernel, by decide +kernel, by decide +kernel⟩
theorem pmX0_drift : j_pm yX0_drift cX0_drift 3 (some .int) 1 := ⟨q1066, q61, by decide +kernel, by decide +kernel, by decide +kernel⟩
theorem pmX0_seed : j_pm yX0_seed cX0_seed 3 (some .int) 1 := ⟨q1078, q61, by decide +kernel, by decide +kernel, by decide +kernel⟩
theorem pmX0_keep : j_pm yX0_keep cX0_keep 2 (some .int) 1 := ⟨q1082, q61, by decide +kernel, by decide +kernel, by decide +kernel⟩
theorem pmX0_goBack : j_pm yX0_goBack cX0_goBack 2 (some .int) 1 := ⟨q1091, q61, by decide +kernel, by decide +kernel, by decide +kernel⟩
theorem pmX1_init : j_pm yX1_init cX1_init 1 none 0 := ⟨q100, q62, by decide +kernel, by decide +kernel, by decide +kernel⟩
theorem pmX10_init : j_pm yX10_init cX10_init 3 none 2 := ⟨q694, q83, by decide +kernel, by decide +kernel, by decide +kernel⟩
theorem pmX10_kind : j_pm yX10_kind cX10_kind 1 (some .int) 0 := ⟨q801, q83, by decide +kernel, by decide +kernel, by decide +kernel⟩
theorem pmX10_strike : j_pm yX10_strike cX10_strike 2 (some .int) 1 := ⟨q858, q83, by decide +kernel, by decide +kernel, by decide +kernel⟩
theorem pmX11_init : j_pm yX11_init cX11_init 5 none 4 := ⟨q711, q84, by decide +kernel, by decide +kernel, by decide +kernel⟩
theorem pmX11_kind : j_pm yX11_kind cX11_kind 1 (some .int) 0 := ⟨q810, q84, by decide +kernel, by decide +kernel, by decide +kernel⟩
theorem pmX11_number : j_pm yX11_number cX11_number 1 (some .int) 0 := ⟨q827, q84, by decide +kernel, by decide +kernel, by decide +kernel⟩
theorem pmX11_other : j_pm yX11_other cX11_other 1 (some .int) 0 := ⟨q839, q84, by decide +kernel, by decide +kernel, by decide +kernel⟩
theorem pmX11_strike : j_pm yX11_strike cX11_strike 2 (some .int) 1 := ⟨q892, q84, by decide +kernel, by decide +kernel, by decide +kernel⟩
theorem pmX12_init : j_pm yX12_init cX12_init 5 none 4 := ⟨q730, q85, by decide +kernel, by decide +kernel, by decide +kernel⟩
theorem pmX12_kind : j_pm yX12_kind cX12_kind 1 (some .int) 0 := ⟨q816, q85, by decide +kernel, by decide +kernel, by decide +kernel⟩
theorem pmX12_other : j_pm yX12_other cX12_other 1 (some .int) 0 := ⟨q843, q85, by decide +kernel, by decide +kernel, by decide +kernel⟩
theorem pmX12_strike : j_pm yX12_strike cX12_strike 2 (some .int) 1 := ⟨q909, q85, by decide +kernel, by decide +kernel, by decide +kernel⟩
theorem pmX13_init : j_pm yX13_init cX13_init 4 none 3 := ⟨q743, q86, by decide +kernel, by decide +kernel, by decide +kernel⟩
theorem pmX13_kind : j_pm yX13_kind cX13_kind 1 (some .int) 0 := ⟨q813, q86, by decide +kernel, by decide +kernel, by decide +kernel⟩
theorem pmX13_strike : j_pm yX13_strike cX13_strike 4 (some .int) 1 := ⟨q900, q86, by decide +kernel, by decide +kernel, by decide +kernel⟩
theorem pmX2_init : j_pm yX2_init cX2_init 1 none 0 := ⟨q122, q63, by decide +kernel, by decide +kernel, by decide +kernel⟩
theorem pmX2_begin : j_pm yX2_begin cX2_begin 1 none 0 := ⟨q754, q63, by decide +kernel, by decide +kernel, by decide +kernel⟩
theorem pmX2_draw : j_pm yX2_draw cX2_draw 2 (some .int) 1 := ⟨q1070, q63, by decide +kernel, by decide +kernel, by decide +kernel⟩
theorem pmX2_set : j_pm yX2_set cX2_set 2 none 1 := ⟨q1086, q63, by decide +kernel, by decide +kernel, by decide +kernel⟩
theorem pmX3_init : j_pm yX3_init cX3_init 1 none 0 := ⟨q1096, q64, by decide +kernel, by decide +kernel, by decide +kernel⟩
theorem pmX3_feed : j_pm yX3_feed cX3_feed 5 (some .int) 2 := ⟨q1227, q64, by decide +kernel, by decide +kernel, by decide +kernel⟩
theorem pmX3_in : j_pm yX3_in cX3_in 3 (some .boolean) 3 := ⟨q1230, q64, by decide +kernel, by decide +kernel, by decide +kernel⟩
theorem pmX3_reckoner : j_pm yX3_reckoner cX3_reckoner 3 (some .int) 0 := ⟨q1237, q64, by decide +kernel, by decide +kernel, by decide +kernel⟩
theorem pmX3_isRead : j_pm yX3_isRead cX3_isRead 2 (some .boolean) 0 := ⟨q1241, q64, by decide +kernel, by decide +kernel, by decide +kernel⟩
theorem pmX3_nextToken : j_pm yX3_nextToken cX3_nextToken 1 none 0 := ⟨q1245, q64, by decide +kernel, by decide +kernel, by decide +kernel⟩
theorem pmX3_fails : j_pm yX3_fails cX3_fails 2 (some .boolean) 1 := ⟨q1256, q64, by decide +kernel, by decide +kernel, by decide +kernel⟩
theorem pmX3_isDial : j_pm yX3_isDial cX3_isDial 2 (some .boolean) 0 := ⟨q1260, q64, by decide +kernel, by decide +kernel, by decide +kernel⟩
theorem pmX3_isNext : j_pm yX3_isNext cX3_isNext 4 (some .boolean) 3 := ⟨q1266, q64, by decide +kernel, by decide +kernel, by decide +kernel⟩
theorem pmX3_ends : j_pm yX3_ends cX3_ends 1 (some .boolean) 0 := ⟨q1270, q64, by decide +kernel, by decide +kernel, by decide +kernel⟩
theorem pmX3_isKey : j_pm yX3_isKey cX3_isKey 4 (some .boolean) 0 := ⟨q1274, q64, by decide +kernel, by decide +kernel, by decide +kernel⟩
theorem pmX3_isNow : j_pm yX3_isNow cX3_isNow 2 (some .boolean) 1 := ⟨q1286, q64, by decide +kernel, by decide +kernel, by decide +kernel⟩
theorem pmX3_isCost : j_pm yX3_isCost cX3_isCost 2 (some .boolean) 1 := ⟨q1290, q64, by decide +kernel, by decide +kernel, by decide +kernel⟩
theorem pmX3_start : j_pm yX3_start cX3_start 1 none 0 := ⟨q1294, q64, by decide +kernel, by decide +kernel, by decide +kernel⟩
theorem pmX3_fault : j_pm yX3_fault cX3_fault 1 (some .int) 0 := ⟨q1298, q64, by decide +kernel, by decide +kernel, by decide +kernel⟩
theorem pmX3_told : j_pm yX3_told cX3_told 2 (some .int) 1 := ⟨q1302, q64, by decide +kernel, by decide +kernel, by decide +kernel⟩
theorem pmX3_key : j_pm yX3_key cX3_key 3 (some .int) 2 := ⟨q1306, q64, by decide +kernel, by decide +kernel, by decide +kernel⟩
theorem pmX3_strike : j_pm yX3_strike cX3_strike 2 (some .int) 1 := ⟨q1311, q64, by decide +kernel, by decide +kernel, by decide +kernel⟩
theorem pmX3_doStroke : j_pm yX3_doStroke cX3_doStroke 3 none 1 := ⟨q1315, q64, by decide +kernel, by decide +kernel, by decide +kernel⟩
theorem pmX3_figure : j_pm yX3_figure cX3_figure 3 none 1 := ⟨q1319, q64, by decide +kernel, by decide +kernel, by decide +kernel⟩
theorem pmX3_reckon : j_pm yX3_reckon cX3_reckon 4 (some .int) 3 := ⟨q1323, q64, by decide +kernel, by decide +kernel, by decide +kernel⟩
theorem pmX3_bound : j_pm yX3_bound cX3_bound 2 (some .int) 1 := ⟨q1327, q64, by decide +kernel, by decide +kernel, by decide +kernel⟩
theorem pmX3_begin : j_pm yX3_begin cX3_begin 2 (some .int) 0 := ⟨q1331, q64, by decide +kernel, by decide +kernel, by decide +kernel⟩
theorem pmX3_fewest : j_pm yX3_fewest cX3_fewest 2 (some .int) 1 := ⟨q1335, q64, by decide +kernel, by decide +kernel, by decide +kernel⟩
theorem pmX3_isNumber : j_pm yX3_isNumber cX3_isNumber 2 (some .boolean) 1 := ⟨q1339, q64, by decide +kernel, by decide +kernel, by decide +kernel⟩
theorem pmX3_layFewest : j_pm yX3_layFewest cX3_layFewest 9 none 1 := ⟨q1343, q64, by decide +kernel, by decide +kernel, by decide +kernel⟩
theorem pmX3_stateNow : j_pm yX3_stateNow cX3_stateNow 1 (some .int) 0 := ⟨q1347, q64, by decide +kernel, by decide +kernel, by decide +kernel⟩
theorem pmX3_states : j_pm yX3_states cX3_states 1 (some .int) 0 := ⟨q1351, q64, by decide +kernel, by decide +kernel, by decide +kernel⟩
theorem pmX3_shownIn : j_pm yX3_shownIn cX3_shownIn 2 (some .int) 1 := ⟨q1355, q64, by decide +kernel, by decide +kernel, by decide +kernel⟩
theorem pmX3_behind : j_pm yX3_behind cX3_behind 3 (some .int) 2 := ⟨q1359, q64, by decide +kernel, by decide +kernel, by decide +kernel⟩
theorem pmX3_setState : j_pm yX3_setState cX3_setState 2 none 1 := ⟨q1363, q64, by decide +kernel, by decide +kernel, by decide +kernel⟩
theorem pmX3_way : j_pm yX3_way cX3_way 4 (some .int) 2 := ⟨q1367, q64, by decide +kernel, by decide +kernel, by decide +kernel⟩
theorem pmX3_least : j_pm yX3_least cX3_least 2 (some .int) 1 := ⟨q1371, q64, by decide +kernel, by decide +kernel, by decide +kernel⟩
theorem pmX3_leastOf : j_pm yX3_leastOf cX3_leastOf 10 (some .int) 1 := ⟨q1375, q64, by decide +kernel, by decide +kernel, by decide +kernel⟩
theorem pmX3_putIn : j_pm yX3_putIn cX3_putIn 3 none 1 := ⟨q1379, q64, by decide +kernel, by decide +kernel, by decide +kernel⟩
theorem pmX3_takeOut : j_pm yX3_takeOut cX3_takeOut 2 none 1 := ⟨q1383, q64, by decide +kernel, by decide +kernel, by decide +kernel⟩
theorem pmX3_never : j_pm yX3_never cX3_never 4 (some .int) 1 := ⟨q1387, q64, by decide +kernel, by decide +kernel, by decide +kernel⟩
theorem pmX3_farthest : j_pm yX3_farthest cX3_farthest 4 (some .int) 1 := ⟨q1391, q64, by decide +kernel, by decide +kernel, by decide +kernel⟩
theorem pmX3_target : j_pm yX3_target cX3_target 2 (some .int) 1 := ⟨q1396, q64, by decide +kernel, by decide +kernel, by decide +kernel⟩
theorem pmX3_targetAt : j_pm yX3_targetAt cX3_targetAt 2 (some .int) 1 := ⟨q1400, q64, by decide +kernel, by decide +kernel, by decide +kernel⟩
theorem pmX3_forget : j_pm yX3_forget cX3_forget 2 (some .int) 0 := ⟨q1404, q64, by decide +kernel, by decide +kernel, by decide +kernel⟩
theorem pmX3_more : j_pm yX3_more cX3_more 7 (some .int) 1 := ⟨q1408, q64, by decide +kernel, by decide +kernel, by decide +kernel⟩
theorem pmX3_allFewest : j_pm yX3_allFewest cX3_allFewest 4 (some .int) 1 := ⟨q1412, q64, by decide +kernel, by decide +kernel, by decide +kernel⟩
theorem pmX3_list : j_pm yX3_list cX3_list 1 (some .int) 0 := ⟨q1416, q64, by decide +kernel, by decide +kernel, by decide +kernel⟩
theorem pmX3_listOf : j_pm yX3_listOf cX3_listOf 13 (some .int) 0 := ⟨q1420, q64, by decide +kernel, by decide +kernel, by decide +kernel⟩
theorem pmX3_goOn : j_pm yX3_goOn cX3_goOn 4 (some .int) 2 := ⟨q1424, q64, by decide +kernel, by decide +kernel, by decide +kernel⟩
theorem pmX3_insert : j_pm yX3_insert cX3_insert 5 none 3 := ⟨q1428, q64, by decide +kernel, by decide +kernel, by decide +kernel⟩
theorem pmX3_quick : j_pm yX3_quick cX3_quick 8 (some .int) 2 := ⟨q1432, q64, by decide +kernel, by decide +kernel, by decide +kernel⟩
theorem pmX3_struck : j_pm yX3_struck cX3_struck 7 (some .int) 3 := ⟨q1436, q64, by decide +kernel, by decide +kernel, by decide +kernel⟩
theorem pmX3_rowsTo : j_pm yX3_rowsTo cX3_rowsTo 8 (some .int) 3 := ⟨q1440, q64, by decide +kernel, by decide +kernel, by decide +kernel⟩
theorem pmX3_lost : j_pm yX3_lost cX3_lost 7 (some .int) 1 := ⟨q1444, q64, by decide +kernel, by decide +kernel, by decide +kernel⟩
theorem pmX3_bits : j_pm yX3_bits cX3_bits 3 (some .int) 1 := ⟨q1447, q64, by decide +kernel, by decide +kernel, by decide +kernel⟩
theorem pmX3_tells : j_pm yX3_tells cX3_tells 10 (some .boolean) 4 := ⟨q1451, q64, by decide +kernel, by decide +kernel, by decide +kernel⟩
theorem pmX3_has : j_pm yX3_has cX3_has 2 (some .boolean) 2 := ⟨q1454, q64, by decide +kernel, by decide +kernel, by decide +kernel⟩
theorem pmX3_shownBy : j_pm yX3_shownBy cX3_shownBy 9 (some .long) 3 := ⟨q1458, q64, by decide +kernel, by decide +kernel, by decide +kernel⟩
theorem pmX3_game : j_pm yX3_game cX3_game 8 (some .int) 3 := ⟨q1463, q64, by decide +kernel, by decide +kernel, by decide +kernel⟩
theorem pmX3_layGame : j_pm yX3_layGame cX3_layGame 7 none 2 := ⟨q1467, q64, by decide +kernel, by decide +kernel, by decide +kernel⟩
theorem pmX3_worth : j_pm yX3_worth cX3_worth 3 (some .int) 2 := ⟨q1471, q64, by decide +kernel, by decide +kernel, by decide +kernel⟩
theorem pmX3_write : j_pm yX3_write cX3_write 3 (some .int) 2 := ⟨q1475, q64, by decide +kernel, by decide +kernel, by decide +kernel⟩
theorem pmX3_tear : j_pm yX3_tear cX3_tear 2 (some .int) 0 := ⟨q1479, q64, by decide +kernel, by decide +kernel, by decide +kernel⟩
theorem pmX3_judge : j_pm yX3_judge cX3_judge 4 (some .int) 0 := ⟨q1483, q64, by decide +kernel, by decide +kernel, by decide +kernel⟩
theorem pmX3_drift : j_pm yX3_drift cX3_drift 4 (some .int) 1 := ⟨q1487, q64, by decide +kernel, by decide +kernel, by decide +kernel⟩
theorem pmX3_seed : j_pm yX3_seed cX3_seed 3 (some .int) 1 := ⟨q1495, q64, by decide +kernel, by decide +kernel, by decide +kernel⟩
theorem pmX3_keep : j_pm yX3_keep cX3_keep 3 (some .int) 1 := ⟨q1499, q64, by decide +kernel, by decide +kernel, by decide +kernel⟩
theorem pmX3_goBack : j_pm yX3_goBack cX3_goBack 3 (some .int) 1 := ⟨q1503, q64, by decide +kernel, by decide +kernel, by decide +kernel⟩
theorem pmX4_init : j_pm yX4_init cX4_init 3 none 2 := ⟨q234, q65, by decide +kernel, by decide +kernel, by decide +kernel⟩
theorem pmX4_all : j_pm yX4_all cX4_all 3 (some (.object "FewKeys$Reckoner")) 0 := ⟨q257, q65, by decide +kernel, by decide +kernel, by decide +kernel⟩
theorem pmX4_here : j_pm yX4_here cX4_here 1 (some .int) 0 := ⟨q261, q65, by decide +kernel, by decide +kernel, by decide +kernel⟩
theorem pmX4_dial : j_pm yX4_dial cX4_dial 6 none 0 := ⟨q265, q65, by decide +kernel, by decide +kernel, by decide +kernel⟩
theorem pmX4_word : j_pm yX4_word cX4_word 3 (some (.object "java/lang/String")) 0 := ⟨q269, q65, by decide +kernel, by decide +kernel, by decide +kernel⟩
theorem pmX4_want : j_pm yX4_want cX4_want 3 none 3 := ⟨q471, q65, by decide +kernel, by decide +kernel, by decide +kernel⟩
theorem pmX4_number : j_pm yX4_number cX4_number 4 (some .int) 2 := ⟨q544, q65, by decide +kernel, by decide +kernel, by decide +kernel⟩
theorem pmX4_end : j_pm yX4_end cX4_end 1 none 0 := ⟨q574, q65, by decide +kernel, by decide +kernel, by decide +kernel⟩
theorem pmX4_isKey : j_pm yX4_isKey cX4_isKey 1 (some .boolean) 1 := ⟨q577, q65, by decide +kernel, by decide +kernel, by decide +kernel⟩
theorem pmX4_key : j_pm yX4_key cX4_key 7 (some (.object "FewKeys$Key")) 2 := ⟨q589, q65, by decide +kernel, by decide +kernel, by decide +kernel⟩
theorem pmX4_figure : j_pm yX4_figure cX4_figure 1 (some .int) 0 := ⟨q646, q65, by decide +kernel, by decide +kernel, by decide +kernel⟩
theorem pmX4_cost : j_pm yX4_cost cX4_cost 1 (some .int) 0 := ⟨q652, q65, by decide +kernel, by decide +kernel, by decide +kernel⟩
theorem pmX4_now : j_pm yX4_now cX4_now 4 (some (.object "FewKeys$Key")) 0 := ⟨q702, q65, by decide +kernel, by decide +kernel, by decide +kernel⟩
theorem pmX4_sign : j_pm yX4_sign cX4_sign 4 (some .int) 2 := ⟨q706, q65, by decide +kernel, by decide +kernel, by decide +kernel⟩
theorem pmX4_stuck : j_pm yX4_stuck cX4_stuck 3 (some (.object "FewKeys$Key")) 0 := ⟨q725, q65, by decide +kernel, by decide +kernel, by decide +kernel⟩
theorem pmX5_init : j_pm yX5_init cX5_init 3 none 2 := ⟨q511, q78, by decide +kernel, by decide +kernel, by decide +kernel⟩
theorem pmX6_init : j_pm yX6_init cX6_init 5 none 4 := ⟨q550, q79, by decide +kernel, by decide +kernel, by decide +kernel⟩
theorem pmX6_shown : j_pm yX6_shown cX6_shown 2 (some .int) 1 := ⟨q778, q79, by decide +kernel, by decide +kernel, by decide +kernel⟩
theorem pmX6_waits : j_pm yX6_waits cX6_waits 2 (some .int) 1 := ⟨q782, q79, by decide +kernel, by decide +kernel, by decide +kernel⟩
theorem pmX6_held : j_pm yX6_held cX6_held 2 (some .int) 1 := ⟨q786, q79, by decide +kernel, by decide +kernel, by decide +kernel⟩
theorem pmX6_type : j_pm yX6_type cX6_type 5 (some .int) 2 := ⟨q865, q79, by decide +kernel, by decide +kernel, by decide +kernel⟩
theorem pmX6_isTyped : j_pm yX6_isTyped cX6_isTyped 2 (some .boolean) 1 := ⟨q869, q79, by decide +kernel, by decide +kernel, by decide +kernel⟩
theorem pmX6_state : j_pm yX6_state cX6_state 5 (some .int) 4 := ⟨q876, q79, by decide +kernel, by decide +kernel, by decide +kernel⟩
theorem pmX6_reckon : j_pm yX6_reckon cX6_reckon 6 (some .int) 3 := ⟨q886, q79, by decide +kernel, by decide +kernel, by decide +kernel⟩
theorem pmX6_states : j_pm yX6_states cX6_states 1 (some .int) 0 := ⟨q931, q79, by decide +kernel, by decide +kernel, by decide +kernel⟩
theorem pmX7_init : j_pm yX7_init cX7_init 3 none 2 := ⟨q658, q80, by decide +kernel, by decide +kernel, by decide +kernel⟩
theorem pmX7_number : j_pm yX7_number cX7_number 1 (some .int) 0 := ⟨q830, q80, by decide +kernel, by decide +kernel, by decide +kernel⟩
theorem pmX7_other : j_pm yX7_other cX7_other 1 (some .int) 0 := ⟨q844, q80, by decide +kernel, by decide +kernel, by decide +kernel⟩
theorem pmX8_init : j_pm yX8_init cX8_init 4 none 3 := ⟨q655, q81, by decide +kernel, by decide +kernel, by decide +kernel⟩
theorem pmX8_kind : j_pm yX8_kind cX8_kind 1 (some .int) 0 := ⟨q804, q81, by decide +kernel, by decide +kernel, by decide +kernel⟩
theorem pmX8_number : j_pm yX8_number cX8_number 1 (some .int) 0 := ⟨q823, q81, by decide +kernel, by decide +kernel, by decide +kernel⟩
theorem pmX8_strike : j_pm yX8_strike cX8_strike 2 (some .int) 1 := ⟨q861, q81, by decide +kernel, by decide +kernel, by decide +kernel⟩
theorem pmX9_init : j_pm yX9_init cX9_init 3 none 2 := ⟨q685, q82, by decide +kernel, by decide +kernel, by decide +kernel⟩
theorem pmX9_kind : j_pm yX9_kind cX9_kind 1 (some .int) 0 := ⟨q807, q82, by decide +kernel, by decide +kernel, by decide +kernel⟩
theorem pmX9_strike : j_pm yX9_strike cX9_strike 4 (some .int) 1 := ⟨q879, q82, by decide +kernel, by decide +kernel, by decide +kernel⟩
/-! answers -/
def jq_i (v : Int32) (r : Nat → Nat) (h : j_H) (nx : Nat) : j_Q := fun o r' h' nx' => o = .returned (some (.int v)) ∧ r' = r ∧ h' = h ∧ nx' = nx
def jq_l (v : Int64) (r : Nat → Nat) (h : j_H) (nx : Nat) : j_Q := fun o r' h' nx' => o = .returned (some (.long v)) ∧ r' = r ∧ h' = h ∧ nx' = nx
def jq_v (r : Nat → Nat) (h : j_H) (nx : Nat) : j_Q := fun o r' h' nx' => o = .returned none ∧ r' = r ∧ h' = h ∧ nx' = nx
theorem jq_i.isR {v : Int32} {r : Nat → Nat} {h : j_H} {nx : Nat} : j_isR (jq_i v r h nx) := fun _ _ _ _ hq => ⟨_, hq.1⟩
theorem jq_l.isR {v : Int64} {r : Nat → Nat} {h : j_H} {nx : Nat} : j_isR (jq_l v r h nx) := fun _ _ _ _ hq => ⟨_, hq.1⟩
theorem jq_v.isR {r : Nat → Nat} {h : j_H} {nx : Nat} : j_isR (jq_v r h nx) := fun _ _ _ _ hq => ⟨_, hq.1⟩
def j_b (c : Prop) [Decidable c] : Int32 := if c then 1 else 0
theorem j_b_t {c : Prop} [Decidable c] (h : c) : j_b c = 1 := if_pos h
theorem j_b_f {c : Prop} [Decidable c] (h : ¬ c) : j_b c = 0 := if_neg h
section JK
variable {G : j_G} {cc : ByteArray} {own : String} {nL : Nat} {ret : Option FieldType} {nm : String} {R : Room} {xt : Code → Prop} {Q : j_Q} {mc ms cells slots : Nat} {r : Nat → Nat} {h : j_H} {nx pc : Nat} {L : List (Option Value)} {st : List Value}
variable {y : MethodName} {bytes : ByteArray} {maxL d1 n index i ci mc1 ms1 : Nat} {rt : Option FieldType} {As stk fs : List Value} {q0 : vw_C} {r1 : Nat → Nat} {h1 : j_H} {nx1 : Nat}

theorem j_eqi {x x' : Int32} (e : x = x') (k : J G (cc, own, nL, ret, nm, R, xt) Q mc ms cells slots r h nx pc L (.int x' :: st)) : J G (cc, own, nL, ret, nm, R, xt) Q mc ms cells slots r h nx pc L (.int x :: st) := e ▸ k
theorem j_eql {x x' : Int64} (e : x = x') (k : J G (cc, own, nL, ret, nm, R, xt) Q mc ms cells slots r h nx pc L (.long x' :: st)) : J G (cc, own, nL, ret, nm, R, xt) Q mc ms cells slots r h nx pc L (.long x :: st) := e ▸ k
theorem j_ifb_eq {c : Prop} [Decidable c] {off : Int} {tgt : Nat} (hd : decode cc pc = .ok (.ifCond .eq off, 3)) (ht : (pc : Int) + off = (tgt : Int)) (kt : ¬ c → J G (cc, own, nL, ret, nm, R, xt) Q mc ms cells slots r h nx tgt L st) (kf : c → J G (cc, own, nL, ret, nm, R, xt) Q mc ms cells slots r h nx (pc + 3) L st) : J G (cc, own, nL, ret, nm, R, xt) Q mc ms cells slots r h nx pc L (.int (j_b c) :: st) :=
  j_if_eq hd ht (fun z => kt (fun hc => by rw [j_b_t hc] at z; exact absurd z (by decide))) (fun z => kf (by by_cases hc : c; exact hc; exact absurd (j_b_f hc) z))
theorem j_ifb_ne {c : Prop} [Decidable c] {off : Int} {tgt : Nat} (hd : decode cc pc = .ok (.ifCond .ne off, 3)) (ht : (pc : Int) + off = (tgt : Int)) (kt : c → J G (cc, own, nL, ret, nm, R, xt) Q mc ms cells slots r h nx tgt L st) (kf : ¬ c → J G (cc, own, nL, ret, nm, R, xt) Q mc ms cells slots r h nx (pc + 3) L st) : J G (cc, own, nL, ret, nm, R, xt) Q mc ms cells slots r h nx pc L (.int (j_b c) :: st) :=
  j_if_ne hd ht (fun z => kt (by by_cases hc : c; exact hc; exact absurd (j_b_f hc) z)) (fun z => kf (fun hc => by rw [j_b_t hc] at z; exact absurd z (by decide)))
theorem j_callVi {v : Int32} (hM : MC G y bytes maxL rt d1 mc1 ms1 (.ref (r i) :: As) r h nx (jq_i v r1 h1 nx1)) (hd : decode cc pc = .ok (.invokevirtual index, 3)) (hpm : j_pm y bytes maxL rt n) (hw : Cond.methodLink own index y ∈ lw_all) (hw2 : Cond.instanceMethod y ∈ lw_all) (hw3 : Cond.selects y.cls y y ∈ lw_all) (hi : h i = some (.inr (ci, fs))) (hc : G.2.2.1[ci]? = some q0) (hcl : q0.1 = y.cls) (hst : stk = As.reverse ++ .ref (r i) :: st) (hR : d1 + 1 ≤ R.frames ∧ 8 + (maxL + 11) + 64 * d1 ≤ R.locals) (hf : cells + mc1 ≤ R.cells ∧ slots + ms1 ≤ R.slots) (hn : As.length = n) (hcat : (st.map fun v => v.category).sum ≤ 8) (k : J G (cc, own, nL, ret, nm, R, xt) Q mc ms (cells + mc1) (slots + ms1) r1 h1 nx1 (pc + 3) L (.int v :: st)) : J G (cc, own, nL, ret, nm, R, xt) Q mc ms cells slots r h nx pc L stk :=
  j_callV hM jq_i.isR hd hpm hw hw2 hw3 hi hc hcl hst hR hf hn hcat (by rintro v2 r2 h2 n2 ⟨e1, rfl, rfl, rfl⟩; cases e1; exact k)
theorem j_callSi {v : Int32} (hM : MC G y bytes maxL rt d1 mc1 ms1 As r h nx (jq_i v r1 h1 nx1)) (hd : decode cc pc = .ok (.invokestatic index, 3)) (hpm : j_pm y bytes maxL rt n) (hw : Cond.methodLink own index y ∈ lw_all) (hw2 : Cond.static y ∈ lw_all) (hst : stk = As.reverse ++ st) (hR : d1 + 1 ≤ R.frames ∧ 8 + (maxL + 11) + 64 * d1 ≤ R.locals) (hf : cells + mc1 ≤ R.cells ∧ slots + ms1 ≤ R.slots) (hn : As.length = n) (hcat : (st.map fun v => v.category).sum ≤ 8) (k : J G (cc, own, nL, ret, nm, R, xt) Q mc ms (cells + mc1) (slots + ms1) r1 h1 nx1 (pc + 3) L (.int v :: st)) : J G (cc, own, nL, ret, nm, R, xt) Q mc ms cells slots r h nx pc L stk :=
  j_callS hM jq_i.isR hd hpm hw hw2 hst hR hf hn hcat (by rintro v2 r2 h2 n2 ⟨e1, rfl, rfl, rfl⟩; cases e1; exact k)
theorem j_callSNi {v : Int32} {host : String} (hM : MC G y bytes maxL rt d1 mc1 ms1 As r h nx (jq_i v r1 h1 nx1)) (hd : decode cc pc = .ok (.invokestatic index, 3)) (hpm : j_pm y bytes maxL rt n) (hw : ∀ s : State, G.2.2.2.2.2 s → va_Nw (Cond.methodLinkNest own index y host) s) (hw2 : Cond.static y ∈ lw_all) (hst : stk = As.reverse ++ st) (hR : d1 + 1 ≤ R.frames ∧ 8 + (maxL + 11) + 64 * d1 ≤ R.locals) (hf : cells + mc1 ≤ R.cells ∧ slots + ms1 ≤ R.slots) (hn : As.length = n) (hcat : (st.map fun v => v.category).sum ≤ 8) (k : J G (cc, own, nL, ret, nm, R, xt) Q mc ms (cells + mc1) (slots + ms1) r1 h1 nx1 (pc + 3) L (.int v :: st)) : J G (cc, own, nL, ret, nm, R, xt) Q mc ms cells slots r h nx pc L stk :=
  j_callSN hM jq_i.isR hd hpm hw hw2 hst hR hf hn hcat (by rintro v2 r2 h2 n2 ⟨e1, rfl, rfl, rfl⟩; cases e1; exact k)
theorem j_callAi {v : Int32} {x : MethodName} {owner : String} (hM : MC G y bytes maxL rt d1 mc1 ms1 (.ref (r i) :: As) r h nx (jq_i v r1 h1 nx1)) (hd : decode cc pc = .ok (.invokevirtual index, 3)) (hpm : j_pm y bytes maxL rt n) (hw : Cond.methodLink own index x ∈ lw_all) (hw1 : Cond.sameMethod x.cls owner x.name x.desc ∈ lw_all) (hw2 : Cond.instanceMethod y ∈ lw_all) (hw3 : Cond.selects q0.1 x y ∈ lw_all) (hz : ∀ s : State, G.2.2.2.2.2 s → va_Nw (.declares ⟨owner, x.name, x.desc⟩) s) (hdx : owner ≠ "java/lang/invoke/MethodHandle" ∧ owner ≠ "java/lang/invoke/VarHandle" ∧ (parseMethodDescriptor x.desc).map (fun d => d.parameters.length) = some n) (hi : h i = some (.inr (ci, fs))) (hc : G.2.2.1[ci]? = some q0) (hst : stk = As.reverse ++ .ref (r i) :: st) (hR : d1 + 1 ≤ R.frames ∧ 8 + (maxL + 11) + 64 * d1 ≤ R.locals) (hf : cells + mc1 ≤ R.cells ∧ slots + ms1 ≤ R.slots) (hn : As.length = n) (hcat : (st.map fun v => v.category).sum ≤ 8) (k : J G (cc, own, nL, ret, nm, R, xt) Q mc ms (cells + mc1) (slots + ms1) r1 h1 nx1 (pc + 3) L (.int v :: st)) : J G (cc, own, nL, ret, nm, R, xt) Q mc ms cells slots r h nx pc L stk :=
  j_callA hM jq_i.isR hd hpm hw hw1 hw2 hw3 hz hdx hi hc hst hR hf hn hcat (by rintro v2 r2 h2 n2 ⟨e1, rfl, rfl, rfl⟩; cases e1; exact k)
theorem j_callOi {v : Int32} {x : MethodName} {owner : String} {b0 : ByteArray} {m0 : Nat} {r0 : Option FieldType} (hM : MC G y bytes maxL rt d1 mc1 ms1 (.ref (r i) :: As) r h nx (jq_i v r1 h1 nx1)) (hd : decode cc pc = .ok (.invokevirtual index, 3)) (hpm : j_pm y bytes maxL rt n) (hw : Cond.methodLink own index x ∈ lw_all) (hw1 : Cond.sameMethod x.cls owner x.name x.desc ∈ lw_all) (hw0 : Cond.instanceMethod ⟨owner, x.name, x.desc⟩ ∈ lw_all) (hw4 : Cond.code ⟨owner, x.name, x.desc⟩ b0 m0 r0 ∈ lw_all) (hw2 : Cond.instanceMethod y ∈ lw_all) (hw3 : Cond.selects q0.1 x y ∈ lw_all) (hdx : owner ≠ "java/lang/invoke/MethodHandle" ∧ owner ≠ "java/lang/invoke/VarHandle" ∧ (parseMethodDescriptor x.desc).map (fun d => d.parameters.length) = some n) (hi : h i = some (.inr (ci, fs))) (hc : G.2.2.1[ci]? = some q0) (hst : stk = As.reverse ++ .ref (r i) :: st) (hR : d1 + 1 ≤ R.frames ∧ 8 + (maxL + 11) + 64 * d1 ≤ R.locals) (hf : cells + mc1 ≤ R.cells ∧ slots + ms1 ≤ R.slots) (hn : As.length = n) (hcat : (st.map fun v => v.category).sum ≤ 8) (k : J G (cc, own, nL, ret, nm, R, xt) Q mc ms (cells + mc1) (slots + ms1) r1 h1 nx1 (pc + 3) L (.int v :: st)) : J G (cc, own, nL, ret, nm, R, xt) Q mc ms cells slots r h nx pc L stk :=
  j_callO hM jq_i.isR hd hpm hw hw1 hw0 hw4 hw2 hw3 hdx hi hc hst hR hf hn hcat (by rintro v2 r2 h2 n2 ⟨e1, rfl, rfl, rfl⟩; cases e1; exact k)
theorem j_callUi {v : Int32} (hM : MC G y bytes maxL rt d1 mc1 ms1 (.ref (r i) :: As) r h nx (jq_i v r1 h1 nx1)) (hd : decode cc pc = .ok (.invokespecial index, 3)) (hpm : j_pm y bytes maxL rt n) (hw : Cond.methodLink own index y ∈ lw_all) (hw1 : Cond.sameMethod y.cls y.cls y.name y.desc ∈ lw_all) (hw2 : Cond.superclass own y.cls ∈ lw_all) (hw3 : Cond.instanceMethod y ∈ lw_all) (hyn : y.name ≠ "<init>") (hi : h i = some (.inr (ci, fs))) (hc : G.2.2.1[ci]? = some q0) (hst : stk = As.reverse ++ .ref (r i) :: st) (hR : d1 + 1 ≤ R.frames ∧ 8 + (maxL + 11) + 64 * d1 ≤ R.locals) (hf : cells + mc1 ≤ R.cells ∧ slots + ms1 ≤ R.slots) (hn : As.length = n) (hcat : (st.map fun v => v.category).sum ≤ 8) (k : J G (cc, own, nL, ret, nm, R, xt) Q mc ms (cells + mc1) (slots + ms1) r1 h1 nx1 (pc + 3) L (.int v :: st)) : J G (cc, own, nL, ret, nm, R, xt) Q mc ms cells slots r h nx pc L stk :=
  j_callU hM jq_i.isR hd hpm hw hw1 hw2 hw3 hyn hi hc hst hR hf hn hcat (by rintro v2 r2 h2 n2 ⟨e1, rfl, rfl, rfl⟩; cases e1; exact k)
theorem j_callVl {v : Int64} (hM : MC G y bytes maxL rt d1 mc1 ms1 (.ref (r i) :: As) r h nx (jq_l v r1 h1 nx1)) (hd : decode cc pc = .ok (.invokevirtual index, 3)) (hpm : j_pm y bytes maxL rt n) (hw : Cond.methodLink own index y ∈ lw_all) (hw2 : Cond.instanceMethod y ∈ lw_all) (hw3 : Cond.selects y.cls y y ∈ lw_all) (hi : h i = some (.inr (ci, fs))) (hc : G.2.2.1[ci]? = some q0) (hcl : q0.1 = y.cls) (hst : stk = As.reverse ++ .ref (r i) :: st) (hR : d1 + 1 ≤ R.frames ∧ 8 + (maxL + 11) + 64 * d1 ≤ R.locals) (hf : cells + mc1 ≤ R.cells ∧ slots + ms1 ≤ R.slots) (hn : As.length = n) (hcat : (st.map fun v => v.category).sum ≤ 8) (k : J G (cc, own, nL, ret, nm, R, xt) Q mc ms (cells + mc1) (slots + ms1) r1 h1 nx1 (pc + 3) L (.long v :: st)) : J G (cc, own, nL, ret, nm, R, xt) Q mc ms cells slots r h nx pc L stk :=
  j_callV hM jq_l.isR hd hpm hw hw2 hw3 hi hc hcl hst hR hf hn hcat (by rintro v2 r2 h2 n2 ⟨e1, rfl, rfl, rfl⟩; cases e1; exact k)
theorem j_callSl {v : Int64} (hM : MC G y bytes maxL rt d1 mc1 ms1 As r h nx (jq_l v r1 h1 nx1)) (hd : decode cc pc = .ok (.invokestatic index, 3)) (hpm : j_pm y bytes maxL rt n) (hw : Cond.methodLink own index y ∈ lw_all) (hw2 : Cond.static y ∈ lw_all) (hst : stk = As.reverse ++ st) (hR : d1 + 1 ≤ R.frames ∧ 8 + (maxL + 11) + 64 * d1 ≤ R.locals) (hf : cells + mc1 ≤ R.cells ∧ slots + ms1 ≤ R.slots) (hn : As.length = n) (hcat : (st.map fun v => v.category).sum ≤ 8) (k : J G (cc, own, nL, ret, nm, R, xt) Q mc ms (cells + mc1) (slots + ms1) r1 h1 nx1 (pc + 3) L (.long v :: st)) : J G (cc, own, nL, ret, nm, R, xt) Q mc ms cells slots r h nx pc L stk :=
  j_callS hM jq_l.isR hd hpm hw hw2 hst hR hf hn hcat (by rintro v2 r2 h2 n2 ⟨e1, rfl, rfl, rfl⟩; cases e1; exact k)
theorem j_callSNl {v : Int64} {host : String} (hM : MC G y bytes maxL rt d1 mc1 ms1 As r h nx (jq_l v r1 h1 nx1)) (hd : decode cc pc = .ok (.invokestatic index, 3)) (hpm : j_pm y bytes maxL rt n) (hw : ∀ s : State, G.2.2.2.2.2 s → va_Nw (Cond.methodLinkNest own index y host) s) (hw2 : Cond.static y ∈ lw_all) (hst : stk = As.reverse ++ st) (hR : d1 + 1 ≤ R.frames ∧ 8 + (maxL + 11) + 64 * d1 ≤ R.locals) (hf : cells + mc1 ≤ R.cells ∧ slots + ms1 ≤ R.slots) (hn : As.length = n) (hcat : (st.map fun v => v.category).sum ≤ 8) (k : J G (cc, own, nL, ret, nm, R, xt) Q mc ms (cells + mc1) (slots + ms1) r1 h1 nx1 (pc + 3) L (.long v :: st)) : J G (cc, own, nL, ret, nm, R, xt) Q mc ms cells slots r h nx pc L stk :=
  j_callSN hM jq_l.isR hd hpm hw hw2 hst hR hf hn hcat (by rintro v2 r2 h2 n2 ⟨e1, rfl, rfl, rfl⟩; cases e1; exact k)
theorem j_callAl {v : Int64} {x : MethodName} {owner : String} (hM : MC G y bytes maxL rt d1 mc1 ms1 (.ref (r i) :: As) r h nx (jq_l v r1 h1 nx1)) (hd : decode cc pc = .ok (.invokevirtual index, 3)) (hpm : j_pm y bytes maxL rt n) (hw : Cond.methodLink own index x ∈ lw_all) (hw1 : Cond.sameMethod x.cls owner x.name x.desc ∈ lw_all) (hw2 : Cond.instanceMethod y ∈ lw_all) (hw3 : Cond.selects q0.1 x y ∈ lw_all) (hz : ∀ s : State, G.2.2.2.2.2 s → va_Nw (.declares ⟨owner, x.name, x.desc⟩) s) (hdx : owner ≠ "java/lang/invoke/MethodHandle" ∧ owner ≠ "java/lang/invoke/VarHandle" ∧ (parseMethodDescriptor x.desc).map (fun d => d.parameters.length) = some n) (hi : h i = some (.inr (ci, fs))) (hc : G.2.2.1[ci]? = some q0) (hst : stk = As.reverse ++ .ref (r i) :: st) (hR : d1 + 1 ≤ R.frames ∧ 8 + (maxL + 11) + 64 * d1 ≤ R.locals) (hf : cells + mc1 ≤ R.cells ∧ slots + ms1 ≤ R.slots) (hn : As.length = n) (hcat : (st.map fun v => v.category).sum ≤ 8) (k : J G (cc, own, nL, ret, nm, R, xt) Q mc ms (cells + mc1) (slots + ms1) r1 h1 nx1 (pc + 3) L (.long v :: st)) : J G (cc, own, nL, ret, nm, R, xt) Q mc ms cells slots r h nx pc L stk :=
  j_callA hM jq_l.isR hd hpm hw hw1 hw2 hw3 hz hdx hi hc hst hR hf hn hcat (by rintro v2 r2 h2 n2 ⟨e1, rfl, rfl, rfl⟩; cases e1; exact k)
theorem j_callOl {v : Int64} {x : MethodName} {owner : String} {b0 : ByteArray} {m0 : Nat} {r0 : Option FieldType} (hM : MC G y bytes maxL rt d1 mc1 ms1 (.ref (r i) :: As) r h nx (jq_l v r1 h1 nx1)) (hd : decode cc pc = .ok (.invokevirtual index, 3)) (hpm : j_pm y bytes maxL rt n) (hw : Cond.methodLink own index x ∈ lw_all) (hw1 : Cond.sameMethod x.cls owner x.name x.desc ∈ lw_all) (hw0 : Cond.instanceMethod ⟨owner, x.name, x.desc⟩ ∈ lw_all) (hw4 : Cond.code ⟨owner, x.name, x.desc⟩ b0 m0 r0 ∈ lw_all) (hw2 : Cond.instanceMethod y ∈ lw_all) (hw3 : Cond.selects q0.1 x y ∈ lw_all) (hdx : owner ≠ "java/lang/invoke/MethodHandle" ∧ owner ≠ "java/lang/invoke/VarHandle" ∧ (parseMethodDescriptor x.desc).map (fun d => d.parameters.length) = some n) (hi : h i = some (.inr (ci, fs))) (hc : G.2.2.1[ci]? = some q0) (hst : stk = As.reverse ++ .ref (r i) :: st) (hR : d1 + 1 ≤ R.frames ∧ 8 + (maxL + 11) + 64 * d1 ≤ R.locals) (hf : cells + mc1 ≤ R.cells ∧ slots + ms1 ≤ R.slots) (hn : As.length = n) (hcat : (st.map fun v => v.category).sum ≤ 8) (k : J G (cc, own, nL, ret, nm, R, xt) Q mc ms (cells + mc1) (slots + ms1) r1 h1 nx1 (pc + 3) L (.long v :: st)) : J G (cc, own, nL, ret, nm, R, xt) Q mc ms cells slots r h nx pc L stk :=
  j_callO hM jq_l.isR hd hpm hw hw1 hw0 hw4 hw2 hw3 hdx hi hc hst hR hf hn hcat (by rintro v2 r2 h2 n2 ⟨e1, rfl, rfl, rfl⟩; cases e1; exact k)
theorem j_callUl {v : Int64} (hM : MC G y bytes maxL rt d1 mc1 ms1 (.ref (r i) :: As) r h nx (jq_l v r1 h1 nx1)) (hd : decode cc pc = .ok (.invokespecial index, 3)) (hpm : j_pm y bytes maxL rt n) (hw : Cond.methodLink own index y ∈ lw_all) (hw1 : Cond.sameMethod y.cls y.cls y.name y.desc ∈ lw_all) (hw2 : Cond.superclass own y.cls ∈ lw_all) (hw3 : Cond.instanceMethod y ∈ lw_all) (hyn : y.name ≠ "<init>") (hi : h i = some (.inr (ci, fs))) (hc : G.2.2.1[ci]? = some q0) (hst : stk = As.reverse ++ .ref (r i) :: st) (hR : d1 + 1 ≤ R.frames ∧ 8 + (maxL + 11) + 64 * d1 ≤ R.locals) (hf : cells + mc1 ≤ R.cells ∧ slots + ms1 ≤ R.slots) (hn : As.length = n) (hcat : (st.map fun v => v.category).sum ≤ 8) (k : J G (cc, own, nL, ret, nm, R, xt) Q mc ms (cells + mc1) (slots + ms1) r1 h1 nx1 (pc + 3) L (.long v :: st)) : J G (cc, own, nL, ret, nm, R, xt) Q mc ms cells slots r h nx pc L stk :=
  j_callU hM jq_l.isR hd hpm hw hw1 hw2 hw3 hyn hi hc hst hR hf hn hcat (by rintro v2 r2 h2 n2 ⟨e1, rfl, rfl, rfl⟩; cases e1; exact k)
theorem j_callVv  (hM : MC G y bytes maxL rt d1 mc1 ms1 (.ref (r i) :: As) r h nx (jq_v r1 h1 nx1)) (hd : decode cc pc = .ok (.invokevirtual index, 3)) (hpm : j_pm y bytes maxL rt n) (hw : Cond.methodLink own index y ∈ lw_all) (hw2 : Cond.instanceMethod y ∈ lw_all) (hw3 : Cond.selects y.cls y y ∈ lw_all) (hi : h i = some (.inr (ci, fs))) (hc : G.2.2.1[ci]? = some q0) (hcl : q0.1 = y.cls) (hst : stk = As.reverse ++ .ref (r i) :: st) (hR : d1 + 1 ≤ R.frames ∧ 8 + (maxL + 11) + 64 * d1 ≤ R.locals) (hf : cells + mc1 ≤ R.cells ∧ slots + ms1 ≤ R.slots) (hn : As.length = n) (hcat : (st.map fun v => v.category).sum ≤ 8) (k : J G (cc, own, nL, ret, nm, R, xt) Q mc ms (cells + mc1) (slots + ms1) r1 h1 nx1 (pc + 3) L st) : J G (cc, own, nL, ret, nm, R, xt) Q mc ms cells slots r h nx pc L stk :=
  j_callV hM jq_v.isR hd hpm hw hw2 hw3 hi hc hcl hst hR hf hn hcat (by rintro v2 r2 h2 n2 ⟨e1, rfl, rfl, rfl⟩; cases e1; exact k)
theorem j_callSv  (hM : MC G y bytes maxL rt d1 mc1 ms1 As r h nx (jq_v r1 h1 nx1)) (hd : decode cc pc = .ok (.invokestatic index, 3)) (hpm : j_pm y bytes maxL rt n) (hw : Cond.methodLink own index y ∈ lw_all) (hw2 : Cond.static y ∈ lw_all) (hst : stk = As.reverse ++ st) (hR : d1 + 1 ≤ R.frames ∧ 8 + (maxL + 11) + 64 * d1 ≤ R.locals) (hf : cells + mc1 ≤ R.cells ∧ slots + ms1 ≤ R.slots) (hn : As.length = n) (hcat : (st.map fun v => v.category).sum ≤ 8) (k : J G (cc, own, nL, ret, nm, R, xt) Q mc ms (cells + mc1) (slots + ms1) r1 h1 nx1 (pc + 3) L st) : J G (cc, own, nL, ret, nm, R, xt) Q mc ms cells slots r h nx pc L stk :=
  j_callS hM jq_v.isR hd hpm hw hw2 hst hR hf hn hcat (by rintro v2 r2 h2 n2 ⟨e1, rfl, rfl, rfl⟩; cases e1; exact k)
theorem j_callSNv  {host : String} (hM : MC G y bytes maxL rt d1 mc1 ms1 As r h nx (jq_v r1 h1 nx1)) (hd : decode cc pc = .ok (.invokestatic index, 3)) (hpm : j_pm y bytes maxL rt n) (hw : ∀ s : State, G.2.2.2.2.2 s → va_Nw (Cond.methodLinkNest own index y host) s) (hw2 : Cond.static y ∈ lw_all) (hst : stk = As.reverse ++ st) (hR : d1 + 1 ≤ R.frames ∧ 8 + (maxL + 11) + 64 * d1 ≤ R.locals) (hf : cells + mc1 ≤ R.cells ∧ slots + ms1 ≤ R.slots) (hn : As.length = n) (hcat : (st.map fun v => v.category).sum ≤ 8) (k : J G (cc, own, nL, ret, nm, R, xt) Q mc ms (cells + mc1) (slots + ms1) r1 h1 nx1 (pc + 3) L st) : J G (cc, own, nL, ret, nm, R, xt) Q mc ms cells slots r h nx pc L stk :=
  j_callSN hM jq_v.isR hd hpm hw hw2 hst hR hf hn hcat (by rintro v2 r2 h2 n2 ⟨e1, rfl, rfl, rfl⟩; cases e1; exact k)
theorem j_callAv  {x : MethodName} {owner : String} (hM : MC G y bytes maxL rt d1 mc1 ms1 (.ref (r i) :: As) r h nx (jq_v r1 h1 nx1)) (hd : decode cc pc = .ok (.invokevirtual index, 3)) (hpm : j_pm y bytes maxL rt n) (hw : Cond.methodLink own index x ∈ lw_all) (hw1 : Cond.sameMethod x.cls owner x.name x.desc ∈ lw_all) (hw2 : Cond.instanceMethod y ∈ lw_all) (hw3 : Cond.selects q0.1 x y ∈ lw_all) (hz : ∀ s : State, G.2.2.2.2.2 s → va_Nw (.declares ⟨owner, x.name, x.desc⟩) s) (hdx : owner ≠ "java/lang/invoke/MethodHandle" ∧ owner ≠ "java/lang/invoke/VarHandle" ∧ (parseMethodDescriptor x.desc).map (fun d => d.parameters.length) = some n) (hi : h i = some (.inr (ci, fs))) (hc : G.2.2.1[ci]? = some q0) (hst : stk = As.reverse ++ .ref (r i) :: st) (hR : d1 + 1 ≤ R.frames ∧ 8 + (maxL + 11) + 64 * d1 ≤ R.locals) (hf : cells + mc1 ≤ R.cells ∧ slots + ms1 ≤ R.slots) (hn : As.length = n) (hcat : (st.map fun v => v.category).sum ≤ 8) (k : J G (cc, own, nL, ret, nm, R, xt) Q mc ms (cells + mc1) (slots + ms1) r1 h1 nx1 (pc + 3) L st) : J G (cc, own, nL, ret, nm, R, xt) Q mc ms cells slots r h nx pc L stk :=
  j_callA hM jq_v.isR hd hpm hw hw1 hw2 hw3 hz hdx hi hc hst hR hf hn hcat (by rintro v2 r2 h2 n2 ⟨e1, rfl, rfl, rfl⟩; cases e1; exact k)
theorem j_callOv  {x : MethodName} {owner : String} {b0 : ByteArray} {m0 : Nat} {r0 : Option FieldType} (hM : MC G y bytes maxL rt d1 mc1 ms1 (.ref (r i) :: As) r h nx (jq_v r1 h1 nx1)) (hd : decode cc pc = .ok (.invokevirtual index, 3)) (hpm : j_pm y bytes maxL rt n) (hw : Cond.methodLink own index x ∈ lw_all) (hw1 : Cond.sameMethod x.cls owner x.name x.desc ∈ lw_all) (hw0 : Cond.instanceMethod ⟨owner, x.name, x.desc⟩ ∈ lw_all) (hw4 : Cond.code ⟨owner, x.name, x.desc⟩ b0 m0 r0 ∈ lw_all) (hw2 : Cond.instanceMethod y ∈ lw_all) (hw3 : Cond.selects q0.1 x y ∈ lw_all) (hdx : owner ≠ "java/lang/invoke/MethodHandle" ∧ owner ≠ "java/lang/invoke/VarHandle" ∧ (parseMethodDescriptor x.desc).map (fun d => d.parameters.length) = some n) (hi : h i = some (.inr (ci, fs))) (hc : G.2.2.1[ci]? = some q0) (hst : stk = As.reverse ++ .ref (r i) :: st) (hR : d1 + 1 ≤ R.frames ∧ 8 + (maxL + 11) + 64 * d1 ≤ R.locals) (hf : cells + mc1 ≤ R.cells ∧ slots + ms1 ≤ R.slots) (hn : As.length = n) (hcat : (st.map fun v => v.category).sum ≤ 8) (k : J G (cc, own, nL, ret, nm, R, xt) Q mc ms (cells + mc1) (slots + ms1) r1 h1 nx1 (pc + 3) L st) : J G (cc, own, nL, ret, nm, R, xt) Q mc ms cells slots r h nx pc L stk :=
  j_callO hM jq_v.isR hd hpm hw hw1 hw0 hw4 hw2 hw3 hdx hi hc hst hR hf hn hcat (by rintro v2 r2 h2 n2 ⟨e1, rfl, rfl, rfl⟩; cases e1; exact k)
theorem j_callUv  (hM : MC G y bytes maxL rt d1 mc1 ms1 (.ref (r i) :: As) r h nx (jq_v r1 h1 nx1)) (hd : decode cc pc = .ok (.invokespecial index, 3)) (hpm : j_pm y bytes maxL rt n) (hw : Cond.methodLink own index y ∈ lw_all) (hw1 : Cond.sameMethod y.cls y.cls y.name y.desc ∈ lw_all) (hw2 : Cond.superclass own y.cls ∈ lw_all) (hw3 : Cond.instanceMethod y ∈ lw_all) (hyn : y.name ≠ "<init>") (hi : h i = some (.inr (ci, fs))) (hc : G.2.2.1[ci]? = some q0) (hst : stk = As.reverse ++ .ref (r i) :: st) (hR : d1 + 1 ≤ R.frames ∧ 8 + (maxL + 11) + 64 * d1 ≤ R.locals) (hf : cells + mc1 ≤ R.cells ∧ slots + ms1 ≤ R.slots) (hn : As.length = n) (hcat : (st.map fun v => v.category).sum ≤ 8) (k : J G (cc, own, nL, ret, nm, R, xt) Q mc ms (cells + mc1) (slots + ms1) r1 h1 nx1 (pc + 3) L st) : J G (cc, own, nL, ret, nm, R, xt) Q mc ms cells slots r h nx pc L stk :=
  j_callU hM jq_v.isR hd hpm hw hw1 hw2 hw3 hyn hi hc hst hR hf hn hcat (by rintro v2 r2 h2 n2 ⟨e1, rfl, rfl, rfl⟩; cases e1; exact k)
theorem j_callIv {b : Nat} (hM : MC G y bytes maxL none d1 mc1 ms1 (.ref b :: As) r h nx (jq_v r1 h1 nx1)) (hd : decode cc pc = .ok (.invokespecial index, 3)) (hpm : j_pm y bytes maxL none n) (hw : Cond.methodLink own index y ∈ lw_all) (hw2 : Cond.instanceMethod y ∈ lw_all) (hyn : y.name = "<init>") (hst : stk = As.reverse ++ .ref b :: st) (hR : d1 + 1 ≤ R.frames ∧ 8 + (maxL + 11) + 64 * d1 ≤ R.locals) (hf : cells + mc1 ≤ R.cells ∧ slots + ms1 ≤ R.slots) (hn : As.length = n) (hcat : (st.map fun v => v.category).sum ≤ 8) (k : J G (cc, own, nL, ret, nm, R, xt) Q mc ms (cells + mc1) (slots + ms1) r1 h1 nx1 (pc + 3) L st) : J G (cc, own, nL, ret, nm, R, xt) Q mc ms cells slots r h nx pc L stk :=
  j_callI hM jq_v.isR hd hpm hw hw2 hyn hst hR hf hn hcat (by rintro v2 r2 h2 n2 ⟨e1, rfl, rfl, rfl⟩; cases e1; exact k)
theorem j_callINv {b : Nat} {host : String} (hM : MC G y bytes maxL none d1 mc1 ms1 (.ref b :: As) r h nx (jq_v r1 h1 nx1)) (hd : decode cc pc = .ok (.invokespecial index, 3)) (hpm : j_pm y bytes maxL none n) (hw : ∀ s : State, G.2.2.2.2.2 s → va_Nw (Cond.methodLinkNest own index y host) s) (hw2 : Cond.instanceMethod y ∈ lw_all) (hyn : y.name = "<init>") (hst : stk = As.reverse ++ .ref b :: st) (hR : d1 + 1 ≤ R.frames ∧ 8 + (maxL + 11) + 64 * d1 ≤ R.locals) (hf : cells + mc1 ≤ R.cells ∧ slots + ms1 ≤ R.slots) (hn : As.length = n) (hcat : (st.map fun v => v.category).sum ≤ 8) (k : J G (cc, own, nL, ret, nm, R, xt) Q mc ms (cells + mc1) (slots + ms1) r1 h1 nx1 (pc + 3) L st) : J G (cc, own, nL, ret, nm, R, xt) Q mc ms cells slots r h nx pc L stk :=
  j_callIN hM jq_v.isR hd hpm hw hw2 hyn hst hR hf hn hcat (by rintro v2 r2 h2 n2 ⟨e1, rfl, rfl, rfl⟩; cases e1; exact k)
end JK
