/-! what the component's methods lean on of the tables and of what nobody writes -/
/-- a word that rides -/
def wk (w : Cond) : Bool := match w with
  | .castable _ _ => true
  | .declares _ => true
  | .fieldLinkNest _ _ _ _ _ _ => true
  | .methodLinkNest _ _ _ _ => true
  | .privateMethod _ => true
  | w => goodWord w
theorem wk_warm {w : Cond} (hk : wk w = true) {s U : State} (hW : s.WarmedH U.vm) (h : va_Nw w s) : va_Nw w U := by
  unfold wk at hk
  split at hk
  · exact va_Nw.warmC hW h
  · exact va_Nw.warmD hW h
  · exact va_Nw.warmF hW h
  · exact va_Nw.warmM hW h
  · exact va_tabs rfl (rfl : (s.setVm U.vm).vm = U.vm) (by rw [Cond.privateMethod_setVm hW.alike]; exact h)
  · exact word_at hW (good_of_word hk) h
theorem cNw_k : ∀ w ∈ cNw, wk w = true := by decide +kernel
theorem cFw_k : ∀ q ∈ cFw, q.2.1.cls ≠ "java/lang/invoke/MethodHandle" ∧ q.2.1.cls ≠ "java/lang/invoke/VarHandle" := by decide +kernel
def cNs (U : State) : Prop := ∀ w ∈ cNw, va_Nw w U
def cSs (X : cX) (U : State) : Prop := ∀ q ∈ cSt, vk_R q.1 q.2.1 q.2.2.1 (cX_s X q.2.2.2) U
def cCs (U : State) : Prop := ∀ q ∈ cNc, va_Nc q.1 q.2 U
def cFs (U : State) : Prop := ∀ q ∈ cFw, va_Fw q.1 q.2.1 q.2.2 U
def cAs (U : State) : Prop := ∀ C ∈ cAo, va_AO C U
/-- the class of Term[][] is one of arrays over Term[]'s -/
def cTT0 (X : cX) (U : State) : Prop := ∃ kA kT : Class, U.vm.classes[cX_c X 4]? = some kA ∧ kA.kind = .array (cX_c X 2) (.array (.object "BinderPress$Term")) ∧ U.vm.classes[cX_c X 2]? = some kT ∧ U.vm.assignable (cX_c X 2) (cX_c X 2) = true
/-- isSmall, through Term, is what Sized has -/
def cLd (U : State) : Prop := (Cond.sameMethod "BinderPress$Term" "BinderPress$Sized" "isSmall" "()Z").before #[] U = true ∧ ∀ C ∈ ["BinderPress$Name", "BinderPress$Sign", "BinderPress$Put", "BinderPress$Binder"], (Cond.landsInDefault C ⟨"BinderPress$Term", "isSmall", "()Z"⟩ ⟨"BinderPress$Sized", "isSmall", "()Z"⟩).before #[] U = true
def cTT (X : cX) (U : State) : Prop := cTT0 X U ∧ cLd U
def cK (X : cX) (U : State) : Prop := va_K (cX_D X) cCl (cTy X) U ∧ (csL X).Nodup ∧ cNs U ∧ cSs X U ∧ cCs U ∧ cFs U ∧ cAs U ∧ cTT X U
theorem cTT0.moved {X : cX} {s U : State} (h : s.vm.Alike U.vm) (g : cTT0 X s) : cTT0 X U := by
  obtain ⟨kA, kT, h1, h2, h3, h4⟩ := g
  obtain ⟨k1, e1, f1⟩ := h.2.2 _ _ h1
  obtain ⟨k2, e2, f2⟩ := h.2.2 _ _ h3
  exact ⟨k1, k2, e1, by rw [f1]; exact h2, e2, by rw [h.assignable]; exact h4⟩
theorem cLd.warm {s U : State} (hW : s.WarmedH U.vm) (g : cLd s) : cLd U := by
  obtain ⟨h1, h2⟩ := g
  refine ⟨word_at hW (good_of_word rfl) h1, fun C hC => ?_⟩
  obtain ⟨cn, ck, r, hcn, hck, hni, -, -⟩ := Cond.sameMethod_found h1
  obtain ⟨k1, hk1, hnm⟩ := Vm.findClass_spec hcn
  have e1 : k1 = ck := Option.some.inj (hk1.symm.trans hck)
  subst e1
  have hf := State.methodFound?_setVm_class hW.alike hcn hck hni (fun y => by simp [signaturePolymorphic, hnm]) "isSmall" "()Z"
  have := Cond.landsInDefault_setVm (args := #[]) (args' := #[]) hW.alike (cls := C) (x := ⟨"BinderPress$Term", "isSmall", "()Z"⟩) (y := ⟨"BinderPress$Sized", "isSmall", "()Z"⟩) hf
  have e : (Cond.landsInDefault C ⟨"BinderPress$Term", "isSmall", "()Z"⟩ ⟨"BinderPress$Sized", "isSmall", "()Z"⟩).before #[] (s.setVm U.vm) = (Cond.landsInDefault C ⟨"BinderPress$Term", "isSmall", "()Z"⟩ ⟨"BinderPress$Sized", "isSmall", "()Z"⟩).before #[] U := by
    simp only [Cond.before, Cond.holds, Cond.value]
    rfl
  exact e.symm.trans (this.trans (h2 C hC))
theorem cTT.warm {X : cX} {s U : State} (hW : s.WarmedH U.vm) (g : cTT X s) : cTT X U := ⟨g.1.moved hW.alike, g.2.warm hW⟩
theorem cK.warm {X : cX} {s U : State} (hW : s.WarmedH U.vm) (h : cK X s) : cK X U := by
  obtain ⟨h1, h2, h3, h4, h5, h6, h7, h8⟩ := h
  exact ⟨va_K.moved hW.alike h1, h2, fun w hw => wk_warm (cNw_k w hw) hW (h3 w hw), fun q hq => (h4 q hq).warm hW, fun q hq => (h5 q hq).moved hW.alike, fun q hq => (h6 q hq).moved (cFw_k q hq) hW.alike, fun C hC => va_AO.moved hW.alike (h7 C hC), h8.warm hW⟩
/-- statics that nobody writes -/
def cHp (μ : CM) (A : Nat → Prop) (U : State) (H : Heap) : Prop := cKon μ A U H ∧ va_Z "java/lang/String" "COMPACT_STRINGS" "Z" (.int 1) A U H ∧ va_Zq "java/lang/Throwable" "UNASSIGNED_STACK" "[Ljava/lang/StackTraceElement;" A U H ∧ va_Zq "java/lang/Throwable" "SUPPRESSED_SENTINEL" "Ljava/util/List;" A U H ∧ va_Zq "jdk/internal/util/Preconditions" "SIOOBE_FORMATTER" "Ljava/util/function/BiFunction;" A U H
theorem cHp.moved {μ : CM} {A : Nat → Prop} {u U : State} {H : Heap} (hvm : u.vm.Alike U.vm) (h : cHp μ A u H) : cHp μ A U H := ⟨h.1.moved hvm, h.2.1.moved hvm, h.2.2.1.moved hvm, h.2.2.2.1.moved hvm, h.2.2.2.2.moved hvm⟩
theorem cHp.kept {μ : CM} {A : Nat → Prop} {U : State} {H H1 : Heap} (h : cHp μ A U H) (hq : ∀ a : Nat, a < H.size → ¬ A a → H1[a]? = H[a]?) : cHp μ A U H1 := ⟨h.1.kept hq, h.2.1.kept hq, h.2.2.1.kept hq, h.2.2.2.1.kept hq, h.2.2.2.2.kept hq⟩
theorem cHp.narrow {μ : CM} {A B : Nat → Prop} {U : State} {H : Heap} (h : cHp μ A U H) (hAB : ∀ q, B q → A q) : cHp μ B U H := ⟨h.1.narrow hAB, h.2.1.narrow hAB, h.2.2.1.narrow hAB, h.2.2.2.1.narrow hAB, h.2.2.2.2.narrow hAB⟩
theorem cHp.to {μ0 μ : CM} {A : Nat → Prop} {U : State} {H : Heap} (h : cHp μ0 A U H) (g : cst μ0 μ) : cHp μ A U H := ⟨h.1.to g, h.2⟩
/-- the walk's own ground: tables, and what nobody writes, at its start -/
def cCt (Z : zz) (X : cX) (μ0 : CM) : Prop := cK X (zz_s Z) ∧ cHp μ0 (cA X μ0 (zz_s Z).heap.size) (zz_s Z) (zz_s Z).heap
/-- the picture: now the memory is μ; it was μ0 at the start -/
def cI (Z : zz) (X : cX) (μ0 μ : CM) (H : Heap) (locs : List Loc) : Prop := cRep X μ H ∧ va_S (cA X μ0 (zz_s Z).heap.size) (zz_s Z).heap H locs ∧ (∀ q, cwn μ q → cwn μ0 q ∨ (zz_s Z).heap.size ≤ q) ∧ cst μ0 μ ∧ cwf μ
def cPc (X : cX) (As : List Value) (μ : CM) (sz : Nat) : Array Value → State → Prop := va_Pc As (fun U => U.heap.size = sz ∧ cRep X μ U.heap ∧ cK X U ∧ cHp μ (cA X μ sz) U U.heap ∧ cwf μ)
def cBk (X : cX) (μ : CM) (sz : Nat) (μ' : CM) (t : State) : Prop := cRep X μ' t.heap ∧ (∀ q, cwn μ' q → cwn μ q ∨ sz ≤ q) ∧ cst μ μ' ∧ cwf μ'
def cQi (X : cX) (μ : CM) (sz : Nat) (Q : Int → CM → Prop) : Array Value → State → Outcome → State → Prop := va_Qi (fun (r : Int32) (u : Int × CM) => r = i32 u.1 ∧ Q u.1 u.2) (fun u t => cBk X μ sz u.2 t) (cA X μ sz)
def cQr (X : cX) (μ : CM) (sz : Nat) (Q : Option Nat → CM → Prop) : Array Value → State → Outcome → State → Prop := va_Qq (fun (r : Option Nat) (u : CM) => Q r u) (fun u t => cBk X μ sz u t) (cA X μ sz)
def cQv (X : cX) (μ : CM) (sz : Nat) (Q : CM → Prop) : Array Value → State → Outcome → State → Prop := va_Qv (fun (u : CM) => Q u) (fun u t => cBk X μ sz u t) (cA X μ sz)
theorem cPc_blind {X : cX} {As : List Value} {μ : CM} {sz : Nat} : FrameBlind (cPc X As μ sz) := fun _ U _ _ q => ⟨q.1, q.2.1, q.2.2.1, cK.warm (s := U) (State.WarmedH.refl U) q.2.2.2.1, cHp.moved (Vm.Alike.refl U.vm) q.2.2.2.2.1, q.2.2.2.2.2⟩
theorem cA_sub {Z : zz} {X : cX} {μ0 μ : CM} {H : Heap} {locs : List Loc} (hI : cI Z X μ0 μ H locs) : ∀ q, cA X μ H.size q → cA X μ0 (zz_s Z).heap.size q := by
  intro q h
  rcases h with h | h | h
  · exact Or.inl h
  · rcases hI.2.2.1 q h with h | h
    · exact Or.inr (Or.inl h)
    · exact Or.inr (Or.inr h)
  · exact Or.inr (Or.inr (Nat.le_trans hI.2.1.1 h))
/-- a callee's start, out of the walk's picture -/
theorem cPc_to {Z : zz} {X : cX} {μ0 μ : CM} {H : Heap} {locs : List Loc} (hK : cCt Z X μ0) (hI : cI Z X μ0 μ H locs) {As : List Value} {U : State} (hU : U.heap = H) (hW : (zz_s Z).WarmedH U.vm) : cPc X As μ H.size As.toArray U :=
  ⟨rfl, by rw [hU], by rw [hU]; exact hI.1, hK.1.warm hW, by rw [hU]; exact (((hK.2.kept hI.2.1.2.1).to hI.2.2.2.1).narrow (cA_sub hI)).moved hW.alike, hI.2.2.2.2⟩
/-- the picture behind a call -/
theorem cI_back {Z : zz} {X : cX} {μ0 μ μ' : CM} {H H1 : Heap} {locs locs1 : List Loc} (hI : cI Z X μ0 μ H locs) {t : State} (ht : t.heap = H1) (hB : cBk X μ H.size μ' t) (hS : va_S (cA X μ0 (zz_s Z).heap.size) (zz_s Z).heap H1 locs1) : cI Z X μ0 μ' H1 locs1 := by
  refine ⟨ht ▸ hB.1, hS, fun q hq => ?_, hI.2.2.2.1.tr hB.2.2.1, hB.2.2.2⟩
  rcases hB.2.1 q hq with h | h
  · exact hI.2.2.1 q h
  · exact Or.inr (Nat.le_trans hI.2.1.1 h)
