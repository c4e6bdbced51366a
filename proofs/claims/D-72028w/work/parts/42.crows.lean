/-! the picture of the component's memory -/
def cwn (μ : CM) (q : Nat) : Prop := (3 ≤ tg μ q ∧ tg μ q ≤ 13) ∨ (20 ≤ tg μ q ∧ tg μ q ≤ 25)
def cA (X : cX) (μ : CM) (sz : Nat) : Nat → Prop := fun q => q ∈ csL X ∨ cwn μ q ∨ sz ≤ q
theorem cdE_own {X : cX} {μ : CM} {a : Nat} {e : va_E} (h : cdE X μ a = some e) : cwn μ a := by
  unfold cwn
  unfold cdE at h
  split at h <;> first | omega | (cases h)
theorem cdE_ex {X : cX} {μ : CM} {a : Nat} (h : cwn μ a) : ∃ e, cdE X μ a = some e := by
  unfold cwn at h
  rcases (show tg μ a = 3 ∨ tg μ a = 4 ∨ tg μ a = 5 ∨ tg μ a = 6 ∨ tg μ a = 7 ∨ tg μ a = 8 ∨ tg μ a = 9 ∨ tg μ a = 10 ∨ tg μ a = 11 ∨ tg μ a = 12 ∨ tg μ a = 13 ∨ tg μ a = 20 ∨ tg μ a = 21 ∨ tg μ a = 22 ∨ tg μ a = 23 ∨ tg μ a = 24 ∨ tg μ a = 25 by omega) with h | h | h | h | h | h | h | h | h | h | h | h | h | h | h | h | h
  · exact ⟨_, cdE_2 h⟩
  · exact ⟨_, cdE_3 h⟩
  · exact ⟨_, cdE_4 h⟩
  · exact ⟨_, cdE_5 h⟩
  · exact ⟨_, cdE_6 h⟩
  · exact ⟨_, cdE_7 h⟩
  · exact ⟨_, cdE_8 h⟩
  · exact ⟨_, cdE_9 h⟩
  · exact ⟨_, cdE_10 h⟩
  · exact ⟨_, cdE_11 h⟩
  · exact ⟨_, cdE_12 h⟩
  · exact ⟨_, cdA_0 h⟩
  · exact ⟨_, cdA_1 h⟩
  · exact ⟨_, cdA_2 h⟩
  · exact ⟨_, cdA_3 h⟩
  · exact ⟨_, cdA_4 h⟩
  · exact ⟨_, cdA_5 h⟩
def cRep (X : cX) (μ : CM) (H : Heap) : Prop := va_P (cX_D X) cCl (csW X μ) H ∧ (∀ a e, cdE X μ a = some e → va_at (cX_D X) cCl (a, e) H) ∧ ∀ q ∈ csL X, ¬ cwn μ q
def cwf (μ : CM) : Prop := ∀ a, tg μ a ≠ 0 → cwn μ a ∨ tg μ a = 14 ∨ tg μ a = 26
/-- String constants -/
def cKon (μ : CM) (A : Nat → Prop) (U : State) (H : Heap) : Prop :=
  (∀ a, tg μ a = 14 → va_O "java/lang/String" a A U H ∧ va_OF "java/lang/String" "value" "[B" (va_rf (oR μ a 0)) a A U H ∧ va_OF "java/lang/String" "coder" "B" (.int (i32 (oI μ a 1))) a A U H ∧ va_OF "java/lang/String" "hash" "I" (.int (i32 (oI μ a 2))) a A U H ∧ va_OF "java/lang/String" "hashIsZero" "Z" (.int (i32 (oI μ a 3))) a A U H) ∧
  (∀ a, tg μ a = 26 → va_T .byte a (ln μ a) (fun j => .int (i32 (oI μ a j))) A U H)
theorem cKon.moved {μ : CM} {A : Nat → Prop} {u U : State} {H : Heap} (hvm : u.vm.Alike U.vm) (h : cKon μ A u H) : cKon μ A U H :=
  ⟨fun a ha => ⟨(h.1 a ha).1.moved hvm, (h.1 a ha).2.1.moved hvm, (h.1 a ha).2.2.1.moved hvm, (h.1 a ha).2.2.2.1.moved hvm, (h.1 a ha).2.2.2.2.moved hvm⟩, fun a ha => (h.2 a ha).moved hvm⟩
theorem cKon.kept {μ : CM} {A : Nat → Prop} {U : State} {H H1 : Heap} (h : cKon μ A U H) (hq : ∀ a : Nat, a < H.size → ¬ A a → H1[a]? = H[a]?) : cKon μ A U H1 :=
  ⟨fun a ha => ⟨(h.1 a ha).1.kept hq, (h.1 a ha).2.1.kept hq, (h.1 a ha).2.2.1.kept hq, (h.1 a ha).2.2.2.1.kept hq, (h.1 a ha).2.2.2.2.kept hq⟩, fun a ha => (h.2 a ha).kept hq⟩
theorem cKon.narrow {μ : CM} {A B : Nat → Prop} {U : State} {H : Heap} (h : cKon μ A U H) (hAB : ∀ q, B q → A q) : cKon μ B U H :=
  ⟨fun a ha => ⟨(h.1 a ha).1.narrow hAB, (h.1 a ha).2.1.narrow hAB, (h.1 a ha).2.2.1.narrow hAB, (h.1 a ha).2.2.2.1.narrow hAB, (h.1 a ha).2.2.2.2.narrow hAB⟩, fun a ha => (h.2 a ha).narrow hAB⟩
def cst (μ0 μ : CM) : Prop := ∀ a, (tg μ a = 14 ∨ tg μ a = 26) → tg μ0 a = tg μ a ∧ ln μ0 a = ln μ a ∧ oI μ0 a = oI μ a ∧ oR μ0 a = oR μ a
theorem cst.rf {μ : CM} : cst μ μ := fun _ _ => ⟨rfl, rfl, rfl, rfl⟩
theorem cst.tr {μ0 μ1 μ2 : CM} (h : cst μ0 μ1) (g : cst μ1 μ2) : cst μ0 μ2 := fun a ha => by
  obtain ⟨e1, e2, e3, e4⟩ := g a ha
  obtain ⟨f1, f2, f3, f4⟩ := h a (by rw [e1]; exact ha)
  exact ⟨f1.trans e1, f2.trans e2, f3.trans e3, f4.trans e4⟩
theorem cKon.to {μ0 μ : CM} {A : Nat → Prop} {U : State} {H : Heap} (h : cKon μ0 A U H) (g : cst μ0 μ) : cKon μ A U H := by
  refine ⟨fun a ha => ?_, fun a ha => ?_⟩
  · obtain ⟨e1, e2, e3, e4⟩ := g a (Or.inl ha)
    rw [← e3, ← e4]
    exact h.1 a (by rw [e1]; exact ha)
  · obtain ⟨e1, e2, e3, e4⟩ := g a (Or.inr ha)
    rw [← e3, ← e2]
    exact h.2 a (by rw [e1]; exact ha)
def cdW (X : cX) (μ : CM) (n : Nat) : va_W := (List.range n).filterMap (fun a => (cdE X μ a).map (fun e => (a, e)))
theorem cdW_get {X : cX} {μ : CM} {n a : Nat} {e : va_E} (h : cdE X μ a = some e) (hn : a < n) : ∃ k : Nat, (cdW X μ n)[k]? = some (a, e) :=
  List.mem_iff_getElem?.mp (List.mem_filterMap.mpr ⟨a, List.mem_range.mpr hn, by rw [h]; rfl⟩)
theorem cdW_inv {X : cX} {μ : CM} {n k : Nat} {q : Nat × va_E} (h : (cdW X μ n)[k]? = some q) : cdE X μ q.1 = some q.2 := by
  obtain ⟨a, -, h1⟩ := List.mem_filterMap.mp (List.mem_of_getElem? h)
  cases h2 : cdE X μ a with
  | none => rw [h2] at h1; cases h1
  | some e =>
    rw [h2] at h1
    cases h1
    exact h2
theorem fm_fst {E : Nat → Option va_E} : ∀ l : List Nat, (l.filterMap (fun a => (E a).map (fun e => (a, e)))).map (fun q => q.1) = l.filter (fun a => (E a).isSome) := by
  intro l
  induction l with
  | nil => rfl
  | cons a l ih =>
    cases h : E a with
    | none => simp [h, ih]
    | some e => simp [h, ih]
theorem cdW_D {X : cX} {μ : CM} {n sz : Nat} : va_D (cA X μ sz) (cdW X μ n) := by
  have h1 : (cdW X μ n).map (fun q => q.1) = (List.range n).filter (fun a => (cdE X μ a).isSome) := fm_fst _
  have h2 : ((List.range n).filter (fun a => (cdE X μ a).isSome)).Nodup := List.nodup_range.filter _
  refine ⟨(va_D_of h1 h2).1, fun k q hk => Or.inr (Or.inl (cdE_own (cdW_inv hk)))⟩
/-- all cells of the component, as one list -/
def cW (X : cX) (μ : CM) (n : Nat) : va_W := csW X μ ++ cdW X μ n
theorem csW_len (X : cX) (μ : CM) : (csW X μ).length = 12 := rfl
theorem cRep.P {X : cX} {μ : CM} {H : Heap} (h : cRep X μ H) (n : Nat) : va_P (cX_D X) cCl (cW X μ n) H := va_P.app h.1 (fun k q hk => h.2.1 q.1 q.2 (cdW_inv hk))
theorem cRep.D {X : cX} {μ : CM} {H : Heap} {sz : Nat} (h : cRep X μ H) (hn : (csL X).Nodup) (n : Nat) : va_D (cA X μ sz) (cW X μ n) := by
  have h0 := va_D_of (csW_L X μ) hn
  refine va_D.app ⟨h0.1, fun k q hk => Or.inl (h0.2 k q hk)⟩ cdW_D (fun i j p q hp hq e => ?_)
  have h1 : p.1 ∈ csL X := h0.2 i p hp
  rw [e] at h1
  exact h.2.2 _ h1 (cdE_own (cdW_inv hq))
theorem cW_get {X : cX} {μ : CM} {H : Heap} (h : cRep X μ H) {a : Nat} {e : va_E} (he : cdE X μ a = some e) : ∃ k : Nat, (cW X μ H.size)[12 + k]? = some (a, e) ∧ (cdW X μ H.size)[k]? = some (a, e) := by
  obtain ⟨k, hk⟩ := cdW_get he (h.2.1 a e he).lt
  refine ⟨k, ?_, hk⟩
  unfold cW
  rw [List.getElem?_append_right (by rw [csW_len]; omega), csW_len, show 12 + k - 12 = k by omega]
  exact hk
theorem cW_set {X : cX} {μ : CM} {n k : Nat} {x : Nat × va_E} : (cW X μ n).set (12 + k) x = csW X μ ++ (cdW X μ n).set k x := by
  unfold cW
  rw [List.set_append_right (12 + k) x (by rw [csW_len]; omega), csW_len, show 12 + k - 12 = k by omega]
theorem cW_setS {X : cX} {μ : CM} {n k : Nat} {x : Nat × va_E} (hk : k < 12) : (cW X μ n).set k x = (csW X μ).set k x ++ cdW X μ n := by
  unfold cW
  rw [List.set_append_left k x (by rw [csW_len]; omega)]
theorem cW_at {X : cX} {μ : CM} {n k : Nat} {x : Nat × va_E} (h : (csW X μ)[k]? = some x) : (cW X μ n)[k]? = some x := by
  have h1 := (List.getElem?_eq_some_iff.mp h).1
  unfold cW
  rw [List.getElem?_append_left h1]
  exact h
theorem va_P.left {D : va_G} {cl : List vw_C} {w1 w2 : va_W} {H : Heap} (h : va_P D cl (w1 ++ w2) H) : va_P D cl w1 H := fun k q hk => h k q (by
  rw [List.getElem?_append_left (List.getElem?_eq_some_iff.mp hk).1]; exact hk)
theorem va_P.right {D : va_G} {cl : List vw_C} {w1 w2 : va_W} {H : Heap} (h : va_P D cl (w1 ++ w2) H) : va_P D cl w2 H := fun k q hk => h (w1.length + k) q (by
  rw [List.getElem?_append_right (by omega), show w1.length + k - w1.length = k by omega]; exact hk)
/-- behind a store into a made cell -/
theorem cRep.dyn {X : cX} {μ μ' : CM} {H H1 : Heap} {a k : Nat} {e e' : va_E} (h : cRep X μ H) (hk : (cdW X μ H.size)[k]? = some (a, e)) (hP : va_P (cX_D X) cCl ((cW X μ H.size).set (12 + k) (a, e')) H1) (hs : csW X μ' = csW X μ) (ht : tg μ' = tg μ) (ha : cdE X μ' a = some e') (ho : ∀ b, b ≠ a → cdE X μ' b = cdE X μ b) : cRep X μ' H1 := by
  rw [cW_set] at hP
  refine ⟨by rw [hs]; exact hP.left, fun b f hb => ?_, fun q hq => by have := h.2.2 q hq; unfold cwn at this ⊢; rw [ht]; exact this⟩
  have hR := hP.right
  by_cases hba : b = a
  · subst hba
    rw [ha] at hb
    cases hb
    exact hR k _ (by rw [List.getElem?_set_self (List.getElem?_eq_some_iff.mp hk).1])
  · rw [ho b hba] at hb
    obtain ⟨j, hj⟩ := cdW_get hb (h.2.1 b f hb).lt
    refine hR j _ ?_
    by_cases hjk : k = j
    · subst hjk
      rw [hk] at hj
      cases hj
      exact absurd rfl hba
    · rw [List.getElem?_set_ne hjk]
      exact hj
/-- behind a store into a cell of the BinderPress or its Work -/
theorem cRep.sta {X : cX} {μ μ' : CM} {H H1 : Heap} {k : Nat} {x : Nat × va_E} (h : cRep X μ H) (hk : k < 12) (hP : va_P (cX_D X) cCl ((cW X μ H.size).set k x) H1) (hs : (csW X μ).set k x = csW X μ') (ht : tg μ' = tg μ) (ho : ∀ b, cdE X μ' b = cdE X μ b) : cRep X μ' H1 := by
  rw [cW_setS hk, hs] at hP
  refine ⟨hP.left, fun b f hb => ?_, fun q hq => by have := h.2.2 q hq; unfold cwn at this ⊢; rw [ht]; exact this⟩
  rw [ho b] at hb
  obtain ⟨j, hj⟩ := cdW_get hb (h.2.1 b f hb).lt
  exact hP.right j _ hj
