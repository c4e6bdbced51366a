/-! walks of the component (printed by gen_comp) -/
set_option maxRecDepth 100000
-- ('BinderPress$Name', 'size', '()I')
def wc_X7_size (X : cX) (l0 : Nat) (μ : CM) (Q : Int → CM → Prop) : Prop := Q 1 μ
set_option maxHeartbeats 4000000 in
theorem sc_X7_size (l : Launch) (X : cX) (sz : Nat) (Q : Int → CM → Prop) (l0 : Nat) (μ : CM) (hw : wc_X7_size X l0 μ Q) : Met l yX7_size (ws_ yX7_size cX7_size 1 (some .int)) ({ frames := 0, cells := 0, slots := 0, locals := 0 }) (cPc X (([aR (some l0)] : List AV).map toV) μ sz) (cQi X μ sz Q) 0 (0) (cA X μ sz) := by
  refine cx_met2 (rm := ({ frames := 0, cells := 0, slots := 0, locals := 0 })) (As := [aR (some l0)]) (L0 := [(0, aR (some l0))]) (by decide) rfl (Nat.le_of_ble_eq_true rfl) rfl ?_
  intro Z C hK hsz hR hl0 hin hQ
  subst hsz
  have C : gC Z cX7_size 1 RX7 (some .int) 0 0 := C
  have hQ : zz_q Z = MQ (zz_b Z) (cQi X μ (zz_s Z).heap.size Q) (zz_a Z) (zz_s Z) (zz_R Z).cells (zz_R Z).slots (cA X μ (zz_s Z).heap.size) := by rw [hR]; exact hQ
  unfold wc_X7_size at hw
  refine hx_iconst C dX7_size_0 ?_
  exact cx_iret C hQ (by omega) (by omega) rfl hw dX7_size_1
-- ('BinderPress$Sign', 'size', '()I')
def wc_X8_size (X : cX) (l0 : Nat) (μ : CM) (Q : Int → CM → Prop) : Prop := Q 1 μ
set_option maxHeartbeats 4000000 in
theorem sc_X8_size (l : Launch) (X : cX) (sz : Nat) (Q : Int → CM → Prop) (l0 : Nat) (μ : CM) (hw : wc_X8_size X l0 μ Q) : Met l yX8_size (ws_ yX8_size cX8_size 1 (some .int)) ({ frames := 0, cells := 0, slots := 0, locals := 0 }) (cPc X (([aR (some l0)] : List AV).map toV) μ sz) (cQi X μ sz Q) 0 (0) (cA X μ sz) := by
  refine cx_met2 (rm := ({ frames := 0, cells := 0, slots := 0, locals := 0 })) (As := [aR (some l0)]) (L0 := [(0, aR (some l0))]) (by decide) rfl (Nat.le_of_ble_eq_true rfl) rfl ?_
  intro Z C hK hsz hR hl0 hin hQ
  subst hsz
  have C : gC Z cX8_size 1 RX8 (some .int) 0 0 := C
  have hQ : zz_q Z = MQ (zz_b Z) (cQi X μ (zz_s Z).heap.size Q) (zz_a Z) (zz_s Z) (zz_R Z).cells (zz_R Z).slots (cA X μ (zz_s Z).heap.size) := by rw [hR]; exact hQ
  unfold wc_X8_size at hw
  refine hx_iconst C dX8_size_0 ?_
  exact cx_iret C hQ (by omega) (by omega) rfl hw dX8_size_1
-- ('BinderPress$Put', 'size', '()I')
def wc_X9_size (X : cX) (l0 : Nat) (μ : CM) (Q : Int → CM → Prop) : Prop := tg μ l0 = 8 ∧ Q (oI μ l0 2) μ
set_option maxHeartbeats 4000000 in
theorem sc_X9_size (l : Launch) (X : cX) (sz : Nat) (Q : Int → CM → Prop) (l0 : Nat) (μ : CM) (hw : wc_X9_size X l0 μ Q) : Met l yX9_size (ws_ yX9_size cX9_size 1 (some .int)) ({ frames := 0, cells := 0, slots := 0, locals := 0 }) (cPc X (([aR (some l0)] : List AV).map toV) μ sz) (cQi X μ sz Q) 0 (0) (cA X μ sz) := by
  refine cx_met2 (rm := ({ frames := 0, cells := 0, slots := 0, locals := 0 })) (As := [aR (some l0)]) (L0 := [(0, aR (some l0))]) (by decide) rfl (Nat.le_of_ble_eq_true rfl) rfl ?_
  intro Z C hK hsz hR hl0 hin hQ
  subst hsz
  have C : gC Z cX9_size 1 RX9 (some .int) 0 0 := C
  have hQ : zz_q Z = MQ (zz_b Z) (cQi X μ (zz_s Z).heap.size Q) (zz_a Z) (zz_s Z) (zz_R Z).cells (zz_R Z).slots (cA X μ (zz_s Z).heap.size) := by rw [hR]; exact hQ
  unfold wc_X9_size at hw
  refine hx_aload_n C dX9_size_0 0 rfl rfl ?_
  obtain ⟨ht1, hw⟩ := hw
  refine cx_get (μ := μ) (v := aI (oI μ l0 2)) C hK 7 2 rfl in_X9 (by decide) q465 rfl (cdE_7 ht1) rfl dX9_size_1 ?_
  exact cx_iret C hQ (by omega) (by omega) rfl hw dX9_size_4
-- ('BinderPress$Binder', 'size', '()I')
def rmet_V_size (l : Launch) (X : cX) (fr lo : Nat) (rc : Nat → CM → (Int → CM → Prop) → Prop) : Prop := ∀ (a : Nat) (μ : CM) (sz : Nat) (Q : Int → CM → Prop), rc a μ Q → (tg μ a = 6 ∧ ∃ rm, crm rm 0 (0) fr lo 1 ∧ Met l yX7_size (ws_ yX7_size cX7_size 1 (some .int)) rm (cPc X (([aR (some a)] : List AV).map toV) μ sz) (cQi X μ sz Q) 0 (0) (cA X μ sz)) ∨ (tg μ a = 7 ∧ ∃ rm, crm rm 0 (0) fr lo 1 ∧ Met l yX8_size (ws_ yX8_size cX8_size 1 (some .int)) rm (cPc X (([aR (some a)] : List AV).map toV) μ sz) (cQi X μ sz Q) 0 (0) (cA X μ sz)) ∨ (tg μ a = 8 ∧ ∃ rm, crm rm 0 (0) fr lo 1 ∧ Met l yX9_size (ws_ yX9_size cX9_size 1 (some .int)) rm (cPc X (([aR (some a)] : List AV).map toV) μ sz) (cQi X μ sz Q) 0 (0) (cA X μ sz)) ∨ (tg μ a = 5 ∧ ∃ rm, crm rm 0 (0) fr lo 1 ∧ Met l yX6_size (ws_ yX6_size cX6_size 1 (some .int)) rm (cPc X (([aR (some a)] : List AV).map toV) μ sz) (cQi X μ sz Q) 0 (0) (cA X μ sz))
set_option maxHeartbeats 4000000 in
theorem dv_size {Z : zz} {X : cX} {μ0 μ : CM} {cc : ByteArray} {nL : Nat} {own : String} {ret : Option FieldType} {F N kk nn pc : Nat} {H : Heap} {locs : List Loc} {ls : Array Slot} {lv : List (Nat × Value)} {stk rest : List Value} {index fr lo : Nat} {Q : Int → CM → Prop} {rc : Nat → CM → (Int → CM → Prop) → Prop} {a : Nat} (C : gC Z cc nL own ret F N) (hK : cCt Z X μ0) (hI : cI Z X μ0 μ H locs) (hl : lv_has ls nL lv) (hrc : rmet_V_size (zz_l Z) X fr lo rc) (hw : rc a μ Q) (hF : fr ≤ F) (hN : lo ≤ N) (hlk : (Cond.methodLink own index ⟨"BinderPress$Term", "size", "()I"⟩).before (zz_a Z) (zz_s Z) = true) (hW : (rest.map fun v => v.category).sum ≤ 8) (d : decode cc pc = .ok (.invokevirtual index, 3)) (hn : ([] : List Value).length = 0) (hs : stk = ([] : List Value).reverse ++ .ref a :: rest) (hf : kk + 0 ≤ (zz_R Z).cells ∧ nn + 0 ≤ (zz_R Z).slots) : cRun Z H locs kk nn 0 (0) pc ls stk rest (cQi X μ H.size Q (Value.ref a :: []).toArray) (cA X μ H.size) := by
  rcases hrc a μ H.size Q hw with ⟨ht, rm, h, hM⟩ | ⟨ht, rm, h, hM⟩ | ⟨ht, rm, h, hM⟩ | ⟨ht, rm, h, hM⟩
  · exact cr_U (x := ⟨"BinderPress$Term", "size", "()I"⟩) (owner := "BinderPress$Sized") (Cn := "BinderPress$Name") C hK hI hl 0 (cv_dyn hK hI (ci := 5) rfl (Or.inr (cdE_5 ht))) hM hlk (va_Nw.use rfl (hK.1.2.2.1 _ (List.mem_of_getElem? (i := 74) rfl))) (va_Decl.abs (hK.1.2.2.1 _ (List.mem_of_getElem? (i := 25) rfl))) (sel_via (z := ⟨"BinderPress$Sized", "size", "()I"⟩) ⟨rfl, rfl⟩ (va_Nw.use rfl (hK.1.2.2.1 _ (List.mem_of_getElem? (i := 74) rfl))) (hK.1.2.2.2.2.2.1 _ (List.mem_of_getElem? (i := 0) rfl)).2.1 (C.w _ q431)) q432 q94 q433 (by decide +kernel) ⟨h.1, h.2.1, Nat.le_trans h.2.2.1 hF, Nat.le_trans h.2.2.2 hN⟩ hW d hn hs hf
  · exact cr_U (x := ⟨"BinderPress$Term", "size", "()I"⟩) (owner := "BinderPress$Sized") (Cn := "BinderPress$Sign") C hK hI hl 0 (cv_dyn hK hI (ci := 6) rfl (Or.inr (cdE_6 ht))) hM hlk (va_Nw.use rfl (hK.1.2.2.1 _ (List.mem_of_getElem? (i := 74) rfl))) (va_Decl.abs (hK.1.2.2.1 _ (List.mem_of_getElem? (i := 25) rfl))) (sel_via (z := ⟨"BinderPress$Sized", "size", "()I"⟩) ⟨rfl, rfl⟩ (va_Nw.use rfl (hK.1.2.2.1 _ (List.mem_of_getElem? (i := 74) rfl))) (hK.1.2.2.2.2.2.1 _ (List.mem_of_getElem? (i := 1) rfl)).2.1 (C.w _ q437)) q438 q95 q439 (by decide +kernel) ⟨h.1, h.2.1, Nat.le_trans h.2.2.1 hF, Nat.le_trans h.2.2.2 hN⟩ hW d hn hs hf
  · exact cr_U (x := ⟨"BinderPress$Term", "size", "()I"⟩) (owner := "BinderPress$Sized") (Cn := "BinderPress$Put") C hK hI hl 0 (cv_dyn hK hI (ci := 7) rfl (Or.inr (cdE_7 ht))) hM hlk (va_Nw.use rfl (hK.1.2.2.1 _ (List.mem_of_getElem? (i := 74) rfl))) (va_Decl.abs (hK.1.2.2.1 _ (List.mem_of_getElem? (i := 25) rfl))) (sel_via (z := ⟨"BinderPress$Sized", "size", "()I"⟩) ⟨rfl, rfl⟩ (va_Nw.use rfl (hK.1.2.2.1 _ (List.mem_of_getElem? (i := 74) rfl))) (hK.1.2.2.2.2.2.1 _ (List.mem_of_getElem? (i := 2) rfl)).2.1 (C.w _ q434)) q435 q96 q436 (by decide +kernel) ⟨h.1, h.2.1, Nat.le_trans h.2.2.1 hF, Nat.le_trans h.2.2.2 hN⟩ hW d hn hs hf
  · exact cr_U (x := ⟨"BinderPress$Term", "size", "()I"⟩) (owner := "BinderPress$Sized") (Cn := "BinderPress$Binder") C hK hI hl 0 (cv_dyn hK hI (ci := 4) rfl (Or.inr (cdE_4 ht))) hM hlk (va_Nw.use rfl (hK.1.2.2.1 _ (List.mem_of_getElem? (i := 74) rfl))) (va_Decl.abs (hK.1.2.2.1 _ (List.mem_of_getElem? (i := 25) rfl))) (sel_via (z := ⟨"BinderPress$Sized", "size", "()I"⟩) ⟨rfl, rfl⟩ (va_Nw.use rfl (hK.1.2.2.1 _ (List.mem_of_getElem? (i := 74) rfl))) (hK.1.2.2.2.2.2.1 _ (List.mem_of_getElem? (i := 3) rfl)).2.1 (C.w _ q428)) q429 q93 q430 (by decide +kernel) ⟨h.1, h.2.1, Nat.le_trans h.2.2.1 hF, Nat.le_trans h.2.2.2 hN⟩ hW d hn hs hf
set_option maxHeartbeats 4000000 in
theorem dvi_size {Z : zz} {X : cX} {μ0 μ : CM} {cc : ByteArray} {nL : Nat} {own : String} {ret : Option FieldType} {F N kk nn pc : Nat} {H : Heap} {locs : List Loc} {ls : Array Slot} {L : List (Nat × AV)} {S : List AV} {stk : List Value} {index count fr lo : Nat} {Q : Int → CM → Prop} {rc : Nat → CM → (Int → CM → Prop) → Prop} {a : Nat} (C : gC Z cc nL own ret F N) (hK : cCt Z X μ0) (hI : cI Z X μ0 μ H locs) (hl : lv_has ls nL (toL L)) (hrc : rmet_V_size (zz_l Z) X fr lo rc) (hw : rc a μ Q) (hF : fr ≤ F) (hN : lo ≤ N) (hlk : Cond.methodLink own index ⟨"BinderPress$Sized", "size", "()I"⟩ ∈ lw_all) (hW : ((S.map toV).map fun v => v.category).sum ≤ 8) (d : decode cc pc = .ok (.invokeinterface index count, 5)) (hs : stk = .ref a :: S.map toV) (hf : kk + 0 ≤ (zz_R Z).cells ∧ nn + 0 ≤ (zz_R Z).slots) (K : ∀ r μ', Q r μ' → hG Z nL (cI Z X μ0 μ') (kk + 0) (nn + 0) (pc + 5) L (aI r :: S)) : W (zz_p Z) (zz_l Z) (zz_e Z) (zz_R Z) (zz_s Z) (zz_m Z) (zz_a Z) (zz_b Z) (zz_t Z) (zz_c Z) H locs kk nn (zz_q Z) (F0 (zz_m Z) pc ls stk) := by
  rcases hrc a μ H.size Q hw with ⟨ht, rm, h, hM⟩ | ⟨ht, rm, h, hM⟩ | ⟨ht, rm, h, hM⟩ | ⟨ht, rm, h, hM⟩
  · exact cx_fi (S := S) (x := ⟨"BinderPress$Sized", "size", "()I"⟩) (Cn := "BinderPress$Name") (As := []) C hK hI hl 0 (hK.1.1.1 5 _ rfl).2 (cv_dyn hK hI (ci := 5) rfl (Or.inr (cdE_5 ht))) hM hlk q431 (List.mem_of_getElem? (i := 0) rfl) q432 q94 q433 (by decide +kernel) ⟨h.1, h.2.1, Nat.le_trans h.2.2.1 hF, Nat.le_trans h.2.2.2 hN⟩ hW d rfl hs hf K
  · exact cx_fi (S := S) (x := ⟨"BinderPress$Sized", "size", "()I"⟩) (Cn := "BinderPress$Sign") (As := []) C hK hI hl 0 (hK.1.1.1 6 _ rfl).2 (cv_dyn hK hI (ci := 6) rfl (Or.inr (cdE_6 ht))) hM hlk q437 (List.mem_of_getElem? (i := 1) rfl) q438 q95 q439 (by decide +kernel) ⟨h.1, h.2.1, Nat.le_trans h.2.2.1 hF, Nat.le_trans h.2.2.2 hN⟩ hW d rfl hs hf K
  · exact cx_fi (S := S) (x := ⟨"BinderPress$Sized", "size", "()I"⟩) (Cn := "BinderPress$Put") (As := []) C hK hI hl 0 (hK.1.1.1 7 _ rfl).2 (cv_dyn hK hI (ci := 7) rfl (Or.inr (cdE_7 ht))) hM hlk q434 (List.mem_of_getElem? (i := 2) rfl) q435 q96 q436 (by decide +kernel) ⟨h.1, h.2.1, Nat.le_trans h.2.2.1 hF, Nat.le_trans h.2.2.2 hN⟩ hW d rfl hs hf K
  · exact cx_fi (S := S) (x := ⟨"BinderPress$Sized", "size", "()I"⟩) (Cn := "BinderPress$Binder") (As := []) C hK hI hl 0 (hK.1.1.1 4 _ rfl).2 (cv_dyn hK hI (ci := 4) rfl (Or.inr (cdE_4 ht))) hM hlk q428 (List.mem_of_getElem? (i := 3) rfl) q429 q93 q430 (by decide +kernel) ⟨h.1, h.2.1, Nat.le_trans h.2.2.1 hF, Nat.le_trans h.2.2.2 hN⟩ hW d rfl hs hf K
def wc_X6_size (X : cX) (rc : Nat → CM → (Int → CM → Prop) → Prop) (l0 : Nat) (μ : CM) (Q : Int → CM → Prop) : Prop := (tg μ l0 = 5 ∧ ∃ a2, (oR μ l0 1) = some a2 ∧ rc a2 μ (fun r4 μ5 => Q (1 + r4) μ5))
set_option maxHeartbeats 4000000 in
theorem sc_X6_size (l : Launch) (X : cX) (sz : Nat) (Q : Int → CM → Prop) {rc : Nat → CM → (Int → CM → Prop) → Prop} {fr lo : Nat} (hA : 1 ≤ fr) (hB : 20 ≤ lo) (hrc : rmet_V_size l X fr lo rc) (l0 : Nat) (μ : CM) (hw : wc_X6_size X rc l0 μ Q) : Met l yX6_size (ws_ yX6_size cX6_size 1 (some .int)) ({ frames := (fr + 0), cells := 0, slots := 0, locals := (lo + 0) }) (cPc X (([aR (some l0)] : List AV).map toV) μ sz) (cQi X μ sz Q) 0 (0) (cA X μ sz) := by
  refine cx_met2 (rm := ({ frames := (fr + 0), cells := 0, slots := 0, locals := (lo + 0) })) (As := [aR (some l0)]) (L0 := [(0, aR (some l0))]) (by decide) rfl (Nat.le_of_ble_eq_true rfl) rfl ?_
  intro Z C hK hsz hR hl0 hin hQ
  subst hsz
  have C : gC Z cX6_size 1 RX6 (some .int) (fr + 0) (lo + 0) := C
  rw [← hl0] at hrc
  have hQ : zz_q Z = MQ (zz_b Z) (cQi X μ (zz_s Z).heap.size Q) (zz_a Z) (zz_s Z) (zz_R Z).cells (zz_R Z).slots (cA X μ (zz_s Z).heap.size) := by rw [hR]; exact hQ
  unfold wc_X6_size at hw
  refine hx_iconst C dX6_size_0 ?_
  refine hx_aload_n C dX6_size_1 0 rfl rfl ?_
  obtain ⟨ht1, hw⟩ := hw
  refine cx_get (μ := μ) (v := aR (oR μ l0 1)) C hK 4 1 rfl in_X6 (by decide) q377 rfl (cdE_4 ht1) rfl dX6_size_2 ?_
  obtain ⟨a2, ha3, hw⟩ := hw
  rw [ha3]
  refine fun H locs hI ls hl => cx_ri (S := [aI 1]) hI hl (fun _ h => h) (dv_size (rest := [toV (aI 1)]) C hK hI hl hrc hw (by omega) (by omega) (va_Nw.use rfl (hK.1.2.2.1 _ (List.mem_of_getElem? (i := 71) rfl))) (av_W [aI 1] 8 (Nat.le_of_ble_eq_true rfl)) dX6_size_5 rfl rfl ⟨by omega, by omega⟩) (fun r4 μ5 hw => ?_)
  refine hx_iadd C dX6_size_8 ?_
  exact cx_iret C hQ (by omega) (by omega) rfl hw dX6_size_9
-- size
def wd_size (X : cX) (rc : Nat → CM → (Int → CM → Prop) → Prop) : Nat → CM → (Int → CM → Prop) → Prop := fun a μ Q => (tg μ a = 6 ∧ wc_X7_size X a μ Q) ∨ (tg μ a = 7 ∧ wc_X8_size X a μ Q) ∨ (tg μ a = 8 ∧ wc_X9_size X a μ Q) ∨ (tg μ a = 5 ∧ wc_X6_size X rc a μ Q)
def wr_V_size (X : cX) : Nat → Nat → CM → (Int → CM → Prop) → Prop
  | 0 => fun _ _ _ => False
  | d + 1 => wd_size X (wr_V_size X d)
set_option maxHeartbeats 4000000 in
theorem rr_V_size (l : Launch) (X : cX) : ∀ d, rmet_V_size l X (1 + 1 * d) (20 + 20 * d) (wr_V_size X d) := by
  intro d
  induction d with
  | zero => intro a μ sz Q h; exact h.elim
  | succ d ih =>
    intro a μ sz Q h
    rcases h with ⟨ht, hw⟩ | ⟨ht, hw⟩ | ⟨ht, hw⟩ | ⟨ht, hw⟩
    · exact Or.inl (⟨ht, _, ⟨rfl, rfl, by first | omega | (dsimp only; omega), by first | omega | (dsimp only; omega)⟩, sc_X7_size l X sz Q _ _ hw⟩)
    · exact Or.inr (Or.inl (⟨ht, _, ⟨rfl, rfl, by first | omega | (dsimp only; omega), by first | omega | (dsimp only; omega)⟩, sc_X8_size l X sz Q _ _ hw⟩))
    · exact Or.inr (Or.inr (Or.inl (⟨ht, _, ⟨rfl, rfl, by first | omega | (dsimp only; omega), by first | omega | (dsimp only; omega)⟩, sc_X9_size l X sz Q _ _ hw⟩)))
    · exact Or.inr (Or.inr (Or.inr (⟨ht, _, ⟨rfl, rfl, by first | omega | (dsimp only; omega), by first | omega | (dsimp only; omega)⟩, sc_X6_size l X sz Q (by omega) (by omega) ih _ _ hw⟩)))
-- ('BinderPress$Name', 'free', '()I')
def wc_X7_free (X : cX) (l0 : Nat) (μ : CM) (Q : Int → CM → Prop) : Prop := tg μ l0 = 6 ∧ Q (io_shl 1 ((oI μ l0 0) - 97)) μ
set_option maxHeartbeats 4000000 in
theorem sc_X7_free (l : Launch) (X : cX) (sz : Nat) (Q : Int → CM → Prop) (l0 : Nat) (μ : CM) (hw : wc_X7_free X l0 μ Q) : Met l yX7_free (ws_ yX7_free cX7_free 1 (some .int)) ({ frames := 0, cells := 0, slots := 0, locals := 0 }) (cPc X (([aR (some l0)] : List AV).map toV) μ sz) (cQi X μ sz Q) 0 (0) (cA X μ sz) := by
  refine cx_met2 (rm := ({ frames := 0, cells := 0, slots := 0, locals := 0 })) (As := [aR (some l0)]) (L0 := [(0, aR (some l0))]) (by decide) rfl (Nat.le_of_ble_eq_true rfl) rfl ?_
  intro Z C hK hsz hR hl0 hin hQ
  subst hsz
  have C : gC Z cX7_free 1 RX7 (some .int) 0 0 := C
  have hQ : zz_q Z = MQ (zz_b Z) (cQi X μ (zz_s Z).heap.size Q) (zz_a Z) (zz_s Z) (zz_R Z).cells (zz_R Z).slots (cA X μ (zz_s Z).heap.size) := by rw [hR]; exact hQ
  unfold wc_X7_free at hw
  refine hx_iconst C dX7_free_0 ?_
  refine hx_aload_n C dX7_free_1 0 rfl rfl ?_
  obtain ⟨ht1, hw⟩ := hw
  refine cx_get (μ := μ) (v := aI (oI μ l0 0)) C hK 5 0 rfl in_X7 (by decide) q393 rfl (cdE_5 ht1) rfl dX7_free_2 ?_
  refine hx_bipush C dX7_free_5 (by decide) ?_
  refine hx_isub C dX7_free_7 ?_
  refine hx_ishl C dX7_free_8 ?_
  exact cx_iret C hQ (by omega) (by omega) rfl hw dX7_free_9
-- ('BinderPress$Sign', 'free', '()I')
def wc_X8_free (X : cX) (l0 : Nat) (μ : CM) (Q : Int → CM → Prop) : Prop := Q 0 μ
set_option maxHeartbeats 4000000 in
theorem sc_X8_free (l : Launch) (X : cX) (sz : Nat) (Q : Int → CM → Prop) (l0 : Nat) (μ : CM) (hw : wc_X8_free X l0 μ Q) : Met l yX8_free (ws_ yX8_free cX8_free 1 (some .int)) ({ frames := 0, cells := 0, slots := 0, locals := 0 }) (cPc X (([aR (some l0)] : List AV).map toV) μ sz) (cQi X μ sz Q) 0 (0) (cA X μ sz) := by
  refine cx_met2 (rm := ({ frames := 0, cells := 0, slots := 0, locals := 0 })) (As := [aR (some l0)]) (L0 := [(0, aR (some l0))]) (by decide) rfl (Nat.le_of_ble_eq_true rfl) rfl ?_
  intro Z C hK hsz hR hl0 hin hQ
  subst hsz
  have C : gC Z cX8_free 1 RX8 (some .int) 0 0 := C
  have hQ : zz_q Z = MQ (zz_b Z) (cQi X μ (zz_s Z).heap.size Q) (zz_a Z) (zz_s Z) (zz_R Z).cells (zz_R Z).slots (cA X μ (zz_s Z).heap.size) := by rw [hR]; exact hQ
  unfold wc_X8_free at hw
  refine hx_iconst C dX8_free_0 ?_
  exact cx_iret C hQ (by omega) (by omega) rfl hw dX8_free_1
-- ('BinderPress$Put', 'free', '()I')
def wc_X9_free (X : cX) (l0 : Nat) (μ : CM) (Q : Int → CM → Prop) : Prop := tg μ l0 = 8 ∧ Q (oI μ l0 3) μ
set_option maxHeartbeats 4000000 in
theorem sc_X9_free (l : Launch) (X : cX) (sz : Nat) (Q : Int → CM → Prop) (l0 : Nat) (μ : CM) (hw : wc_X9_free X l0 μ Q) : Met l yX9_free (ws_ yX9_free cX9_free 1 (some .int)) ({ frames := 0, cells := 0, slots := 0, locals := 0 }) (cPc X (([aR (some l0)] : List AV).map toV) μ sz) (cQi X μ sz Q) 0 (0) (cA X μ sz) := by
  refine cx_met2 (rm := ({ frames := 0, cells := 0, slots := 0, locals := 0 })) (As := [aR (some l0)]) (L0 := [(0, aR (some l0))]) (by decide) rfl (Nat.le_of_ble_eq_true rfl) rfl ?_
  intro Z C hK hsz hR hl0 hin hQ
  subst hsz
  have C : gC Z cX9_free 1 RX9 (some .int) 0 0 := C
  have hQ : zz_q Z = MQ (zz_b Z) (cQi X μ (zz_s Z).heap.size Q) (zz_a Z) (zz_s Z) (zz_R Z).cells (zz_R Z).slots (cA X μ (zz_s Z).heap.size) := by rw [hR]; exact hQ
  unfold wc_X9_free at hw
  refine hx_aload_n C dX9_free_0 0 rfl rfl ?_
  obtain ⟨ht1, hw⟩ := hw
  refine cx_get (μ := μ) (v := aI (oI μ l0 3)) C hK 7 3 rfl in_X9 (by decide) q466 rfl (cdE_7 ht1) rfl dX9_free_1 ?_
  exact cx_iret C hQ (by omega) (by omega) rfl hw dX9_free_4
-- ('BinderPress$Binder', 'free', '()I')
def rmet_V_free (l : Launch) (X : cX) (fr lo : Nat) (rc : Nat → CM → (Int → CM → Prop) → Prop) : Prop := ∀ (a : Nat) (μ : CM) (sz : Nat) (Q : Int → CM → Prop), rc a μ Q → (tg μ a = 6 ∧ ∃ rm, crm rm 0 (0) fr lo 1 ∧ Met l yX7_free (ws_ yX7_free cX7_free 1 (some .int)) rm (cPc X (([aR (some a)] : List AV).map toV) μ sz) (cQi X μ sz Q) 0 (0) (cA X μ sz)) ∨ (tg μ a = 7 ∧ ∃ rm, crm rm 0 (0) fr lo 1 ∧ Met l yX8_free (ws_ yX8_free cX8_free 1 (some .int)) rm (cPc X (([aR (some a)] : List AV).map toV) μ sz) (cQi X μ sz Q) 0 (0) (cA X μ sz)) ∨ (tg μ a = 8 ∧ ∃ rm, crm rm 0 (0) fr lo 1 ∧ Met l yX9_free (ws_ yX9_free cX9_free 1 (some .int)) rm (cPc X (([aR (some a)] : List AV).map toV) μ sz) (cQi X μ sz Q) 0 (0) (cA X μ sz)) ∨ (tg μ a = 5 ∧ ∃ rm, crm rm 0 (0) fr lo 1 ∧ Met l yX6_free (ws_ yX6_free cX6_free 1 (some .int)) rm (cPc X (([aR (some a)] : List AV).map toV) μ sz) (cQi X μ sz Q) 0 (0) (cA X μ sz))
set_option maxHeartbeats 4000000 in
theorem dv_free {Z : zz} {X : cX} {μ0 μ : CM} {cc : ByteArray} {nL : Nat} {own : String} {ret : Option FieldType} {F N kk nn pc : Nat} {H : Heap} {locs : List Loc} {ls : Array Slot} {lv : List (Nat × Value)} {stk rest : List Value} {index fr lo : Nat} {Q : Int → CM → Prop} {rc : Nat → CM → (Int → CM → Prop) → Prop} {a : Nat} (C : gC Z cc nL own ret F N) (hK : cCt Z X μ0) (hI : cI Z X μ0 μ H locs) (hl : lv_has ls nL lv) (hrc : rmet_V_free (zz_l Z) X fr lo rc) (hw : rc a μ Q) (hF : fr ≤ F) (hN : lo ≤ N) (hlk : (Cond.methodLink own index ⟨"BinderPress$Term", "free", "()I"⟩).before (zz_a Z) (zz_s Z) = true) (hW : (rest.map fun v => v.category).sum ≤ 8) (d : decode cc pc = .ok (.invokevirtual index, 3)) (hn : ([] : List Value).length = 0) (hs : stk = ([] : List Value).reverse ++ .ref a :: rest) (hf : kk + 0 ≤ (zz_R Z).cells ∧ nn + 0 ≤ (zz_R Z).slots) : cRun Z H locs kk nn 0 (0) pc ls stk rest (cQi X μ H.size Q (Value.ref a :: []).toArray) (cA X μ H.size) := by
  rcases hrc a μ H.size Q hw with ⟨ht, rm, h, hM⟩ | ⟨ht, rm, h, hM⟩ | ⟨ht, rm, h, hM⟩ | ⟨ht, rm, h, hM⟩
  · exact cr_U (x := ⟨"BinderPress$Term", "free", "()I"⟩) (owner := "BinderPress$Term") (Cn := "BinderPress$Name") C hK hI hl 0 (cv_dyn hK hI (ci := 5) rfl (Or.inr (cdE_5 ht))) hM hlk (C.w _ q445) (va_Decl.abs (hK.1.2.2.1 _ (List.mem_of_getElem? (i := 41) rfl))) (C.w _ q456) q450 q94 q451 (by decide +kernel) ⟨h.1, h.2.1, Nat.le_trans h.2.2.1 hF, Nat.le_trans h.2.2.2 hN⟩ hW d hn hs hf
  · exact cr_U (x := ⟨"BinderPress$Term", "free", "()I"⟩) (owner := "BinderPress$Term") (Cn := "BinderPress$Sign") C hK hI hl 0 (cv_dyn hK hI (ci := 6) rfl (Or.inr (cdE_6 ht))) hM hlk (C.w _ q445) (va_Decl.abs (hK.1.2.2.1 _ (List.mem_of_getElem? (i := 41) rfl))) (C.w _ q458) q454 q95 q455 (by decide +kernel) ⟨h.1, h.2.1, Nat.le_trans h.2.2.1 hF, Nat.le_trans h.2.2.2 hN⟩ hW d hn hs hf
  · exact cr_U (x := ⟨"BinderPress$Term", "free", "()I"⟩) (owner := "BinderPress$Term") (Cn := "BinderPress$Put") C hK hI hl 0 (cv_dyn hK hI (ci := 7) rfl (Or.inr (cdE_7 ht))) hM hlk (C.w _ q445) (va_Decl.abs (hK.1.2.2.1 _ (List.mem_of_getElem? (i := 41) rfl))) (C.w _ q457) q452 q96 q453 (by decide +kernel) ⟨h.1, h.2.1, Nat.le_trans h.2.2.1 hF, Nat.le_trans h.2.2.2 hN⟩ hW d hn hs hf
  · exact cr_U (x := ⟨"BinderPress$Term", "free", "()I"⟩) (owner := "BinderPress$Term") (Cn := "BinderPress$Binder") C hK hI hl 0 (cv_dyn hK hI (ci := 4) rfl (Or.inr (cdE_4 ht))) hM hlk (C.w _ q445) (va_Decl.abs (hK.1.2.2.1 _ (List.mem_of_getElem? (i := 41) rfl))) (C.w _ q446) q447 q93 q448 (by decide +kernel) ⟨h.1, h.2.1, Nat.le_trans h.2.2.1 hF, Nat.le_trans h.2.2.2 hN⟩ hW d hn hs hf
def wc_X6_free (X : cX) (rc : Nat → CM → (Int → CM → Prop) → Prop) (l0 : Nat) (μ : CM) (Q : Int → CM → Prop) : Prop := (tg μ l0 = 5 ∧ ∃ a2, (oR μ l0 1) = some a2 ∧ rc a2 μ (fun r4 μ5 => tg μ5 l0 = 5 ∧ Q (io_and r4 (io_xor (io_shl 1 ((oI μ5 l0 0) - 97)) (-1))) μ5))
set_option maxHeartbeats 4000000 in
theorem sc_X6_free (l : Launch) (X : cX) (sz : Nat) (Q : Int → CM → Prop) {rc : Nat → CM → (Int → CM → Prop) → Prop} {fr lo : Nat} (hA : 1 ≤ fr) (hB : 20 ≤ lo) (hrc : rmet_V_free l X fr lo rc) (l0 : Nat) (μ : CM) (hw : wc_X6_free X rc l0 μ Q) : Met l yX6_free (ws_ yX6_free cX6_free 1 (some .int)) ({ frames := (fr + 0), cells := 0, slots := 0, locals := (lo + 0) }) (cPc X (([aR (some l0)] : List AV).map toV) μ sz) (cQi X μ sz Q) 0 (0) (cA X μ sz) := by
  refine cx_met2 (rm := ({ frames := (fr + 0), cells := 0, slots := 0, locals := (lo + 0) })) (As := [aR (some l0)]) (L0 := [(0, aR (some l0))]) (by decide) rfl (Nat.le_of_ble_eq_true rfl) rfl ?_
  intro Z C hK hsz hR hl0 hin hQ
  subst hsz
  have C : gC Z cX6_free 1 RX6 (some .int) (fr + 0) (lo + 0) := C
  rw [← hl0] at hrc
  have hQ : zz_q Z = MQ (zz_b Z) (cQi X μ (zz_s Z).heap.size Q) (zz_a Z) (zz_s Z) (zz_R Z).cells (zz_R Z).slots (cA X μ (zz_s Z).heap.size) := by rw [hR]; exact hQ
  unfold wc_X6_free at hw
  refine hx_aload_n C dX6_free_0 0 rfl rfl ?_
  obtain ⟨ht1, hw⟩ := hw
  refine cx_get (μ := μ) (v := aR (oR μ l0 1)) C hK 4 1 rfl in_X6 (by decide) q377 rfl (cdE_4 ht1) rfl dX6_free_1 ?_
  obtain ⟨a2, ha3, hw⟩ := hw
  rw [ha3]
  refine fun H locs hI ls hl => cx_ri (S := []) hI hl (fun _ h => h) (dv_free (rest := []) C hK hI hl hrc hw (by omega) (by omega) (C.w _ q449) (av_W [] 8 (Nat.le_of_ble_eq_true rfl)) dX6_free_4 rfl rfl ⟨by omega, by omega⟩) (fun r4 μ5 hw => ?_)
  refine hx_iconst C dX6_free_7 ?_
  refine hx_aload_n C dX6_free_8 0 rfl rfl ?_
  obtain ⟨ht6, hw⟩ := hw
  refine cx_get (μ := μ5) (v := aI (oI μ5 l0 0)) C hK 4 0 rfl in_X6 (by decide) q375 rfl (cdE_4 ht6) rfl dX6_free_9 ?_
  refine hx_bipush C dX6_free_12 (by decide) ?_
  refine hx_isub C dX6_free_14 ?_
  refine hx_ishl C dX6_free_15 ?_
  refine hx_iconst C dX6_free_16 ?_
  refine hx_ixor C dX6_free_17 ?_
  refine hx_iand C dX6_free_18 ?_
  exact cx_iret C hQ (by omega) (by omega) rfl hw dX6_free_19
-- free
def wd_free (X : cX) (rc : Nat → CM → (Int → CM → Prop) → Prop) : Nat → CM → (Int → CM → Prop) → Prop := fun a μ Q => (tg μ a = 6 ∧ wc_X7_free X a μ Q) ∨ (tg μ a = 7 ∧ wc_X8_free X a μ Q) ∨ (tg μ a = 8 ∧ wc_X9_free X a μ Q) ∨ (tg μ a = 5 ∧ wc_X6_free X rc a μ Q)
def wr_V_free (X : cX) : Nat → Nat → CM → (Int → CM → Prop) → Prop
  | 0 => fun _ _ _ => False
  | d + 1 => wd_free X (wr_V_free X d)
set_option maxHeartbeats 4000000 in
theorem rr_V_free (l : Launch) (X : cX) : ∀ d, rmet_V_free l X (1 + 1 * d) (20 + 20 * d) (wr_V_free X d) := by
  intro d
  induction d with
  | zero => intro a μ sz Q h; exact h.elim
  | succ d ih =>
    intro a μ sz Q h
    rcases h with ⟨ht, hw⟩ | ⟨ht, hw⟩ | ⟨ht, hw⟩ | ⟨ht, hw⟩
    · exact Or.inl (⟨ht, _, ⟨rfl, rfl, by first | omega | (dsimp only; omega), by first | omega | (dsimp only; omega)⟩, sc_X7_free l X sz Q _ _ hw⟩)
    · exact Or.inr (Or.inl (⟨ht, _, ⟨rfl, rfl, by first | omega | (dsimp only; omega), by first | omega | (dsimp only; omega)⟩, sc_X8_free l X sz Q _ _ hw⟩))
    · exact Or.inr (Or.inr (Or.inl (⟨ht, _, ⟨rfl, rfl, by first | omega | (dsimp only; omega), by first | omega | (dsimp only; omega)⟩, sc_X9_free l X sz Q _ _ hw⟩)))
    · exact Or.inr (Or.inr (Or.inr (⟨ht, _, ⟨rfl, rfl, by first | omega | (dsimp only; omega), by first | omega | (dsimp only; omega)⟩, sc_X6_free l X sz Q (by omega) (by omega) ih _ _ hw⟩)))
-- ('BinderPress$Name', 'binders', '()I')
def wc_X7_binders (X : cX) (l0 : Nat) (μ : CM) (Q : Int → CM → Prop) : Prop := Q 0 μ
set_option maxHeartbeats 4000000 in
theorem sc_X7_binders (l : Launch) (X : cX) (sz : Nat) (Q : Int → CM → Prop) (l0 : Nat) (μ : CM) (hw : wc_X7_binders X l0 μ Q) : Met l yX7_binders (ws_ yX7_binders cX7_binders 1 (some .int)) ({ frames := 0, cells := 0, slots := 0, locals := 0 }) (cPc X (([aR (some l0)] : List AV).map toV) μ sz) (cQi X μ sz Q) 0 (0) (cA X μ sz) := by
  refine cx_met2 (rm := ({ frames := 0, cells := 0, slots := 0, locals := 0 })) (As := [aR (some l0)]) (L0 := [(0, aR (some l0))]) (by decide) rfl (Nat.le_of_ble_eq_true rfl) rfl ?_
  intro Z C hK hsz hR hl0 hin hQ
  subst hsz
  have C : gC Z cX7_binders 1 RX7 (some .int) 0 0 := C
  have hQ : zz_q Z = MQ (zz_b Z) (cQi X μ (zz_s Z).heap.size Q) (zz_a Z) (zz_s Z) (zz_R Z).cells (zz_R Z).slots (cA X μ (zz_s Z).heap.size) := by rw [hR]; exact hQ
  unfold wc_X7_binders at hw
  refine hx_iconst C dX7_binders_0 ?_
  exact cx_iret C hQ (by omega) (by omega) rfl hw dX7_binders_1
-- ('BinderPress$Sign', 'binders', '()I')
def wc_X8_binders (X : cX) (l0 : Nat) (μ : CM) (Q : Int → CM → Prop) : Prop := Q 0 μ
set_option maxHeartbeats 4000000 in
theorem sc_X8_binders (l : Launch) (X : cX) (sz : Nat) (Q : Int → CM → Prop) (l0 : Nat) (μ : CM) (hw : wc_X8_binders X l0 μ Q) : Met l yX8_binders (ws_ yX8_binders cX8_binders 1 (some .int)) ({ frames := 0, cells := 0, slots := 0, locals := 0 }) (cPc X (([aR (some l0)] : List AV).map toV) μ sz) (cQi X μ sz Q) 0 (0) (cA X μ sz) := by
  refine cx_met2 (rm := ({ frames := 0, cells := 0, slots := 0, locals := 0 })) (As := [aR (some l0)]) (L0 := [(0, aR (some l0))]) (by decide) rfl (Nat.le_of_ble_eq_true rfl) rfl ?_
  intro Z C hK hsz hR hl0 hin hQ
  subst hsz
  have C : gC Z cX8_binders 1 RX8 (some .int) 0 0 := C
  have hQ : zz_q Z = MQ (zz_b Z) (cQi X μ (zz_s Z).heap.size Q) (zz_a Z) (zz_s Z) (zz_R Z).cells (zz_R Z).slots (cA X μ (zz_s Z).heap.size) := by rw [hR]; exact hQ
  unfold wc_X8_binders at hw
  refine hx_iconst C dX8_binders_0 ?_
  exact cx_iret C hQ (by omega) (by omega) rfl hw dX8_binders_1
-- ('BinderPress$Binder', 'binders', '()I')
def rmet_V_binders (l : Launch) (X : cX) (fr lo : Nat) (rc : Nat → CM → (Int → CM → Prop) → Prop) : Prop := ∀ (a : Nat) (μ : CM) (sz : Nat) (Q : Int → CM → Prop), rc a μ Q → (tg μ a = 6 ∧ ∃ rm, crm rm 0 (0) fr lo 1 ∧ Met l yX7_binders (ws_ yX7_binders cX7_binders 1 (some .int)) rm (cPc X (([aR (some a)] : List AV).map toV) μ sz) (cQi X μ sz Q) 0 (0) (cA X μ sz)) ∨ (tg μ a = 7 ∧ ∃ rm, crm rm 0 (0) fr lo 1 ∧ Met l yX8_binders (ws_ yX8_binders cX8_binders 1 (some .int)) rm (cPc X (([aR (some a)] : List AV).map toV) μ sz) (cQi X μ sz Q) 0 (0) (cA X μ sz)) ∨ (tg μ a = 8 ∧ ∃ rm, crm rm 0 (0) fr lo 1 ∧ Met l yX9_binders (ws_ yX9_binders cX9_binders 1 (some .int)) rm (cPc X (([aR (some a)] : List AV).map toV) μ sz) (cQi X μ sz Q) 0 (0) (cA X μ sz)) ∨ (tg μ a = 5 ∧ ∃ rm, crm rm 0 (0) fr lo 1 ∧ Met l yX6_binders (ws_ yX6_binders cX6_binders 1 (some .int)) rm (cPc X (([aR (some a)] : List AV).map toV) μ sz) (cQi X μ sz Q) 0 (0) (cA X μ sz))
set_option maxHeartbeats 4000000 in
theorem dv_binders {Z : zz} {X : cX} {μ0 μ : CM} {cc : ByteArray} {nL : Nat} {own : String} {ret : Option FieldType} {F N kk nn pc : Nat} {H : Heap} {locs : List Loc} {ls : Array Slot} {lv : List (Nat × Value)} {stk rest : List Value} {index fr lo : Nat} {Q : Int → CM → Prop} {rc : Nat → CM → (Int → CM → Prop) → Prop} {a : Nat} (C : gC Z cc nL own ret F N) (hK : cCt Z X μ0) (hI : cI Z X μ0 μ H locs) (hl : lv_has ls nL lv) (hrc : rmet_V_binders (zz_l Z) X fr lo rc) (hw : rc a μ Q) (hF : fr ≤ F) (hN : lo ≤ N) (hlk : (Cond.methodLink own index ⟨"BinderPress$Term", "binders", "()I"⟩).before (zz_a Z) (zz_s Z) = true) (hW : (rest.map fun v => v.category).sum ≤ 8) (d : decode cc pc = .ok (.invokevirtual index, 3)) (hn : ([] : List Value).length = 0) (hs : stk = ([] : List Value).reverse ++ .ref a :: rest) (hf : kk + 0 ≤ (zz_R Z).cells ∧ nn + 0 ≤ (zz_R Z).slots) : cRun Z H locs kk nn 0 (0) pc ls stk rest (cQi X μ H.size Q (Value.ref a :: []).toArray) (cA X μ H.size) := by
  rcases hrc a μ H.size Q hw with ⟨ht, rm, h, hM⟩ | ⟨ht, rm, h, hM⟩ | ⟨ht, rm, h, hM⟩ | ⟨ht, rm, h, hM⟩
  · exact cr_U (x := ⟨"BinderPress$Term", "binders", "()I"⟩) (owner := "BinderPress$Term") (Cn := "BinderPress$Name") C hK hI hl 0 (cv_dyn hK hI (ci := 5) rfl (Or.inr (cdE_5 ht))) hM hlk (C.w _ q512) (va_Decl.abs (hK.1.2.2.1 _ (List.mem_of_getElem? (i := 43) rfl))) (C.w _ q521) q517 q94 q518 (by decide +kernel) ⟨h.1, h.2.1, Nat.le_trans h.2.2.1 hF, Nat.le_trans h.2.2.2 hN⟩ hW d hn hs hf
  · exact cr_U (x := ⟨"BinderPress$Term", "binders", "()I"⟩) (owner := "BinderPress$Term") (Cn := "BinderPress$Sign") C hK hI hl 0 (cv_dyn hK hI (ci := 6) rfl (Or.inr (cdE_6 ht))) hM hlk (C.w _ q512) (va_Decl.abs (hK.1.2.2.1 _ (List.mem_of_getElem? (i := 43) rfl))) (C.w _ q523) q519 q95 q520 (by decide +kernel) ⟨h.1, h.2.1, Nat.le_trans h.2.2.1 hF, Nat.le_trans h.2.2.2 hN⟩ hW d hn hs hf
  · exact cr_U (x := ⟨"BinderPress$Term", "binders", "()I"⟩) (owner := "BinderPress$Term") (Cn := "BinderPress$Put") C hK hI hl 0 (cv_dyn hK hI (ci := 7) rfl (Or.inr (cdE_7 ht))) hM hlk (C.w _ q512) (va_Decl.abs (hK.1.2.2.1 _ (List.mem_of_getElem? (i := 43) rfl))) (C.w _ q522) q507 q96 q509 (by decide +kernel) ⟨h.1, h.2.1, Nat.le_trans h.2.2.1 hF, Nat.le_trans h.2.2.2 hN⟩ hW d hn hs hf
  · exact cr_U (x := ⟨"BinderPress$Term", "binders", "()I"⟩) (owner := "BinderPress$Term") (Cn := "BinderPress$Binder") C hK hI hl 0 (cv_dyn hK hI (ci := 4) rfl (Or.inr (cdE_4 ht))) hM hlk (C.w _ q512) (va_Decl.abs (hK.1.2.2.1 _ (List.mem_of_getElem? (i := 43) rfl))) (C.w _ q513) q514 q93 q515 (by decide +kernel) ⟨h.1, h.2.1, Nat.le_trans h.2.2.1 hF, Nat.le_trans h.2.2.2 hN⟩ hW d hn hs hf
def wc_X6_binders (X : cX) (rc : Nat → CM → (Int → CM → Prop) → Prop) (l0 : Nat) (μ : CM) (Q : Int → CM → Prop) : Prop := (tg μ l0 = 5 ∧ ∃ a2, (oR μ l0 1) = some a2 ∧ rc a2 μ (fun r4 μ5 => Q (1 + r4) μ5))
set_option maxHeartbeats 4000000 in
theorem sc_X6_binders (l : Launch) (X : cX) (sz : Nat) (Q : Int → CM → Prop) {rc : Nat → CM → (Int → CM → Prop) → Prop} {fr lo : Nat} (hA : 1 ≤ fr) (hB : 20 ≤ lo) (hrc : rmet_V_binders l X fr lo rc) (l0 : Nat) (μ : CM) (hw : wc_X6_binders X rc l0 μ Q) : Met l yX6_binders (ws_ yX6_binders cX6_binders 1 (some .int)) ({ frames := (fr + 0), cells := 0, slots := 0, locals := (lo + 0) }) (cPc X (([aR (some l0)] : List AV).map toV) μ sz) (cQi X μ sz Q) 0 (0) (cA X μ sz) := by
  refine cx_met2 (rm := ({ frames := (fr + 0), cells := 0, slots := 0, locals := (lo + 0) })) (As := [aR (some l0)]) (L0 := [(0, aR (some l0))]) (by decide) rfl (Nat.le_of_ble_eq_true rfl) rfl ?_
  intro Z C hK hsz hR hl0 hin hQ
  subst hsz
  have C : gC Z cX6_binders 1 RX6 (some .int) (fr + 0) (lo + 0) := C
  rw [← hl0] at hrc
  have hQ : zz_q Z = MQ (zz_b Z) (cQi X μ (zz_s Z).heap.size Q) (zz_a Z) (zz_s Z) (zz_R Z).cells (zz_R Z).slots (cA X μ (zz_s Z).heap.size) := by rw [hR]; exact hQ
  unfold wc_X6_binders at hw
  refine hx_iconst C dX6_binders_0 ?_
  refine hx_aload_n C dX6_binders_1 0 rfl rfl ?_
  obtain ⟨ht1, hw⟩ := hw
  refine cx_get (μ := μ) (v := aR (oR μ l0 1)) C hK 4 1 rfl in_X6 (by decide) q377 rfl (cdE_4 ht1) rfl dX6_binders_2 ?_
  obtain ⟨a2, ha3, hw⟩ := hw
  rw [ha3]
  refine fun H locs hI ls hl => cx_ri (S := [aI 1]) hI hl (fun _ h => h) (dv_binders (rest := [toV (aI 1)]) C hK hI hl hrc hw (by omega) (by omega) (C.w _ q516) (av_W [aI 1] 8 (Nat.le_of_ble_eq_true rfl)) dX6_binders_5 rfl rfl ⟨by omega, by omega⟩) (fun r4 μ5 hw => ?_)
  refine hx_iadd C dX6_binders_8 ?_
  exact cx_iret C hQ (by omega) (by omega) rfl hw dX6_binders_9
-- ('BinderPress$Put', 'binders', '()I')
def wc_X9_binders (X : cX) (rc : Nat → CM → (Int → CM → Prop) → Prop) (l0 : Nat) (μ : CM) (Q : Int → CM → Prop) : Prop := (tg μ l0 = 8 ∧ ∃ a2, (oR μ l0 0) = some a2 ∧ rc a2 μ (fun r4 μ5 => (tg μ5 l0 = 8 ∧ ∃ a7, (oR μ5 l0 1) = some a7 ∧ rc a7 μ5 (fun r9 μ10 => Q (r4 + r9) μ10))))
set_option maxHeartbeats 4000000 in
theorem sc_X9_binders (l : Launch) (X : cX) (sz : Nat) (Q : Int → CM → Prop) {rc : Nat → CM → (Int → CM → Prop) → Prop} {fr lo : Nat} (hA : 1 ≤ fr) (hB : 20 ≤ lo) (hrc : rmet_V_binders l X fr lo rc) (l0 : Nat) (μ : CM) (hw : wc_X9_binders X rc l0 μ Q) : Met l yX9_binders (ws_ yX9_binders cX9_binders 1 (some .int)) ({ frames := (fr + 0), cells := 0, slots := 0, locals := (lo + 0) }) (cPc X (([aR (some l0)] : List AV).map toV) μ sz) (cQi X μ sz Q) 0 (0) (cA X μ sz) := by
  refine cx_met2 (rm := ({ frames := (fr + 0), cells := 0, slots := 0, locals := (lo + 0) })) (As := [aR (some l0)]) (L0 := [(0, aR (some l0))]) (by decide) rfl (Nat.le_of_ble_eq_true rfl) rfl ?_
  intro Z C hK hsz hR hl0 hin hQ
  subst hsz
  have C : gC Z cX9_binders 1 RX9 (some .int) (fr + 0) (lo + 0) := C
  rw [← hl0] at hrc
  have hQ : zz_q Z = MQ (zz_b Z) (cQi X μ (zz_s Z).heap.size Q) (zz_a Z) (zz_s Z) (zz_R Z).cells (zz_R Z).slots (cA X μ (zz_s Z).heap.size) := by rw [hR]; exact hQ
  unfold wc_X9_binders at hw
  refine hx_aload_n C dX9_binders_0 0 rfl rfl ?_
  obtain ⟨ht1, hw⟩ := hw
  refine cx_get (μ := μ) (v := aR (oR μ l0 0)) C hK 7 0 rfl in_X9 (by decide) q459 rfl (cdE_7 ht1) rfl dX9_binders_1 ?_
  obtain ⟨a2, ha3, hw⟩ := hw
  rw [ha3]
  refine fun H locs hI ls hl => cx_ri (S := []) hI hl (fun _ h => h) (dv_binders (rest := []) C hK hI hl hrc hw (by omega) (by omega) (C.w _ q510) (av_W [] 8 (Nat.le_of_ble_eq_true rfl)) dX9_binders_4 rfl rfl ⟨by omega, by omega⟩) (fun r4 μ5 hw => ?_)
  refine hx_aload_n C dX9_binders_7 0 rfl rfl ?_
  obtain ⟨ht6, hw⟩ := hw
  refine cx_get (μ := μ5) (v := aR (oR μ5 l0 1)) C hK 7 1 rfl in_X9 (by decide) q462 rfl (cdE_7 ht6) rfl dX9_binders_8 ?_
  obtain ⟨a7, ha8, hw⟩ := hw
  rw [ha8]
  refine fun H locs hI ls hl => cx_ri (S := [aI r4]) hI hl (fun _ h => h) (dv_binders (rest := [toV (aI r4)]) C hK hI hl hrc hw (by omega) (by omega) (C.w _ q510) (av_W [aI r4] 8 (Nat.le_of_ble_eq_true rfl)) dX9_binders_11 rfl rfl ⟨by omega, by omega⟩) (fun r9 μ10 hw => ?_)
  refine hx_iadd C dX9_binders_14 ?_
  exact cx_iret C hQ (by omega) (by omega) rfl hw dX9_binders_15
-- binders
def wd_binders (X : cX) (rc : Nat → CM → (Int → CM → Prop) → Prop) : Nat → CM → (Int → CM → Prop) → Prop := fun a μ Q => (tg μ a = 6 ∧ wc_X7_binders X a μ Q) ∨ (tg μ a = 7 ∧ wc_X8_binders X a μ Q) ∨ (tg μ a = 8 ∧ wc_X9_binders X rc a μ Q) ∨ (tg μ a = 5 ∧ wc_X6_binders X rc a μ Q)
def wr_V_binders (X : cX) : Nat → Nat → CM → (Int → CM → Prop) → Prop
  | 0 => fun _ _ _ => False
  | d + 1 => wd_binders X (wr_V_binders X d)
set_option maxHeartbeats 4000000 in
theorem rr_V_binders (l : Launch) (X : cX) : ∀ d, rmet_V_binders l X (1 + 1 * d) (20 + 20 * d) (wr_V_binders X d) := by
  intro d
  induction d with
  | zero => intro a μ sz Q h; exact h.elim
  | succ d ih =>
    intro a μ sz Q h
    rcases h with ⟨ht, hw⟩ | ⟨ht, hw⟩ | ⟨ht, hw⟩ | ⟨ht, hw⟩
    · exact Or.inl (⟨ht, _, ⟨rfl, rfl, by first | omega | (dsimp only; omega), by first | omega | (dsimp only; omega)⟩, sc_X7_binders l X sz Q _ _ hw⟩)
    · exact Or.inr (Or.inl (⟨ht, _, ⟨rfl, rfl, by first | omega | (dsimp only; omega), by first | omega | (dsimp only; omega)⟩, sc_X8_binders l X sz Q _ _ hw⟩))
    · exact Or.inr (Or.inr (Or.inl (⟨ht, _, ⟨rfl, rfl, by first | omega | (dsimp only; omega), by first | omega | (dsimp only; omega)⟩, sc_X9_binders l X sz Q (by omega) (by omega) ih _ _ hw⟩)))
    · exact Or.inr (Or.inr (Or.inr (⟨ht, _, ⟨rfl, rfl, by first | omega | (dsimp only; omega), by first | omega | (dsimp only; omega)⟩, sc_X6_binders l X sz Q (by omega) (by omega) ih _ _ hw⟩)))
-- ('BinderPress$Name', 'deep', '()I')
def wc_X7_deep (X : cX) (l0 : Nat) (μ : CM) (Q : Int → CM → Prop) : Prop := Q 1 μ
set_option maxHeartbeats 4000000 in
theorem sc_X7_deep (l : Launch) (X : cX) (sz : Nat) (Q : Int → CM → Prop) (l0 : Nat) (μ : CM) (hw : wc_X7_deep X l0 μ Q) : Met l yX7_deep (ws_ yX7_deep cX7_deep 1 (some .int)) ({ frames := 0, cells := 0, slots := 0, locals := 0 }) (cPc X (([aR (some l0)] : List AV).map toV) μ sz) (cQi X μ sz Q) 0 (0) (cA X μ sz) := by
  refine cx_met2 (rm := ({ frames := 0, cells := 0, slots := 0, locals := 0 })) (As := [aR (some l0)]) (L0 := [(0, aR (some l0))]) (by decide) rfl (Nat.le_of_ble_eq_true rfl) rfl ?_
  intro Z C hK hsz hR hl0 hin hQ
  subst hsz
  have C : gC Z cX7_deep 1 RX7 (some .int) 0 0 := C
  have hQ : zz_q Z = MQ (zz_b Z) (cQi X μ (zz_s Z).heap.size Q) (zz_a Z) (zz_s Z) (zz_R Z).cells (zz_R Z).slots (cA X μ (zz_s Z).heap.size) := by rw [hR]; exact hQ
  unfold wc_X7_deep at hw
  refine hx_iconst C dX7_deep_0 ?_
  exact cx_iret C hQ (by omega) (by omega) rfl hw dX7_deep_1
-- ('BinderPress$Sign', 'deep', '()I')
def wc_X8_deep (X : cX) (l0 : Nat) (μ : CM) (Q : Int → CM → Prop) : Prop := Q 1 μ
set_option maxHeartbeats 4000000 in
theorem sc_X8_deep (l : Launch) (X : cX) (sz : Nat) (Q : Int → CM → Prop) (l0 : Nat) (μ : CM) (hw : wc_X8_deep X l0 μ Q) : Met l yX8_deep (ws_ yX8_deep cX8_deep 1 (some .int)) ({ frames := 0, cells := 0, slots := 0, locals := 0 }) (cPc X (([aR (some l0)] : List AV).map toV) μ sz) (cQi X μ sz Q) 0 (0) (cA X μ sz) := by
  refine cx_met2 (rm := ({ frames := 0, cells := 0, slots := 0, locals := 0 })) (As := [aR (some l0)]) (L0 := [(0, aR (some l0))]) (by decide) rfl (Nat.le_of_ble_eq_true rfl) rfl ?_
  intro Z C hK hsz hR hl0 hin hQ
  subst hsz
  have C : gC Z cX8_deep 1 RX8 (some .int) 0 0 := C
  have hQ : zz_q Z = MQ (zz_b Z) (cQi X μ (zz_s Z).heap.size Q) (zz_a Z) (zz_s Z) (zz_R Z).cells (zz_R Z).slots (cA X μ (zz_s Z).heap.size) := by rw [hR]; exact hQ
  unfold wc_X8_deep at hw
  refine hx_iconst C dX8_deep_0 ?_
  exact cx_iret C hQ (by omega) (by omega) rfl hw dX8_deep_1
-- ('BinderPress$Binder', 'deep', '()I')
def rmet_V_deep (l : Launch) (X : cX) (fr lo : Nat) (rc : Nat → CM → (Int → CM → Prop) → Prop) : Prop := ∀ (a : Nat) (μ : CM) (sz : Nat) (Q : Int → CM → Prop), rc a μ Q → (tg μ a = 6 ∧ ∃ rm, crm rm 0 (0) fr lo 1 ∧ Met l yX7_deep (ws_ yX7_deep cX7_deep 1 (some .int)) rm (cPc X (([aR (some a)] : List AV).map toV) μ sz) (cQi X μ sz Q) 0 (0) (cA X μ sz)) ∨ (tg μ a = 7 ∧ ∃ rm, crm rm 0 (0) fr lo 1 ∧ Met l yX8_deep (ws_ yX8_deep cX8_deep 1 (some .int)) rm (cPc X (([aR (some a)] : List AV).map toV) μ sz) (cQi X μ sz Q) 0 (0) (cA X μ sz)) ∨ (tg μ a = 8 ∧ ∃ rm, crm rm 0 (0) fr lo 1 ∧ Met l yX9_deep (ws_ yX9_deep cX9_deep 1 (some .int)) rm (cPc X (([aR (some a)] : List AV).map toV) μ sz) (cQi X μ sz Q) 0 (0) (cA X μ sz)) ∨ (tg μ a = 5 ∧ ∃ rm, crm rm 0 (0) fr lo 1 ∧ Met l yX6_deep (ws_ yX6_deep cX6_deep 1 (some .int)) rm (cPc X (([aR (some a)] : List AV).map toV) μ sz) (cQi X μ sz Q) 0 (0) (cA X μ sz))
set_option maxHeartbeats 4000000 in
theorem dv_deep {Z : zz} {X : cX} {μ0 μ : CM} {cc : ByteArray} {nL : Nat} {own : String} {ret : Option FieldType} {F N kk nn pc : Nat} {H : Heap} {locs : List Loc} {ls : Array Slot} {lv : List (Nat × Value)} {stk rest : List Value} {index fr lo : Nat} {Q : Int → CM → Prop} {rc : Nat → CM → (Int → CM → Prop) → Prop} {a : Nat} (C : gC Z cc nL own ret F N) (hK : cCt Z X μ0) (hI : cI Z X μ0 μ H locs) (hl : lv_has ls nL lv) (hrc : rmet_V_deep (zz_l Z) X fr lo rc) (hw : rc a μ Q) (hF : fr ≤ F) (hN : lo ≤ N) (hlk : (Cond.methodLink own index ⟨"BinderPress$Term", "deep", "()I"⟩).before (zz_a Z) (zz_s Z) = true) (hW : (rest.map fun v => v.category).sum ≤ 8) (d : decode cc pc = .ok (.invokevirtual index, 3)) (hn : ([] : List Value).length = 0) (hs : stk = ([] : List Value).reverse ++ .ref a :: rest) (hf : kk + 0 ≤ (zz_R Z).cells ∧ nn + 0 ≤ (zz_R Z).slots) : cRun Z H locs kk nn 0 (0) pc ls stk rest (cQi X μ H.size Q (Value.ref a :: []).toArray) (cA X μ H.size) := by
  rcases hrc a μ H.size Q hw with ⟨ht, rm, h, hM⟩ | ⟨ht, rm, h, hM⟩ | ⟨ht, rm, h, hM⟩ | ⟨ht, rm, h, hM⟩
  · exact cr_U (x := ⟨"BinderPress$Term", "deep", "()I"⟩) (owner := "BinderPress$Term") (Cn := "BinderPress$Name") C hK hI hl 0 (cv_dyn hK hI (ci := 5) rfl (Or.inr (cdE_5 ht))) hM hlk (C.w _ q1122) (va_Decl.abs (hK.1.2.2.1 _ (List.mem_of_getElem? (i := 49) rfl))) (C.w _ q1135) q1127 q94 q1128 (by decide +kernel) ⟨h.1, h.2.1, Nat.le_trans h.2.2.1 hF, Nat.le_trans h.2.2.2 hN⟩ hW d hn hs hf
  · exact cr_U (x := ⟨"BinderPress$Term", "deep", "()I"⟩) (owner := "BinderPress$Term") (Cn := "BinderPress$Sign") C hK hI hl 0 (cv_dyn hK hI (ci := 6) rfl (Or.inr (cdE_6 ht))) hM hlk (C.w _ q1122) (va_Decl.abs (hK.1.2.2.1 _ (List.mem_of_getElem? (i := 49) rfl))) (C.w _ q1137) q1132 q95 q1133 (by decide +kernel) ⟨h.1, h.2.1, Nat.le_trans h.2.2.1 hF, Nat.le_trans h.2.2.2 hN⟩ hW d hn hs hf
  · exact cr_U (x := ⟨"BinderPress$Term", "deep", "()I"⟩) (owner := "BinderPress$Term") (Cn := "BinderPress$Put") C hK hI hl 0 (cv_dyn hK hI (ci := 7) rfl (Or.inr (cdE_7 ht))) hM hlk (C.w _ q1122) (va_Decl.abs (hK.1.2.2.1 _ (List.mem_of_getElem? (i := 49) rfl))) (C.w _ q1136) q1129 q96 q1130 (by decide +kernel) ⟨h.1, h.2.1, Nat.le_trans h.2.2.1 hF, Nat.le_trans h.2.2.2 hN⟩ hW d hn hs hf
  · exact cr_U (x := ⟨"BinderPress$Term", "deep", "()I"⟩) (owner := "BinderPress$Term") (Cn := "BinderPress$Binder") C hK hI hl 0 (cv_dyn hK hI (ci := 4) rfl (Or.inr (cdE_4 ht))) hM hlk (C.w _ q1122) (va_Decl.abs (hK.1.2.2.1 _ (List.mem_of_getElem? (i := 49) rfl))) (C.w _ q1123) q1124 q93 q1125 (by decide +kernel) ⟨h.1, h.2.1, Nat.le_trans h.2.2.1 hF, Nat.le_trans h.2.2.2 hN⟩ hW d hn hs hf
def wc_X6_deep (X : cX) (rc : Nat → CM → (Int → CM → Prop) → Prop) (l0 : Nat) (μ : CM) (Q : Int → CM → Prop) : Prop := (tg μ l0 = 5 ∧ ∃ a2, (oR μ l0 1) = some a2 ∧ rc a2 μ (fun r4 μ5 => Q (1 + r4) μ5))
set_option maxHeartbeats 4000000 in
theorem sc_X6_deep (l : Launch) (X : cX) (sz : Nat) (Q : Int → CM → Prop) {rc : Nat → CM → (Int → CM → Prop) → Prop} {fr lo : Nat} (hA : 1 ≤ fr) (hB : 30 ≤ lo) (hrc : rmet_V_deep l X fr lo rc) (l0 : Nat) (μ : CM) (hw : wc_X6_deep X rc l0 μ Q) : Met l yX6_deep (ws_ yX6_deep cX6_deep 1 (some .int)) ({ frames := (fr + 0), cells := 0, slots := 0, locals := (lo + 0) }) (cPc X (([aR (some l0)] : List AV).map toV) μ sz) (cQi X μ sz Q) 0 (0) (cA X μ sz) := by
  refine cx_met2 (rm := ({ frames := (fr + 0), cells := 0, slots := 0, locals := (lo + 0) })) (As := [aR (some l0)]) (L0 := [(0, aR (some l0))]) (by decide) rfl (Nat.le_of_ble_eq_true rfl) rfl ?_
  intro Z C hK hsz hR hl0 hin hQ
  subst hsz
  have C : gC Z cX6_deep 1 RX6 (some .int) (fr + 0) (lo + 0) := C
  rw [← hl0] at hrc
  have hQ : zz_q Z = MQ (zz_b Z) (cQi X μ (zz_s Z).heap.size Q) (zz_a Z) (zz_s Z) (zz_R Z).cells (zz_R Z).slots (cA X μ (zz_s Z).heap.size) := by rw [hR]; exact hQ
  unfold wc_X6_deep at hw
  refine hx_iconst C dX6_deep_0 ?_
  refine hx_aload_n C dX6_deep_1 0 rfl rfl ?_
  obtain ⟨ht1, hw⟩ := hw
  refine cx_get (μ := μ) (v := aR (oR μ l0 1)) C hK 4 1 rfl in_X6 (by decide) q377 rfl (cdE_4 ht1) rfl dX6_deep_2 ?_
  obtain ⟨a2, ha3, hw⟩ := hw
  rw [ha3]
  refine fun H locs hI ls hl => cx_ri (S := [aI 1]) hI hl (fun _ h => h) (dv_deep (rest := [toV (aI 1)]) C hK hI hl hrc hw (by omega) (by omega) (C.w _ q1126) (av_W [aI 1] 8 (Nat.le_of_ble_eq_true rfl)) dX6_deep_5 rfl rfl ⟨by omega, by omega⟩) (fun r4 μ5 hw => ?_)
  refine hx_iadd C dX6_deep_8 ?_
  exact cx_iret C hQ (by omega) (by omega) rfl hw dX6_deep_9
