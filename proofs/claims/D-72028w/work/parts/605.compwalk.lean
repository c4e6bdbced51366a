/-! walks of the component (printed by gen_comp) -/
set_option maxRecDepth 100000
-- ('BinderPress$Name', 'count', '(I)I')
def wc_X7_count (X : cX) (l0 : Nat) (l1 : Int) (μ : CM) (Q : Int → CM → Prop) : Prop := Q 0 μ
set_option maxHeartbeats 4000000 in
theorem sc_X7_count (l : Launch) (X : cX) (sz : Nat) (Q : Int → CM → Prop) (l0 : Nat) (l1 : Int) (μ : CM) (hw : wc_X7_count X l0 l1 μ Q) : Met l yX7_count (ws_ yX7_count cX7_count 2 (some .int)) ({ frames := 0, cells := 0, slots := 0, locals := 0 }) (cPc X (([aR (some l0), aI l1] : List AV).map toV) μ sz) (cQi X μ sz Q) 0 (0) (cA X μ sz) := by
  refine cx_met2 (rm := ({ frames := 0, cells := 0, slots := 0, locals := 0 })) (As := [aR (some l0), aI l1]) (L0 := [(0, aR (some l0)), (1, aI l1)]) (by decide) rfl (Nat.le_of_ble_eq_true rfl) rfl ?_
  intro Z C hK hsz hR hl0 hin hQ
  subst hsz
  have C : gC Z cX7_count 2 RX7 (some .int) 0 0 := C
  have hQ : zz_q Z = MQ (zz_b Z) (cQi X μ (zz_s Z).heap.size Q) (zz_a Z) (zz_s Z) (zz_R Z).cells (zz_R Z).slots (cA X μ (zz_s Z).heap.size) := by rw [hR]; exact hQ
  unfold wc_X7_count at hw
  refine hx_iconst C dX7_count_0 ?_
  exact cx_iret C hQ (by omega) (by omega) rfl hw dX7_count_1
-- ('BinderPress$Sign', 'count', '(I)I')
def wc_X8_count_22 (X : cX) (Q : Int → CM → Prop) (s0 : Int) (μ : CM) : Prop := Q s0 μ
set_option maxHeartbeats 4000000 in
theorem sc_X8_count_22 {Z : zz} {X : cX} {μ0 : CM} {Q : Int → CM → Prop} (C : gC Z cX8_count 2 RX8 (some .int) 4 93) (hK : cCt Z X μ0) (hQ : zz_q Z = MQ (zz_b Z) (cQi X μ0 (zz_s Z).heap.size Q) (zz_a Z) (zz_s Z) (zz_R Z).cells (zz_R Z).slots (cA X μ0 (zz_s Z).heap.size))  : ∀ s0 μ, wc_X8_count_22 X Q s0 μ → hG Z 2 (cI Z X μ0 μ) 0 0 22 [] [aI s0] := by
  intro s0 μ hw
  unfold wc_X8_count_22 at hw
  exact cx_iret C hQ (by omega) (by omega) rfl hw dX8_count_22
def wc_X8_count (X : cX) (l0 : Nat) (l1 : Int) (μ : CM) (Q : Int → CM → Prop) : Prop := (tg μ (cX_s X 6) = 13 ∨ tg μ (cX_s X 6) = 14) ∧ wc_J0_charAt X (cX_s X 6) l1 μ (fun r1 μ2 => (tg μ2 l0 = 7 ∧ ∃ a5, (oR μ2 l0 0) = some a5 ∧ (tg μ2 a5 = 13 ∨ tg μ2 a5 = 14) ∧ wc_J0_charAt X a5 0 μ2 (fun r7 μ8 => R32 r1 ∧ R32 r7 ∧ ((¬ r1 = r7 → wc_X8_count_22 X   Q 0 μ8) ∧ (r1 = r7 → wc_X8_count_22 X   Q 1 μ8)))))
set_option maxHeartbeats 4000000 in
theorem sc_X8_count (l : Launch) (X : cX) (sz : Nat) (Q : Int → CM → Prop) (l0 : Nat) (l1 : Int) (μ : CM) (hw : wc_X8_count X l0 l1 μ Q) : Met l yX8_count (ws_ yX8_count cX8_count 2 (some .int)) ({ frames := 4, cells := 0, slots := 0, locals := 93 }) (cPc X (([aR (some l0), aI l1] : List AV).map toV) μ sz) (cQi X μ sz Q) 0 (0) (cA X μ sz) := by
  refine cx_met2 (rm := ({ frames := 4, cells := 0, slots := 0, locals := 93 })) (As := [aR (some l0), aI l1]) (L0 := [(0, aR (some l0)), (1, aI l1)]) (by decide) rfl (Nat.le_of_ble_eq_true rfl) rfl ?_
  intro Z C hK hsz hR hl0 hin hQ
  subst hsz
  have C : gC Z cX8_count 2 RX8 (some .int) 4 93 := C
  have hQ : zz_q Z = MQ (zz_b Z) (cQi X μ (zz_s Z).heap.size Q) (zz_a Z) (zz_s Z) (zz_R Z).cells (zz_R Z).slots (cA X μ (zz_s Z).heap.size) := by rw [hR]; exact hQ
  unfold wc_X8_count at hw
  refine cx_ldcS (num := 6) (tx := "IKSBC") C hK (List.mem_of_getElem? (i := 21) rfl) dX8_count_0 ?_
  refine hx_iload_n C dX8_count_2 1 rfl rfl ?_
  obtain ⟨ht3, hw⟩ := hw
  refine fun H locs hI ls hl => cx_ri (S := []) hI hl (fun _ h => h) (cr_V (Cn := RJ0) (As := [toV (aI l1)]) (rest := []) C hK hI hl 1 (cv_str hK hI ht3) (sc_J0_charAt _ X H.size _ _ _ _ hw) (lw_V q866 q655 q656 q88 q657) (by decide +kernel) ⟨rfl, rfl, Nat.le_of_ble_eq_true rfl, Nat.le_of_ble_eq_true rfl⟩ (av_W [] 8 (Nat.le_of_ble_eq_true rfl)) dX8_count_3 rfl rfl ⟨by omega, by omega⟩) (fun r1 μ2 hw => ?_)
  refine hx_aload_n C dX8_count_6 0 rfl rfl ?_
  obtain ⟨ht4, hw⟩ := hw
  refine cx_get (μ := μ2) (v := aR (oR μ2 l0 0)) C hK 6 0 rfl in_X8 (by decide) q409 rfl (cdE_6 ht4) rfl dX8_count_7 ?_
  refine hx_iconst C dX8_count_10 ?_
  obtain ⟨a5, ha6, hw⟩ := hw
  rw [ha6]
  obtain ⟨ht9, hw⟩ := hw
  refine fun H locs hI ls hl => cx_ri (S := [aI r1]) hI hl (fun _ h => h) (cr_V (Cn := RJ0) (As := [toV (aI 0)]) (rest := [toV (aI r1)]) C hK hI hl 1 (cv_str hK hI ht9) (sc_J0_charAt _ X H.size _ _ _ _ hw) (lw_V q866 q655 q656 q88 q657) (by decide +kernel) ⟨rfl, rfl, Nat.le_of_ble_eq_true rfl, Nat.le_of_ble_eq_true rfl⟩ (av_W [aI r1] 8 (Nat.le_of_ble_eq_true rfl)) dX8_count_11 rfl rfl ⟨by omega, by omega⟩) (fun r7 μ8 hw => ?_)
  obtain ⟨hr10, hw⟩ := hw
  obtain ⟨hr11, hw⟩ := hw
  refine hx_icmp_ne (tgt := 21) C dX8_count_14 (by decide) hr10 hr11 (fun h => ?_) (fun h => ?_)
  · have hw := hw.1 h
    refine hx_iconst C dX8_count_21 ?_
    refine hx_L [] rfl ?_
    exact sc_X8_count_22 C hK hQ  _ _ hw
  · have hw := hw.2 h
    refine hx_iconst C dX8_count_17 ?_
    refine hx_goto (tgt := 22) C dX8_count_18 (by decide) ?_
    refine hx_L [] rfl ?_
    exact sc_X8_count_22 C hK hQ  _ _ hw
-- ('BinderPress$Binder', 'count', '(I)I')
def rmet_V_count (l : Launch) (X : cX) (fr lo : Nat) (rc : Nat → Int → CM → (Int → CM → Prop) → Prop) : Prop := ∀ (a : Nat) (l1 : Int) (μ : CM) (sz : Nat) (Q : Int → CM → Prop), rc a l1 μ Q → (tg μ a = 6 ∧ ∃ rm, crm rm 0 (0) fr lo 2 ∧ Met l yX7_count (ws_ yX7_count cX7_count 2 (some .int)) rm (cPc X (([aR (some a), aI l1] : List AV).map toV) μ sz) (cQi X μ sz Q) 0 (0) (cA X μ sz)) ∨ (tg μ a = 7 ∧ ∃ rm, crm rm 0 (0) fr lo 2 ∧ Met l yX8_count (ws_ yX8_count cX8_count 2 (some .int)) rm (cPc X (([aR (some a), aI l1] : List AV).map toV) μ sz) (cQi X μ sz Q) 0 (0) (cA X μ sz)) ∨ (tg μ a = 8 ∧ ∃ rm, crm rm 0 (0) fr lo 2 ∧ Met l yX9_count (ws_ yX9_count cX9_count 2 (some .int)) rm (cPc X (([aR (some a), aI l1] : List AV).map toV) μ sz) (cQi X μ sz Q) 0 (0) (cA X μ sz)) ∨ (tg μ a = 5 ∧ ∃ rm, crm rm 0 (0) fr lo 2 ∧ Met l yX6_count (ws_ yX6_count cX6_count 2 (some .int)) rm (cPc X (([aR (some a), aI l1] : List AV).map toV) μ sz) (cQi X μ sz Q) 0 (0) (cA X μ sz))
set_option maxHeartbeats 4000000 in
theorem dv_count {Z : zz} {X : cX} {μ0 μ : CM} {cc : ByteArray} {nL : Nat} {own : String} {ret : Option FieldType} {F N kk nn pc : Nat} {H : Heap} {locs : List Loc} {ls : Array Slot} {lv : List (Nat × Value)} {stk rest : List Value} {index fr lo : Nat} {Q : Int → CM → Prop} {rc : Nat → Int → CM → (Int → CM → Prop) → Prop} {a : Nat} {l1 : Int} (C : gC Z cc nL own ret F N) (hK : cCt Z X μ0) (hI : cI Z X μ0 μ H locs) (hl : lv_has ls nL lv) (hrc : rmet_V_count (zz_l Z) X fr lo rc) (hw : rc a l1 μ Q) (hF : fr ≤ F) (hN : lo ≤ N) (hlk : (Cond.methodLink own index ⟨"BinderPress$Term", "count", "(I)I"⟩).before (zz_a Z) (zz_s Z) = true) (hW : (rest.map fun v => v.category).sum ≤ 8) (d : decode cc pc = .ok (.invokevirtual index, 3)) (hn : ([toV (aI l1)] : List Value).length = 1) (hs : stk = ([toV (aI l1)] : List Value).reverse ++ .ref a :: rest) (hf : kk + 0 ≤ (zz_R Z).cells ∧ nn + 0 ≤ (zz_R Z).slots) : cRun Z H locs kk nn 0 (0) pc ls stk rest (cQi X μ H.size Q (Value.ref a :: [toV (aI l1)]).toArray) (cA X μ H.size) := by
  rcases hrc a l1 μ H.size Q hw with ⟨ht, rm, h, hM⟩ | ⟨ht, rm, h, hM⟩ | ⟨ht, rm, h, hM⟩ | ⟨ht, rm, h, hM⟩
  · exact cr_U (x := ⟨"BinderPress$Term", "count", "(I)I"⟩) (owner := "BinderPress$Term") (Cn := "BinderPress$Name") C hK hI hl 1 (cv_dyn hK hI (ci := 5) rfl (Or.inr (cdE_5 ht))) hM hlk (C.w _ q853) (va_Decl.abs (hK.1.2.2.1 _ (List.mem_of_getElem? (i := 47) rfl))) (C.w _ q867) q858 q94 q859 (by decide +kernel) ⟨h.1, h.2.1, Nat.le_trans h.2.2.1 hF, Nat.le_trans h.2.2.2 hN⟩ hW d hn hs hf
  · exact cr_U (x := ⟨"BinderPress$Term", "count", "(I)I"⟩) (owner := "BinderPress$Term") (Cn := "BinderPress$Sign") C hK hI hl 1 (cv_dyn hK hI (ci := 6) rfl (Or.inr (cdE_6 ht))) hM hlk (C.w _ q853) (va_Decl.abs (hK.1.2.2.1 _ (List.mem_of_getElem? (i := 47) rfl))) (C.w _ q869) q863 q95 q864 (by decide +kernel) ⟨h.1, h.2.1, Nat.le_trans h.2.2.1 hF, Nat.le_trans h.2.2.2 hN⟩ hW d hn hs hf
  · exact cr_U (x := ⟨"BinderPress$Term", "count", "(I)I"⟩) (owner := "BinderPress$Term") (Cn := "BinderPress$Put") C hK hI hl 1 (cv_dyn hK hI (ci := 7) rfl (Or.inr (cdE_7 ht))) hM hlk (C.w _ q853) (va_Decl.abs (hK.1.2.2.1 _ (List.mem_of_getElem? (i := 47) rfl))) (C.w _ q868) q860 q96 q861 (by decide +kernel) ⟨h.1, h.2.1, Nat.le_trans h.2.2.1 hF, Nat.le_trans h.2.2.2 hN⟩ hW d hn hs hf
  · exact cr_U (x := ⟨"BinderPress$Term", "count", "(I)I"⟩) (owner := "BinderPress$Term") (Cn := "BinderPress$Binder") C hK hI hl 1 (cv_dyn hK hI (ci := 4) rfl (Or.inr (cdE_4 ht))) hM hlk (C.w _ q853) (va_Decl.abs (hK.1.2.2.1 _ (List.mem_of_getElem? (i := 47) rfl))) (C.w _ q854) q855 q93 q856 (by decide +kernel) ⟨h.1, h.2.1, Nat.le_trans h.2.2.1 hF, Nat.le_trans h.2.2.2 hN⟩ hW d hn hs hf
def wc_X6_count (X : cX) (rc : Nat → Int → CM → (Int → CM → Prop) → Prop) (l0 : Nat) (l1 : Int) (μ : CM) (Q : Int → CM → Prop) : Prop := (tg μ l0 = 5 ∧ ∃ a2, (oR μ l0 1) = some a2 ∧ rc a2 l1 μ (fun r4 μ5 => Q r4 μ5))
set_option maxHeartbeats 4000000 in
theorem sc_X6_count (l : Launch) (X : cX) (sz : Nat) (Q : Int → CM → Prop) {rc : Nat → Int → CM → (Int → CM → Prop) → Prop} {fr lo : Nat} (hA : 5 ≤ fr) (hB : 114 ≤ lo) (hrc : rmet_V_count l X fr lo rc) (l0 : Nat) (l1 : Int) (μ : CM) (hw : wc_X6_count X rc l0 l1 μ Q) : Met l yX6_count (ws_ yX6_count cX6_count 2 (some .int)) ({ frames := (fr + 0), cells := 0, slots := 0, locals := (lo + 0) }) (cPc X (([aR (some l0), aI l1] : List AV).map toV) μ sz) (cQi X μ sz Q) 0 (0) (cA X μ sz) := by
  refine cx_met2 (rm := ({ frames := (fr + 0), cells := 0, slots := 0, locals := (lo + 0) })) (As := [aR (some l0), aI l1]) (L0 := [(0, aR (some l0)), (1, aI l1)]) (by decide) rfl (Nat.le_of_ble_eq_true rfl) rfl ?_
  intro Z C hK hsz hR hl0 hin hQ
  subst hsz
  have C : gC Z cX6_count 2 RX6 (some .int) (fr + 0) (lo + 0) := C
  rw [← hl0] at hrc
  have hQ : zz_q Z = MQ (zz_b Z) (cQi X μ (zz_s Z).heap.size Q) (zz_a Z) (zz_s Z) (zz_R Z).cells (zz_R Z).slots (cA X μ (zz_s Z).heap.size) := by rw [hR]; exact hQ
  unfold wc_X6_count at hw
  refine hx_aload_n C dX6_count_0 0 rfl rfl ?_
  obtain ⟨ht1, hw⟩ := hw
  refine cx_get (μ := μ) (v := aR (oR μ l0 1)) C hK 4 1 rfl in_X6 (by decide) q377 rfl (cdE_4 ht1) rfl dX6_count_1 ?_
  refine hx_iload_n C dX6_count_4 1 rfl rfl ?_
  obtain ⟨a2, ha3, hw⟩ := hw
  rw [ha3]
  refine fun H locs hI ls hl => cx_ri (S := []) hI hl (fun _ h => h) (dv_count (rest := []) C hK hI hl hrc hw (by omega) (by omega) (C.w _ q857) (av_W [] 8 (Nat.le_of_ble_eq_true rfl)) dX6_count_5 rfl rfl ⟨by omega, by omega⟩) (fun r4 μ5 hw => ?_)
  exact cx_iret C hQ (by omega) (by omega) rfl hw dX6_count_8
-- ('BinderPress$Put', 'count', '(I)I')
def wc_X9_count (X : cX) (rc : Nat → Int → CM → (Int → CM → Prop) → Prop) (l0 : Nat) (l1 : Int) (μ : CM) (Q : Int → CM → Prop) : Prop := (tg μ l0 = 8 ∧ ∃ a2, (oR μ l0 0) = some a2 ∧ rc a2 l1 μ (fun r4 μ5 => (tg μ5 l0 = 8 ∧ ∃ a7, (oR μ5 l0 1) = some a7 ∧ rc a7 l1 μ5 (fun r9 μ10 => Q (r4 + r9) μ10))))
set_option maxHeartbeats 4000000 in
theorem sc_X9_count (l : Launch) (X : cX) (sz : Nat) (Q : Int → CM → Prop) {rc : Nat → Int → CM → (Int → CM → Prop) → Prop} {fr lo : Nat} (hA : 5 ≤ fr) (hB : 114 ≤ lo) (hrc : rmet_V_count l X fr lo rc) (l0 : Nat) (l1 : Int) (μ : CM) (hw : wc_X9_count X rc l0 l1 μ Q) : Met l yX9_count (ws_ yX9_count cX9_count 2 (some .int)) ({ frames := (fr + 0), cells := 0, slots := 0, locals := (lo + 0) }) (cPc X (([aR (some l0), aI l1] : List AV).map toV) μ sz) (cQi X μ sz Q) 0 (0) (cA X μ sz) := by
  refine cx_met2 (rm := ({ frames := (fr + 0), cells := 0, slots := 0, locals := (lo + 0) })) (As := [aR (some l0), aI l1]) (L0 := [(0, aR (some l0)), (1, aI l1)]) (by decide) rfl (Nat.le_of_ble_eq_true rfl) rfl ?_
  intro Z C hK hsz hR hl0 hin hQ
  subst hsz
  have C : gC Z cX9_count 2 RX9 (some .int) (fr + 0) (lo + 0) := C
  rw [← hl0] at hrc
  have hQ : zz_q Z = MQ (zz_b Z) (cQi X μ (zz_s Z).heap.size Q) (zz_a Z) (zz_s Z) (zz_R Z).cells (zz_R Z).slots (cA X μ (zz_s Z).heap.size) := by rw [hR]; exact hQ
  unfold wc_X9_count at hw
  refine hx_aload_n C dX9_count_0 0 rfl rfl ?_
  obtain ⟨ht1, hw⟩ := hw
  refine cx_get (μ := μ) (v := aR (oR μ l0 0)) C hK 7 0 rfl in_X9 (by decide) q459 rfl (cdE_7 ht1) rfl dX9_count_1 ?_
  refine hx_iload_n C dX9_count_4 1 rfl rfl ?_
  obtain ⟨a2, ha3, hw⟩ := hw
  rw [ha3]
  refine fun H locs hI ls hl => cx_ri (S := []) hI hl (fun _ h => h) (dv_count (rest := []) C hK hI hl hrc hw (by omega) (by omega) (C.w _ q862) (av_W [] 8 (Nat.le_of_ble_eq_true rfl)) dX9_count_5 rfl rfl ⟨by omega, by omega⟩) (fun r4 μ5 hw => ?_)
  refine hx_aload_n C dX9_count_8 0 rfl rfl ?_
  obtain ⟨ht6, hw⟩ := hw
  refine cx_get (μ := μ5) (v := aR (oR μ5 l0 1)) C hK 7 1 rfl in_X9 (by decide) q462 rfl (cdE_7 ht6) rfl dX9_count_9 ?_
  refine hx_iload_n C dX9_count_12 1 rfl rfl ?_
  obtain ⟨a7, ha8, hw⟩ := hw
  rw [ha8]
  refine fun H locs hI ls hl => cx_ri (S := [aI r4]) hI hl (fun _ h => h) (dv_count (rest := [toV (aI r4)]) C hK hI hl hrc hw (by omega) (by omega) (C.w _ q862) (av_W [aI r4] 8 (Nat.le_of_ble_eq_true rfl)) dX9_count_13 rfl rfl ⟨by omega, by omega⟩) (fun r9 μ10 hw => ?_)
  refine hx_iadd C dX9_count_16 ?_
  exact cx_iret C hQ (by omega) (by omega) rfl hw dX9_count_17
-- count
def wd_count (X : cX) (rc : Nat → Int → CM → (Int → CM → Prop) → Prop) : Nat → Int → CM → (Int → CM → Prop) → Prop := fun a l1 μ Q => (tg μ a = 6 ∧ wc_X7_count X a l1 μ Q) ∨ (tg μ a = 7 ∧ wc_X8_count X a l1 μ Q) ∨ (tg μ a = 8 ∧ wc_X9_count X rc a l1 μ Q) ∨ (tg μ a = 5 ∧ wc_X6_count X rc a l1 μ Q)
def wr_V_count (X : cX) : Nat → Nat → Int → CM → (Int → CM → Prop) → Prop
  | 0 => fun _ _ _ _ => False
  | d + 1 => wd_count X (wr_V_count X d)
set_option maxHeartbeats 4000000 in
theorem rr_V_count (l : Launch) (X : cX) : ∀ d, rmet_V_count l X (5 + 1 * d) (114 + 21 * d) (wr_V_count X d) := by
  intro d
  induction d with
  | zero => intro a l1 μ sz Q h; exact h.elim
  | succ d ih =>
    intro a l1 μ sz Q h
    rcases h with ⟨ht, hw⟩ | ⟨ht, hw⟩ | ⟨ht, hw⟩ | ⟨ht, hw⟩
    · exact Or.inl (⟨ht, _, ⟨rfl, rfl, by first | omega | (dsimp only; omega), by first | omega | (dsimp only; omega)⟩, sc_X7_count l X sz Q _ _ _ hw⟩)
    · exact Or.inr (Or.inl (⟨ht, _, ⟨rfl, rfl, by first | omega | (dsimp only; omega), by first | omega | (dsimp only; omega)⟩, sc_X8_count l X sz Q _ _ _ hw⟩))
    · exact Or.inr (Or.inr (Or.inl (⟨ht, _, ⟨rfl, rfl, by first | omega | (dsimp only; omega), by first | omega | (dsimp only; omega)⟩, sc_X9_count l X sz Q (by omega) (by omega) ih _ _ _ hw⟩)))
    · exact Or.inr (Or.inr (Or.inr (⟨ht, _, ⟨rfl, rfl, by first | omega | (dsimp only; omega), by first | omega | (dsimp only; omega)⟩, sc_X6_count l X sz Q (by omega) (by omega) ih _ _ _ hw⟩)))
-- ('BinderPress$Name', 'isSame', '(LBinderPress$Term;)Z')
def wc_X7_isSame_28 (X : cX) (Q : Int → CM → Prop) (s0 : Int) (μ : CM) : Prop := (s0 = 0 ∨ s0 = 1) ∧ Q s0 μ
set_option maxHeartbeats 4000000 in
theorem sc_X7_isSame_28 {Z : zz} {X : cX} {μ0 : CM} {Q : Int → CM → Prop} (C : gC Z cX7_isSame 3 RX7 (some .boolean) 0 0) (hK : cCt Z X μ0) (hQ : zz_q Z = MQ (zz_b Z) (cQi X μ0 (zz_s Z).heap.size Q) (zz_a Z) (zz_s Z) (zz_R Z).cells (zz_R Z).slots (cA X μ0 (zz_s Z).heap.size))  : ∀ s0 μ, wc_X7_isSame_28 X Q s0 μ → hG Z 3 (cI Z X μ0 μ) 0 0 28 [] [aI s0] := by
  intro s0 μ hw
  unfold wc_X7_isSame_28 at hw
  obtain ⟨hz, hw⟩ := hw
  exact cx_iret C hQ (by omega) (by omega) (mz_n hz) hw dX7_isSame_28
def wc_X7_isSame_27 (X : cX) (Q : Int → CM → Prop) (μ : CM) : Prop := wc_X7_isSame_28 X   Q 0 μ
set_option maxHeartbeats 4000000 in
theorem sc_X7_isSame_27 {Z : zz} {X : cX} {μ0 : CM} {Q : Int → CM → Prop} (C : gC Z cX7_isSame 3 RX7 (some .boolean) 0 0) (hK : cCt Z X μ0) (hQ : zz_q Z = MQ (zz_b Z) (cQi X μ0 (zz_s Z).heap.size Q) (zz_a Z) (zz_s Z) (zz_R Z).cells (zz_R Z).slots (cA X μ0 (zz_s Z).heap.size))  : ∀ μ, wc_X7_isSame_27 X Q μ → hG Z 3 (cI Z X μ0 μ) 0 0 27 [] [] := by
  intro μ hw
  unfold wc_X7_isSame_27 at hw
  refine hx_iconst C dX7_isSame_27 ?_
  refine hx_L [] rfl ?_
  exact sc_X7_isSame_28 C hK hQ  _ _ hw
def wc_X7_isSame (X : cX) (l0 : Nat) (l1 : Option Nat) (μ : CM) (Q : Int → CM → Prop) : Prop := (∃ a1, l1 = some a1 ∧ (5 ≤ tg μ a1 ∧ tg μ a1 ≤ 8) ∧ ((tg μ a1 = 6 → tg μ l0 = 6 ∧ R32 (oI μ a1 0) ∧ R32 (oI μ l0 0) ∧ ((¬ (oI μ a1 0) = (oI μ l0 0) → wc_X7_isSame_27 X   Q μ) ∧ ((oI μ a1 0) = (oI μ l0 0) → wc_X7_isSame_28 X   Q 1 μ))) ∧ (¬ tg μ a1 = 6 → wc_X7_isSame_27 X   Q μ)))
set_option maxHeartbeats 4000000 in
theorem sc_X7_isSame (l : Launch) (X : cX) (sz : Nat) (Q : Int → CM → Prop) (l0 : Nat) (l1 : Option Nat) (μ : CM) (hw : wc_X7_isSame X l0 l1 μ Q) : Met l yX7_isSame (ws_ yX7_isSame cX7_isSame 3 (some .boolean)) ({ frames := 0, cells := 0, slots := 0, locals := 0 }) (cPc X (([aR (some l0), aR l1] : List AV).map toV) μ sz) (cQi X μ sz Q) 0 (0) (cA X μ sz) := by
  refine cx_met2 (rm := ({ frames := 0, cells := 0, slots := 0, locals := 0 })) (As := [aR (some l0), aR l1]) (L0 := [(0, aR (some l0)), (1, aR l1)]) (by decide) rfl (Nat.le_of_ble_eq_true rfl) rfl ?_
  intro Z C hK hsz hR hl0 hin hQ
  subst hsz
  have C : gC Z cX7_isSame 3 RX7 (some .boolean) 0 0 := C
  have hQ : zz_q Z = MQ (zz_b Z) (cQi X μ (zz_s Z).heap.size Q) (zz_a Z) (zz_s Z) (zz_R Z).cells (zz_R Z).slots (cA X μ (zz_s Z).heap.size) := by rw [hR]; exact hQ
  unfold wc_X7_isSame at hw
  refine hx_aload_n C dX7_isSame_0 1 rfl rfl ?_
  obtain ⟨a1, ha2, hw⟩ := hw
  rw [ha2]
  obtain ⟨hi3, hw⟩ := hw
  rcases (show tg μ a1 = 6 ∨ (tg μ a1 = 7 ∨ tg μ a1 = 8 ∨ tg μ a1 = 5) by omega) with h | h | h | h
  · have ht4 := h
    have hw := hw.1 h
    refine cx_instY C hK (ci := 5) rfl (Or.inr (cdE_5 ht4)) q1341 dX7_isSame_1 ?_
    refine hx_if_eq (tgt := 27) C dX7_isSame_4 (by decide) (by decide) (fun h => ?_) (fun h => ?_)
    · exact absurd h (by decide)
    · skip
      refine hx_aload_n C dX7_isSame_7 1 rfl rfl ?_
      refine cx_cast C hK (ci := 5) rfl (Or.inr (cdE_5 ht4)) q1341 dX7_isSame_8 ?_
      refine hx_astore_n (L' := [(2, aR (some a1)), (0, aR (some l0)), (1, aR (some a1))]) C dX7_isSame_11 rfl (by decide) rfl ?_
      refine hx_aload_n C dX7_isSame_12 0 rfl rfl ?_
      refine cx_get (μ := μ) (v := aI (oI μ a1 0)) C hK 5 0 rfl in_X7 (by decide) q393 rfl (cdE_5 ht4) rfl dX7_isSame_13 ?_
      refine hx_aload_n C dX7_isSame_16 1 rfl rfl ?_
      obtain ⟨ht5, hw⟩ := hw
      refine cx_get (μ := μ) (v := aI (oI μ l0 0)) C hK 5 0 rfl in_X7 (by decide) q393 rfl (cdE_5 ht5) rfl dX7_isSame_17 ?_
      obtain ⟨hr6, hw⟩ := hw
      obtain ⟨hr7, hw⟩ := hw
      refine hx_icmp_ne (tgt := 27) C dX7_isSame_20 (by decide) hr6 hr7 (fun h => ?_) (fun h => ?_)
      · have hw := hw.1 h
        refine hx_L [] rfl ?_
        exact sc_X7_isSame_27 C hK hQ  _ hw
      · have hw := hw.2 h
        refine hx_iconst C dX7_isSame_23 ?_
        refine hx_goto (tgt := 28) C dX7_isSame_24 (by decide) ?_
        refine hx_L [] rfl ?_
        exact sc_X7_isSame_28 C hK hQ  _ _ hw
  · have hw := hw.2 (by omega)
    refine cx_instN C hK (ci := 6) (nm := "BinderPress$Name") rfl (Or.inr (cdE_6 h)) q1341 (List.mem_of_getElem? (i := 3) rfl) dX7_isSame_1 ?_
    refine hx_if_eq (tgt := 27) C dX7_isSame_4 (by decide) (by decide) (fun h => ?_) (fun h => ?_)
    · skip
      refine hx_L [] rfl ?_
      exact sc_X7_isSame_27 C hK hQ  _ hw
    · exact absurd h (by decide)
  · have hw := hw.2 (by omega)
    refine cx_instN C hK (ci := 7) (nm := "BinderPress$Name") rfl (Or.inr (cdE_7 h)) q1341 (List.mem_of_getElem? (i := 6) rfl) dX7_isSame_1 ?_
    refine hx_if_eq (tgt := 27) C dX7_isSame_4 (by decide) (by decide) (fun h => ?_) (fun h => ?_)
    · skip
      refine hx_L [] rfl ?_
      exact sc_X7_isSame_27 C hK hQ  _ hw
    · exact absurd h (by decide)
  · have hw := hw.2 (by omega)
    refine cx_instN C hK (ci := 4) (nm := "BinderPress$Name") rfl (Or.inr (cdE_4 h)) q1341 (List.mem_of_getElem? (i := 9) rfl) dX7_isSame_1 ?_
    refine hx_if_eq (tgt := 27) C dX7_isSame_4 (by decide) (by decide) (fun h => ?_) (fun h => ?_)
    · skip
      refine hx_L [] rfl ?_
      exact sc_X7_isSame_27 C hK hQ  _ hw
    · exact absurd h (by decide)
-- ('BinderPress$Sign', 'isSame', '(LBinderPress$Term;)Z')
def wc_X8_isSame_31 (X : cX) (Q : Int → CM → Prop) (s0 : Int) (μ : CM) : Prop := (s0 = 0 ∨ s0 = 1) ∧ Q s0 μ
set_option maxHeartbeats 4000000 in
theorem sc_X8_isSame_31 {Z : zz} {X : cX} {μ0 : CM} {Q : Int → CM → Prop} (C : gC Z cX8_isSame 3 RX8 (some .boolean) 2 52) (hK : cCt Z X μ0) (hQ : zz_q Z = MQ (zz_b Z) (cQi X μ0 (zz_s Z).heap.size Q) (zz_a Z) (zz_s Z) (zz_R Z).cells (zz_R Z).slots (cA X μ0 (zz_s Z).heap.size))  : ∀ s0 μ, wc_X8_isSame_31 X Q s0 μ → hG Z 3 (cI Z X μ0 μ) 0 0 31 [] [aI s0] := by
  intro s0 μ hw
  unfold wc_X8_isSame_31 at hw
  obtain ⟨hz, hw⟩ := hw
  exact cx_iret C hQ (by omega) (by omega) (mz_n hz) hw dX8_isSame_31
def wc_X8_isSame_30 (X : cX) (Q : Int → CM → Prop) (μ : CM) : Prop := wc_X8_isSame_31 X   Q 0 μ
set_option maxHeartbeats 4000000 in
theorem sc_X8_isSame_30 {Z : zz} {X : cX} {μ0 : CM} {Q : Int → CM → Prop} (C : gC Z cX8_isSame 3 RX8 (some .boolean) 2 52) (hK : cCt Z X μ0) (hQ : zz_q Z = MQ (zz_b Z) (cQi X μ0 (zz_s Z).heap.size Q) (zz_a Z) (zz_s Z) (zz_R Z).cells (zz_R Z).slots (cA X μ0 (zz_s Z).heap.size))  : ∀ μ, wc_X8_isSame_30 X Q μ → hG Z 3 (cI Z X μ0 μ) 0 0 30 [] [] := by
  intro μ hw
  unfold wc_X8_isSame_30 at hw
  refine hx_iconst C dX8_isSame_30 ?_
  refine hx_L [] rfl ?_
  exact sc_X8_isSame_31 C hK hQ  _ _ hw
def wc_X8_isSame (X : cX) (l0 : Nat) (l1 : Option Nat) (μ : CM) (Q : Int → CM → Prop) : Prop := (∃ a1, l1 = some a1 ∧ (5 ≤ tg μ a1 ∧ tg μ a1 ≤ 8) ∧ ((tg μ a1 = 7 → (tg μ l0 = 7 ∧ ∃ a6, (oR μ a1 0) = some a6 ∧ (tg μ a6 = 13 ∨ tg μ a6 = 14) ∧ wc_J0_equals X a6 (oR μ l0 0) μ (fun r8 μ9 => R32 r8 ∧ ((r8 = 0 → wc_X8_isSame_30 X   Q μ9) ∧ (¬ r8 = 0 → wc_X8_isSame_31 X   Q 1 μ9))))) ∧ (¬ tg μ a1 = 7 → wc_X8_isSame_30 X   Q μ)))
set_option maxHeartbeats 4000000 in
theorem sc_X8_isSame (l : Launch) (X : cX) (sz : Nat) (Q : Int → CM → Prop) (l0 : Nat) (l1 : Option Nat) (μ : CM) (hw : wc_X8_isSame X l0 l1 μ Q) : Met l yX8_isSame (ws_ yX8_isSame cX8_isSame 3 (some .boolean)) ({ frames := 2, cells := 0, slots := 0, locals := 52 }) (cPc X (([aR (some l0), aR l1] : List AV).map toV) μ sz) (cQi X μ sz Q) 0 (0) (cA X μ sz) := by
  refine cx_met2 (rm := ({ frames := 2, cells := 0, slots := 0, locals := 52 })) (As := [aR (some l0), aR l1]) (L0 := [(0, aR (some l0)), (1, aR l1)]) (by decide) rfl (Nat.le_of_ble_eq_true rfl) rfl ?_
  intro Z C hK hsz hR hl0 hin hQ
  subst hsz
  have C : gC Z cX8_isSame 3 RX8 (some .boolean) 2 52 := C
  have hQ : zz_q Z = MQ (zz_b Z) (cQi X μ (zz_s Z).heap.size Q) (zz_a Z) (zz_s Z) (zz_R Z).cells (zz_R Z).slots (cA X μ (zz_s Z).heap.size) := by rw [hR]; exact hQ
  unfold wc_X8_isSame at hw
  refine hx_aload_n C dX8_isSame_0 1 rfl rfl ?_
  obtain ⟨a1, ha2, hw⟩ := hw
  rw [ha2]
  obtain ⟨hi3, hw⟩ := hw
  rcases (show tg μ a1 = 7 ∨ (tg μ a1 = 6 ∨ tg μ a1 = 8 ∨ tg μ a1 = 5) by omega) with h | h | h | h
  · have ht4 := h
    have hw := hw.1 h
    refine cx_instY C hK (ci := 6) rfl (Or.inr (cdE_6 ht4)) q1347 dX8_isSame_1 ?_
    refine hx_if_eq (tgt := 30) C dX8_isSame_4 (by decide) (by decide) (fun h => ?_) (fun h => ?_)
    · exact absurd h (by decide)
    · skip
      refine hx_aload_n C dX8_isSame_7 1 rfl rfl ?_
      refine cx_cast C hK (ci := 6) rfl (Or.inr (cdE_6 ht4)) q1347 dX8_isSame_8 ?_
      refine hx_astore_n (L' := [(2, aR (some a1)), (0, aR (some l0)), (1, aR (some a1))]) C dX8_isSame_11 rfl (by decide) rfl ?_
      refine hx_aload_n C dX8_isSame_12 0 rfl rfl ?_
      refine cx_get (μ := μ) (v := aR (oR μ a1 0)) C hK 6 0 rfl in_X8 (by decide) q409 rfl (cdE_6 ht4) rfl dX8_isSame_13 ?_
      refine hx_aload_n C dX8_isSame_16 1 rfl rfl ?_
      obtain ⟨ht5, hw⟩ := hw
      refine cx_get (μ := μ) (v := aR (oR μ l0 0)) C hK 6 0 rfl in_X8 (by decide) q409 rfl (cdE_6 ht5) rfl dX8_isSame_17 ?_
      obtain ⟨a6, ha7, hw⟩ := hw
      rw [ha7]
      obtain ⟨ht10, hw⟩ := hw
      refine fun H locs hI ls hl => cx_ri (S := []) hI hl (fun _ h => h) (cr_V (Cn := RJ0) (As := [toV (aR (oR μ l0 0))]) (rest := []) C hK hI hl 1 (cv_str hK hI ht10) (sc_J0_equals _ X H.size _ _ _ _ hw) (lw_V q1348 q767 q768 q88 q769) (by decide +kernel) ⟨rfl, rfl, Nat.le_of_ble_eq_true rfl, Nat.le_of_ble_eq_true rfl⟩ (av_W [] 8 (Nat.le_of_ble_eq_true rfl)) dX8_isSame_20 rfl rfl ⟨by omega, by omega⟩) (fun r8 μ9 hw => ?_)
      obtain ⟨hr11, hw⟩ := hw
      refine hx_if_eq (tgt := 30) C dX8_isSame_23 (by decide) hr11 (fun h => ?_) (fun h => ?_)
      · have hw := hw.1 h
        refine hx_L [] rfl ?_
        exact sc_X8_isSame_30 C hK hQ  _ hw
      · have hw := hw.2 h
        refine hx_iconst C dX8_isSame_26 ?_
        refine hx_goto (tgt := 31) C dX8_isSame_27 (by decide) ?_
        refine hx_L [] rfl ?_
        exact sc_X8_isSame_31 C hK hQ  _ _ hw
  · have hw := hw.2 (by omega)
    refine cx_instN C hK (ci := 5) (nm := "BinderPress$Sign") rfl (Or.inr (cdE_5 h)) q1347 (List.mem_of_getElem? (i := 0) rfl) dX8_isSame_1 ?_
    refine hx_if_eq (tgt := 30) C dX8_isSame_4 (by decide) (by decide) (fun h => ?_) (fun h => ?_)
    · skip
      refine hx_L [] rfl ?_
      exact sc_X8_isSame_30 C hK hQ  _ hw
    · exact absurd h (by decide)
  · have hw := hw.2 (by omega)
    refine cx_instN C hK (ci := 7) (nm := "BinderPress$Sign") rfl (Or.inr (cdE_7 h)) q1347 (List.mem_of_getElem? (i := 7) rfl) dX8_isSame_1 ?_
    refine hx_if_eq (tgt := 30) C dX8_isSame_4 (by decide) (by decide) (fun h => ?_) (fun h => ?_)
    · skip
      refine hx_L [] rfl ?_
      exact sc_X8_isSame_30 C hK hQ  _ hw
    · exact absurd h (by decide)
  · have hw := hw.2 (by omega)
    refine cx_instN C hK (ci := 4) (nm := "BinderPress$Sign") rfl (Or.inr (cdE_4 h)) q1347 (List.mem_of_getElem? (i := 10) rfl) dX8_isSame_1 ?_
    refine hx_if_eq (tgt := 30) C dX8_isSame_4 (by decide) (by decide) (fun h => ?_) (fun h => ?_)
    · skip
      refine hx_L [] rfl ?_
      exact sc_X8_isSame_30 C hK hQ  _ hw
    · exact absurd h (by decide)
-- ('BinderPress$Binder', 'isSame', '(LBinderPress$Term;)Z')
def rmet_V_isSame (l : Launch) (X : cX) (fr lo : Nat) (rc : Nat → Option Nat → CM → (Int → CM → Prop) → Prop) : Prop := ∀ (a : Nat) (l1 : Option Nat) (μ : CM) (sz : Nat) (Q : Int → CM → Prop), rc a l1 μ Q → (tg μ a = 6 ∧ ∃ rm, crm rm 0 (0) fr lo 3 ∧ Met l yX7_isSame (ws_ yX7_isSame cX7_isSame 3 (some .boolean)) rm (cPc X (([aR (some a), aR l1] : List AV).map toV) μ sz) (cQi X μ sz Q) 0 (0) (cA X μ sz)) ∨ (tg μ a = 7 ∧ ∃ rm, crm rm 0 (0) fr lo 3 ∧ Met l yX8_isSame (ws_ yX8_isSame cX8_isSame 3 (some .boolean)) rm (cPc X (([aR (some a), aR l1] : List AV).map toV) μ sz) (cQi X μ sz Q) 0 (0) (cA X μ sz)) ∨ (tg μ a = 8 ∧ ∃ rm, crm rm 0 (0) fr lo 3 ∧ Met l yX9_isSame (ws_ yX9_isSame cX9_isSame 3 (some .boolean)) rm (cPc X (([aR (some a), aR l1] : List AV).map toV) μ sz) (cQi X μ sz Q) 0 (0) (cA X μ sz)) ∨ (tg μ a = 5 ∧ ∃ rm, crm rm 0 (0) fr lo 3 ∧ Met l yX6_isSame (ws_ yX6_isSame cX6_isSame 3 (some .boolean)) rm (cPc X (([aR (some a), aR l1] : List AV).map toV) μ sz) (cQi X μ sz Q) 0 (0) (cA X μ sz))
set_option maxHeartbeats 4000000 in
theorem dv_isSame {Z : zz} {X : cX} {μ0 μ : CM} {cc : ByteArray} {nL : Nat} {own : String} {ret : Option FieldType} {F N kk nn pc : Nat} {H : Heap} {locs : List Loc} {ls : Array Slot} {lv : List (Nat × Value)} {stk rest : List Value} {index fr lo : Nat} {Q : Int → CM → Prop} {rc : Nat → Option Nat → CM → (Int → CM → Prop) → Prop} {a : Nat} {l1 : Option Nat} (C : gC Z cc nL own ret F N) (hK : cCt Z X μ0) (hI : cI Z X μ0 μ H locs) (hl : lv_has ls nL lv) (hrc : rmet_V_isSame (zz_l Z) X fr lo rc) (hw : rc a l1 μ Q) (hF : fr ≤ F) (hN : lo ≤ N) (hlk : (Cond.methodLink own index ⟨"BinderPress$Term", "isSame", "(LBinderPress$Term;)Z"⟩).before (zz_a Z) (zz_s Z) = true) (hW : (rest.map fun v => v.category).sum ≤ 8) (d : decode cc pc = .ok (.invokevirtual index, 3)) (hn : ([toV (aR l1)] : List Value).length = 1) (hs : stk = ([toV (aR l1)] : List Value).reverse ++ .ref a :: rest) (hf : kk + 0 ≤ (zz_R Z).cells ∧ nn + 0 ≤ (zz_R Z).slots) : cRun Z H locs kk nn 0 (0) pc ls stk rest (cQi X μ H.size Q (Value.ref a :: [toV (aR l1)]).toArray) (cA X μ H.size) := by
  rcases hrc a l1 μ H.size Q hw with ⟨ht, rm, h, hM⟩ | ⟨ht, rm, h, hM⟩ | ⟨ht, rm, h, hM⟩ | ⟨ht, rm, h, hM⟩
  · exact cr_U (x := ⟨"BinderPress$Term", "isSame", "(LBinderPress$Term;)Z"⟩) (owner := "BinderPress$Term") (Cn := "BinderPress$Name") C hK hI hl 1 (cv_dyn hK hI (ci := 5) rfl (Or.inr (cdE_5 ht))) hM hlk (C.w _ q1333) (va_Decl.abs (hK.1.2.2.1 _ (List.mem_of_getElem? (i := 50) rfl))) (C.w _ q1349) q1339 q94 q1340 (by decide +kernel) ⟨h.1, h.2.1, Nat.le_trans h.2.2.1 hF, Nat.le_trans h.2.2.2 hN⟩ hW d hn hs hf
  · exact cr_U (x := ⟨"BinderPress$Term", "isSame", "(LBinderPress$Term;)Z"⟩) (owner := "BinderPress$Term") (Cn := "BinderPress$Sign") C hK hI hl 1 (cv_dyn hK hI (ci := 6) rfl (Or.inr (cdE_6 ht))) hM hlk (C.w _ q1333) (va_Decl.abs (hK.1.2.2.1 _ (List.mem_of_getElem? (i := 50) rfl))) (C.w _ q1351) q1345 q95 q1346 (by decide +kernel) ⟨h.1, h.2.1, Nat.le_trans h.2.2.1 hF, Nat.le_trans h.2.2.2 hN⟩ hW d hn hs hf
  · exact cr_U (x := ⟨"BinderPress$Term", "isSame", "(LBinderPress$Term;)Z"⟩) (owner := "BinderPress$Term") (Cn := "BinderPress$Put") C hK hI hl 1 (cv_dyn hK hI (ci := 7) rfl (Or.inr (cdE_7 ht))) hM hlk (C.w _ q1333) (va_Decl.abs (hK.1.2.2.1 _ (List.mem_of_getElem? (i := 50) rfl))) (C.w _ q1350) q1342 q96 q1343 (by decide +kernel) ⟨h.1, h.2.1, Nat.le_trans h.2.2.1 hF, Nat.le_trans h.2.2.2 hN⟩ hW d hn hs hf
  · exact cr_U (x := ⟨"BinderPress$Term", "isSame", "(LBinderPress$Term;)Z"⟩) (owner := "BinderPress$Term") (Cn := "BinderPress$Binder") C hK hI hl 1 (cv_dyn hK hI (ci := 4) rfl (Or.inr (cdE_4 ht))) hM hlk (C.w _ q1333) (va_Decl.abs (hK.1.2.2.1 _ (List.mem_of_getElem? (i := 50) rfl))) (C.w _ q1334) q1335 q93 q1336 (by decide +kernel) ⟨h.1, h.2.1, Nat.le_trans h.2.2.1 hF, Nat.le_trans h.2.2.2 hN⟩ hW d hn hs hf
def wc_X6_isSame_42 (X : cX) (rc : Nat → Option Nat → CM → (Int → CM → Prop) → Prop) (Q : Int → CM → Prop) (s0 : Int) (μ : CM) : Prop := (s0 = 0 ∨ s0 = 1) ∧ Q s0 μ
set_option maxHeartbeats 4000000 in
theorem sc_X6_isSame_42 {Z : zz} {X : cX} {μ0 : CM} {Q : Int → CM → Prop} {rc : Nat → Option Nat → CM → (Int → CM → Prop) → Prop} {fr lo : Nat} (hA : 3 ≤ fr) (hB : 74 ≤ lo) (C : gC Z cX6_isSame 3 RX6 (some .boolean) (fr + 0) (lo + 0)) (hK : cCt Z X μ0) (hrc : rmet_V_isSame (zz_l Z) X fr lo rc) (hQ : zz_q Z = MQ (zz_b Z) (cQi X μ0 (zz_s Z).heap.size Q) (zz_a Z) (zz_s Z) (zz_R Z).cells (zz_R Z).slots (cA X μ0 (zz_s Z).heap.size))  : ∀ s0 μ, wc_X6_isSame_42 X rc Q s0 μ → hG Z 3 (cI Z X μ0 μ) 0 0 42 [] [aI s0] := by
  intro s0 μ hw
  unfold wc_X6_isSame_42 at hw
  obtain ⟨hz, hw⟩ := hw
  exact cx_iret C hQ (by omega) (by omega) (mz_n hz) hw dX6_isSame_42
def wc_X6_isSame_41 (X : cX) (rc : Nat → Option Nat → CM → (Int → CM → Prop) → Prop) (Q : Int → CM → Prop) (μ : CM) : Prop := wc_X6_isSame_42 X rc  Q 0 μ
set_option maxHeartbeats 4000000 in
theorem sc_X6_isSame_41 {Z : zz} {X : cX} {μ0 : CM} {Q : Int → CM → Prop} {rc : Nat → Option Nat → CM → (Int → CM → Prop) → Prop} {fr lo : Nat} (hA : 3 ≤ fr) (hB : 74 ≤ lo) (C : gC Z cX6_isSame 3 RX6 (some .boolean) (fr + 0) (lo + 0)) (hK : cCt Z X μ0) (hrc : rmet_V_isSame (zz_l Z) X fr lo rc) (hQ : zz_q Z = MQ (zz_b Z) (cQi X μ0 (zz_s Z).heap.size Q) (zz_a Z) (zz_s Z) (zz_R Z).cells (zz_R Z).slots (cA X μ0 (zz_s Z).heap.size))  : ∀ μ, wc_X6_isSame_41 X rc Q μ → hG Z 3 (cI Z X μ0 μ) 0 0 41 [] [] := by
  intro μ hw
  unfold wc_X6_isSame_41 at hw
  refine hx_iconst C dX6_isSame_41 ?_
  refine hx_L [] rfl ?_
  exact sc_X6_isSame_42 hA hB C hK hrc hQ  _ _ hw
def wc_X6_isSame (X : cX) (rc : Nat → Option Nat → CM → (Int → CM → Prop) → Prop) (l0 : Nat) (l1 : Option Nat) (μ : CM) (Q : Int → CM → Prop) : Prop := (∃ a1, l1 = some a1 ∧ (5 ≤ tg μ a1 ∧ tg μ a1 ≤ 8) ∧ ((tg μ a1 = 5 → tg μ l0 = 5 ∧ R32 (oI μ a1 0) ∧ R32 (oI μ l0 0) ∧ ((¬ (oI μ a1 0) = (oI μ l0 0) → wc_X6_isSame_41 X rc  Q μ) ∧ ((oI μ a1 0) = (oI μ l0 0) → (∃ a8, (oR μ l0 1) = some a8 ∧ rc a8 (oR μ a1 1) μ (fun r10 μ11 => R32 r10 ∧ ((r10 = 0 → wc_X6_isSame_41 X rc  Q μ11) ∧ (¬ r10 = 0 → wc_X6_isSame_42 X rc  Q 1 μ11))))))) ∧ (¬ tg μ a1 = 5 → wc_X6_isSame_41 X rc  Q μ)))
set_option maxHeartbeats 4000000 in
theorem sc_X6_isSame (l : Launch) (X : cX) (sz : Nat) (Q : Int → CM → Prop) {rc : Nat → Option Nat → CM → (Int → CM → Prop) → Prop} {fr lo : Nat} (hA : 3 ≤ fr) (hB : 74 ≤ lo) (hrc : rmet_V_isSame l X fr lo rc) (l0 : Nat) (l1 : Option Nat) (μ : CM) (hw : wc_X6_isSame X rc l0 l1 μ Q) : Met l yX6_isSame (ws_ yX6_isSame cX6_isSame 3 (some .boolean)) ({ frames := (fr + 0), cells := 0, slots := 0, locals := (lo + 0) }) (cPc X (([aR (some l0), aR l1] : List AV).map toV) μ sz) (cQi X μ sz Q) 0 (0) (cA X μ sz) := by
  refine cx_met2 (rm := ({ frames := (fr + 0), cells := 0, slots := 0, locals := (lo + 0) })) (As := [aR (some l0), aR l1]) (L0 := [(0, aR (some l0)), (1, aR l1)]) (by decide) rfl (Nat.le_of_ble_eq_true rfl) rfl ?_
  intro Z C hK hsz hR hl0 hin hQ
  subst hsz
  have C : gC Z cX6_isSame 3 RX6 (some .boolean) (fr + 0) (lo + 0) := C
  rw [← hl0] at hrc
  have hQ : zz_q Z = MQ (zz_b Z) (cQi X μ (zz_s Z).heap.size Q) (zz_a Z) (zz_s Z) (zz_R Z).cells (zz_R Z).slots (cA X μ (zz_s Z).heap.size) := by rw [hR]; exact hQ
  unfold wc_X6_isSame at hw
  refine hx_aload_n C dX6_isSame_0 1 rfl rfl ?_
  obtain ⟨a1, ha2, hw⟩ := hw
  rw [ha2]
  obtain ⟨hi3, hw⟩ := hw
  rcases (show tg μ a1 = 5 ∨ (tg μ a1 = 6 ∨ tg μ a1 = 7 ∨ tg μ a1 = 8) by omega) with h | h | h | h
  · have ht4 := h
    have hw := hw.1 h
    refine cx_instY C hK (ci := 4) rfl (Or.inr (cdE_4 ht4)) q1337 dX6_isSame_1 ?_
    refine hx_if_eq (tgt := 41) C dX6_isSame_4 (by decide) (by decide) (fun h => ?_) (fun h => ?_)
    · exact absurd h (by decide)
    · skip
      refine hx_aload_n C dX6_isSame_7 1 rfl rfl ?_
      refine cx_cast C hK (ci := 4) rfl (Or.inr (cdE_4 ht4)) q1337 dX6_isSame_8 ?_
      refine hx_astore_n (L' := [(2, aR (some a1)), (0, aR (some l0)), (1, aR (some a1))]) C dX6_isSame_11 rfl (by decide) rfl ?_
      refine hx_aload_n C dX6_isSame_12 0 rfl rfl ?_
      refine cx_get (μ := μ) (v := aI (oI μ a1 0)) C hK 4 0 rfl in_X6 (by decide) q375 rfl (cdE_4 ht4) rfl dX6_isSame_13 ?_
      refine hx_aload_n C dX6_isSame_16 1 rfl rfl ?_
      obtain ⟨ht5, hw⟩ := hw
      refine cx_get (μ := μ) (v := aI (oI μ l0 0)) C hK 4 0 rfl in_X6 (by decide) q375 rfl (cdE_4 ht5) rfl dX6_isSame_17 ?_
      obtain ⟨hr6, hw⟩ := hw
      obtain ⟨hr7, hw⟩ := hw
      refine hx_icmp_ne (tgt := 41) C dX6_isSame_20 (by decide) hr6 hr7 (fun h => ?_) (fun h => ?_)
      · have hw := hw.1 h
        refine hx_L [] rfl ?_
        exact sc_X6_isSame_41 hA hB C hK hrc hQ  _ hw
      · have hw := hw.2 h
        refine hx_aload_n C dX6_isSame_23 1 rfl rfl ?_
        refine cx_get (μ := μ) (v := aR (oR μ l0 1)) C hK 4 1 rfl in_X6 (by decide) q377 rfl (cdE_4 ht5) rfl dX6_isSame_24 ?_
        refine hx_aload_n C dX6_isSame_27 0 rfl rfl ?_
        refine cx_get (μ := μ) (v := aR (oR μ a1 1)) C hK 4 1 rfl in_X6 (by decide) q377 rfl (cdE_4 ht4) rfl dX6_isSame_28 ?_
        obtain ⟨a8, ha9, hw⟩ := hw
        rw [ha9]
        refine fun H locs hI ls hl => cx_ri (S := []) hI hl (fun _ h => h) (dv_isSame (rest := []) C hK hI hl hrc hw (by omega) (by omega) (C.w _ q1338) (av_W [] 8 (Nat.le_of_ble_eq_true rfl)) dX6_isSame_31 rfl rfl ⟨by omega, by omega⟩) (fun r10 μ11 hw => ?_)
        obtain ⟨hr12, hw⟩ := hw
        refine hx_if_eq (tgt := 41) C dX6_isSame_34 (by decide) hr12 (fun h => ?_) (fun h => ?_)
        · have hw := hw.1 h
          refine hx_L [] rfl ?_
          exact sc_X6_isSame_41 hA hB C hK hrc hQ  _ hw
        · have hw := hw.2 h
          refine hx_iconst C dX6_isSame_37 ?_
          refine hx_goto (tgt := 42) C dX6_isSame_38 (by decide) ?_
          refine hx_L [] rfl ?_
          exact sc_X6_isSame_42 hA hB C hK hrc hQ  _ _ hw
  · have hw := hw.2 (by omega)
    refine cx_instN C hK (ci := 5) (nm := "BinderPress$Binder") rfl (Or.inr (cdE_5 h)) q1337 (List.mem_of_getElem? (i := 2) rfl) dX6_isSame_1 ?_
    refine hx_if_eq (tgt := 41) C dX6_isSame_4 (by decide) (by decide) (fun h => ?_) (fun h => ?_)
    · skip
      refine hx_L [] rfl ?_
      exact sc_X6_isSame_41 hA hB C hK hrc hQ  _ hw
    · exact absurd h (by decide)
  · have hw := hw.2 (by omega)
    refine cx_instN C hK (ci := 6) (nm := "BinderPress$Binder") rfl (Or.inr (cdE_6 h)) q1337 (List.mem_of_getElem? (i := 5) rfl) dX6_isSame_1 ?_
    refine hx_if_eq (tgt := 41) C dX6_isSame_4 (by decide) (by decide) (fun h => ?_) (fun h => ?_)
    · skip
      refine hx_L [] rfl ?_
      exact sc_X6_isSame_41 hA hB C hK hrc hQ  _ hw
    · exact absurd h (by decide)
  · have hw := hw.2 (by omega)
    refine cx_instN C hK (ci := 7) (nm := "BinderPress$Binder") rfl (Or.inr (cdE_7 h)) q1337 (List.mem_of_getElem? (i := 8) rfl) dX6_isSame_1 ?_
    refine hx_if_eq (tgt := 41) C dX6_isSame_4 (by decide) (by decide) (fun h => ?_) (fun h => ?_)
    · skip
      refine hx_L [] rfl ?_
      exact sc_X6_isSame_41 hA hB C hK hrc hQ  _ hw
    · exact absurd h (by decide)
-- ('BinderPress$Put', 'isSame', '(LBinderPress$Term;)Z')
def wc_X9_isSame_56 (X : cX) (rc : Nat → Option Nat → CM → (Int → CM → Prop) → Prop) (Q : Int → CM → Prop) (s0 : Int) (μ : CM) : Prop := (s0 = 0 ∨ s0 = 1) ∧ Q s0 μ
set_option maxHeartbeats 4000000 in
theorem sc_X9_isSame_56 {Z : zz} {X : cX} {μ0 : CM} {Q : Int → CM → Prop} {rc : Nat → Option Nat → CM → (Int → CM → Prop) → Prop} {fr lo : Nat} (hA : 3 ≤ fr) (hB : 74 ≤ lo) (C : gC Z cX9_isSame 3 RX9 (some .boolean) (fr + 0) (lo + 0)) (hK : cCt Z X μ0) (hrc : rmet_V_isSame (zz_l Z) X fr lo rc) (hQ : zz_q Z = MQ (zz_b Z) (cQi X μ0 (zz_s Z).heap.size Q) (zz_a Z) (zz_s Z) (zz_R Z).cells (zz_R Z).slots (cA X μ0 (zz_s Z).heap.size))  : ∀ s0 μ, wc_X9_isSame_56 X rc Q s0 μ → hG Z 3 (cI Z X μ0 μ) 0 0 56 [] [aI s0] := by
  intro s0 μ hw
  unfold wc_X9_isSame_56 at hw
  obtain ⟨hz, hw⟩ := hw
  exact cx_iret C hQ (by omega) (by omega) (mz_n hz) hw dX9_isSame_56
def wc_X9_isSame_55 (X : cX) (rc : Nat → Option Nat → CM → (Int → CM → Prop) → Prop) (Q : Int → CM → Prop) (μ : CM) : Prop := wc_X9_isSame_56 X rc  Q 0 μ
set_option maxHeartbeats 4000000 in
theorem sc_X9_isSame_55 {Z : zz} {X : cX} {μ0 : CM} {Q : Int → CM → Prop} {rc : Nat → Option Nat → CM → (Int → CM → Prop) → Prop} {fr lo : Nat} (hA : 3 ≤ fr) (hB : 74 ≤ lo) (C : gC Z cX9_isSame 3 RX9 (some .boolean) (fr + 0) (lo + 0)) (hK : cCt Z X μ0) (hrc : rmet_V_isSame (zz_l Z) X fr lo rc) (hQ : zz_q Z = MQ (zz_b Z) (cQi X μ0 (zz_s Z).heap.size Q) (zz_a Z) (zz_s Z) (zz_R Z).cells (zz_R Z).slots (cA X μ0 (zz_s Z).heap.size))  : ∀ μ, wc_X9_isSame_55 X rc Q μ → hG Z 3 (cI Z X μ0 μ) 0 0 55 [] [] := by
  intro μ hw
  unfold wc_X9_isSame_55 at hw
  refine hx_iconst C dX9_isSame_55 ?_
  refine hx_L [] rfl ?_
  exact sc_X9_isSame_56 hA hB C hK hrc hQ  _ _ hw
def wc_X9_isSame (X : cX) (rc : Nat → Option Nat → CM → (Int → CM → Prop) → Prop) (l0 : Nat) (l1 : Option Nat) (μ : CM) (Q : Int → CM → Prop) : Prop := (∃ a1, l1 = some a1 ∧ (5 ≤ tg μ a1 ∧ tg μ a1 ≤ 8) ∧ ((tg μ a1 = 8 → tg μ l0 = 8 ∧ R32 (oI μ a1 2) ∧ R32 (oI μ l0 2) ∧ ((¬ (oI μ a1 2) = (oI μ l0 2) → wc_X9_isSame_55 X rc  Q μ) ∧ ((oI μ a1 2) = (oI μ l0 2) → (∃ a8, (oR μ l0 0) = some a8 ∧ rc a8 (oR μ a1 0) μ (fun r10 μ11 => R32 r10 ∧ ((r10 = 0 → wc_X9_isSame_55 X rc  Q μ11) ∧ (¬ r10 = 0 → (tg μ11 l0 = 8 ∧ tg μ11 a1 = 8 ∧ ∃ a15, (oR μ11 l0 1) = some a15 ∧ rc a15 (oR μ11 a1 1) μ11 (fun r17 μ18 => R32 r17 ∧ ((r17 = 0 → wc_X9_isSame_55 X rc  Q μ18) ∧ (¬ r17 = 0 → wc_X9_isSame_56 X rc  Q 1 μ18))))))))))) ∧ (¬ tg μ a1 = 8 → wc_X9_isSame_55 X rc  Q μ)))
set_option maxHeartbeats 4000000 in
theorem sc_X9_isSame (l : Launch) (X : cX) (sz : Nat) (Q : Int → CM → Prop) {rc : Nat → Option Nat → CM → (Int → CM → Prop) → Prop} {fr lo : Nat} (hA : 3 ≤ fr) (hB : 74 ≤ lo) (hrc : rmet_V_isSame l X fr lo rc) (l0 : Nat) (l1 : Option Nat) (μ : CM) (hw : wc_X9_isSame X rc l0 l1 μ Q) : Met l yX9_isSame (ws_ yX9_isSame cX9_isSame 3 (some .boolean)) ({ frames := (fr + 0), cells := 0, slots := 0, locals := (lo + 0) }) (cPc X (([aR (some l0), aR l1] : List AV).map toV) μ sz) (cQi X μ sz Q) 0 (0) (cA X μ sz) := by
  refine cx_met2 (rm := ({ frames := (fr + 0), cells := 0, slots := 0, locals := (lo + 0) })) (As := [aR (some l0), aR l1]) (L0 := [(0, aR (some l0)), (1, aR l1)]) (by decide) rfl (Nat.le_of_ble_eq_true rfl) rfl ?_
  intro Z C hK hsz hR hl0 hin hQ
  subst hsz
  have C : gC Z cX9_isSame 3 RX9 (some .boolean) (fr + 0) (lo + 0) := C
  rw [← hl0] at hrc
  have hQ : zz_q Z = MQ (zz_b Z) (cQi X μ (zz_s Z).heap.size Q) (zz_a Z) (zz_s Z) (zz_R Z).cells (zz_R Z).slots (cA X μ (zz_s Z).heap.size) := by rw [hR]; exact hQ
  unfold wc_X9_isSame at hw
  refine hx_aload_n C dX9_isSame_0 1 rfl rfl ?_
  obtain ⟨a1, ha2, hw⟩ := hw
  rw [ha2]
  obtain ⟨hi3, hw⟩ := hw
  rcases (show tg μ a1 = 8 ∨ (tg μ a1 = 6 ∨ tg μ a1 = 7 ∨ tg μ a1 = 5) by omega) with h | h | h | h
  · have ht4 := h
    have hw := hw.1 h
    refine cx_instY C hK (ci := 7) rfl (Or.inr (cdE_7 ht4)) q524 dX9_isSame_1 ?_
    refine hx_if_eq (tgt := 55) C dX9_isSame_4 (by decide) (by decide) (fun h => ?_) (fun h => ?_)
    · exact absurd h (by decide)
    · skip
      refine hx_aload_n C dX9_isSame_7 1 rfl rfl ?_
      refine cx_cast C hK (ci := 7) rfl (Or.inr (cdE_7 ht4)) q524 dX9_isSame_8 ?_
      refine hx_astore_n (L' := [(2, aR (some a1)), (0, aR (some l0)), (1, aR (some a1))]) C dX9_isSame_11 rfl (by decide) rfl ?_
      refine hx_aload_n C dX9_isSame_12 0 rfl rfl ?_
      refine cx_get (μ := μ) (v := aI (oI μ a1 2)) C hK 7 2 rfl in_X9 (by decide) q465 rfl (cdE_7 ht4) rfl dX9_isSame_13 ?_
      refine hx_aload_n C dX9_isSame_16 1 rfl rfl ?_
      obtain ⟨ht5, hw⟩ := hw
      refine cx_get (μ := μ) (v := aI (oI μ l0 2)) C hK 7 2 rfl in_X9 (by decide) q465 rfl (cdE_7 ht5) rfl dX9_isSame_17 ?_
      obtain ⟨hr6, hw⟩ := hw
      obtain ⟨hr7, hw⟩ := hw
      refine hx_icmp_ne (tgt := 55) C dX9_isSame_20 (by decide) hr6 hr7 (fun h => ?_) (fun h => ?_)
      · have hw := hw.1 h
        refine hx_L [] rfl ?_
        exact sc_X9_isSame_55 hA hB C hK hrc hQ  _ hw
      · have hw := hw.2 h
        refine hx_aload_n C dX9_isSame_23 1 rfl rfl ?_
        refine cx_get (μ := μ) (v := aR (oR μ l0 0)) C hK 7 0 rfl in_X9 (by decide) q459 rfl (cdE_7 ht5) rfl dX9_isSame_24 ?_
        refine hx_aload_n C dX9_isSame_27 0 rfl rfl ?_
        refine cx_get (μ := μ) (v := aR (oR μ a1 0)) C hK 7 0 rfl in_X9 (by decide) q459 rfl (cdE_7 ht4) rfl dX9_isSame_28 ?_
        obtain ⟨a8, ha9, hw⟩ := hw
        rw [ha9]
        refine fun H locs hI ls hl => cx_ri (S := []) hI hl (fun _ h => h) (dv_isSame (rest := []) C hK hI hl hrc hw (by omega) (by omega) (C.w _ q1344) (av_W [] 8 (Nat.le_of_ble_eq_true rfl)) dX9_isSame_31 rfl rfl ⟨by omega, by omega⟩) (fun r10 μ11 hw => ?_)
        obtain ⟨hr12, hw⟩ := hw
        refine hx_if_eq (tgt := 55) C dX9_isSame_34 (by decide) hr12 (fun h => ?_) (fun h => ?_)
        · have hw := hw.1 h
          refine hx_L [] rfl ?_
          exact sc_X9_isSame_55 hA hB C hK hrc hQ  _ hw
        · have hw := hw.2 h
          refine hx_aload_n C dX9_isSame_37 1 rfl rfl ?_
          obtain ⟨ht13, hw⟩ := hw
          refine cx_get (μ := μ11) (v := aR (oR μ11 l0 1)) C hK 7 1 rfl in_X9 (by decide) q462 rfl (cdE_7 ht13) rfl dX9_isSame_38 ?_
          refine hx_aload_n C dX9_isSame_41 0 rfl rfl ?_
          obtain ⟨ht14, hw⟩ := hw
          refine cx_get (μ := μ11) (v := aR (oR μ11 a1 1)) C hK 7 1 rfl in_X9 (by decide) q462 rfl (cdE_7 ht14) rfl dX9_isSame_42 ?_
          obtain ⟨a15, ha16, hw⟩ := hw
          rw [ha16]
          refine fun H locs hI ls hl => cx_ri (S := []) hI hl (fun _ h => h) (dv_isSame (rest := []) C hK hI hl hrc hw (by omega) (by omega) (C.w _ q1344) (av_W [] 8 (Nat.le_of_ble_eq_true rfl)) dX9_isSame_45 rfl rfl ⟨by omega, by omega⟩) (fun r17 μ18 hw => ?_)
          obtain ⟨hr19, hw⟩ := hw
          refine hx_if_eq (tgt := 55) C dX9_isSame_48 (by decide) hr19 (fun h => ?_) (fun h => ?_)
          · have hw := hw.1 h
            refine hx_L [] rfl ?_
            exact sc_X9_isSame_55 hA hB C hK hrc hQ  _ hw
          · have hw := hw.2 h
            refine hx_iconst C dX9_isSame_51 ?_
            refine hx_goto (tgt := 56) C dX9_isSame_52 (by decide) ?_
            refine hx_L [] rfl ?_
            exact sc_X9_isSame_56 hA hB C hK hrc hQ  _ _ hw
  · have hw := hw.2 (by omega)
    refine cx_instN C hK (ci := 5) (nm := "BinderPress$Put") rfl (Or.inr (cdE_5 h)) q524 (List.mem_of_getElem? (i := 1) rfl) dX9_isSame_1 ?_
    refine hx_if_eq (tgt := 55) C dX9_isSame_4 (by decide) (by decide) (fun h => ?_) (fun h => ?_)
    · skip
      refine hx_L [] rfl ?_
      exact sc_X9_isSame_55 hA hB C hK hrc hQ  _ hw
    · exact absurd h (by decide)
  · have hw := hw.2 (by omega)
    refine cx_instN C hK (ci := 6) (nm := "BinderPress$Put") rfl (Or.inr (cdE_6 h)) q524 (List.mem_of_getElem? (i := 4) rfl) dX9_isSame_1 ?_
    refine hx_if_eq (tgt := 55) C dX9_isSame_4 (by decide) (by decide) (fun h => ?_) (fun h => ?_)
    · skip
      refine hx_L [] rfl ?_
      exact sc_X9_isSame_55 hA hB C hK hrc hQ  _ hw
    · exact absurd h (by decide)
  · have hw := hw.2 (by omega)
    refine cx_instN C hK (ci := 4) (nm := "BinderPress$Put") rfl (Or.inr (cdE_4 h)) q524 (List.mem_of_getElem? (i := 11) rfl) dX9_isSame_1 ?_
    refine hx_if_eq (tgt := 55) C dX9_isSame_4 (by decide) (by decide) (fun h => ?_) (fun h => ?_)
    · skip
      refine hx_L [] rfl ?_
      exact sc_X9_isSame_55 hA hB C hK hrc hQ  _ hw
    · exact absurd h (by decide)
