/-! walks of the component (printed by gen_comp) -/
set_option maxRecDepth 100000
-- ('java/lang/String', '<init>', '(Ljava/lang/StringBuilder;)V')
def wc_J0_init (X : cX) (b : Nat) (l0 : Nat) (l1 : Option Nat) (μ : CM) (Q : CM → Prop) : Prop := (∃ b1, b1 ≤ b ∧ wc_J0_init_2 X b1 l0 l1 none μ (fun μ4 => Q μ4))
set_option maxHeartbeats 4000000 in
theorem sc_J0_init (l : Launch) (X : cX) (sz : Nat) (Q : CM → Prop) (b : Nat) (l0 : Nat) (l1 : Option Nat) (μ : CM) (hw : wc_J0_init X b l0 l1 μ Q) : Met l yJ0_init (ws_ yJ0_init cJ0_init 2 none) ({ frames := 4, cells := b, slots := 5 * b, locals := 100 }) (cPc X (([aR (some l0), aR l1] : List AV).map toV) μ sz) (cQv X μ sz Q) b (5 * b) (cA X μ sz) := by
  refine cx_met2 (rm := ({ frames := 4, cells := b, slots := 5 * b, locals := 100 })) (As := [aR (some l0), aR l1]) (L0 := [(0, aR (some l0)), (1, aR l1)]) (by decide) rfl (Nat.le_of_ble_eq_true rfl) rfl ?_
  intro Z C hK hsz hR hl0 hin hQ
  subst hsz
  have C : gC Z cJ0_init 2 RJ0 none 4 100 := C
  have hQ : zz_q Z = MQ (zz_b Z) (cQv X μ (zz_s Z).heap.size Q) (zz_a Z) (zz_s Z) (zz_R Z).cells (zz_R Z).slots (cA X μ (zz_s Z).heap.size) := by rw [hR]; exact hQ
  have hb : 0 + b ≤ (zz_R Z).cells ∧ 0 + 5 * b ≤ (zz_R Z).slots := by rw [hR]; exact ⟨by dsimp only; omega, by dsimp only; omega⟩
  unfold wc_J0_init at hw
  refine hx_aload_n C dJ0_init_0 0 rfl rfl ?_
  refine hx_aload_n C dJ0_init_1 1 rfl rfl ?_
  refine hx_null C dJ0_init_2 ?_
  obtain ⟨b1, hu2, hw⟩ := hw
  refine fun H locs hI ls hl => cx_rv (S := []) hI hl (fun _ h => h) (cr_I (a := l0) (As := [toV (aR l1), toV (aR none)]) (rest := []) C hK hI hl 2 (sc_J0_init_2 _ X H.size _ b1 _ _ _ _ hw) q1070 q1071 q88 q1072 rfl (by decide +kernel) ⟨rfl, rfl, Nat.le_of_ble_eq_true rfl, Nat.le_of_ble_eq_true rfl⟩ (av_W [] 8 (Nat.le_of_ble_eq_true rfl)) dJ0_init_3 rfl rfl ⟨by omega, by omega⟩) (fun μ4 hw => ?_)
  obtain hb : (0 + b1) + (b - b1) ≤ (zz_R Z).cells ∧ (0 + 5 * b1) + 5 * (b - b1) ≤ (zz_R Z).slots := ⟨by omega, by omega⟩
  exact cx_vret C hQ (by omega) (by omega) hw dJ0_init_6
-- ('java/lang/StringBuilder', 'toString', '()Ljava/lang/String;')
def wc_J9_toString (X : cX) (b : Nat) (l0 : Nat) (μ : CM) (Q : Option Nat → CM → Prop) : Prop := (1 ≤ b ∧ ∀ a2, tg μ a2 = 0 → ∃ b5, b5 ≤ (b - 1) ∧ wc_J0_init X b5 a2 (some l0) (alc μ a2 13 0) (fun μ8 => Q (some a2) μ8))
set_option maxHeartbeats 4000000 in
theorem sc_J9_toString (l : Launch) (X : cX) (sz : Nat) (Q : Option Nat → CM → Prop) (b : Nat) (l0 : Nat) (μ : CM) (hw : wc_J9_toString X b l0 μ Q) : Met l yJ9_toString (ws_ yJ9_toString cJ9_toString 1 (some (.object "java/lang/String"))) ({ frames := 5, cells := b, slots := 5 * b, locals := 121 }) (cPc X (([aR (some l0)] : List AV).map toV) μ sz) (cQr X μ sz Q) b (5 * b) (cA X μ sz) := by
  refine cx_met2 (rm := ({ frames := 5, cells := b, slots := 5 * b, locals := 121 })) (As := [aR (some l0)]) (L0 := [(0, aR (some l0))]) (by decide) rfl (Nat.le_of_ble_eq_true rfl) rfl ?_
  intro Z C hK hsz hR hl0 hin hQ
  subst hsz
  have C : gC Z cJ9_toString 1 RJ9 (some (.object "java/lang/String")) 5 121 := C
  have hQ : zz_q Z = MQ (zz_b Z) (cQr X μ (zz_s Z).heap.size Q) (zz_a Z) (zz_s Z) (zz_R Z).cells (zz_R Z).slots (cA X μ (zz_s Z).heap.size) := by rw [hR]; exact hQ
  have hb : 0 + b ≤ (zz_R Z).cells ∧ 0 + 5 * b ≤ (zz_R Z).slots := by rw [hR]; exact ⟨by dsimp only; omega, by dsimp only; omega⟩
  unfold wc_J9_toString at hw
  obtain ⟨hu1, hw⟩ := hw
  refine cx_new (fs := fun a => coF_12 (alc μ a 13 0) a) C hK 12 13 rfl in_J0 tyJ0_ok q1065 q1066 q88 (by decide) (fun a => cdE_12 alc_t) (cxd_12 _) (by omega) (by omega) dJ9_toString_0 (fun a2 hf3 => ?_)
  have hw := hw a2 hf3
  obtain hb : (0 + 1) + (b - 1) ≤ (zz_R Z).cells ∧ (0 + 4) + 5 * (b - 1) ≤ (zz_R Z).slots := ⟨by omega, by omega⟩
  have ht4 : tg (alc μ a2 13 0) a2 = 13 := alc_t
  refine hx_dup C dJ9_toString_3 rfl ?_
  refine hx_aload_n C dJ9_toString_4 0 rfl rfl ?_
  obtain ⟨b5, hu6, hw⟩ := hw
  refine fun H locs hI ls hl => cx_rv (S := [aR (some a2)]) hI hl (fun _ h => h) (cr_I (a := a2) (As := [toV (aR (some l0))]) (rest := [toV (aR (some a2))]) C hK hI hl 1 (sc_J0_init _ X H.size _ b5 _ _ _ hw) q1067 q1068 q88 q1069 rfl (by decide +kernel) ⟨rfl, rfl, Nat.le_of_ble_eq_true rfl, Nat.le_of_ble_eq_true rfl⟩ (av_W [aR (some a2)] 8 (Nat.le_of_ble_eq_true rfl)) dJ9_toString_5 rfl rfl ⟨by omega, by omega⟩) (fun μ8 hw => ?_)
  obtain hb : ((0 + 1) + b5) + ((b - 1) - b5) ≤ (zz_R Z).cells ∧ ((0 + 4) + 5 * b5) + 5 * ((b - 1) - b5) ≤ (zz_R Z).slots := ⟨by omega, by omega⟩
  exact cx_aret C hQ (by omega) (by omega) (Or.inl ⟨_, rfl⟩) hw dJ9_toString_8
-- ('BinderPress$Name', 'write', '(Ljava/lang/StringBuilder;)V')
def wc_X7_write (X : cX) (b : Nat) (l0 : Nat) (l1 : Option Nat) (μ : CM) (Q : CM → Prop) : Prop := (tg μ l0 = 6 ∧ (0 ≤ (oI μ l0 0) ∧ (oI μ l0 0) < 65536) ∧ ∃ a3, l1 = some a3 ∧ ∃ b5, b5 ≤ b ∧ tg μ a3 = 12 ∧ wc_J9_append X b5 a3 (oI μ l0 0) μ (fun r7 μ8 => Q μ8))
set_option maxHeartbeats 4000000 in
theorem sc_X7_write (l : Launch) (X : cX) (sz : Nat) (Q : CM → Prop) (b : Nat) (l0 : Nat) (l1 : Option Nat) (μ : CM) (hw : wc_X7_write X b l0 l1 μ Q) : Met l yX7_write (ws_ yX7_write cX7_write 2 none) ({ frames := 6, cells := b, slots := 5 * b, locals := 142 }) (cPc X (([aR (some l0), aR l1] : List AV).map toV) μ sz) (cQv X μ sz Q) b (5 * b) (cA X μ sz) := by
  refine cx_met2 (rm := ({ frames := 6, cells := b, slots := 5 * b, locals := 142 })) (As := [aR (some l0), aR l1]) (L0 := [(0, aR (some l0)), (1, aR l1)]) (by decide) rfl (Nat.le_of_ble_eq_true rfl) rfl ?_
  intro Z C hK hsz hR hl0 hin hQ
  subst hsz
  have C : gC Z cX7_write 2 RX7 none 6 142 := C
  have hQ : zz_q Z = MQ (zz_b Z) (cQv X μ (zz_s Z).heap.size Q) (zz_a Z) (zz_s Z) (zz_R Z).cells (zz_R Z).slots (cA X μ (zz_s Z).heap.size) := by rw [hR]; exact hQ
  have hb : 0 + b ≤ (zz_R Z).cells ∧ 0 + 5 * b ≤ (zz_R Z).slots := by rw [hR]; exact ⟨by dsimp only; omega, by dsimp only; omega⟩
  unfold wc_X7_write at hw
  refine hx_aload_n C dX7_write_0 1 rfl rfl ?_
  refine hx_aload_n C dX7_write_1 0 rfl rfl ?_
  obtain ⟨ht1, hw⟩ := hw
  refine cx_get (μ := μ) (v := aI (oI μ l0 0)) C hK 5 0 rfl in_X7 (by decide) q393 rfl (cdE_5 ht1) rfl dX7_write_2 ?_
  obtain ⟨hc2, hw⟩ := hw
  refine hx_i2c C dX7_write_5 hc2 ?_
  obtain ⟨a3, ha4, hw⟩ := hw
  rw [ha4]
  obtain ⟨b5, hu6, hw⟩ := hw
  obtain ⟨ht9, hw⟩ := hw
  refine fun H locs hI ls hl => cx_rr (S := []) hI hl (fun _ h => h) (cr_V (Cn := RJ9) (As := [toV (aI (oI μ l0 0))]) (rest := []) C hK hI hl 1 (cv_dyn hK hI (ci := 11) rfl (Or.inr (cdE_11 ht9))) (sc_J9_append _ X H.size _ b5 _ _ _ hw) (lw_V q983 q910 q911 q105 q912) (by decide +kernel) ⟨rfl, rfl, Nat.le_of_ble_eq_true rfl, Nat.le_of_ble_eq_true rfl⟩ (av_W [] 8 (Nat.le_of_ble_eq_true rfl)) dX7_write_6 rfl rfl ⟨by omega, by omega⟩) (fun r7 μ8 hw => ?_)
  obtain hb : (0 + b5) + (b - b5) ≤ (zz_R Z).cells ∧ (0 + 5 * b5) + 5 * (b - b5) ≤ (zz_R Z).slots := ⟨by omega, by omega⟩
  refine hx_pop C dX7_write_9 rfl ?_
  exact cx_vret C hQ (by omega) (by omega) hw dX7_write_10
-- ('BinderPress$Sign', 'write', '(Ljava/lang/StringBuilder;)V')
def wc_X8_write (X : cX) (b : Nat) (l0 : Nat) (l1 : Option Nat) (μ : CM) (Q : CM → Prop) : Prop := (tg μ l0 = 7 ∧ ∃ a2, l1 = some a2 ∧ ∃ b4, b4 ≤ b ∧ tg μ a2 = 12 ∧ wc_J9_append_2 X b4 a2 (oR μ l0 0) μ (fun r6 μ7 => Q μ7))
set_option maxHeartbeats 4000000 in
theorem sc_X8_write (l : Launch) (X : cX) (sz : Nat) (Q : CM → Prop) (b : Nat) (l0 : Nat) (l1 : Option Nat) (μ : CM) (hw : wc_X8_write X b l0 l1 μ Q) : Met l yX8_write (ws_ yX8_write cX8_write 2 none) ({ frames := 6, cells := b, slots := 5 * b, locals := 143 }) (cPc X (([aR (some l0), aR l1] : List AV).map toV) μ sz) (cQv X μ sz Q) b (5 * b) (cA X μ sz) := by
  refine cx_met2 (rm := ({ frames := 6, cells := b, slots := 5 * b, locals := 143 })) (As := [aR (some l0), aR l1]) (L0 := [(0, aR (some l0)), (1, aR l1)]) (by decide) rfl (Nat.le_of_ble_eq_true rfl) rfl ?_
  intro Z C hK hsz hR hl0 hin hQ
  subst hsz
  have C : gC Z cX8_write 2 RX8 none 6 143 := C
  have hQ : zz_q Z = MQ (zz_b Z) (cQv X μ (zz_s Z).heap.size Q) (zz_a Z) (zz_s Z) (zz_R Z).cells (zz_R Z).slots (cA X μ (zz_s Z).heap.size) := by rw [hR]; exact hQ
  have hb : 0 + b ≤ (zz_R Z).cells ∧ 0 + 5 * b ≤ (zz_R Z).slots := by rw [hR]; exact ⟨by dsimp only; omega, by dsimp only; omega⟩
  unfold wc_X8_write at hw
  refine hx_aload_n C dX8_write_0 1 rfl rfl ?_
  refine hx_aload_n C dX8_write_1 0 rfl rfl ?_
  obtain ⟨ht1, hw⟩ := hw
  refine cx_get (μ := μ) (v := aR (oR μ l0 0)) C hK 6 0 rfl in_X8 (by decide) q409 rfl (cdE_6 ht1) rfl dX8_write_2 ?_
  obtain ⟨a2, ha3, hw⟩ := hw
  rw [ha3]
  obtain ⟨b4, hu5, hw⟩ := hw
  obtain ⟨ht8, hw⟩ := hw
  refine fun H locs hI ls hl => cx_rr (S := []) hI hl (fun _ h => h) (cr_V (Cn := RJ9) (As := [toV (aR (oR μ l0 0))]) (rest := []) C hK hI hl 1 (cv_dyn hK hI (ci := 11) rfl (Or.inr (cdE_11 ht8))) (sc_J9_append_2 _ X H.size _ b4 _ _ _ hw) (lw_V q1044 q1003 q1004 q105 q1005) (by decide +kernel) ⟨rfl, rfl, Nat.le_of_ble_eq_true rfl, Nat.le_of_ble_eq_true rfl⟩ (av_W [] 8 (Nat.le_of_ble_eq_true rfl)) dX8_write_5 rfl rfl ⟨by omega, by omega⟩) (fun r6 μ7 hw => ?_)
  obtain hb : (0 + b4) + (b - b4) ≤ (zz_R Z).cells ∧ (0 + 5 * b4) + 5 * (b - b4) ≤ (zz_R Z).slots := ⟨by omega, by omega⟩
  refine hx_pop C dX8_write_8 rfl ?_
  exact cx_vret C hQ (by omega) (by omega) hw dX8_write_9
-- ('BinderPress$Binder', 'write', '(Ljava/lang/StringBuilder;)V')
def rmet_V_write (l : Launch) (X : cX) (fr lo : Nat) (rc : Nat → Nat → Option Nat → CM → (CM → Prop) → Prop) : Prop := ∀ (b : Nat) (a : Nat) (l1 : Option Nat) (μ : CM) (sz : Nat) (Q : CM → Prop), rc b a l1 μ Q → (tg μ a = 6 ∧ ∃ rm, crm rm b (5 * b) fr lo 2 ∧ Met l yX7_write (ws_ yX7_write cX7_write 2 none) rm (cPc X (([aR (some a), aR l1] : List AV).map toV) μ sz) (cQv X μ sz Q) b (5 * b) (cA X μ sz)) ∨ (tg μ a = 7 ∧ ∃ rm, crm rm b (5 * b) fr lo 2 ∧ Met l yX8_write (ws_ yX8_write cX8_write 2 none) rm (cPc X (([aR (some a), aR l1] : List AV).map toV) μ sz) (cQv X μ sz Q) b (5 * b) (cA X μ sz)) ∨ (tg μ a = 8 ∧ ∃ rm, crm rm b (5 * b) fr lo 2 ∧ Met l yX9_write (ws_ yX9_write cX9_write 2 none) rm (cPc X (([aR (some a), aR l1] : List AV).map toV) μ sz) (cQv X μ sz Q) b (5 * b) (cA X μ sz)) ∨ (tg μ a = 5 ∧ ∃ rm, crm rm b (5 * b) fr lo 2 ∧ Met l yX6_write (ws_ yX6_write cX6_write 2 none) rm (cPc X (([aR (some a), aR l1] : List AV).map toV) μ sz) (cQv X μ sz Q) b (5 * b) (cA X μ sz))
set_option maxHeartbeats 4000000 in
theorem dv_write {Z : zz} {X : cX} {μ0 μ : CM} {cc : ByteArray} {nL : Nat} {own : String} {ret : Option FieldType} {F N kk nn pc : Nat} {H : Heap} {locs : List Loc} {ls : Array Slot} {lv : List (Nat × Value)} {stk rest : List Value} {index fr lo : Nat} {Q : CM → Prop} {rc : Nat → Nat → Option Nat → CM → (CM → Prop) → Prop} {b : Nat} {a : Nat} {l1 : Option Nat} (C : gC Z cc nL own ret F N) (hK : cCt Z X μ0) (hI : cI Z X μ0 μ H locs) (hl : lv_has ls nL lv) (hrc : rmet_V_write (zz_l Z) X fr lo rc) (hw : rc b a l1 μ Q) (hF : fr ≤ F) (hN : lo ≤ N) (hlk : (Cond.methodLink own index ⟨"BinderPress$Term", "write", "(Ljava/lang/StringBuilder;)V"⟩).before (zz_a Z) (zz_s Z) = true) (hW : (rest.map fun v => v.category).sum ≤ 8) (d : decode cc pc = .ok (.invokevirtual index, 3)) (hn : ([toV (aR l1)] : List Value).length = 1) (hs : stk = ([toV (aR l1)] : List Value).reverse ++ .ref a :: rest) (hf : kk + b ≤ (zz_R Z).cells ∧ nn + 5 * b ≤ (zz_R Z).slots) : cRun Z H locs kk nn b (5 * b) pc ls stk rest (cQv X μ H.size Q (Value.ref a :: [toV (aR l1)]).toArray) (cA X μ H.size) := by
  rcases hrc b a l1 μ H.size Q hw with ⟨ht, rm, h, hM⟩ | ⟨ht, rm, h, hM⟩ | ⟨ht, rm, h, hM⟩ | ⟨ht, rm, h, hM⟩
  · exact cr_U (x := ⟨"BinderPress$Term", "write", "(Ljava/lang/StringBuilder;)V"⟩) (owner := "BinderPress$Term") (Cn := "BinderPress$Name") C hK hI hl 1 (cv_dyn hK hI (ci := 5) rfl (Or.inr (cdE_5 ht))) hM hlk (C.w _ q905) (va_Decl.abs (hK.1.2.2.1 _ (List.mem_of_getElem? (i := 48) rfl))) (C.w _ q1058) q981 q94 q982 (by decide +kernel) ⟨h.1, h.2.1, Nat.le_trans h.2.2.1 hF, Nat.le_trans h.2.2.2 hN⟩ hW d hn hs hf
  · exact cr_U (x := ⟨"BinderPress$Term", "write", "(Ljava/lang/StringBuilder;)V"⟩) (owner := "BinderPress$Term") (Cn := "BinderPress$Sign") C hK hI hl 1 (cv_dyn hK hI (ci := 6) rfl (Or.inr (cdE_6 ht))) hM hlk (C.w _ q905) (va_Decl.abs (hK.1.2.2.1 _ (List.mem_of_getElem? (i := 48) rfl))) (C.w _ q1060) q1042 q95 q1043 (by decide +kernel) ⟨h.1, h.2.1, Nat.le_trans h.2.2.1 hF, Nat.le_trans h.2.2.2 hN⟩ hW d hn hs hf
  · exact cr_U (x := ⟨"BinderPress$Term", "write", "(Ljava/lang/StringBuilder;)V"⟩) (owner := "BinderPress$Term") (Cn := "BinderPress$Put") C hK hI hl 1 (cv_dyn hK hI (ci := 7) rfl (Or.inr (cdE_7 ht))) hM hlk (C.w _ q905) (va_Decl.abs (hK.1.2.2.1 _ (List.mem_of_getElem? (i := 48) rfl))) (C.w _ q1059) q984 q96 q985 (by decide +kernel) ⟨h.1, h.2.1, Nat.le_trans h.2.2.1 hF, Nat.le_trans h.2.2.2 hN⟩ hW d hn hs hf
  · exact cr_U (x := ⟨"BinderPress$Term", "write", "(Ljava/lang/StringBuilder;)V"⟩) (owner := "BinderPress$Term") (Cn := "BinderPress$Binder") C hK hI hl 1 (cv_dyn hK hI (ci := 4) rfl (Or.inr (cdE_4 ht))) hM hlk (C.w _ q905) (va_Decl.abs (hK.1.2.2.1 _ (List.mem_of_getElem? (i := 48) rfl))) (C.w _ q906) q907 q93 q908 (by decide +kernel) ⟨h.1, h.2.1, Nat.le_trans h.2.2.1 hF, Nat.le_trans h.2.2.2 hN⟩ hW d hn hs hf
def wc_X6_write (X : cX) (rc : Nat → Nat → Option Nat → CM → (CM → Prop) → Prop) (b : Nat) (l0 : Nat) (l1 : Option Nat) (μ : CM) (Q : CM → Prop) : Prop := (∃ a1, l1 = some a1 ∧ ∃ b3, b3 ≤ b ∧ tg μ a1 = 12 ∧ wc_J9_append X b3 a1 94 μ (fun r5 μ6 => (tg μ6 l0 = 5 ∧ (0 ≤ (oI μ6 l0 0) ∧ (oI μ6 l0 0) < 65536) ∧ ∃ a10, r5 = some a10 ∧ ∃ b12, b12 ≤ (b - b3) ∧ tg μ6 a10 = 12 ∧ wc_J9_append X b12 a10 (oI μ6 l0 0) μ6 (fun r14 μ15 => (∃ a17, r14 = some a17 ∧ ∃ b19, b19 ≤ ((b - b3) - b12) ∧ tg μ15 a17 = 12 ∧ wc_J9_append X b19 a17 46 μ15 (fun r21 μ22 => (tg μ22 l0 = 5 ∧ ∃ a25, (oR μ22 l0 1) = some a25 ∧ ∃ b27, b27 ≤ (((b - b3) - b12) - b19) ∧ rc b27 a25 (some a1) μ22 (fun μ30 => Q μ30))))))))
set_option maxHeartbeats 4000000 in
theorem sc_X6_write (l : Launch) (X : cX) (sz : Nat) (Q : CM → Prop) {rc : Nat → Nat → Option Nat → CM → (CM → Prop) → Prop} {fr lo : Nat} (hA : 7 ≤ fr) (hB : 164 ≤ lo) (hrc : rmet_V_write l X fr lo rc) (b : Nat) (l0 : Nat) (l1 : Option Nat) (μ : CM) (hw : wc_X6_write X rc b l0 l1 μ Q) : Met l yX6_write (ws_ yX6_write cX6_write 2 none) ({ frames := (fr + 0), cells := b, slots := 5 * b, locals := (lo + 0) }) (cPc X (([aR (some l0), aR l1] : List AV).map toV) μ sz) (cQv X μ sz Q) b (5 * b) (cA X μ sz) := by
  refine cx_met2 (rm := ({ frames := (fr + 0), cells := b, slots := 5 * b, locals := (lo + 0) })) (As := [aR (some l0), aR l1]) (L0 := [(0, aR (some l0)), (1, aR l1)]) (by decide) rfl (Nat.le_of_ble_eq_true rfl) rfl ?_
  intro Z C hK hsz hR hl0 hin hQ
  subst hsz
  have C : gC Z cX6_write 2 RX6 none (fr + 0) (lo + 0) := C
  rw [← hl0] at hrc
  have hQ : zz_q Z = MQ (zz_b Z) (cQv X μ (zz_s Z).heap.size Q) (zz_a Z) (zz_s Z) (zz_R Z).cells (zz_R Z).slots (cA X μ (zz_s Z).heap.size) := by rw [hR]; exact hQ
  have hb : 0 + b ≤ (zz_R Z).cells ∧ 0 + 5 * b ≤ (zz_R Z).slots := by rw [hR]; exact ⟨by dsimp only; omega, by dsimp only; omega⟩
  unfold wc_X6_write at hw
  refine hx_aload_n C dX6_write_0 1 rfl rfl ?_
  refine hx_bipush C dX6_write_1 (by decide) ?_
  obtain ⟨a1, ha2, hw⟩ := hw
  rw [ha2]
  obtain ⟨b3, hu4, hw⟩ := hw
  obtain ⟨ht7, hw⟩ := hw
  refine fun H locs hI ls hl => cx_rr (S := []) hI hl (fun _ h => h) (cr_V (Cn := RJ9) (As := [toV (aI 94)]) (rest := []) C hK hI hl 1 (cv_dyn hK hI (ci := 11) rfl (Or.inr (cdE_11 ht7))) (sc_J9_append _ X H.size _ b3 _ _ _ hw) (lw_V q909 q910 q911 q105 q912) (by decide +kernel) ⟨rfl, rfl, by (dsimp only; omega), by (dsimp only; omega)⟩ (av_W [] 8 (Nat.le_of_ble_eq_true rfl)) dX6_write_3 rfl rfl ⟨by omega, by omega⟩) (fun r5 μ6 hw => ?_)
  obtain hb : (0 + b3) + (b - b3) ≤ (zz_R Z).cells ∧ (0 + 5 * b3) + 5 * (b - b3) ≤ (zz_R Z).slots := ⟨by omega, by omega⟩
  refine hx_aload_n C dX6_write_6 0 rfl rfl ?_
  obtain ⟨ht8, hw⟩ := hw
  refine cx_get (μ := μ6) (v := aI (oI μ6 l0 0)) C hK 4 0 rfl in_X6 (by decide) q375 rfl (cdE_4 ht8) rfl dX6_write_7 ?_
  obtain ⟨hc9, hw⟩ := hw
  refine hx_i2c C dX6_write_10 hc9 ?_
  obtain ⟨a10, ha11, hw⟩ := hw
  rw [ha11]
  obtain ⟨b12, hu13, hw⟩ := hw
  obtain ⟨ht16, hw⟩ := hw
  refine fun H locs hI ls hl => cx_rr (S := []) hI hl (fun _ h => h) (cr_V (Cn := RJ9) (As := [toV (aI (oI μ6 l0 0))]) (rest := []) C hK hI hl 1 (cv_dyn hK hI (ci := 11) rfl (Or.inr (cdE_11 ht16))) (sc_J9_append _ X H.size _ b12 _ _ _ hw) (lw_V q909 q910 q911 q105 q912) (by decide +kernel) ⟨rfl, rfl, by (dsimp only; omega), by (dsimp only; omega)⟩ (av_W [] 8 (Nat.le_of_ble_eq_true rfl)) dX6_write_11 rfl rfl ⟨by omega, by omega⟩) (fun r14 μ15 hw => ?_)
  obtain hb : ((0 + b3) + b12) + ((b - b3) - b12) ≤ (zz_R Z).cells ∧ ((0 + 5 * b3) + 5 * b12) + 5 * ((b - b3) - b12) ≤ (zz_R Z).slots := ⟨by omega, by omega⟩
  refine hx_bipush C dX6_write_14 (by decide) ?_
  obtain ⟨a17, ha18, hw⟩ := hw
  rw [ha18]
  obtain ⟨b19, hu20, hw⟩ := hw
  obtain ⟨ht23, hw⟩ := hw
  refine fun H locs hI ls hl => cx_rr (S := []) hI hl (fun _ h => h) (cr_V (Cn := RJ9) (As := [toV (aI 46)]) (rest := []) C hK hI hl 1 (cv_dyn hK hI (ci := 11) rfl (Or.inr (cdE_11 ht23))) (sc_J9_append _ X H.size _ b19 _ _ _ hw) (lw_V q909 q910 q911 q105 q912) (by decide +kernel) ⟨rfl, rfl, by (dsimp only; omega), by (dsimp only; omega)⟩ (av_W [] 8 (Nat.le_of_ble_eq_true rfl)) dX6_write_16 rfl rfl ⟨by omega, by omega⟩) (fun r21 μ22 hw => ?_)
  obtain hb : (((0 + b3) + b12) + b19) + (((b - b3) - b12) - b19) ≤ (zz_R Z).cells ∧ (((0 + 5 * b3) + 5 * b12) + 5 * b19) + 5 * (((b - b3) - b12) - b19) ≤ (zz_R Z).slots := ⟨by omega, by omega⟩
  refine hx_pop C dX6_write_19 rfl ?_
  refine hx_aload_n C dX6_write_20 0 rfl rfl ?_
  obtain ⟨ht24, hw⟩ := hw
  refine cx_get (μ := μ22) (v := aR (oR μ22 l0 1)) C hK 4 1 rfl in_X6 (by decide) q377 rfl (cdE_4 ht24) rfl dX6_write_21 ?_
  refine hx_aload_n C dX6_write_24 1 rfl rfl ?_
  obtain ⟨a25, ha26, hw⟩ := hw
  rw [ha26]
  obtain ⟨b27, hu28, hw⟩ := hw
  refine fun H locs hI ls hl => cx_rv (S := []) hI hl (fun _ h => h) (dv_write (rest := []) C hK hI hl hrc hw (by omega) (by omega) (C.w _ q980) (av_W [] 8 (Nat.le_of_ble_eq_true rfl)) dX6_write_25 rfl rfl ⟨by omega, by omega⟩) (fun μ30 hw => ?_)
  obtain hb : ((((0 + b3) + b12) + b19) + b27) + ((((b - b3) - b12) - b19) - b27) ≤ (zz_R Z).cells ∧ ((((0 + 5 * b3) + 5 * b12) + 5 * b19) + 5 * b27) + 5 * ((((b - b3) - b12) - b19) - b27) ≤ (zz_R Z).slots := ⟨by omega, by omega⟩
  exact cx_vret C hQ (by omega) (by omega) hw dX6_write_28
-- ('BinderPress$Put', 'writeIn', '(Ljava/lang/StringBuilder;LBinderPress$Term;Z)V')
def wc_X9_writeIn_33 (X : cX) (rc : Nat → Nat → Option Nat → CM → (CM → Prop) → Prop) (Q : CM → Prop) (s0 : Option Nat) (s1 : Option Nat) (b : Nat) (μ : CM) : Prop := (∃ a1, s0 = some a1 ∧ ∃ b3, b3 ≤ b ∧ tg μ a1 = 12 ∧ wc_J9_append_2 X b3 a1 s1 μ (fun r5 μ6 => Q μ6))
set_option maxHeartbeats 4000000 in
theorem sc_X9_writeIn_33 {Z : zz} {X : cX} {μ0 : CM} {Q : CM → Prop} {rc : Nat → Nat → Option Nat → CM → (CM → Prop) → Prop} {fr lo : Nat} (hA : 7 ≤ fr) (hB : 164 ≤ lo) (C : gC Z cX9_writeIn 3 RX9 none (fr + 0) (lo + 0)) (hK : cCt Z X μ0) (hrc : rmet_V_write (zz_l Z) X fr lo rc) (hQ : zz_q Z = MQ (zz_b Z) (cQv X μ0 (zz_s Z).heap.size Q) (zz_a Z) (zz_s Z) (zz_R Z).cells (zz_R Z).slots (cA X μ0 (zz_s Z).heap.size))  : ∀ s0 s1 b μ, wc_X9_writeIn_33 X rc Q s0 s1 b μ → ∀ kk nn, (kk + b ≤ (zz_R Z).cells ∧ nn + 5 * b ≤ (zz_R Z).slots) → hG Z 3 (cI Z X μ0 μ) kk nn 33 [] [aR s1, aR s0] := by
  intro s0 s1 b μ hw kk nn hb
  unfold wc_X9_writeIn_33 at hw
  obtain ⟨a1, ha2, hw⟩ := hw
  rw [ha2]
  obtain ⟨b3, hu4, hw⟩ := hw
  obtain ⟨ht7, hw⟩ := hw
  refine fun H locs hI ls hl => cx_rr (S := []) hI hl (fun _ h => h) (cr_V (Cn := RJ9) (As := [toV (aR s1)]) (rest := []) C hK hI hl 1 (cv_dyn hK hI (ci := 11) rfl (Or.inr (cdE_11 ht7))) (sc_J9_append_2 _ X H.size _ b3 _ _ _ hw) (lw_V q1002 q1003 q1004 q105 q1005) (by decide +kernel) ⟨rfl, rfl, by (dsimp only; omega), by (dsimp only; omega)⟩ (av_W [] 8 (Nat.le_of_ble_eq_true rfl)) dX9_writeIn_33 rfl rfl ⟨by omega, by omega⟩) (fun r5 μ6 hw => ?_)
  obtain hb : (kk + b3) + (b - b3) ≤ (zz_R Z).cells ∧ (nn + 5 * b3) + 5 * (b - b3) ≤ (zz_R Z).slots := ⟨by omega, by omega⟩
  refine hx_pop C dX9_writeIn_36 rfl ?_
  exact cx_vret C hQ (by omega) (by omega) hw dX9_writeIn_37
def wc_X9_writeIn_12 (X : cX) (rc : Nat → Nat → Option Nat → CM → (CM → Prop) → Prop) (Q : CM → Prop) (l0 : Option Nat) (l1 : Option Nat) (l2 : Int) (s0 : Option Nat) (s1 : Option Nat) (b : Nat) (μ : CM) : Prop := (∃ a1, s0 = some a1 ∧ ∃ b3, b3 ≤ b ∧ tg μ a1 = 12 ∧ wc_J9_append_2 X b3 a1 s1 μ (fun r5 μ6 => (∃ a8, l1 = some a8 ∧ ∃ b10, b10 ≤ (b - b3) ∧ rc b10 a8 l0 μ6 (fun μ13 => R32 l2 ∧ ((l2 = 0 → wc_X9_writeIn_33 X rc  Q l0 (some (cX_s X 5)) ((b - b3) - b10) μ13) ∧ (¬ l2 = 0 → wc_X9_writeIn_33 X rc  Q l0 (some (cX_s X 9)) ((b - b3) - b10) μ13))))))
set_option maxHeartbeats 4000000 in
theorem sc_X9_writeIn_12 {Z : zz} {X : cX} {μ0 : CM} {Q : CM → Prop} {rc : Nat → Nat → Option Nat → CM → (CM → Prop) → Prop} {fr lo : Nat} (hA : 7 ≤ fr) (hB : 164 ≤ lo) (C : gC Z cX9_writeIn 3 RX9 none (fr + 0) (lo + 0)) (hK : cCt Z X μ0) (hrc : rmet_V_write (zz_l Z) X fr lo rc) (hQ : zz_q Z = MQ (zz_b Z) (cQv X μ0 (zz_s Z).heap.size Q) (zz_a Z) (zz_s Z) (zz_R Z).cells (zz_R Z).slots (cA X μ0 (zz_s Z).heap.size))  : ∀ l0 l1 l2 s0 s1 b μ, wc_X9_writeIn_12 X rc Q l0 l1 l2 s0 s1 b μ → ∀ kk nn, (kk + b ≤ (zz_R Z).cells ∧ nn + 5 * b ≤ (zz_R Z).slots) → hG Z 3 (cI Z X μ0 μ) kk nn 12 [(0, aR l0), (1, aR l1), (2, aI l2)] [aR s1, aR s0] := by
  intro l0 l1 l2 s0 s1 b μ hw kk nn hb
  unfold wc_X9_writeIn_12 at hw
  obtain ⟨a1, ha2, hw⟩ := hw
  rw [ha2]
  obtain ⟨b3, hu4, hw⟩ := hw
  obtain ⟨ht7, hw⟩ := hw
  refine fun H locs hI ls hl => cx_rr (S := []) hI hl (fun _ h => h) (cr_V (Cn := RJ9) (As := [toV (aR s1)]) (rest := []) C hK hI hl 1 (cv_dyn hK hI (ci := 11) rfl (Or.inr (cdE_11 ht7))) (sc_J9_append_2 _ X H.size _ b3 _ _ _ hw) (lw_V q1002 q1003 q1004 q105 q1005) (by decide +kernel) ⟨rfl, rfl, by (dsimp only; omega), by (dsimp only; omega)⟩ (av_W [] 8 (Nat.le_of_ble_eq_true rfl)) dX9_writeIn_12 rfl rfl ⟨by omega, by omega⟩) (fun r5 μ6 hw => ?_)
  obtain hb : (kk + b3) + (b - b3) ≤ (zz_R Z).cells ∧ (nn + 5 * b3) + 5 * (b - b3) ≤ (zz_R Z).slots := ⟨by omega, by omega⟩
  refine hx_pop C dX9_writeIn_15 rfl ?_
  refine hx_aload_n C dX9_writeIn_16 1 rfl rfl ?_
  refine hx_aload_n C dX9_writeIn_17 0 rfl rfl ?_
  obtain ⟨a8, ha9, hw⟩ := hw
  rw [ha9]
  obtain ⟨b10, hu11, hw⟩ := hw
  refine fun H locs hI ls hl => cx_rv (S := []) hI hl (fun _ h => h) (dv_write (rest := []) C hK hI hl hrc hw (by omega) (by omega) (C.w _ q1041) (av_W [] 8 (Nat.le_of_ble_eq_true rfl)) dX9_writeIn_18 rfl rfl ⟨by omega, by omega⟩) (fun μ13 hw => ?_)
  obtain hb : ((kk + b3) + b10) + ((b - b3) - b10) ≤ (zz_R Z).cells ∧ ((nn + 5 * b3) + 5 * b10) + 5 * ((b - b3) - b10) ≤ (zz_R Z).slots := ⟨by omega, by omega⟩
  refine hx_aload_n C dX9_writeIn_21 0 rfl rfl ?_
  refine hx_iload_n C dX9_writeIn_22 2 rfl rfl ?_
  obtain ⟨hr14, hw⟩ := hw
  refine hx_if_eq (tgt := 31) C dX9_writeIn_23 (by decide) hr14 (fun h => ?_) (fun h => ?_)
  · have hw := hw.1 h
    refine cx_ldcS (num := 5) (tx := "") C hK (List.mem_of_getElem? (i := 23) rfl) dX9_writeIn_31 ?_
    refine hx_L [] rfl ?_
    exact sc_X9_writeIn_33 hA hB C hK hrc hQ  _ _ _ _ hw _ _ hb
  · have hw := hw.2 h
    refine cx_ldcS (num := 9) (tx := ")") C hK (List.mem_of_getElem? (i := 24) rfl) dX9_writeIn_26 ?_
    refine hx_goto (tgt := 33) C dX9_writeIn_28 (by decide) ?_
    refine hx_L [] rfl ?_
    exact sc_X9_writeIn_33 hA hB C hK hrc hQ  _ _ _ _ hw _ _ hb
def wc_X9_writeIn (X : cX) (rc : Nat → Nat → Option Nat → CM → (CM → Prop) → Prop) (b : Nat) (l0 : Option Nat) (l1 : Option Nat) (l2 : Int) (μ : CM) (Q : CM → Prop) : Prop := R32 l2 ∧ ((l2 = 0 → wc_X9_writeIn_12 X rc  Q l0 l1 l2 l0 (some (cX_s X 5)) b μ) ∧ (¬ l2 = 0 → wc_X9_writeIn_12 X rc  Q l0 l1 l2 l0 (some (cX_s X 8)) b μ))
set_option maxHeartbeats 4000000 in
theorem sc_X9_writeIn (l : Launch) (X : cX) (sz : Nat) (Q : CM → Prop) {rc : Nat → Nat → Option Nat → CM → (CM → Prop) → Prop} {fr lo : Nat} (hA : 7 ≤ fr) (hB : 164 ≤ lo) (hrc : rmet_V_write l X fr lo rc) (b : Nat) (l0 : Option Nat) (l1 : Option Nat) (l2 : Int) (μ : CM) (hw : wc_X9_writeIn X rc b l0 l1 l2 μ Q) : Met l yX9_writeIn (ws_ yX9_writeIn cX9_writeIn 3 none) ({ frames := (fr + 0), cells := b, slots := 5 * b, locals := (lo + 0) }) (cPc X (([aR l0, aR l1, aI l2] : List AV).map toV) μ sz) (cQv X μ sz Q) b (5 * b) (cA X μ sz) := by
  refine cx_met2 (rm := ({ frames := (fr + 0), cells := b, slots := 5 * b, locals := (lo + 0) })) (As := [aR l0, aR l1, aI l2]) (L0 := [(0, aR l0), (1, aR l1), (2, aI l2)]) (by decide) rfl (Nat.le_of_ble_eq_true rfl) rfl ?_
  intro Z C hK hsz hR hl0 hin hQ
  subst hsz
  have C : gC Z cX9_writeIn 3 RX9 none (fr + 0) (lo + 0) := C
  rw [← hl0] at hrc
  have hQ : zz_q Z = MQ (zz_b Z) (cQv X μ (zz_s Z).heap.size Q) (zz_a Z) (zz_s Z) (zz_R Z).cells (zz_R Z).slots (cA X μ (zz_s Z).heap.size) := by rw [hR]; exact hQ
  have hb : 0 + b ≤ (zz_R Z).cells ∧ 0 + 5 * b ≤ (zz_R Z).slots := by rw [hR]; exact ⟨by dsimp only; omega, by dsimp only; omega⟩
  unfold wc_X9_writeIn at hw
  refine hx_aload_n C dX9_writeIn_0 0 rfl rfl ?_
  refine hx_iload_n C dX9_writeIn_1 2 rfl rfl ?_
  obtain ⟨hr1, hw⟩ := hw
  refine hx_if_eq (tgt := 10) C dX9_writeIn_2 (by decide) hr1 (fun h => ?_) (fun h => ?_)
  · have hw := hw.1 h
    refine cx_ldcS (num := 5) (tx := "") C hK (List.mem_of_getElem? (i := 23) rfl) dX9_writeIn_10 ?_
    refine hx_L [0, 1, 2] rfl ?_
    exact sc_X9_writeIn_12 hA hB C hK hrc hQ  _ _ _ _ _ _ _ hw _ _ hb
  · have hw := hw.2 h
    refine cx_ldcS (num := 8) (tx := "(") C hK (List.mem_of_getElem? (i := 22) rfl) dX9_writeIn_5 ?_
    refine hx_goto (tgt := 12) C dX9_writeIn_7 (by decide) ?_
    refine hx_L [0, 1, 2] rfl ?_
    exact sc_X9_writeIn_12 hA hB C hK hrc hQ  _ _ _ _ _ _ _ hw _ _ hb
-- ('BinderPress$Put', 'write', '(Ljava/lang/StringBuilder;)V')
def wc_X9_write (X : cX) (rc : Nat → Nat → Option Nat → CM → (CM → Prop) → Prop) (b : Nat) (l0 : Nat) (l1 : Option Nat) (μ : CM) (Q : CM → Prop) : Prop := (tg μ l0 = 8 ∧ ∃ a2, (oR μ l0 0) = some a2 ∧ wv_isBinder X a2 μ (fun r4 μ5 => (∃ b6, b6 ≤ b ∧ wc_X9_writeIn X rc b6 l1 (some a2) r4 μ5 (fun μ9 => (tg μ9 l0 = 8 ∧ ∃ a11, (oR μ9 l0 1) = some a11 ∧ wv_isBracketed X a11 μ9 (fun r13 μ14 => (∃ b15, b15 ≤ (b - b6) ∧ wc_X9_writeIn X rc b15 l1 (some a11) r13 μ14 (fun μ18 => Q μ18))))))))
set_option maxHeartbeats 4000000 in
theorem sc_X9_write (l : Launch) (X : cX) (sz : Nat) (Q : CM → Prop) {rc : Nat → Nat → Option Nat → CM → (CM → Prop) → Prop} {fr lo : Nat} (hA : 7 ≤ fr) (hB : 164 ≤ lo) (hrc : rmet_V_write l X fr lo rc) (b : Nat) (l0 : Nat) (l1 : Option Nat) (μ : CM) (hw : wc_X9_write X rc b l0 l1 μ Q) : Met l yX9_write (ws_ yX9_write cX9_write 2 none) ({ frames := (fr + 1), cells := b, slots := 5 * b, locals := (lo + 22) }) (cPc X (([aR (some l0), aR l1] : List AV).map toV) μ sz) (cQv X μ sz Q) b (5 * b) (cA X μ sz) := by
  refine cx_met2 (rm := ({ frames := (fr + 1), cells := b, slots := 5 * b, locals := (lo + 22) })) (As := [aR (some l0), aR l1]) (L0 := [(0, aR (some l0)), (1, aR l1)]) (by decide) rfl (Nat.le_of_ble_eq_true rfl) rfl ?_
  intro Z C hK hsz hR hl0 hin hQ
  subst hsz
  have C : gC Z cX9_write 2 RX9 none (fr + 1) (lo + 22) := C
  rw [← hl0] at hrc
  have hQ : zz_q Z = MQ (zz_b Z) (cQv X μ (zz_s Z).heap.size Q) (zz_a Z) (zz_s Z) (zz_R Z).cells (zz_R Z).slots (cA X μ (zz_s Z).heap.size) := by rw [hR]; exact hQ
  have hb : 0 + b ≤ (zz_R Z).cells ∧ 0 + 5 * b ≤ (zz_R Z).slots := by rw [hR]; exact ⟨by dsimp only; omega, by dsimp only; omega⟩
  unfold wc_X9_write at hw
  refine hx_aload_n C dX9_write_0 1 rfl rfl ?_
  refine hx_aload_n C dX9_write_1 0 rfl rfl ?_
  obtain ⟨ht1, hw⟩ := hw
  refine cx_get (μ := μ) (v := aR (oR μ l0 0)) C hK 7 0 rfl in_X9 (by decide) q459 rfl (cdE_7 ht1) rfl dX9_write_2 ?_
  refine hx_aload_n C dX9_write_5 0 rfl rfl ?_
  refine cx_get (μ := μ) (v := aR (oR μ l0 0)) C hK 7 0 rfl in_X9 (by decide) q459 rfl (cdE_7 ht1) rfl dX9_write_6 ?_
  obtain ⟨a2, ha3, hw⟩ := hw
  rw [ha3]
  refine fun H locs hI ls hl => cx_ri (S := [aR (some a2), aR l1]) hI hl (fun _ h => h) (dv_isBinder (rest := [toV (aR (some a2)), toV (aR l1)]) C hK hI hl (rr_V_isBinder _ X) hw (by omega) (by omega) (C.w _ q986) (av_W [aR (some a2), aR l1] 8 (Nat.le_of_ble_eq_true rfl)) dX9_write_9 rfl rfl ⟨by omega, by omega⟩) (fun r4 μ5 hw => ?_)
  obtain ⟨b6, hu7, hw⟩ := hw
  refine fun H locs hI ls hl => cx_rv (S := []) hI hl (fun _ h => h) (cr_S (As := [toV (aR l1), toV (aR (some a2)), toV (aI r4)]) (rest := []) C hK hI hl 3 (sc_X9_writeIn _ X H.size _ hA hB hrc b6 _ _ _ _ hw) (lw_S q997 q998 q96 q999) (by decide +kernel) ⟨rfl, rfl, by (dsimp only; omega), by (dsimp only; omega)⟩ (av_W [] 8 (Nat.le_of_ble_eq_true rfl)) dX9_write_12 rfl rfl ⟨by omega, by omega⟩) (fun μ9 hw => ?_)
  obtain hb : (0 + b6) + (b - b6) ≤ (zz_R Z).cells ∧ (0 + 5 * b6) + 5 * (b - b6) ≤ (zz_R Z).slots := ⟨by omega, by omega⟩
  refine hx_aload_n C dX9_write_15 1 rfl rfl ?_
  refine hx_aload_n C dX9_write_16 0 rfl rfl ?_
  obtain ⟨ht10, hw⟩ := hw
  refine cx_get (μ := μ9) (v := aR (oR μ9 l0 1)) C hK 7 1 rfl in_X9 (by decide) q462 rfl (cdE_7 ht10) rfl dX9_write_17 ?_
  refine hx_aload_n C dX9_write_20 0 rfl rfl ?_
  refine cx_get (μ := μ9) (v := aR (oR μ9 l0 1)) C hK 7 1 rfl in_X9 (by decide) q462 rfl (cdE_7 ht10) rfl dX9_write_21 ?_
  obtain ⟨a11, ha12, hw⟩ := hw
  rw [ha12]
  refine fun H locs hI ls hl => cx_ri (S := [aR (some a11), aR l1]) hI hl (fun _ h => h) (dv_isBracketed (rest := [toV (aR (some a11)), toV (aR l1)]) C hK hI hl (rr_V_isBracketed _ X) hw (by omega) (by omega) (C.w _ q1046) (av_W [aR (some a11), aR l1] 8 (Nat.le_of_ble_eq_true rfl)) dX9_write_24 rfl rfl ⟨by omega, by omega⟩) (fun r13 μ14 hw => ?_)
  obtain ⟨b15, hu16, hw⟩ := hw
  refine fun H locs hI ls hl => cx_rv (S := []) hI hl (fun _ h => h) (cr_S (As := [toV (aR l1), toV (aR (some a11)), toV (aI r13)]) (rest := []) C hK hI hl 3 (sc_X9_writeIn _ X H.size _ hA hB hrc b15 _ _ _ _ hw) (lw_S q997 q998 q96 q999) (by decide +kernel) ⟨rfl, rfl, by (dsimp only; omega), by (dsimp only; omega)⟩ (av_W [] 8 (Nat.le_of_ble_eq_true rfl)) dX9_write_27 rfl rfl ⟨by omega, by omega⟩) (fun μ18 hw => ?_)
  obtain hb : ((0 + b6) + b15) + ((b - b6) - b15) ≤ (zz_R Z).cells ∧ ((0 + 5 * b6) + 5 * b15) + 5 * ((b - b6) - b15) ≤ (zz_R Z).slots := ⟨by omega, by omega⟩
  exact cx_vret C hQ (by omega) (by omega) hw dX9_write_30
-- write
def wd_write (X : cX) (rc : Nat → Nat → Option Nat → CM → (CM → Prop) → Prop) : Nat → Nat → Option Nat → CM → (CM → Prop) → Prop := fun b a l1 μ Q => (tg μ a = 6 ∧ wc_X7_write X b a l1 μ Q) ∨ (tg μ a = 7 ∧ wc_X8_write X b a l1 μ Q) ∨ (tg μ a = 8 ∧ wc_X9_write X rc b a l1 μ Q) ∨ (tg μ a = 5 ∧ wc_X6_write X rc b a l1 μ Q)
def wr_V_write (X : cX) : Nat → Nat → Nat → Option Nat → CM → (CM → Prop) → Prop
  | 0 => fun _ _ _ _ _ => False
  | d + 1 => wd_write X (wr_V_write X d)
set_option maxHeartbeats 4000000 in
theorem rr_V_write (l : Launch) (X : cX) : ∀ d, rmet_V_write l X (7 + 2 * d) (164 + 43 * d) (wr_V_write X d) := by
  intro d
  induction d with
  | zero => intro b a l1 μ sz Q h; exact h.elim
  | succ d ih =>
    intro b a l1 μ sz Q h
    rcases h with ⟨ht, hw⟩ | ⟨ht, hw⟩ | ⟨ht, hw⟩ | ⟨ht, hw⟩
    · exact Or.inl (⟨ht, _, ⟨rfl, rfl, by first | omega | (dsimp only; omega), by first | omega | (dsimp only; omega)⟩, sc_X7_write l X sz Q b _ _ _ hw⟩)
    · exact Or.inr (Or.inl (⟨ht, _, ⟨rfl, rfl, by first | omega | (dsimp only; omega), by first | omega | (dsimp only; omega)⟩, sc_X8_write l X sz Q b _ _ _ hw⟩))
    · exact Or.inr (Or.inr (Or.inl (⟨ht, _, ⟨rfl, rfl, by first | omega | (dsimp only; omega), by first | omega | (dsimp only; omega)⟩, sc_X9_write l X sz Q (by omega) (by omega) ih b _ _ _ hw⟩)))
    · exact Or.inr (Or.inr (Or.inr (⟨ht, _, ⟨rfl, rfl, by first | omega | (dsimp only; omega), by first | omega | (dsimp only; omega)⟩, sc_X6_write l X sz Q (by omega) (by omega) ih b _ _ _ hw⟩)))
-- ('BinderPress', 'isIn', '(III)Z')
def wc_X0_isIn_15 (X : cX) (Q : Int → CM → Prop) (s0 : Int) (μ : CM) : Prop := (s0 = 0 ∨ s0 = 1) ∧ Q s0 μ
set_option maxHeartbeats 4000000 in
theorem sc_X0_isIn_15 {Z : zz} {X : cX} {μ0 : CM} {Q : Int → CM → Prop} (C : gC Z cX0_isIn 3 RX0 (some .boolean) 0 0) (hK : cCt Z X μ0) (hQ : zz_q Z = MQ (zz_b Z) (cQi X μ0 (zz_s Z).heap.size Q) (zz_a Z) (zz_s Z) (zz_R Z).cells (zz_R Z).slots (cA X μ0 (zz_s Z).heap.size))  : ∀ s0 μ, wc_X0_isIn_15 X Q s0 μ → hG Z 3 (cI Z X μ0 μ) 0 0 15 [] [aI s0] := by
  intro s0 μ hw
  unfold wc_X0_isIn_15 at hw
  obtain ⟨hz, hw⟩ := hw
  exact cx_iret C hQ (by omega) (by omega) (mz_n hz) hw dX0_isIn_15
def wc_X0_isIn_14 (X : cX) (Q : Int → CM → Prop) (μ : CM) : Prop := wc_X0_isIn_15 X   Q 0 μ
set_option maxHeartbeats 4000000 in
theorem sc_X0_isIn_14 {Z : zz} {X : cX} {μ0 : CM} {Q : Int → CM → Prop} (C : gC Z cX0_isIn 3 RX0 (some .boolean) 0 0) (hK : cCt Z X μ0) (hQ : zz_q Z = MQ (zz_b Z) (cQi X μ0 (zz_s Z).heap.size Q) (zz_a Z) (zz_s Z) (zz_R Z).cells (zz_R Z).slots (cA X μ0 (zz_s Z).heap.size))  : ∀ μ, wc_X0_isIn_14 X Q μ → hG Z 3 (cI Z X μ0 μ) 0 0 14 [] [] := by
  intro μ hw
  unfold wc_X0_isIn_14 at hw
  refine hx_iconst C dX0_isIn_14 ?_
  refine hx_L [] rfl ?_
  exact sc_X0_isIn_15 C hK hQ  _ _ hw
def wc_X0_isIn (X : cX) (l0 : Int) (l1 : Int) (l2 : Int) (μ : CM) (Q : Int → CM → Prop) : Prop := R32 l0 ∧ R32 l1 ∧ ((l0 < l1 → wc_X0_isIn_14 X   Q μ) ∧ (l1 ≤ l0 → R32 l0 ∧ R32 l2 ∧ ((l2 < l0 → wc_X0_isIn_14 X   Q μ) ∧ (l0 ≤ l2 → wc_X0_isIn_15 X   Q 1 μ))))
set_option maxHeartbeats 4000000 in
theorem sc_X0_isIn (l : Launch) (X : cX) (sz : Nat) (Q : Int → CM → Prop) (l0 : Int) (l1 : Int) (l2 : Int) (μ : CM) (hw : wc_X0_isIn X l0 l1 l2 μ Q) : Met l yX0_isIn (ws_ yX0_isIn cX0_isIn 3 (some .boolean)) ({ frames := 0, cells := 0, slots := 0, locals := 0 }) (cPc X (([aI l0, aI l1, aI l2] : List AV).map toV) μ sz) (cQi X μ sz Q) 0 (0) (cA X μ sz) := by
  refine cx_met2 (rm := ({ frames := 0, cells := 0, slots := 0, locals := 0 })) (As := [aI l0, aI l1, aI l2]) (L0 := [(0, aI l0), (1, aI l1), (2, aI l2)]) (by decide) rfl (Nat.le_of_ble_eq_true rfl) rfl ?_
  intro Z C hK hsz hR hl0 hin hQ
  subst hsz
  have C : gC Z cX0_isIn 3 RX0 (some .boolean) 0 0 := C
  have hQ : zz_q Z = MQ (zz_b Z) (cQi X μ (zz_s Z).heap.size Q) (zz_a Z) (zz_s Z) (zz_R Z).cells (zz_R Z).slots (cA X μ (zz_s Z).heap.size) := by rw [hR]; exact hQ
  unfold wc_X0_isIn at hw
  refine hx_iload_n C dX0_isIn_0 0 rfl rfl ?_
  refine hx_iload_n C dX0_isIn_1 1 rfl rfl ?_
  obtain ⟨hr1, hw⟩ := hw
  obtain ⟨hr2, hw⟩ := hw
  refine hx_icmp_lt (tgt := 14) C dX0_isIn_2 (by decide) hr1 hr2 (fun h => ?_) (fun h => ?_)
  · have hw := hw.1 h
    refine hx_L [] rfl ?_
    exact sc_X0_isIn_14 C hK hQ  _ hw
  · have hw := hw.2 h
    refine hx_iload_n C dX0_isIn_5 0 rfl rfl ?_
    refine hx_iload_n C dX0_isIn_6 2 rfl rfl ?_
    obtain ⟨hr3, hw⟩ := hw
    obtain ⟨hr4, hw⟩ := hw
    refine hx_icmp_gt (tgt := 14) C dX0_isIn_7 (by decide) hr3 hr4 (fun h => ?_) (fun h => ?_)
    · have hw := hw.1 h
      refine hx_L [] rfl ?_
      exact sc_X0_isIn_14 C hK hQ  _ hw
    · have hw := hw.2 h
      refine hx_iconst C dX0_isIn_10 ?_
      refine hx_goto (tgt := 15) C dX0_isIn_11 (by decide) ?_
      refine hx_L [] rfl ?_
      exact sc_X0_isIn_15 C hK hQ  _ _ hw
-- ('BinderPress', 'feed', '(I)I')
def wc_X0_feed (X : cX) (l1 : Int) (μ : CM) (Q : Int → CM → Prop) : Prop := wc_X0_isIn X l1 0 255 μ (fun r1 μ2 => R32 r1 ∧ ((¬ r1 = 0 → R32 (kI μ2 7 0) ∧ ((¬ (kI μ2 7 0) = 240 → (0 ≤ (kI μ2 7 0) ∧ (kI μ2 7 0) < 240) ∧ Q ((kI μ2 7 0) + 1) (pkI (pkI μ2 6 ((kI μ2 7 0)).toNat (io_byte (io_byte l1))) 7 0 ((kI μ2 7 0) + 1))) ∧ ((kI μ2 7 0) = 240 → Q (-1000000004) μ2))) ∧ (r1 = 0 → Q (-1000000002) μ2)))
set_option maxHeartbeats 4000000 in
theorem sc_X0_feed (l : Launch) (X : cX) (sz : Nat) (Q : Int → CM → Prop) (l1 : Int) (μ : CM) (hw : wc_X0_feed X l1 μ Q) : Met l yX0_feed (ws_ yX0_feed cX0_feed 2 (some .int)) ({ frames := 1, cells := 0, slots := 0, locals := 30 }) (cPc X (([aR (some (cX_h X)), aI l1] : List AV).map toV) μ sz) (cQi X μ sz Q) 0 (0) (cA X μ sz) := by
  refine cx_met2 (rm := ({ frames := 1, cells := 0, slots := 0, locals := 30 })) (As := [aR (some (cX_h X)), aI l1]) (L0 := [(0, aR (some (cX_h X))), (1, aI l1)]) (by decide) rfl (Nat.le_of_ble_eq_true rfl) rfl ?_
  intro Z C hK hsz hR hl0 hin hQ
  subst hsz
  have C : gC Z cX0_feed 2 RX0 (some .int) 1 30 := C
  have hQ : zz_q Z = MQ (zz_b Z) (cQi X μ (zz_s Z).heap.size Q) (zz_a Z) (zz_s Z) (zz_R Z).cells (zz_R Z).slots (cA X μ (zz_s Z).heap.size) := by rw [hR]; exact hQ
  unfold wc_X0_feed at hw
  refine hx_iload_n C dX0_feed_0 1 rfl rfl ?_
  refine hx_iconst C dX0_feed_1 ?_
  refine hx_sipush C dX0_feed_2 (by decide) ?_
  refine fun H locs hI ls hl => cx_ri (S := []) hI hl (fun _ h => h) (cr_S (As := [toV (aI l1), toV (aI 0), toV (aI 255)]) (rest := []) C hK hI hl 3 (sc_X0_isIn _ X H.size _ _ _ _ _ hw) (lw_S q205 q206 q84 q207) (by decide +kernel) ⟨rfl, rfl, Nat.le_of_ble_eq_true rfl, Nat.le_of_ble_eq_true rfl⟩ (av_W [] 8 (Nat.le_of_ble_eq_true rfl)) dX0_feed_5 rfl rfl ⟨by omega, by omega⟩) (fun r1 μ2 hw => ?_)
  obtain ⟨hr3, hw⟩ := hw
  refine hx_if_ne (tgt := 14) C dX0_feed_8 (by decide) hr3 (fun h => ?_) (fun h => ?_)
  · have hw := hw.1 h
    refine hx_aload_n C dX0_feed_14 0 rfl rfl ?_
    refine cx_getS (μ := μ2) (v := aI (kI μ2 7 0)) C hK 0 7 rfl in_X0 (by decide) q173 rfl rfl rfl dX0_feed_15 ?_
    refine hx_sipush C dX0_feed_18 (by decide) ?_
    obtain ⟨hr4, hw⟩ := hw
    refine hx_icmp_ne (tgt := 27) C dX0_feed_21 (by decide) hr4 (by decide) (fun h => ?_) (fun h => ?_)
    · have hw := hw.1 h
      refine hx_aload_n C dX0_feed_27 0 rfl rfl ?_
      refine cx_getS (μ := μ2) (v := aR (some (cX_a X 6))) C hK 0 6 rfl in_X0 (by decide) q172 rfl rfl rfl dX0_feed_28 ?_
      refine hx_aload_n C dX0_feed_31 0 rfl rfl ?_
      refine cx_getS (μ := μ2) (v := aI (kI μ2 7 0)) C hK 0 7 rfl in_X0 (by decide) q173 rfl rfl rfl dX0_feed_32 ?_
      refine hx_iload_n C dX0_feed_35 1 rfl rfl ?_
      refine hx_i2b C dX0_feed_36 ?_
      obtain ⟨hx5, hw⟩ := hw
      refine cx_bast (μ := μ2) (μ' := (pkI μ2 6 ((kI μ2 7 0)).toNat (io_byte (io_byte l1)))) C hK (cu_S 6 rfl (csb_6 X _ _ _) rfl rfl rfl rfl) hx5.1 hx5.2 (by decide) dX0_feed_37 ?_
      refine hx_aload_n C dX0_feed_38 0 rfl rfl ?_
      refine hx_dup C dX0_feed_39 rfl ?_
      refine cx_getS (μ := (pkI μ2 6 ((kI μ2 7 0)).toNat (io_byte (io_byte l1)))) (v := aI (kI μ2 7 0)) C hK 0 7 rfl in_X0 (by decide) q173 rfl rfl rfl dX0_feed_40 ?_
      refine hx_iconst C dX0_feed_43 ?_
      refine hx_iadd C dX0_feed_44 ?_
      refine cx_putS C hK 0 7 (by decide) rfl in_X0 tyX0_ok nmX0 (by decide) q173 rfl rfl rfl (Nat.le_of_ble_eq_true rfl) ⟨rfl, rfl⟩ (csb_7 X _ _) rfl rfl rfl rfl dX0_feed_45 ?_
      refine hx_aload_n C dX0_feed_48 0 rfl rfl ?_
      refine cx_getS (μ := (pkI (pkI μ2 6 ((kI μ2 7 0)).toNat (io_byte (io_byte l1))) 7 0 ((kI μ2 7 0) + 1))) (v := aI ((kI μ2 7 0) + 1)) C hK 0 7 rfl in_X0 (by decide) q173 rfl rfl rfl dX0_feed_49 ?_
      exact cx_iret C hQ (by omega) (by omega) rfl hw dX0_feed_52
    · have hw := hw.2 h
      refine hx_ldc C (-1000000004) q209 (by decide) dX0_feed_24 ?_
      exact cx_iret C hQ (by omega) (by omega) rfl hw dX0_feed_26
  · have hw := hw.2 h
    refine hx_ldc C (-1000000002) q208 (by decide) dX0_feed_11 ?_
    exact cx_iret C hQ (by omega) (by omega) rfl hw dX0_feed_13
