/-! walks of the component (printed by gen_comp) -/
set_option maxRecDepth 100000
-- ('BinderPress$Sign', 'out', '(I)LBinderPress$Term;')
def wc_X8_out (X : cX) (b : Nat) (l0 : Nat) (l1 : Int) (μ : CM) (Q : Option Nat → CM → Prop) : Prop := (1 ≤ b ∧ ∀ a2, tg μ a2 = 0 → ∃ b5, b5 ≤ (b - 1) ∧ wc_X0_signOf X b5 75 (alc μ a2 8 0) (fun r7 μ8 => wc_X9_init X a2 r7 (some l0) μ8 (fun μ10 => Q (some a2) μ10)))
set_option maxHeartbeats 4000000 in
theorem sc_X8_out (l : Launch) (X : cX) (sz : Nat) (Q : Option Nat → CM → Prop) (b : Nat) (l0 : Nat) (l1 : Int) (μ : CM) (hw : wc_X8_out X b l0 l1 μ Q) : Met l yX8_out (ws_ yX8_out cX8_out 2 (some (.object "BinderPress$Term"))) ({ frames := 132, cells := b, slots := 5 * b, locals := 2642 }) (cPc X (([aR (some l0), aI l1] : List AV).map toV) μ sz) (cQr X μ sz Q) b (5 * b) (cA X μ sz) := by
  refine cx_met2 (rm := ({ frames := 132, cells := b, slots := 5 * b, locals := 2642 })) (As := [aR (some l0), aI l1]) (L0 := [(0, aR (some l0)), (1, aI l1)]) (by decide) rfl (Nat.le_of_ble_eq_true rfl) rfl ?_
  intro Z C hK hsz hR hl0 hin hQ
  subst hsz
  have C : gC Z cX8_out 2 RX8 (some (.object "BinderPress$Term")) 132 2642 := C
  have hQ : zz_q Z = MQ (zz_b Z) (cQr X μ (zz_s Z).heap.size Q) (zz_a Z) (zz_s Z) (zz_R Z).cells (zz_R Z).slots (cA X μ (zz_s Z).heap.size) := by rw [hR]; exact hQ
  have hb : 0 + b ≤ (zz_R Z).cells ∧ 0 + 5 * b ≤ (zz_R Z).slots := by rw [hR]; exact ⟨by dsimp only; omega, by dsimp only; omega⟩
  unfold wc_X8_out at hw
  obtain ⟨hu1, hw⟩ := hw
  refine cx_new (fs := fun a => coF_7 (alc μ a 8 0) a) C hK 7 8 rfl in_X9 tyX9_ok q556 q420 q96 (by decide) (fun a => cdE_7 alc_t) (cxd_7 _) (by omega) (by omega) dX8_out_0 (fun a2 hf3 => ?_)
  have hw := hw a2 hf3
  obtain hb : (0 + 1) + (b - 1) ≤ (zz_R Z).cells ∧ (0 + 5) + 5 * (b - 1) ≤ (zz_R Z).slots := ⟨by omega, by omega⟩
  have ht4 : tg (alc μ a2 8 0) a2 = 8 := alc_t
  refine hx_dup C dX8_out_3 rfl ?_
  refine hx_bipush C dX8_out_4 (by decide) ?_
  obtain ⟨b5, hu6, hw⟩ := hw
  refine fun H locs hI ls hl => cx_rr (S := [aR (some a2), aR (some a2)]) hI hl (fun _ h => h) (cr_SN (As := [toV (aI 75)]) (rest := [toV (aR (some a2)), toV (aR (some a2))]) C hK hI hl 1 (sc_X0_signOf _ X H.size _ b5 _ _ hw) (List.mem_of_getElem? (i := 59) rfl) q400 q84 q401 (by decide +kernel) ⟨rfl, rfl, Nat.le_of_ble_eq_true rfl, Nat.le_of_ble_eq_true rfl⟩ (av_W [aR (some a2), aR (some a2)] 8 (Nat.le_of_ble_eq_true rfl)) dX8_out_6 rfl rfl ⟨by omega, by omega⟩) (fun r7 μ8 hw => ?_)
  obtain hb : ((0 + 1) + b5) + ((b - 1) - b5) ≤ (zz_R Z).cells ∧ ((0 + 5) + 5 * b5) + 5 * ((b - 1) - b5) ≤ (zz_R Z).slots := ⟨by omega, by omega⟩
  refine hx_aload_n C dX8_out_9 0 rfl rfl ?_
  refine fun H locs hI ls hl => cx_rv (S := [aR (some a2)]) hI hl (fun _ h => h) (cr_I (a := a2) (As := [toV (aR r7), toV (aR (some l0))]) (rest := [toV (aR (some a2))]) C hK hI hl 2 (sc_X9_init _ X H.size _ _ _ _ _ hw) q558 q422 q96 q423 rfl (by decide +kernel) ⟨rfl, rfl, Nat.le_of_ble_eq_true rfl, Nat.le_of_ble_eq_true rfl⟩ (av_W [aR (some a2)] 8 (Nat.le_of_ble_eq_true rfl)) dX8_out_10 rfl rfl ⟨by omega, by omega⟩) (fun μ10 hw => ?_)
  exact cx_aret C hQ (by omega) (by omega) (Or.inl ⟨_, rfl⟩) hw dX8_out_13
-- ('BinderPress', 'puts', '(LBinderPress$Term;LBinderPress$Term;LBinderPress$Term;)LBinderPress$Term;')
def wc_X0_puts (X : cX) (b : Nat) (l0 : Option Nat) (l1 : Option Nat) (l2 : Option Nat) (μ : CM) (Q : Option Nat → CM → Prop) : Prop := 1 ≤ b ∧ ∀ a2, tg μ a2 = 0 → 1 ≤ (b - 1) ∧ ∀ a6, tg (alc μ a2 8 0) a6 = 0 → wc_X9_init X a6 l0 l1 (alc (alc μ a2 8 0) a6 8 0) (fun μ11 => wc_X9_init X a2 (some a6) l2 μ11 (fun μ13 => Q (some a2) μ13))
set_option maxHeartbeats 4000000 in
theorem sc_X0_puts (l : Launch) (X : cX) (sz : Nat) (Q : Option Nat → CM → Prop) (b : Nat) (l0 : Option Nat) (l1 : Option Nat) (l2 : Option Nat) (μ : CM) (hw : wc_X0_puts X b l0 l1 l2 μ Q) : Met l yX0_puts (ws_ yX0_puts cX0_puts 3 (some (.object "BinderPress$Term"))) ({ frames := 132, cells := b, slots := 5 * b, locals := 2642 }) (cPc X (([aR l0, aR l1, aR l2] : List AV).map toV) μ sz) (cQr X μ sz Q) b (5 * b) (cA X μ sz) := by
  refine cx_met2 (rm := ({ frames := 132, cells := b, slots := 5 * b, locals := 2642 })) (As := [aR l0, aR l1, aR l2]) (L0 := [(0, aR l0), (1, aR l1), (2, aR l2)]) (by decide) rfl (Nat.le_of_ble_eq_true rfl) rfl ?_
  intro Z C hK hsz hR hl0 hin hQ
  subst hsz
  have C : gC Z cX0_puts 3 RX0 (some (.object "BinderPress$Term")) 132 2642 := C
  have hQ : zz_q Z = MQ (zz_b Z) (cQr X μ (zz_s Z).heap.size Q) (zz_a Z) (zz_s Z) (zz_R Z).cells (zz_R Z).slots (cA X μ (zz_s Z).heap.size) := by rw [hR]; exact hQ
  have hb : 0 + b ≤ (zz_R Z).cells ∧ 0 + 5 * b ≤ (zz_R Z).slots := by rw [hR]; exact ⟨by dsimp only; omega, by dsimp only; omega⟩
  unfold wc_X0_puts at hw
  obtain ⟨hu1, hw⟩ := hw
  refine cx_new (fs := fun a => coF_7 (alc μ a 8 0) a) C hK 7 8 rfl in_X9 tyX9_ok q562 q420 q96 (by decide) (fun a => cdE_7 alc_t) (cxd_7 _) (by omega) (by omega) dX0_puts_0 (fun a2 hf3 => ?_)
  have hw := hw a2 hf3
  obtain hb : (0 + 1) + (b - 1) ≤ (zz_R Z).cells ∧ (0 + 5) + 5 * (b - 1) ≤ (zz_R Z).slots := ⟨by omega, by omega⟩
  have ht4 : tg (alc μ a2 8 0) a2 = 8 := alc_t
  refine hx_dup C dX0_puts_3 rfl ?_
  obtain ⟨hu5, hw⟩ := hw
  refine cx_new (fs := fun a => coF_7 (alc (alc μ a2 8 0) a 8 0) a) C hK 7 8 rfl in_X9 tyX9_ok q562 q420 q96 (by decide) (fun a => cdE_7 alc_t) (cxd_7 _) (by omega) (by omega) dX0_puts_4 (fun a6 hf7 => ?_)
  have hw := hw a6 hf7
  obtain hb : ((0 + 1) + 1) + ((b - 1) - 1) ≤ (zz_R Z).cells ∧ ((0 + 5) + 5) + 5 * ((b - 1) - 1) ≤ (zz_R Z).slots := ⟨by omega, by omega⟩
  have ht8 := alc_kp (t := 8) (m := 0) hf7 ht4 (by decide)
  have ht9 : tg (alc (alc μ a2 8 0) a6 8 0) a6 = 8 := alc_t
  refine hx_dup C dX0_puts_7 rfl ?_
  refine hx_aload_n C dX0_puts_8 0 rfl rfl ?_
  refine hx_aload_n C dX0_puts_9 1 rfl rfl ?_
  refine fun H locs hI ls hl => cx_rv (S := [aR (some a6), aR (some a2), aR (some a2)]) hI hl (fun _ h => h) (cr_I (a := a6) (As := [toV (aR l0), toV (aR l1)]) (rest := [toV (aR (some a6)), toV (aR (some a2)), toV (aR (some a2))]) C hK hI hl 2 (sc_X9_init _ X H.size _ _ _ _ _ hw) q563 q422 q96 q423 rfl (by decide +kernel) ⟨rfl, rfl, Nat.le_of_ble_eq_true rfl, Nat.le_of_ble_eq_true rfl⟩ (av_W [aR (some a6), aR (some a2), aR (some a2)] 8 (Nat.le_of_ble_eq_true rfl)) dX0_puts_10 rfl rfl ⟨by omega, by omega⟩) (fun μ11 hw => ?_)
  refine hx_aload_n C dX0_puts_13 2 rfl rfl ?_
  refine fun H locs hI ls hl => cx_rv (S := [aR (some a2)]) hI hl (fun _ h => h) (cr_I (a := a2) (As := [toV (aR (some a6)), toV (aR l2)]) (rest := [toV (aR (some a2))]) C hK hI hl 2 (sc_X9_init _ X H.size _ _ _ _ _ hw) q563 q422 q96 q423 rfl (by decide +kernel) ⟨rfl, rfl, Nat.le_of_ble_eq_true rfl, Nat.le_of_ble_eq_true rfl⟩ (av_W [aR (some a2)] 8 (Nat.le_of_ble_eq_true rfl)) dX0_puts_14 rfl rfl ⟨by omega, by omega⟩) (fun μ13 hw => ?_)
  exact cx_aret C hQ (by omega) (by omega) (Or.inl ⟨_, rfl⟩) hw dX0_puts_17
-- ('BinderPress$Put', 'out', '(I)LBinderPress$Term;')
def rmet_V_out (l : Launch) (X : cX) (fr lo : Nat) (rc : Nat → Nat → Int → CM → (Option Nat → CM → Prop) → Prop) : Prop := ∀ (b : Nat) (a : Nat) (l1 : Int) (μ : CM) (sz : Nat) (Q : Option Nat → CM → Prop), rc b a l1 μ Q → (tg μ a = 6 ∧ ∃ rm, crm rm b (5 * b) fr lo 2 ∧ Met l yX7_out (ws_ yX7_out cX7_out 2 (some (.object "BinderPress$Term"))) rm (cPc X (([aR (some a), aI l1] : List AV).map toV) μ sz) (cQr X μ sz Q) b (5 * b) (cA X μ sz)) ∨ (tg μ a = 7 ∧ ∃ rm, crm rm b (5 * b) fr lo 2 ∧ Met l yX8_out (ws_ yX8_out cX8_out 2 (some (.object "BinderPress$Term"))) rm (cPc X (([aR (some a), aI l1] : List AV).map toV) μ sz) (cQr X μ sz Q) b (5 * b) (cA X μ sz)) ∨ (tg μ a = 8 ∧ ∃ rm, crm rm b (5 * b) fr lo 2 ∧ Met l yX9_out (ws_ yX9_out cX9_out 2 (some (.object "BinderPress$Term"))) rm (cPc X (([aR (some a), aI l1] : List AV).map toV) μ sz) (cQr X μ sz Q) b (5 * b) (cA X μ sz))
set_option maxHeartbeats 4000000 in
theorem dv_out {Z : zz} {X : cX} {μ0 μ : CM} {cc : ByteArray} {nL : Nat} {own : String} {ret : Option FieldType} {F N kk nn pc : Nat} {H : Heap} {locs : List Loc} {ls : Array Slot} {lv : List (Nat × Value)} {stk rest : List Value} {index fr lo : Nat} {Q : Option Nat → CM → Prop} {rc : Nat → Nat → Int → CM → (Option Nat → CM → Prop) → Prop} {b : Nat} {a : Nat} {l1 : Int} (C : gC Z cc nL own ret F N) (hK : cCt Z X μ0) (hI : cI Z X μ0 μ H locs) (hl : lv_has ls nL lv) (hrc : rmet_V_out (zz_l Z) X fr lo rc) (hw : rc b a l1 μ Q) (hF : fr ≤ F) (hN : lo ≤ N) (hlk : (Cond.methodLink own index ⟨"BinderPress$Term", "out", "(I)LBinderPress$Term;"⟩).before (zz_a Z) (zz_s Z) = true) (hW : (rest.map fun v => v.category).sum ≤ 8) (d : decode cc pc = .ok (.invokevirtual index, 3)) (hn : ([toV (aI l1)] : List Value).length = 1) (hs : stk = ([toV (aI l1)] : List Value).reverse ++ .ref a :: rest) (hf : kk + b ≤ (zz_R Z).cells ∧ nn + 5 * b ≤ (zz_R Z).slots) : cRun Z H locs kk nn b (5 * b) pc ls stk rest (cQr X μ H.size Q (Value.ref a :: [toV (aI l1)]).toArray) (cA X μ H.size) := by
  rcases hrc b a l1 μ H.size Q hw with ⟨ht, rm, h, hM⟩ | ⟨ht, rm, h, hM⟩ | ⟨ht, rm, h, hM⟩
  · exact cr_U (x := ⟨"BinderPress$Term", "out", "(I)LBinderPress$Term;"⟩) (owner := "BinderPress$Term") (Cn := "BinderPress$Name") C hK hI hl 1 (cv_dyn hK hI (ci := 5) rfl (Or.inr (cdE_5 ht))) hM hlk (C.w _ q531) (va_Decl.abs (hK.1.2.2.1 _ (List.mem_of_getElem? (i := 44) rfl))) (C.w _ q564) q536 q94 q537 (by decide +kernel) ⟨h.1, h.2.1, Nat.le_trans h.2.2.1 hF, Nat.le_trans h.2.2.2 hN⟩ hW d hn hs hf
  · exact cr_U (x := ⟨"BinderPress$Term", "out", "(I)LBinderPress$Term;"⟩) (owner := "BinderPress$Term") (Cn := "BinderPress$Sign") C hK hI hl 1 (cv_dyn hK hI (ci := 6) rfl (Or.inr (cdE_6 ht))) hM hlk (C.w _ q531) (va_Decl.abs (hK.1.2.2.1 _ (List.mem_of_getElem? (i := 44) rfl))) (C.w _ q566) q554 q95 q555 (by decide +kernel) ⟨h.1, h.2.1, Nat.le_trans h.2.2.1 hF, Nat.le_trans h.2.2.2 hN⟩ hW d hn hs hf
  · exact cr_U (x := ⟨"BinderPress$Term", "out", "(I)LBinderPress$Term;"⟩) (owner := "BinderPress$Term") (Cn := "BinderPress$Put") C hK hI hl 1 (cv_dyn hK hI (ci := 7) rfl (Or.inr (cdE_7 ht))) hM hlk (C.w _ q531) (va_Decl.abs (hK.1.2.2.1 _ (List.mem_of_getElem? (i := 44) rfl))) (C.w _ q565) q541 q96 q542 (by decide +kernel) ⟨h.1, h.2.1, Nat.le_trans h.2.2.1 hF, Nat.le_trans h.2.2.2 hN⟩ hW d hn hs hf
def wc_X9_out_70 (X : cX) (rc : Nat → Nat → Int → CM → (Option Nat → CM → Prop) → Prop) (Q : Option Nat → CM → Prop) (s0 : Option Nat) (b : Nat) (μ : CM) : Prop := Q s0 μ
set_option maxHeartbeats 4000000 in
theorem sc_X9_out_70 {Z : zz} {X : cX} {μ0 : CM} {Q : Option Nat → CM → Prop} {rc : Nat → Nat → Int → CM → (Option Nat → CM → Prop) → Prop} {fr lo : Nat} (hA : 133 ≤ fr) (hB : 2664 ≤ lo) (C : gC Z cX9_out 2 RX9 (some (.object "BinderPress$Term")) (fr + 0) (lo + 0)) (hK : cCt Z X μ0) (hrc : rmet_V_out (zz_l Z) X fr lo rc) (hQ : zz_q Z = MQ (zz_b Z) (cQr X μ0 (zz_s Z).heap.size Q) (zz_a Z) (zz_s Z) (zz_R Z).cells (zz_R Z).slots (cA X μ0 (zz_s Z).heap.size))  : ∀ s0 b μ, wc_X9_out_70 X rc Q s0 b μ → ∀ kk nn, (kk + b ≤ (zz_R Z).cells ∧ nn + 5 * b ≤ (zz_R Z).slots) → hG Z 2 (cI Z X μ0 μ) kk nn 70 [] [aR s0] := by
  intro s0 b μ hw kk nn hb
  unfold wc_X9_out_70 at hw
  exact cx_aret C hQ (by omega) (by omega) (Or.inl ⟨_, rfl⟩) hw dX9_out_70
def wc_X9_out (X : cX) (rc : Nat → Nat → Int → CM → (Option Nat → CM → Prop) → Prop) (b : Nat) (l0 : Nat) (l1 : Int) (μ : CM) (Q : Option Nat → CM → Prop) : Prop := tg μ l0 = 8 ∧ wc_X5_hasFree X l0 l1 μ (fun r1 μ2 => R32 r1 ∧ ((¬ r1 = 0 → (tg μ2 l0 = 8 ∧ ∃ a6, (oR μ2 l0 0) = some a6 ∧ wv_hasFree X a6 l1 μ2 (fun r8 μ9 => R32 r8 ∧ ((¬ r8 = 0 → (tg μ9 l0 = 8 ∧ ∃ a12, (oR μ9 l0 1) = some a12 ∧ wv_hasFree X a12 l1 μ9 (fun r14 μ15 => R32 r14 ∧ ((¬ r14 = 0 → (∃ b17, b17 ≤ b ∧ wc_X0_signOf X b17 83 μ15 (fun r19 μ20 => (tg μ20 l0 = 8 ∧ ∃ a22, (oR μ20 l0 0) = some a22 ∧ ∃ b24, b24 ≤ (b - b17) ∧ rc b24 a22 l1 μ20 (fun r26 μ27 => (tg μ27 l0 = 8 ∧ ∃ a29, (oR μ27 l0 1) = some a29 ∧ ∃ b31, b31 ≤ ((b - b17) - b24) ∧ rc b31 a29 l1 μ27 (fun r33 μ34 => (∃ b35, b35 ≤ (((b - b17) - b24) - b31) ∧ wc_X0_puts X b35 r19 r26 r33 μ34 (fun r37 μ38 => Q r37 μ38))))))))) ∧ (r14 = 0 → (∃ b39, b39 ≤ b ∧ wc_X0_signOf X b39 67 μ15 (fun r41 μ42 => (tg μ42 l0 = 8 ∧ ∃ a44, (oR μ42 l0 0) = some a44 ∧ ∃ b46, b46 ≤ (b - b39) ∧ rc b46 a44 l1 μ42 (fun r48 μ49 => (tg μ49 l0 = 8 ∧ ∃ b51, b51 ≤ ((b - b39) - b46) ∧ wc_X0_puts X b51 r41 r48 (oR μ49 l0 1) μ49 (fun r53 μ54 => Q r53 μ54))))))))))) ∧ (r8 = 0 → (tg μ9 l0 = 8 ∧ ∃ a56, (oR μ9 l0 1) = some a56 ∧ (5 ≤ tg μ9 a56 ∧ tg μ9 a56 ≤ 8) ∧ ((tg μ9 a56 = 6 → wc_X9_out_70 X rc  Q (oR μ9 l0 0) b μ9) ∧ (¬ tg μ9 a56 = 6 → (∃ b60, b60 ≤ b ∧ wc_X0_signOf X b60 66 μ9 (fun r62 μ63 => (tg μ63 l0 = 8 ∧ ∃ a65, (oR μ63 l0 1) = some a65 ∧ ∃ b67, b67 ≤ (b - b60) ∧ rc b67 a65 l1 μ63 (fun r69 μ70 => (∃ b71, b71 ≤ ((b - b60) - b67) ∧ wc_X0_puts X b71 r62 (oR μ63 l0 0) r69 μ70 (fun r73 μ74 => wc_X9_out_70 X rc  Q r73 (((b - b60) - b67) - b71) μ74)))))))))))))) ∧ (r1 = 0 → (1 ≤ b ∧ ∀ a76, tg μ2 a76 = 0 → ∃ b79, b79 ≤ (b - 1) ∧ wc_X0_signOf X b79 75 (alc μ2 a76 8 0) (fun r81 μ82 => wc_X9_init X a76 r81 (some l0) μ82 (fun μ84 => Q (some a76) μ84))))))
set_option maxHeartbeats 4000000 in
theorem sc_X9_out (l : Launch) (X : cX) (sz : Nat) (Q : Option Nat → CM → Prop) {rc : Nat → Nat → Int → CM → (Option Nat → CM → Prop) → Prop} {fr lo : Nat} (hA : 133 ≤ fr) (hB : 2664 ≤ lo) (hrc : rmet_V_out l X fr lo rc) (b : Nat) (l0 : Nat) (l1 : Int) (μ : CM) (hw : wc_X9_out X rc b l0 l1 μ Q) : Met l yX9_out (ws_ yX9_out cX9_out 2 (some (.object "BinderPress$Term"))) ({ frames := (fr + 0), cells := b, slots := 5 * b, locals := (lo + 0) }) (cPc X (([aR (some l0), aI l1] : List AV).map toV) μ sz) (cQr X μ sz Q) b (5 * b) (cA X μ sz) := by
  refine cx_met2 (rm := ({ frames := (fr + 0), cells := b, slots := 5 * b, locals := (lo + 0) })) (As := [aR (some l0), aI l1]) (L0 := [(0, aR (some l0)), (1, aI l1)]) (by decide) rfl (Nat.le_of_ble_eq_true rfl) rfl ?_
  intro Z C hK hsz hR hl0 hin hQ
  subst hsz
  have C : gC Z cX9_out 2 RX9 (some (.object "BinderPress$Term")) (fr + 0) (lo + 0) := C
  rw [← hl0] at hrc
  have hQ : zz_q Z = MQ (zz_b Z) (cQr X μ (zz_s Z).heap.size Q) (zz_a Z) (zz_s Z) (zz_R Z).cells (zz_R Z).slots (cA X μ (zz_s Z).heap.size) := by rw [hR]; exact hQ
  have hb : 0 + b ≤ (zz_R Z).cells ∧ 0 + 5 * b ≤ (zz_R Z).slots := by rw [hR]; exact ⟨by dsimp only; omega, by dsimp only; omega⟩
  unfold wc_X9_out at hw
  refine hx_aload_n C dX9_out_0 0 rfl rfl ?_
  refine hx_iload_n C dX9_out_1 1 rfl rfl ?_
  obtain ⟨ht3, hw⟩ := hw
  refine fun H locs hI ls hl => cx_ri (S := []) hI hl (fun _ h => h) (cr_U (x := ⟨"BinderPress$Put", "hasFree", "(I)Z"⟩) (owner := "BinderPress$Term") (Cn := "BinderPress$Put") (As := [toV (aI l1)]) (rest := []) C hK hI hl 1 (cv_dyn hK hI (ci := 7) rfl (Or.inr (cdE_7 ht3))) (sc_X5_hasFree _ X H.size _ _ _ _ hw) (C.w _ q543) (C.w _ q544) (va_Decl.abs (hK.1.2.2.1 _ (List.mem_of_getElem? (i := 45) rfl))) (C.w _ q546) q547 q92 q548 (by decide +kernel) ⟨rfl, rfl, by (dsimp only; omega), by (dsimp only; omega)⟩ (av_W [] 8 (Nat.le_of_ble_eq_true rfl)) dX9_out_2 rfl rfl ⟨by omega, by omega⟩) (fun r1 μ2 hw => ?_)
  obtain ⟨hr4, hw⟩ := hw
  refine hx_if_ne (tgt := 22) C dX9_out_5 (by decide) hr4 (fun h => ?_) (fun h => ?_)
  · have hw := hw.1 h
    refine hx_aload_n C dX9_out_22 0 rfl rfl ?_
    obtain ⟨ht5, hw⟩ := hw
    refine cx_get (μ := μ2) (v := aR (oR μ2 l0 0)) C hK 7 0 rfl in_X9 (by decide) q459 rfl (cdE_7 ht5) rfl dX9_out_23 ?_
    refine hx_iload_n C dX9_out_26 1 rfl rfl ?_
    obtain ⟨a6, ha7, hw⟩ := hw
    rw [ha7]
    refine fun H locs hI ls hl => cx_ri (S := []) hI hl (fun _ h => h) (dv_hasFree (rest := []) C hK hI hl (rr_V_hasFree _ X) hw (by omega) (by omega) (C.w _ q551) (av_W [] 8 (Nat.le_of_ble_eq_true rfl)) dX9_out_27 rfl rfl ⟨by omega, by omega⟩) (fun r8 μ9 hw => ?_)
    obtain ⟨hr10, hw⟩ := hw
    refine hx_if_ne (tgt := 71) C dX9_out_30 (by decide) hr10 (fun h => ?_) (fun h => ?_)
    · have hw := hw.1 h
      refine hx_aload_n C dX9_out_71 0 rfl rfl ?_
      obtain ⟨ht11, hw⟩ := hw
      refine cx_get (μ := μ9) (v := aR (oR μ9 l0 1)) C hK 7 1 rfl in_X9 (by decide) q462 rfl (cdE_7 ht11) rfl dX9_out_72 ?_
      refine hx_iload_n C dX9_out_75 1 rfl rfl ?_
      obtain ⟨a12, ha13, hw⟩ := hw
      rw [ha13]
      refine fun H locs hI ls hl => cx_ri (S := []) hI hl (fun _ h => h) (dv_hasFree (rest := []) C hK hI hl (rr_V_hasFree _ X) hw (by omega) (by omega) (C.w _ q551) (av_W [] 8 (Nat.le_of_ble_eq_true rfl)) dX9_out_76 rfl rfl ⟨by omega, by omega⟩) (fun r14 μ15 hw => ?_)
      obtain ⟨hr16, hw⟩ := hw
      refine hx_if_ne (tgt := 103) C dX9_out_79 (by decide) hr16 (fun h => ?_) (fun h => ?_)
      · have hw := hw.1 h
        refine hx_bipush C dX9_out_103 (by decide) ?_
        obtain ⟨b17, hu18, hw⟩ := hw
        refine fun H locs hI ls hl => cx_rr (S := []) hI hl (fun _ h => h) (cr_SN (As := [toV (aI 83)]) (rest := []) C hK hI hl 1 (sc_X0_signOf _ X H.size _ b17 _ _ hw) (List.mem_of_getElem? (i := 63) rfl) q400 q84 q401 (by decide +kernel) ⟨rfl, rfl, by (dsimp only; omega), by (dsimp only; omega)⟩ (av_W [] 8 (Nat.le_of_ble_eq_true rfl)) dX9_out_105 rfl rfl ⟨by omega, by omega⟩) (fun r19 μ20 hw => ?_)
        obtain hb : (0 + b17) + (b - b17) ≤ (zz_R Z).cells ∧ (0 + 5 * b17) + 5 * (b - b17) ≤ (zz_R Z).slots := ⟨by omega, by omega⟩
        refine hx_aload_n C dX9_out_108 0 rfl rfl ?_
        obtain ⟨ht21, hw⟩ := hw
        refine cx_get (μ := μ20) (v := aR (oR μ20 l0 0)) C hK 7 0 rfl in_X9 (by decide) q459 rfl (cdE_7 ht21) rfl dX9_out_109 ?_
        refine hx_iload_n C dX9_out_112 1 rfl rfl ?_
        obtain ⟨a22, ha23, hw⟩ := hw
        rw [ha23]
        obtain ⟨b24, hu25, hw⟩ := hw
        refine fun H locs hI ls hl => cx_rr (S := [aR r19]) hI hl (fun _ h => h) (dv_out (rest := [toV (aR r19)]) C hK hI hl hrc hw (by omega) (by omega) (C.w _ q553) (av_W [aR r19] 8 (Nat.le_of_ble_eq_true rfl)) dX9_out_113 rfl rfl ⟨by omega, by omega⟩) (fun r26 μ27 hw => ?_)
        obtain hb : ((0 + b17) + b24) + ((b - b17) - b24) ≤ (zz_R Z).cells ∧ ((0 + 5 * b17) + 5 * b24) + 5 * ((b - b17) - b24) ≤ (zz_R Z).slots := ⟨by omega, by omega⟩
        refine hx_aload_n C dX9_out_116 0 rfl rfl ?_
        obtain ⟨ht28, hw⟩ := hw
        refine cx_get (μ := μ27) (v := aR (oR μ27 l0 1)) C hK 7 1 rfl in_X9 (by decide) q462 rfl (cdE_7 ht28) rfl dX9_out_117 ?_
        refine hx_iload_n C dX9_out_120 1 rfl rfl ?_
        obtain ⟨a29, ha30, hw⟩ := hw
        rw [ha30]
        obtain ⟨b31, hu32, hw⟩ := hw
        refine fun H locs hI ls hl => cx_rr (S := [aR r26, aR r19]) hI hl (fun _ h => h) (dv_out (rest := [toV (aR r26), toV (aR r19)]) C hK hI hl hrc hw (by omega) (by omega) (C.w _ q553) (av_W [aR r26, aR r19] 8 (Nat.le_of_ble_eq_true rfl)) dX9_out_121 rfl rfl ⟨by omega, by omega⟩) (fun r33 μ34 hw => ?_)
        obtain hb : (((0 + b17) + b24) + b31) + (((b - b17) - b24) - b31) ≤ (zz_R Z).cells ∧ (((0 + 5 * b17) + 5 * b24) + 5 * b31) + 5 * (((b - b17) - b24) - b31) ≤ (zz_R Z).slots := ⟨by omega, by omega⟩
        obtain ⟨b35, hu36, hw⟩ := hw
        refine fun H locs hI ls hl => cx_rr (S := []) hI hl (fun _ h => h) (cr_SN (As := [toV (aR r19), toV (aR r26), toV (aR r33)]) (rest := []) C hK hI hl 3 (sc_X0_puts _ X H.size _ b35 _ _ _ _ hw) (List.mem_of_getElem? (i := 64) rfl) q560 q84 q561 (by decide +kernel) ⟨rfl, rfl, by (dsimp only; omega), by (dsimp only; omega)⟩ (av_W [] 8 (Nat.le_of_ble_eq_true rfl)) dX9_out_124 rfl rfl ⟨by omega, by omega⟩) (fun r37 μ38 hw => ?_)
        obtain hb : ((((0 + b17) + b24) + b31) + b35) + ((((b - b17) - b24) - b31) - b35) ≤ (zz_R Z).cells ∧ ((((0 + 5 * b17) + 5 * b24) + 5 * b31) + 5 * b35) + 5 * ((((b - b17) - b24) - b31) - b35) ≤ (zz_R Z).slots := ⟨by omega, by omega⟩
        exact cx_aret C hQ (by omega) (by omega) (Or.inl ⟨_, rfl⟩) hw dX9_out_127
      · have hw := hw.2 h
        refine hx_bipush C dX9_out_82 (by decide) ?_
        obtain ⟨b39, hu40, hw⟩ := hw
        refine fun H locs hI ls hl => cx_rr (S := []) hI hl (fun _ h => h) (cr_SN (As := [toV (aI 67)]) (rest := []) C hK hI hl 1 (sc_X0_signOf _ X H.size _ b39 _ _ hw) (List.mem_of_getElem? (i := 63) rfl) q400 q84 q401 (by decide +kernel) ⟨rfl, rfl, by (dsimp only; omega), by (dsimp only; omega)⟩ (av_W [] 8 (Nat.le_of_ble_eq_true rfl)) dX9_out_84 rfl rfl ⟨by omega, by omega⟩) (fun r41 μ42 hw => ?_)
        obtain hb : (0 + b39) + (b - b39) ≤ (zz_R Z).cells ∧ (0 + 5 * b39) + 5 * (b - b39) ≤ (zz_R Z).slots := ⟨by omega, by omega⟩
        refine hx_aload_n C dX9_out_87 0 rfl rfl ?_
        obtain ⟨ht43, hw⟩ := hw
        refine cx_get (μ := μ42) (v := aR (oR μ42 l0 0)) C hK 7 0 rfl in_X9 (by decide) q459 rfl (cdE_7 ht43) rfl dX9_out_88 ?_
        refine hx_iload_n C dX9_out_91 1 rfl rfl ?_
        obtain ⟨a44, ha45, hw⟩ := hw
        rw [ha45]
        obtain ⟨b46, hu47, hw⟩ := hw
        refine fun H locs hI ls hl => cx_rr (S := [aR r41]) hI hl (fun _ h => h) (dv_out (rest := [toV (aR r41)]) C hK hI hl hrc hw (by omega) (by omega) (C.w _ q553) (av_W [aR r41] 8 (Nat.le_of_ble_eq_true rfl)) dX9_out_92 rfl rfl ⟨by omega, by omega⟩) (fun r48 μ49 hw => ?_)
        obtain hb : ((0 + b39) + b46) + ((b - b39) - b46) ≤ (zz_R Z).cells ∧ ((0 + 5 * b39) + 5 * b46) + 5 * ((b - b39) - b46) ≤ (zz_R Z).slots := ⟨by omega, by omega⟩
        refine hx_aload_n C dX9_out_95 0 rfl rfl ?_
        obtain ⟨ht50, hw⟩ := hw
        refine cx_get (μ := μ49) (v := aR (oR μ49 l0 1)) C hK 7 1 rfl in_X9 (by decide) q462 rfl (cdE_7 ht50) rfl dX9_out_96 ?_
        obtain ⟨b51, hu52, hw⟩ := hw
        refine fun H locs hI ls hl => cx_rr (S := []) hI hl (fun _ h => h) (cr_SN (As := [toV (aR r41), toV (aR r48), toV (aR (oR μ49 l0 1))]) (rest := []) C hK hI hl 3 (sc_X0_puts _ X H.size _ b51 _ _ _ _ hw) (List.mem_of_getElem? (i := 64) rfl) q560 q84 q561 (by decide +kernel) ⟨rfl, rfl, by (dsimp only; omega), by (dsimp only; omega)⟩ (av_W [] 8 (Nat.le_of_ble_eq_true rfl)) dX9_out_99 rfl rfl ⟨by omega, by omega⟩) (fun r53 μ54 hw => ?_)
        obtain hb : (((0 + b39) + b46) + b51) + (((b - b39) - b46) - b51) ≤ (zz_R Z).cells ∧ (((0 + 5 * b39) + 5 * b46) + 5 * b51) + 5 * (((b - b39) - b46) - b51) ≤ (zz_R Z).slots := ⟨by omega, by omega⟩
        exact cx_aret C hQ (by omega) (by omega) (Or.inl ⟨_, rfl⟩) hw dX9_out_102
    · have hw := hw.2 h
      refine hx_aload_n C dX9_out_33 0 rfl rfl ?_
      obtain ⟨ht55, hw⟩ := hw
      refine cx_get (μ := μ9) (v := aR (oR μ9 l0 1)) C hK 7 1 rfl in_X9 (by decide) q462 rfl (cdE_7 ht55) rfl dX9_out_34 ?_
      obtain ⟨a56, ha57, hw⟩ := hw
      rw [ha57]
      obtain ⟨hi58, hw⟩ := hw
      rcases (show tg μ9 a56 = 6 ∨ (tg μ9 a56 = 7 ∨ tg μ9 a56 = 8 ∨ tg μ9 a56 = 5) by omega) with h | h | h | h
      · have ht59 := h
        have hw := hw.1 h
        refine cx_instY C hK (ci := 5) rfl (Or.inr (cdE_5 ht59)) q552 dX9_out_37 ?_
        refine hx_if_eq (tgt := 50) C dX9_out_40 (by decide) (by decide) (fun h => ?_) (fun h => ?_)
        · exact absurd h (by decide)
        · skip
          refine hx_aload_n C dX9_out_43 0 rfl rfl ?_
          refine cx_get (μ := μ9) (v := aR (oR μ9 l0 0)) C hK 7 0 rfl in_X9 (by decide) q459 rfl (cdE_7 ht55) rfl dX9_out_44 ?_
          refine hx_goto (tgt := 70) C dX9_out_47 (by decide) ?_
          refine hx_L [] rfl ?_
          exact sc_X9_out_70 hA hB C hK hrc hQ  _ _ _ hw _ _ hb
      · have hw := hw.2 (by omega)
        refine cx_instN C hK (ci := 6) (nm := "BinderPress$Name") rfl (Or.inr (cdE_6 h)) q552 (List.mem_of_getElem? (i := 3) rfl) dX9_out_37 ?_
        refine hx_if_eq (tgt := 50) C dX9_out_40 (by decide) (by decide) (fun h => ?_) (fun h => ?_)
        · skip
          refine hx_bipush C dX9_out_50 (by decide) ?_
          obtain ⟨b60, hu61, hw⟩ := hw
          refine fun H locs hI ls hl => cx_rr (S := []) hI hl (fun _ h => h) (cr_SN (As := [toV (aI 66)]) (rest := []) C hK hI hl 1 (sc_X0_signOf _ X H.size _ b60 _ _ hw) (List.mem_of_getElem? (i := 63) rfl) q400 q84 q401 (by decide +kernel) ⟨rfl, rfl, by (dsimp only; omega), by (dsimp only; omega)⟩ (av_W [] 8 (Nat.le_of_ble_eq_true rfl)) dX9_out_52 rfl rfl ⟨by omega, by omega⟩) (fun r62 μ63 hw => ?_)
          obtain hb : (0 + b60) + (b - b60) ≤ (zz_R Z).cells ∧ (0 + 5 * b60) + 5 * (b - b60) ≤ (zz_R Z).slots := ⟨by omega, by omega⟩
          refine hx_aload_n C dX9_out_55 0 rfl rfl ?_
          obtain ⟨ht64, hw⟩ := hw
          refine cx_get (μ := μ63) (v := aR (oR μ63 l0 0)) C hK 7 0 rfl in_X9 (by decide) q459 rfl (cdE_7 ht64) rfl dX9_out_56 ?_
          refine hx_aload_n C dX9_out_59 0 rfl rfl ?_
          refine cx_get (μ := μ63) (v := aR (oR μ63 l0 1)) C hK 7 1 rfl in_X9 (by decide) q462 rfl (cdE_7 ht64) rfl dX9_out_60 ?_
          refine hx_iload_n C dX9_out_63 1 rfl rfl ?_
          obtain ⟨a65, ha66, hw⟩ := hw
          rw [ha66]
          obtain ⟨b67, hu68, hw⟩ := hw
          refine fun H locs hI ls hl => cx_rr (S := [aR (oR μ63 l0 0), aR r62]) hI hl (fun _ h => h) (dv_out (rest := [toV (aR (oR μ63 l0 0)), toV (aR r62)]) C hK hI hl hrc hw (by omega) (by omega) (C.w _ q553) (av_W [aR (oR μ63 l0 0), aR r62] 8 (Nat.le_of_ble_eq_true rfl)) dX9_out_64 rfl rfl ⟨by omega, by omega⟩) (fun r69 μ70 hw => ?_)
          obtain hb : ((0 + b60) + b67) + ((b - b60) - b67) ≤ (zz_R Z).cells ∧ ((0 + 5 * b60) + 5 * b67) + 5 * ((b - b60) - b67) ≤ (zz_R Z).slots := ⟨by omega, by omega⟩
          obtain ⟨b71, hu72, hw⟩ := hw
          refine fun H locs hI ls hl => cx_rr (S := []) hI hl (fun _ h => h) (cr_SN (As := [toV (aR r62), toV (aR (oR μ63 l0 0)), toV (aR r69)]) (rest := []) C hK hI hl 3 (sc_X0_puts _ X H.size _ b71 _ _ _ _ hw) (List.mem_of_getElem? (i := 64) rfl) q560 q84 q561 (by decide +kernel) ⟨rfl, rfl, by (dsimp only; omega), by (dsimp only; omega)⟩ (av_W [] 8 (Nat.le_of_ble_eq_true rfl)) dX9_out_67 rfl rfl ⟨by omega, by omega⟩) (fun r73 μ74 hw => ?_)
          obtain hb : (((0 + b60) + b67) + b71) + (((b - b60) - b67) - b71) ≤ (zz_R Z).cells ∧ (((0 + 5 * b60) + 5 * b67) + 5 * b71) + 5 * (((b - b60) - b67) - b71) ≤ (zz_R Z).slots := ⟨by omega, by omega⟩
          refine hx_L [] rfl ?_
          exact sc_X9_out_70 hA hB C hK hrc hQ  _ _ _ hw _ _ hb
        · exact absurd h (by decide)
      · have hw := hw.2 (by omega)
        refine cx_instN C hK (ci := 7) (nm := "BinderPress$Name") rfl (Or.inr (cdE_7 h)) q552 (List.mem_of_getElem? (i := 6) rfl) dX9_out_37 ?_
        refine hx_if_eq (tgt := 50) C dX9_out_40 (by decide) (by decide) (fun h => ?_) (fun h => ?_)
        · skip
          refine hx_bipush C dX9_out_50 (by decide) ?_
          obtain ⟨b60, hu61, hw⟩ := hw
          refine fun H locs hI ls hl => cx_rr (S := []) hI hl (fun _ h => h) (cr_SN (As := [toV (aI 66)]) (rest := []) C hK hI hl 1 (sc_X0_signOf _ X H.size _ b60 _ _ hw) (List.mem_of_getElem? (i := 63) rfl) q400 q84 q401 (by decide +kernel) ⟨rfl, rfl, by (dsimp only; omega), by (dsimp only; omega)⟩ (av_W [] 8 (Nat.le_of_ble_eq_true rfl)) dX9_out_52 rfl rfl ⟨by omega, by omega⟩) (fun r62 μ63 hw => ?_)
          obtain hb : (0 + b60) + (b - b60) ≤ (zz_R Z).cells ∧ (0 + 5 * b60) + 5 * (b - b60) ≤ (zz_R Z).slots := ⟨by omega, by omega⟩
          refine hx_aload_n C dX9_out_55 0 rfl rfl ?_
          obtain ⟨ht64, hw⟩ := hw
          refine cx_get (μ := μ63) (v := aR (oR μ63 l0 0)) C hK 7 0 rfl in_X9 (by decide) q459 rfl (cdE_7 ht64) rfl dX9_out_56 ?_
          refine hx_aload_n C dX9_out_59 0 rfl rfl ?_
          refine cx_get (μ := μ63) (v := aR (oR μ63 l0 1)) C hK 7 1 rfl in_X9 (by decide) q462 rfl (cdE_7 ht64) rfl dX9_out_60 ?_
          refine hx_iload_n C dX9_out_63 1 rfl rfl ?_
          obtain ⟨a65, ha66, hw⟩ := hw
          rw [ha66]
          obtain ⟨b67, hu68, hw⟩ := hw
          refine fun H locs hI ls hl => cx_rr (S := [aR (oR μ63 l0 0), aR r62]) hI hl (fun _ h => h) (dv_out (rest := [toV (aR (oR μ63 l0 0)), toV (aR r62)]) C hK hI hl hrc hw (by omega) (by omega) (C.w _ q553) (av_W [aR (oR μ63 l0 0), aR r62] 8 (Nat.le_of_ble_eq_true rfl)) dX9_out_64 rfl rfl ⟨by omega, by omega⟩) (fun r69 μ70 hw => ?_)
          obtain hb : ((0 + b60) + b67) + ((b - b60) - b67) ≤ (zz_R Z).cells ∧ ((0 + 5 * b60) + 5 * b67) + 5 * ((b - b60) - b67) ≤ (zz_R Z).slots := ⟨by omega, by omega⟩
          obtain ⟨b71, hu72, hw⟩ := hw
          refine fun H locs hI ls hl => cx_rr (S := []) hI hl (fun _ h => h) (cr_SN (As := [toV (aR r62), toV (aR (oR μ63 l0 0)), toV (aR r69)]) (rest := []) C hK hI hl 3 (sc_X0_puts _ X H.size _ b71 _ _ _ _ hw) (List.mem_of_getElem? (i := 64) rfl) q560 q84 q561 (by decide +kernel) ⟨rfl, rfl, by (dsimp only; omega), by (dsimp only; omega)⟩ (av_W [] 8 (Nat.le_of_ble_eq_true rfl)) dX9_out_67 rfl rfl ⟨by omega, by omega⟩) (fun r73 μ74 hw => ?_)
          obtain hb : (((0 + b60) + b67) + b71) + (((b - b60) - b67) - b71) ≤ (zz_R Z).cells ∧ (((0 + 5 * b60) + 5 * b67) + 5 * b71) + 5 * (((b - b60) - b67) - b71) ≤ (zz_R Z).slots := ⟨by omega, by omega⟩
          refine hx_L [] rfl ?_
          exact sc_X9_out_70 hA hB C hK hrc hQ  _ _ _ hw _ _ hb
        · exact absurd h (by decide)
      · have hw := hw.2 (by omega)
        refine cx_instN C hK (ci := 4) (nm := "BinderPress$Name") rfl (Or.inr (cdE_4 h)) q552 (List.mem_of_getElem? (i := 9) rfl) dX9_out_37 ?_
        refine hx_if_eq (tgt := 50) C dX9_out_40 (by decide) (by decide) (fun h => ?_) (fun h => ?_)
        · skip
          refine hx_bipush C dX9_out_50 (by decide) ?_
          obtain ⟨b60, hu61, hw⟩ := hw
          refine fun H locs hI ls hl => cx_rr (S := []) hI hl (fun _ h => h) (cr_SN (As := [toV (aI 66)]) (rest := []) C hK hI hl 1 (sc_X0_signOf _ X H.size _ b60 _ _ hw) (List.mem_of_getElem? (i := 63) rfl) q400 q84 q401 (by decide +kernel) ⟨rfl, rfl, by (dsimp only; omega), by (dsimp only; omega)⟩ (av_W [] 8 (Nat.le_of_ble_eq_true rfl)) dX9_out_52 rfl rfl ⟨by omega, by omega⟩) (fun r62 μ63 hw => ?_)
          obtain hb : (0 + b60) + (b - b60) ≤ (zz_R Z).cells ∧ (0 + 5 * b60) + 5 * (b - b60) ≤ (zz_R Z).slots := ⟨by omega, by omega⟩
          refine hx_aload_n C dX9_out_55 0 rfl rfl ?_
          obtain ⟨ht64, hw⟩ := hw
          refine cx_get (μ := μ63) (v := aR (oR μ63 l0 0)) C hK 7 0 rfl in_X9 (by decide) q459 rfl (cdE_7 ht64) rfl dX9_out_56 ?_
          refine hx_aload_n C dX9_out_59 0 rfl rfl ?_
          refine cx_get (μ := μ63) (v := aR (oR μ63 l0 1)) C hK 7 1 rfl in_X9 (by decide) q462 rfl (cdE_7 ht64) rfl dX9_out_60 ?_
          refine hx_iload_n C dX9_out_63 1 rfl rfl ?_
          obtain ⟨a65, ha66, hw⟩ := hw
          rw [ha66]
          obtain ⟨b67, hu68, hw⟩ := hw
          refine fun H locs hI ls hl => cx_rr (S := [aR (oR μ63 l0 0), aR r62]) hI hl (fun _ h => h) (dv_out (rest := [toV (aR (oR μ63 l0 0)), toV (aR r62)]) C hK hI hl hrc hw (by omega) (by omega) (C.w _ q553) (av_W [aR (oR μ63 l0 0), aR r62] 8 (Nat.le_of_ble_eq_true rfl)) dX9_out_64 rfl rfl ⟨by omega, by omega⟩) (fun r69 μ70 hw => ?_)
          obtain hb : ((0 + b60) + b67) + ((b - b60) - b67) ≤ (zz_R Z).cells ∧ ((0 + 5 * b60) + 5 * b67) + 5 * ((b - b60) - b67) ≤ (zz_R Z).slots := ⟨by omega, by omega⟩
          obtain ⟨b71, hu72, hw⟩ := hw
          refine fun H locs hI ls hl => cx_rr (S := []) hI hl (fun _ h => h) (cr_SN (As := [toV (aR r62), toV (aR (oR μ63 l0 0)), toV (aR r69)]) (rest := []) C hK hI hl 3 (sc_X0_puts _ X H.size _ b71 _ _ _ _ hw) (List.mem_of_getElem? (i := 64) rfl) q560 q84 q561 (by decide +kernel) ⟨rfl, rfl, by (dsimp only; omega), by (dsimp only; omega)⟩ (av_W [] 8 (Nat.le_of_ble_eq_true rfl)) dX9_out_67 rfl rfl ⟨by omega, by omega⟩) (fun r73 μ74 hw => ?_)
          obtain hb : (((0 + b60) + b67) + b71) + (((b - b60) - b67) - b71) ≤ (zz_R Z).cells ∧ (((0 + 5 * b60) + 5 * b67) + 5 * b71) + 5 * (((b - b60) - b67) - b71) ≤ (zz_R Z).slots := ⟨by omega, by omega⟩
          refine hx_L [] rfl ?_
          exact sc_X9_out_70 hA hB C hK hrc hQ  _ _ _ hw _ _ hb
        · exact absurd h (by decide)
  · have hw := hw.2 h
    obtain ⟨hu75, hw⟩ := hw
    refine cx_new (fs := fun a => coF_7 (alc μ2 a 8 0) a) C hK 7 8 rfl in_X9 tyX9_ok q524 q420 q96 (by decide) (fun a => cdE_7 alc_t) (cxd_7 _) (by omega) (by omega) dX9_out_8 (fun a76 hf77 => ?_)
    have hw := hw a76 hf77
    obtain hb : (0 + 1) + (b - 1) ≤ (zz_R Z).cells ∧ (0 + 5) + 5 * (b - 1) ≤ (zz_R Z).slots := ⟨by omega, by omega⟩
    have ht78 : tg (alc μ2 a76 8 0) a76 = 8 := alc_t
    refine hx_dup C dX9_out_11 rfl ?_
    refine hx_bipush C dX9_out_12 (by decide) ?_
    obtain ⟨b79, hu80, hw⟩ := hw
    refine fun H locs hI ls hl => cx_rr (S := [aR (some a76), aR (some a76)]) hI hl (fun _ h => h) (cr_SN (As := [toV (aI 75)]) (rest := [toV (aR (some a76)), toV (aR (some a76))]) C hK hI hl 1 (sc_X0_signOf _ X H.size _ b79 _ _ hw) (List.mem_of_getElem? (i := 63) rfl) q400 q84 q401 (by decide +kernel) ⟨rfl, rfl, by (dsimp only; omega), by (dsimp only; omega)⟩ (av_W [aR (some a76), aR (some a76)] 8 (Nat.le_of_ble_eq_true rfl)) dX9_out_14 rfl rfl ⟨by omega, by omega⟩) (fun r81 μ82 hw => ?_)
    obtain hb : ((0 + 1) + b79) + ((b - 1) - b79) ≤ (zz_R Z).cells ∧ ((0 + 5) + 5 * b79) + 5 * ((b - 1) - b79) ≤ (zz_R Z).slots := ⟨by omega, by omega⟩
    refine hx_aload_n C dX9_out_17 0 rfl rfl ?_
    refine fun H locs hI ls hl => cx_rv (S := [aR (some a76)]) hI hl (fun _ h => h) (cr_I (a := a76) (As := [toV (aR r81), toV (aR (some l0))]) (rest := [toV (aR (some a76))]) C hK hI hl 2 (sc_X9_init _ X H.size _ _ _ _ _ hw) q528 q422 q96 q423 rfl (by decide +kernel) ⟨rfl, rfl, by (dsimp only; omega), by (dsimp only; omega)⟩ (av_W [aR (some a76)] 8 (Nat.le_of_ble_eq_true rfl)) dX9_out_18 rfl rfl ⟨by omega, by omega⟩) (fun μ84 hw => ?_)
    exact cx_aret C hQ (by omega) (by omega) (Or.inl ⟨_, rfl⟩) hw dX9_out_21
-- out
def wd_out (X : cX) (rc : Nat → Nat → Int → CM → (Option Nat → CM → Prop) → Prop) : Nat → Nat → Int → CM → (Option Nat → CM → Prop) → Prop := fun b a l1 μ Q => (tg μ a = 6 ∧ wc_X7_out X b a l1 μ Q) ∨ (tg μ a = 7 ∧ wc_X8_out X b a l1 μ Q) ∨ (tg μ a = 8 ∧ wc_X9_out X rc b a l1 μ Q)
def wr_V_out (X : cX) : Nat → Nat → Nat → Int → CM → (Option Nat → CM → Prop) → Prop
  | 0 => fun _ _ _ _ _ => False
  | d + 1 => wd_out X (wr_V_out X d)
set_option maxHeartbeats 4000000 in
theorem rr_V_out (l : Launch) (X : cX) : ∀ d, rmet_V_out l X (133 + 1 * d) (2664 + 21 * d) (wr_V_out X d) := by
  intro d
  induction d with
  | zero => intro b a l1 μ sz Q h; exact h.elim
  | succ d ih =>
    intro b a l1 μ sz Q h
    rcases h with ⟨ht, hw⟩ | ⟨ht, hw⟩ | ⟨ht, hw⟩
    · exact Or.inl (⟨ht, _, ⟨rfl, rfl, by first | omega | (dsimp only; omega), by first | omega | (dsimp only; omega)⟩, sc_X7_out l X sz Q b _ _ _ hw⟩)
    · exact Or.inr (Or.inl (⟨ht, _, ⟨rfl, rfl, by first | omega | (dsimp only; omega), by first | omega | (dsimp only; omega)⟩, sc_X8_out l X sz Q b _ _ _ hw⟩))
    · exact Or.inr (Or.inr (⟨ht, _, ⟨rfl, rfl, by first | omega | (dsimp only; omega), by first | omega | (dsimp only; omega)⟩, sc_X9_out l X sz Q (by omega) (by omega) ih b _ _ _ hw⟩))
-- ('BinderPress$Name', 'compiled', '()LBinderPress$Term;')
def wc_X7_compiled (X : cX) (b : Nat) (l0 : Nat) (μ : CM) (Q : Option Nat → CM → Prop) : Prop := Q (some l0) μ
set_option maxHeartbeats 4000000 in
theorem sc_X7_compiled (l : Launch) (X : cX) (sz : Nat) (Q : Option Nat → CM → Prop) (b : Nat) (l0 : Nat) (μ : CM) (hw : wc_X7_compiled X b l0 μ Q) : Met l yX7_compiled (ws_ yX7_compiled cX7_compiled 1 (some (.object "BinderPress$Term"))) ({ frames := 0, cells := b, slots := 5 * b, locals := 0 }) (cPc X (([aR (some l0)] : List AV).map toV) μ sz) (cQr X μ sz Q) b (5 * b) (cA X μ sz) := by
  refine cx_met2 (rm := ({ frames := 0, cells := b, slots := 5 * b, locals := 0 })) (As := [aR (some l0)]) (L0 := [(0, aR (some l0))]) (by decide) rfl (Nat.le_of_ble_eq_true rfl) rfl ?_
  intro Z C hK hsz hR hl0 hin hQ
  subst hsz
  have C : gC Z cX7_compiled 1 RX7 (some (.object "BinderPress$Term")) 0 0 := C
  have hQ : zz_q Z = MQ (zz_b Z) (cQr X μ (zz_s Z).heap.size Q) (zz_a Z) (zz_s Z) (zz_R Z).cells (zz_R Z).slots (cA X μ (zz_s Z).heap.size) := by rw [hR]; exact hQ
  have hb : 0 + b ≤ (zz_R Z).cells ∧ 0 + 5 * b ≤ (zz_R Z).slots := by rw [hR]; exact ⟨by dsimp only; omega, by dsimp only; omega⟩
  unfold wc_X7_compiled at hw
  refine hx_aload_n C dX7_compiled_0 0 rfl rfl ?_
  exact cx_aret C hQ (by omega) (by omega) (Or.inl ⟨_, rfl⟩) hw dX7_compiled_1
-- ('BinderPress$Sign', 'compiled', '()LBinderPress$Term;')
def wc_X8_compiled (X : cX) (b : Nat) (l0 : Nat) (μ : CM) (Q : Option Nat → CM → Prop) : Prop := Q (some l0) μ
set_option maxHeartbeats 4000000 in
theorem sc_X8_compiled (l : Launch) (X : cX) (sz : Nat) (Q : Option Nat → CM → Prop) (b : Nat) (l0 : Nat) (μ : CM) (hw : wc_X8_compiled X b l0 μ Q) : Met l yX8_compiled (ws_ yX8_compiled cX8_compiled 1 (some (.object "BinderPress$Term"))) ({ frames := 0, cells := b, slots := 5 * b, locals := 0 }) (cPc X (([aR (some l0)] : List AV).map toV) μ sz) (cQr X μ sz Q) b (5 * b) (cA X μ sz) := by
  refine cx_met2 (rm := ({ frames := 0, cells := b, slots := 5 * b, locals := 0 })) (As := [aR (some l0)]) (L0 := [(0, aR (some l0))]) (by decide) rfl (Nat.le_of_ble_eq_true rfl) rfl ?_
  intro Z C hK hsz hR hl0 hin hQ
  subst hsz
  have C : gC Z cX8_compiled 1 RX8 (some (.object "BinderPress$Term")) 0 0 := C
  have hQ : zz_q Z = MQ (zz_b Z) (cQr X μ (zz_s Z).heap.size Q) (zz_a Z) (zz_s Z) (zz_R Z).cells (zz_R Z).slots (cA X μ (zz_s Z).heap.size) := by rw [hR]; exact hQ
  have hb : 0 + b ≤ (zz_R Z).cells ∧ 0 + 5 * b ≤ (zz_R Z).slots := by rw [hR]; exact ⟨by dsimp only; omega, by dsimp only; omega⟩
  unfold wc_X8_compiled at hw
  refine hx_aload_n C dX8_compiled_0 0 rfl rfl ?_
  exact cx_aret C hQ (by omega) (by omega) (Or.inl ⟨_, rfl⟩) hw dX8_compiled_1
-- ('BinderPress$Binder', 'compiled', '()LBinderPress$Term;')
def rmet_V_compiled (l : Launch) (X : cX) (fr lo : Nat) (rc : Nat → Nat → CM → (Option Nat → CM → Prop) → Prop) : Prop := ∀ (b : Nat) (a : Nat) (μ : CM) (sz : Nat) (Q : Option Nat → CM → Prop), rc b a μ Q → (tg μ a = 6 ∧ ∃ rm, crm rm b (5 * b) fr lo 1 ∧ Met l yX7_compiled (ws_ yX7_compiled cX7_compiled 1 (some (.object "BinderPress$Term"))) rm (cPc X (([aR (some a)] : List AV).map toV) μ sz) (cQr X μ sz Q) b (5 * b) (cA X μ sz)) ∨ (tg μ a = 7 ∧ ∃ rm, crm rm b (5 * b) fr lo 1 ∧ Met l yX8_compiled (ws_ yX8_compiled cX8_compiled 1 (some (.object "BinderPress$Term"))) rm (cPc X (([aR (some a)] : List AV).map toV) μ sz) (cQr X μ sz Q) b (5 * b) (cA X μ sz)) ∨ (tg μ a = 8 ∧ ∃ rm, crm rm b (5 * b) fr lo 1 ∧ Met l yX9_compiled (ws_ yX9_compiled cX9_compiled 1 (some (.object "BinderPress$Term"))) rm (cPc X (([aR (some a)] : List AV).map toV) μ sz) (cQr X μ sz Q) b (5 * b) (cA X μ sz)) ∨ (tg μ a = 5 ∧ ∃ rm, crm rm b (5 * b) fr lo 1 ∧ Met l yX6_compiled (ws_ yX6_compiled cX6_compiled 1 (some (.object "BinderPress$Term"))) rm (cPc X (([aR (some a)] : List AV).map toV) μ sz) (cQr X μ sz Q) b (5 * b) (cA X μ sz))
set_option maxHeartbeats 4000000 in
theorem dv_compiled {Z : zz} {X : cX} {μ0 μ : CM} {cc : ByteArray} {nL : Nat} {own : String} {ret : Option FieldType} {F N kk nn pc : Nat} {H : Heap} {locs : List Loc} {ls : Array Slot} {lv : List (Nat × Value)} {stk rest : List Value} {index fr lo : Nat} {Q : Option Nat → CM → Prop} {rc : Nat → Nat → CM → (Option Nat → CM → Prop) → Prop} {b : Nat} {a : Nat} (C : gC Z cc nL own ret F N) (hK : cCt Z X μ0) (hI : cI Z X μ0 μ H locs) (hl : lv_has ls nL lv) (hrc : rmet_V_compiled (zz_l Z) X fr lo rc) (hw : rc b a μ Q) (hF : fr ≤ F) (hN : lo ≤ N) (hlk : (Cond.methodLink own index ⟨"BinderPress$Term", "compiled", "()LBinderPress$Term;"⟩).before (zz_a Z) (zz_s Z) = true) (hW : (rest.map fun v => v.category).sum ≤ 8) (d : decode cc pc = .ok (.invokevirtual index, 3)) (hn : ([] : List Value).length = 0) (hs : stk = ([] : List Value).reverse ++ .ref a :: rest) (hf : kk + b ≤ (zz_R Z).cells ∧ nn + 5 * b ≤ (zz_R Z).slots) : cRun Z H locs kk nn b (5 * b) pc ls stk rest (cQr X μ H.size Q (Value.ref a :: []).toArray) (cA X μ H.size) := by
  rcases hrc b a μ H.size Q hw with ⟨ht, rm, h, hM⟩ | ⟨ht, rm, h, hM⟩ | ⟨ht, rm, h, hM⟩ | ⟨ht, rm, h, hM⟩
  · exact cr_U (x := ⟨"BinderPress$Term", "compiled", "()LBinderPress$Term;"⟩) (owner := "BinderPress$Term") (Cn := "BinderPress$Name") C hK hI hl 0 (cv_dyn hK hI (ci := 5) rfl (Or.inr (cdE_5 ht))) hM hlk (C.w _ q497) (va_Decl.abs (hK.1.2.2.1 _ (List.mem_of_getElem? (i := 42) rfl))) (C.w _ q567) q502 q94 q503 (by decide +kernel) ⟨h.1, h.2.1, Nat.le_trans h.2.2.1 hF, Nat.le_trans h.2.2.2 hN⟩ hW d hn hs hf
  · exact cr_U (x := ⟨"BinderPress$Term", "compiled", "()LBinderPress$Term;"⟩) (owner := "BinderPress$Term") (Cn := "BinderPress$Sign") C hK hI hl 0 (cv_dyn hK hI (ci := 6) rfl (Or.inr (cdE_6 ht))) hM hlk (C.w _ q497) (va_Decl.abs (hK.1.2.2.1 _ (List.mem_of_getElem? (i := 42) rfl))) (C.w _ q569) q526 q95 q527 (by decide +kernel) ⟨h.1, h.2.1, Nat.le_trans h.2.2.1 hF, Nat.le_trans h.2.2.2 hN⟩ hW d hn hs hf
  · exact cr_U (x := ⟨"BinderPress$Term", "compiled", "()LBinderPress$Term;"⟩) (owner := "BinderPress$Term") (Cn := "BinderPress$Put") C hK hI hl 0 (cv_dyn hK hI (ci := 7) rfl (Or.inr (cdE_7 ht))) hM hlk (C.w _ q497) (va_Decl.abs (hK.1.2.2.1 _ (List.mem_of_getElem? (i := 42) rfl))) (C.w _ q568) q504 q96 q505 (by decide +kernel) ⟨h.1, h.2.1, Nat.le_trans h.2.2.1 hF, Nat.le_trans h.2.2.2 hN⟩ hW d hn hs hf
  · exact cr_U (x := ⟨"BinderPress$Term", "compiled", "()LBinderPress$Term;"⟩) (owner := "BinderPress$Term") (Cn := "BinderPress$Binder") C hK hI hl 0 (cv_dyn hK hI (ci := 4) rfl (Or.inr (cdE_4 ht))) hM hlk (C.w _ q497) (va_Decl.abs (hK.1.2.2.1 _ (List.mem_of_getElem? (i := 42) rfl))) (C.w _ q498) q499 q93 q500 (by decide +kernel) ⟨h.1, h.2.1, Nat.le_trans h.2.2.1 hF, Nat.le_trans h.2.2.2 hN⟩ hW d hn hs hf
def wc_X6_compiled_25 (X : cX) (rc : Nat → Nat → CM → (Option Nat → CM → Prop) → Prop) (Q : Option Nat → CM → Prop) (l0 : Nat) (b : Nat) (μ : CM) : Prop := tg μ l0 = 5 ∧ Q (oR μ l0 2) μ
set_option maxHeartbeats 4000000 in
theorem sc_X6_compiled_25 {Z : zz} {X : cX} {μ0 : CM} {Q : Option Nat → CM → Prop} {rc : Nat → Nat → CM → (Option Nat → CM → Prop) → Prop} {fr lo : Nat} (hA : 3133 ≤ fr) (hB : 65664 ≤ lo) (C : gC Z cX6_compiled 1 RX6 (some (.object "BinderPress$Term")) (fr + 0) (lo + 0)) (hK : cCt Z X μ0) (hrc : rmet_V_compiled (zz_l Z) X fr lo rc) (hQ : zz_q Z = MQ (zz_b Z) (cQr X μ0 (zz_s Z).heap.size Q) (zz_a Z) (zz_s Z) (zz_R Z).cells (zz_R Z).slots (cA X μ0 (zz_s Z).heap.size))  : ∀ l0 b μ, wc_X6_compiled_25 X rc Q l0 b μ → ∀ kk nn, (kk + b ≤ (zz_R Z).cells ∧ nn + 5 * b ≤ (zz_R Z).slots) → hG Z 1 (cI Z X μ0 μ) kk nn 25 [(0, aR (some l0))] [] := by
  intro l0 b μ hw kk nn hb
  unfold wc_X6_compiled_25 at hw
  refine hx_aload_n C dX6_compiled_25 0 rfl rfl ?_
  obtain ⟨ht1, hw⟩ := hw
  refine cx_get (μ := μ) (v := aR (oR μ l0 2)) C hK 4 2 rfl in_X6 (by decide) q379 rfl (cdE_4 ht1) rfl dX6_compiled_26 ?_
  exact cx_aret C hQ (by omega) (by omega) (Or.inl ⟨_, rfl⟩) hw dX6_compiled_29
def wc_X6_compiled (X : cX) (rc : Nat → Nat → CM → (Option Nat → CM → Prop) → Prop) (b : Nat) (l0 : Nat) (μ : CM) (Q : Option Nat → CM → Prop) : Prop := tg μ l0 = 5 ∧ ((¬ (oR μ l0 2) = none → wc_X6_compiled_25 X rc  Q l0 b μ) ∧ ((oR μ l0 2) = none → (∃ a2, (oR μ l0 1) = some a2 ∧ ∃ b4, b4 ≤ b ∧ rc b4 a2 μ (fun r6 μ7 => (tg μ7 l0 = 5 ∧ ∃ a9, r6 = some a9 ∧ ∃ b11, b11 ≤ (b - b4) ∧ wr_V_out X 3000 b11 a9 (oI μ7 l0 0) μ7 (fun r13 μ14 => tg μ14 l0 = 5 ∧ wc_X6_compiled_25 X rc  Q l0 ((b - b4) - b11) (poR μ14 l0 2 r13)))))))
set_option maxHeartbeats 4000000 in
theorem sc_X6_compiled (l : Launch) (X : cX) (sz : Nat) (Q : Option Nat → CM → Prop) {rc : Nat → Nat → CM → (Option Nat → CM → Prop) → Prop} {fr lo : Nat} (hA : 3133 ≤ fr) (hB : 65664 ≤ lo) (hrc : rmet_V_compiled l X fr lo rc) (b : Nat) (l0 : Nat) (μ : CM) (hw : wc_X6_compiled X rc b l0 μ Q) : Met l yX6_compiled (ws_ yX6_compiled cX6_compiled 1 (some (.object "BinderPress$Term"))) ({ frames := (fr + 0), cells := b, slots := 5 * b, locals := (lo + 0) }) (cPc X (([aR (some l0)] : List AV).map toV) μ sz) (cQr X μ sz Q) b (5 * b) (cA X μ sz) := by
  refine cx_met2 (rm := ({ frames := (fr + 0), cells := b, slots := 5 * b, locals := (lo + 0) })) (As := [aR (some l0)]) (L0 := [(0, aR (some l0))]) (by decide) rfl (Nat.le_of_ble_eq_true rfl) rfl ?_
  intro Z C hK hsz hR hl0 hin hQ
  subst hsz
  have C : gC Z cX6_compiled 1 RX6 (some (.object "BinderPress$Term")) (fr + 0) (lo + 0) := C
  rw [← hl0] at hrc
  have hQ : zz_q Z = MQ (zz_b Z) (cQr X μ (zz_s Z).heap.size Q) (zz_a Z) (zz_s Z) (zz_R Z).cells (zz_R Z).slots (cA X μ (zz_s Z).heap.size) := by rw [hR]; exact hQ
  have hb : 0 + b ≤ (zz_R Z).cells ∧ 0 + 5 * b ≤ (zz_R Z).slots := by rw [hR]; exact ⟨by dsimp only; omega, by dsimp only; omega⟩
  unfold wc_X6_compiled at hw
  refine hx_aload_n C dX6_compiled_0 0 rfl rfl ?_
  obtain ⟨ht1, hw⟩ := hw
  refine cx_get (μ := μ) (v := aR (oR μ l0 2)) C hK 4 2 rfl in_X6 (by decide) q379 rfl (cdE_4 ht1) rfl dX6_compiled_1 ?_
  refine hx_ifnonnull (tgt := 25) C dX6_compiled_4 (by decide) (fun h => ?_) (fun h => ?_)
  · have hw := hw.1 h
    refine hx_L [0] rfl ?_
    exact sc_X6_compiled_25 hA hB C hK hrc hQ  _ _ _ hw _ _ hb
  · have hw := hw.2 h
    refine hx_aload_n C dX6_compiled_7 0 rfl rfl ?_
    refine hx_aload_n C dX6_compiled_8 0 rfl rfl ?_
    refine cx_get (μ := μ) (v := aR (oR μ l0 1)) C hK 4 1 rfl in_X6 (by decide) q377 rfl (cdE_4 ht1) rfl dX6_compiled_9 ?_
    obtain ⟨a2, ha3, hw⟩ := hw
    rw [ha3]
    obtain ⟨b4, hu5, hw⟩ := hw
    refine fun H locs hI ls hl => cx_rr (S := [aR (some l0)]) hI hl (fun _ h => h) (dv_compiled (rest := [toV (aR (some l0))]) C hK hI hl hrc hw (by omega) (by omega) (C.w _ q501) (av_W [aR (some l0)] 8 (Nat.le_of_ble_eq_true rfl)) dX6_compiled_12 rfl rfl ⟨by omega, by omega⟩) (fun r6 μ7 hw => ?_)
    obtain hb : (0 + b4) + (b - b4) ≤ (zz_R Z).cells ∧ (0 + 5 * b4) + 5 * (b - b4) ≤ (zz_R Z).slots := ⟨by omega, by omega⟩
    refine hx_aload_n C dX6_compiled_15 0 rfl rfl ?_
    obtain ⟨ht8, hw⟩ := hw
    refine cx_get (μ := μ7) (v := aI (oI μ7 l0 0)) C hK 4 0 rfl in_X6 (by decide) q375 rfl (cdE_4 ht8) rfl dX6_compiled_16 ?_
    obtain ⟨a9, ha10, hw⟩ := hw
    rw [ha10]
    obtain ⟨b11, hu12, hw⟩ := hw
    refine fun H locs hI ls hl => cx_rr (S := [aR (some l0)]) hI hl (fun _ h => h) (dv_out (rest := [toV (aR (some l0))]) C hK hI hl (rr_V_out _ X 3000) hw (by omega) (by omega) (C.w _ q529) (av_W [aR (some l0)] 8 (Nat.le_of_ble_eq_true rfl)) dX6_compiled_19 rfl rfl ⟨by omega, by omega⟩) (fun r13 μ14 hw => ?_)
    obtain hb : ((0 + b4) + b11) + ((b - b4) - b11) ≤ (zz_R Z).cells ∧ ((0 + 5 * b4) + 5 * b11) + 5 * ((b - b4) - b11) ≤ (zz_R Z).slots := ⟨by omega, by omega⟩
    obtain ⟨ht15, hw⟩ := hw
    refine cx_put (μ := μ14) (μ' := (poR μ14 l0 2 r13)) C hK 4 2 rfl in_X6 tyX6_ok nmX6 (by decide) q379 rfl rfl (cdE_4 ht15) (Nat.le_of_ble_eq_true rfl) (cz_r (ty := tyX6 2) rfl r13) (cset_4_2 μ14 l0 r13) (cdE_4 ht15) rfl rfl rfl (fun _ _ => rfl) (fun _ hb => stq_o hb) dX6_compiled_22 ?_
    refine hx_L [0] rfl ?_
    exact sc_X6_compiled_25 hA hB C hK hrc hQ  _ _ _ hw _ _ hb
-- ('BinderPress$Put', 'compiled', '()LBinderPress$Term;')
def wc_X9_compiled_43 (X : cX) (rc : Nat → Nat → CM → (Option Nat → CM → Prop) → Prop) (Q : Option Nat → CM → Prop) (l0 : Nat) (b : Nat) (μ : CM) : Prop := tg μ l0 = 8 ∧ Q (oR μ l0 4) μ
set_option maxHeartbeats 4000000 in
theorem sc_X9_compiled_43 {Z : zz} {X : cX} {μ0 : CM} {Q : Option Nat → CM → Prop} {rc : Nat → Nat → CM → (Option Nat → CM → Prop) → Prop} {fr lo : Nat} (hA : 3133 ≤ fr) (hB : 65664 ≤ lo) (C : gC Z cX9_compiled 1 RX9 (some (.object "BinderPress$Term")) (fr + 0) (lo + 0)) (hK : cCt Z X μ0) (hrc : rmet_V_compiled (zz_l Z) X fr lo rc) (hQ : zz_q Z = MQ (zz_b Z) (cQr X μ0 (zz_s Z).heap.size Q) (zz_a Z) (zz_s Z) (zz_R Z).cells (zz_R Z).slots (cA X μ0 (zz_s Z).heap.size))  : ∀ l0 b μ, wc_X9_compiled_43 X rc Q l0 b μ → ∀ kk nn, (kk + b ≤ (zz_R Z).cells ∧ nn + 5 * b ≤ (zz_R Z).slots) → hG Z 1 (cI Z X μ0 μ) kk nn 43 [(0, aR (some l0))] [] := by
  intro l0 b μ hw kk nn hb
  unfold wc_X9_compiled_43 at hw
  refine hx_aload_n C dX9_compiled_43 0 rfl rfl ?_
  obtain ⟨ht1, hw⟩ := hw
  refine cx_get (μ := μ) (v := aR (oR μ l0 4)) C hK 7 4 rfl in_X9 (by decide) q467 rfl (cdE_7 ht1) rfl dX9_compiled_44 ?_
  exact cx_aret C hQ (by omega) (by omega) (Or.inl ⟨_, rfl⟩) hw dX9_compiled_47
def wc_X9_compiled_40 (X : cX) (rc : Nat → Nat → CM → (Option Nat → CM → Prop) → Prop) (Q : Option Nat → CM → Prop) (l0 : Nat) (s1 : Option Nat) (b : Nat) (μ : CM) : Prop := tg μ l0 = 8 ∧ wc_X9_compiled_43 X rc  Q l0 b (poR μ l0 4 s1)
set_option maxHeartbeats 4000000 in
theorem sc_X9_compiled_40 {Z : zz} {X : cX} {μ0 : CM} {Q : Option Nat → CM → Prop} {rc : Nat → Nat → CM → (Option Nat → CM → Prop) → Prop} {fr lo : Nat} (hA : 3133 ≤ fr) (hB : 65664 ≤ lo) (C : gC Z cX9_compiled 1 RX9 (some (.object "BinderPress$Term")) (fr + 0) (lo + 0)) (hK : cCt Z X μ0) (hrc : rmet_V_compiled (zz_l Z) X fr lo rc) (hQ : zz_q Z = MQ (zz_b Z) (cQr X μ0 (zz_s Z).heap.size Q) (zz_a Z) (zz_s Z) (zz_R Z).cells (zz_R Z).slots (cA X μ0 (zz_s Z).heap.size))  : ∀ l0 s1 b μ, wc_X9_compiled_40 X rc Q l0 s1 b μ → ∀ kk nn, (kk + b ≤ (zz_R Z).cells ∧ nn + 5 * b ≤ (zz_R Z).slots) → hG Z 1 (cI Z X μ0 μ) kk nn 40 [(0, aR (some l0))] [aR s1, aR (some l0)] := by
  intro l0 s1 b μ hw kk nn hb
  unfold wc_X9_compiled_40 at hw
  obtain ⟨ht1, hw⟩ := hw
  refine cx_put (μ := μ) (μ' := (poR μ l0 4 s1)) C hK 7 4 rfl in_X9 tyX9_ok nmX9 (by decide) q467 rfl rfl (cdE_7 ht1) (Nat.le_of_ble_eq_true rfl) (cz_r (ty := tyX9 4) rfl s1) (cset_7_4 μ l0 s1) (cdE_7 ht1) rfl rfl rfl (fun _ _ => rfl) (fun _ hb => stq_o hb) dX9_compiled_40 ?_
  refine hx_L [0] rfl ?_
  exact sc_X9_compiled_43 hA hB C hK hrc hQ  _ _ _ hw _ _ hb
def wc_X9_compiled (X : cX) (rc : Nat → Nat → CM → (Option Nat → CM → Prop) → Prop) (b : Nat) (l0 : Nat) (μ : CM) (Q : Option Nat → CM → Prop) : Prop := tg μ l0 = 8 ∧ ((¬ (oR μ l0 4) = none → wc_X9_compiled_43 X rc  Q l0 b μ) ∧ ((oR μ l0 4) = none → wc_X9_binders X (wr_V_binders X 130) l0 μ (fun r2 μ3 => R32 r2 ∧ ((¬ r2 = 0 → (1 ≤ b ∧ ∀ a6, tg μ3 a6 = 0 → tg (alc μ3 a6 8 0) l0 = 8 ∧ ∃ a10, (oR (alc μ3 a6 8 0) l0 0) = some a10 ∧ ∃ b12, b12 ≤ (b - 1) ∧ rc b12 a10 (alc μ3 a6 8 0) (fun r14 μ15 => (tg μ15 l0 = 8 ∧ ∃ a17, (oR μ15 l0 1) = some a17 ∧ ∃ b19, b19 ≤ ((b - 1) - b12) ∧ rc b19 a17 μ15 (fun r21 μ22 => wc_X9_init X a6 r14 r21 μ22 (fun μ24 => wc_X9_compiled_40 X rc  Q l0 (some a6) (((b - 1) - b12) - b19) μ24)))))) ∧ (r2 = 0 → wc_X9_compiled_40 X rc  Q l0 (some l0) b μ3)))))
set_option maxHeartbeats 4000000 in
theorem sc_X9_compiled (l : Launch) (X : cX) (sz : Nat) (Q : Option Nat → CM → Prop) {rc : Nat → Nat → CM → (Option Nat → CM → Prop) → Prop} {fr lo : Nat} (hA : 3133 ≤ fr) (hB : 65664 ≤ lo) (hrc : rmet_V_compiled l X fr lo rc) (b : Nat) (l0 : Nat) (μ : CM) (hw : wc_X9_compiled X rc b l0 μ Q) : Met l yX9_compiled (ws_ yX9_compiled cX9_compiled 1 (some (.object "BinderPress$Term"))) ({ frames := (fr + 0), cells := b, slots := 5 * b, locals := (lo + 0) }) (cPc X (([aR (some l0)] : List AV).map toV) μ sz) (cQr X μ sz Q) b (5 * b) (cA X μ sz) := by
  refine cx_met2 (rm := ({ frames := (fr + 0), cells := b, slots := 5 * b, locals := (lo + 0) })) (As := [aR (some l0)]) (L0 := [(0, aR (some l0))]) (by decide) rfl (Nat.le_of_ble_eq_true rfl) rfl ?_
  intro Z C hK hsz hR hl0 hin hQ
  subst hsz
  have C : gC Z cX9_compiled 1 RX9 (some (.object "BinderPress$Term")) (fr + 0) (lo + 0) := C
  rw [← hl0] at hrc
  have hQ : zz_q Z = MQ (zz_b Z) (cQr X μ (zz_s Z).heap.size Q) (zz_a Z) (zz_s Z) (zz_R Z).cells (zz_R Z).slots (cA X μ (zz_s Z).heap.size) := by rw [hR]; exact hQ
  have hb : 0 + b ≤ (zz_R Z).cells ∧ 0 + 5 * b ≤ (zz_R Z).slots := by rw [hR]; exact ⟨by dsimp only; omega, by dsimp only; omega⟩
  unfold wc_X9_compiled at hw
  refine hx_aload_n C dX9_compiled_0 0 rfl rfl ?_
  obtain ⟨ht1, hw⟩ := hw
  refine cx_get (μ := μ) (v := aR (oR μ l0 4)) C hK 7 4 rfl in_X9 (by decide) q467 rfl (cdE_7 ht1) rfl dX9_compiled_1 ?_
  refine hx_ifnonnull (tgt := 43) C dX9_compiled_4 (by decide) (fun h => ?_) (fun h => ?_)
  · have hw := hw.1 h
    refine hx_L [0] rfl ?_
    exact sc_X9_compiled_43 hA hB C hK hrc hQ  _ _ _ hw _ _ hb
  · have hw := hw.2 h
    refine hx_aload_n C dX9_compiled_7 0 rfl rfl ?_
    refine hx_aload_n C dX9_compiled_8 0 rfl rfl ?_
    refine fun H locs hI ls hl => cx_ri (S := [aR (some l0)]) hI hl (fun _ h => h) (cr_V (Cn := RX9) (As := []) (rest := [toV (aR (some l0))]) C hK hI hl 0 (cv_dyn hK hI (ci := 7) rfl (Or.inr (cdE_7 ht1))) (sc_X9_binders _ X H.size _ (by decide) (by decide) (rr_V_binders _ X 130) _ _ hw) (lw_V q506 q507 q508 q96 q509) (by decide +kernel) ⟨rfl, rfl, by (dsimp only; omega), by (dsimp only; omega)⟩ (av_W [aR (some l0)] 8 (Nat.le_of_ble_eq_true rfl)) dX9_compiled_9 rfl rfl ⟨by omega, by omega⟩) (fun r2 μ3 hw => ?_)
    obtain ⟨hr4, hw⟩ := hw
    refine hx_if_ne (tgt := 19) C dX9_compiled_12 (by decide) hr4 (fun h => ?_) (fun h => ?_)
    · have hw := hw.1 h
      obtain ⟨hu5, hw⟩ := hw
      refine cx_new (fs := fun a => coF_7 (alc μ3 a 8 0) a) C hK 7 8 rfl in_X9 tyX9_ok q524 q420 q96 (by decide) (fun a => cdE_7 alc_t) (cxd_7 _) (by omega) (by omega) dX9_compiled_19 (fun a6 hf7 => ?_)
      have hw := hw a6 hf7
      obtain hb : (0 + 1) + (b - 1) ≤ (zz_R Z).cells ∧ (0 + 5) + 5 * (b - 1) ≤ (zz_R Z).slots := ⟨by omega, by omega⟩
      have ht8 : tg (alc μ3 a6 8 0) a6 = 8 := alc_t
      refine hx_dup C dX9_compiled_22 rfl ?_
      refine hx_aload_n C dX9_compiled_23 0 rfl rfl ?_
      obtain ⟨ht9, hw⟩ := hw
      refine cx_get (μ := (alc μ3 a6 8 0)) (v := aR (oR (alc μ3 a6 8 0) l0 0)) C hK 7 0 rfl in_X9 (by decide) q459 rfl (cdE_7 ht9) rfl dX9_compiled_24 ?_
      obtain ⟨a10, ha11, hw⟩ := hw
      rw [ha11]
      obtain ⟨b12, hu13, hw⟩ := hw
      refine fun H locs hI ls hl => cx_rr (S := [aR (some a6), aR (some a6), aR (some l0)]) hI hl (fun _ h => h) (dv_compiled (rest := [toV (aR (some a6)), toV (aR (some a6)), toV (aR (some l0))]) C hK hI hl hrc hw (by omega) (by omega) (C.w _ q525) (av_W [aR (some a6), aR (some a6), aR (some l0)] 8 (Nat.le_of_ble_eq_true rfl)) dX9_compiled_27 rfl rfl ⟨by omega, by omega⟩) (fun r14 μ15 hw => ?_)
      obtain hb : ((0 + 1) + b12) + ((b - 1) - b12) ≤ (zz_R Z).cells ∧ ((0 + 5) + 5 * b12) + 5 * ((b - 1) - b12) ≤ (zz_R Z).slots := ⟨by omega, by omega⟩
      refine hx_aload_n C dX9_compiled_30 0 rfl rfl ?_
      obtain ⟨ht16, hw⟩ := hw
      refine cx_get (μ := μ15) (v := aR (oR μ15 l0 1)) C hK 7 1 rfl in_X9 (by decide) q462 rfl (cdE_7 ht16) rfl dX9_compiled_31 ?_
      obtain ⟨a17, ha18, hw⟩ := hw
      rw [ha18]
      obtain ⟨b19, hu20, hw⟩ := hw
      refine fun H locs hI ls hl => cx_rr (S := [aR r14, aR (some a6), aR (some a6), aR (some l0)]) hI hl (fun _ h => h) (dv_compiled (rest := [toV (aR r14), toV (aR (some a6)), toV (aR (some a6)), toV (aR (some l0))]) C hK hI hl hrc hw (by omega) (by omega) (C.w _ q525) (av_W [aR r14, aR (some a6), aR (some a6), aR (some l0)] 8 (Nat.le_of_ble_eq_true rfl)) dX9_compiled_34 rfl rfl ⟨by omega, by omega⟩) (fun r21 μ22 hw => ?_)
      obtain hb : (((0 + 1) + b12) + b19) + (((b - 1) - b12) - b19) ≤ (zz_R Z).cells ∧ (((0 + 5) + 5 * b12) + 5 * b19) + 5 * (((b - 1) - b12) - b19) ≤ (zz_R Z).slots := ⟨by omega, by omega⟩
      refine fun H locs hI ls hl => cx_rv (S := [aR (some a6), aR (some l0)]) hI hl (fun _ h => h) (cr_I (a := a6) (As := [toV (aR r14), toV (aR r21)]) (rest := [toV (aR (some a6)), toV (aR (some l0))]) C hK hI hl 2 (sc_X9_init _ X H.size _ _ _ _ _ hw) q528 q422 q96 q423 rfl (by decide +kernel) ⟨rfl, rfl, by (dsimp only; omega), by (dsimp only; omega)⟩ (av_W [aR (some a6), aR (some l0)] 8 (Nat.le_of_ble_eq_true rfl)) dX9_compiled_37 rfl rfl ⟨by omega, by omega⟩) (fun μ24 hw => ?_)
      refine hx_L [0] rfl ?_
      exact sc_X9_compiled_40 hA hB C hK hrc hQ  _ _ _ _ hw _ _ hb
    · have hw := hw.2 h
      refine hx_aload_n C dX9_compiled_15 0 rfl rfl ?_
      refine hx_goto (tgt := 40) C dX9_compiled_16 (by decide) ?_
      refine hx_L [0] rfl ?_
      exact sc_X9_compiled_40 hA hB C hK hrc hQ  _ _ _ _ hw _ _ hb
