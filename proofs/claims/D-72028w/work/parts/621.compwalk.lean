/-! walks of the component (printed by gen_comp) -/
set_option maxRecDepth 100000
-- ('BinderPress', 'term', '(I)I')
def wc_X0_term (X : cX) (b : Nat) (l1 : Int) (μ : CM) (Q : Int → CM → Prop) : Prop := wc_X0_isShelf X l1 μ (fun r1 μ2 => R32 r1 ∧ ((¬ r1 = 0 → 1 ≤ b ∧ ∀ a5, tg μ2 a5 = 0 → wc_X3_init X a5 (some (cX_a X 6)) (kI μ2 7 0) (alc (pkI μ2 8 0 (-1)) a5 3 0) (fun μ9 => (∃ b10, b10 ≤ (b - 1) ∧ tg μ9 a5 = 3 ∧ wc_X3_all X b10 a5 μ9 (fun r12 μ13 => wc_X0_lay X l1 r12 μ13 (fun r16 μ17 => Q r16 (pkI μ17 7 0 0))) (fun q9 μ13x => tg μ13x q9 = 4 ∧ Q ((-10) - (oI μ13x q9 6)) (pkI (pkI μ13x 8 0 (oI μ13x q9 7)) 7 0 0))))) ∧ (r1 = 0 → Q (-1000000001) μ2)))
set_option maxHeartbeats 4000000 in
theorem sc_X0_term (l : Launch) (X : cX) (sz : Nat) (Q : Int → CM → Prop) (b : Nat) (l1 : Int) (μ : CM) (hw : wc_X0_term X b l1 μ Q) : Met l yX0_term (wsW_ yX0_term cX0_term 5 (some .int) [(15, 39, 46, 117), (15, 39, 70, 0), (46, 63, 70, 0), (70, 72, 70, 0)]) ({ frames := 1177, cells := b, slots := 5 * b, locals := 25370 }) (cPc X (([aR (some (cX_h X)), aI l1] : List AV).map toV) μ sz) (cQi X μ sz Q) b (5 * b) (cA X μ sz) := by
  refine cz_met2 (rm := ({ frames := 1177, cells := b, slots := 5 * b, locals := 25370 })) (As := [aR (some (cX_h X)), aI l1]) (L0 := [(0, aR (some (cX_h X))), (1, aI l1)]) (by decide) rfl (Nat.le_of_ble_eq_true rfl) rfl ?_
  intro Z C hK hsz hR hl0 hin hX hQ
  subst hsz
  have C : gC Z cX0_term 5 RX0 (some .int) 1177 25370 := C
  have hQ : zz_q Z = MQ (zz_b Z) (cQi X μ (zz_s Z).heap.size Q) (zz_a Z) (zz_s Z) (zz_R Z).cells (zz_R Z).slots (cA X μ (zz_s Z).heap.size) := by rw [hR]; exact hQ
  have hb : 0 + b ≤ (zz_R Z).cells ∧ 0 + 5 * b ≤ (zz_R Z).slots := by rw [hR]; exact ⟨by dsimp only; omega, by dsimp only; omega⟩
  unfold wc_X0_term at hw
  refine hx_iload_n C dX0_term_0 1 rfl rfl ?_
  refine fun H locs hI ls hl => cx_ri (S := []) hI hl (fun _ h => h) (cr_S (As := [toV (aI l1)]) (rest := []) C hK hI hl 1 (sc_X0_isShelf _ X H.size _ _ _ hw) (lw_S q215 q216 q84 q217) (by decide +kernel) ⟨rfl, rfl, Nat.le_of_ble_eq_true rfl, Nat.le_of_ble_eq_true rfl⟩ (av_W [] 8 (Nat.le_of_ble_eq_true rfl)) dX0_term_1 rfl rfl ⟨by omega, by omega⟩) (fun r1 μ2 hw => ?_)
  obtain ⟨hr3, hw⟩ := hw
  refine hx_if_ne (tgt := 10) C dX0_term_4 (by decide) hr3 (fun h => ?_) (fun h => ?_)
  · have hw := hw.1 h
    refine hx_aload_n C dX0_term_10 0 rfl rfl ?_
    refine hx_iconst C dX0_term_11 ?_
    refine cx_putS C hK 0 8 (by decide) rfl in_X0 tyX0_ok nmX0 (by decide) q174 rfl rfl rfl (Nat.le_of_ble_eq_true rfl) ⟨rfl, rfl⟩ (csb_8 X _ _) rfl rfl rfl rfl dX0_term_12 ?_
    refine hx_aload_n C dX0_term_15 0 rfl rfl ?_
    refine hx_iload_n C dX0_term_16 1 rfl rfl ?_
    obtain ⟨hu4, hw⟩ := hw
    refine cx_new (fs := fun a => coF_2 (alc (pkI μ2 8 0 (-1)) a 3 0) a) C hK 2 3 rfl in_X3 tyX3_ok q219 q220 q87 (by decide) (fun a => cdE_2 alc_t) (cxd_2 _) (by omega) (by omega) dX0_term_17 (fun a5 hf6 => ?_)
    have hw := hw a5 hf6
    obtain hb : (0 + 1) + (b - 1) ≤ (zz_R Z).cells ∧ (0 + 4) + 5 * (b - 1) ≤ (zz_R Z).slots := ⟨by omega, by omega⟩
    have ht7 : tg (alc (pkI μ2 8 0 (-1)) a5 3 0) a5 = 3 := alc_t
    refine hx_dup C dX0_term_20 rfl ?_
    refine hx_aload_n C dX0_term_21 0 rfl rfl ?_
    refine cx_getS (μ := (alc (pkI μ2 8 0 (-1)) a5 3 0)) (v := aR (some (cX_a X 6))) C hK 0 6 rfl in_X0 (by decide) q172 rfl rfl rfl dX0_term_22 ?_
    refine hx_aload_n C dX0_term_25 0 rfl rfl ?_
    refine cx_getS (μ := (alc (pkI μ2 8 0 (-1)) a5 3 0)) (v := aI (kI μ2 7 0)) C hK 0 7 rfl in_X0 (by decide) q173 rfl rfl rfl dX0_term_26 ?_
    refine fun H locs hI ls hl => cx_rv (S := [aR (some a5), aI l1, aR (some (cX_h X))]) hI hl (fun _ h => h) (cr_I (a := a5) (As := [toV (aR (some (cX_a X 6))), toV (aI (kI μ2 7 0))]) (rest := [toV (aR (some a5)), toV (aI l1), toV (aR (some (cX_h X)))]) C hK hI hl 2 (sc_X3_init _ X H.size _ _ _ _ _ hw) q221 q222 q87 q223 rfl (by decide +kernel) ⟨rfl, rfl, Nat.le_of_ble_eq_true rfl, Nat.le_of_ble_eq_true rfl⟩ (av_W [aR (some a5), aI l1, aR (some (cX_h X))] 8 (Nat.le_of_ble_eq_true rfl)) dX0_term_29 rfl rfl ⟨by omega, by omega⟩) (fun μ9 hw => ?_)
    obtain ⟨b10, hu11, hw⟩ := hw
    obtain ⟨ht14, hw⟩ := hw
    refine fun H locs hI ls hl => cy_rr (S := [aI l1, aR (some (cX_h X))]) hI hl (fun _ h => h) (cy_V (Cn := RX3) (As := []) (rest := [toV (aI l1), toV (aR (some (cX_h X)))]) C hK hI hl 0 (cv_dyn hK hI (ci := 2) rfl (Or.inr (cdE_2 ht14))) (sc_X3_all _ X H.size _ _ b10 _ _ hw) (lw_V q238 q239 q240 q87 q241) (by decide +kernel) ⟨rfl, rfl, Nat.le_of_ble_eq_true rfl, Nat.le_of_ble_eq_true rfl⟩ (av_W [aI l1, aR (some (cX_h X))] 8 (Nat.le_of_ble_eq_true rfl)) dX0_term_32 rfl rfl ⟨by omega, by omega⟩) (fun q9 μ13x hw => ?_) (fun r12 μ13 hw => ?_)
    · refine cy_catch (tgt := 46) C hK ⟨15, 39, 46, 117⟩ (tableOf [(15, 39, 46, 117), (15, 39, 70, 0), (46, 63, 70, 0), (70, 72, 70, 0)]).tail hX (by decide) (by decide) q214 (List.mem_of_getElem? (i := 40) rfl) rfl ?_
      obtain hb : ((0 + 1) + b10) + ((b - 1) - b10) ≤ (zz_R Z).cells ∧ ((0 + 4) + 5 * b10) + 5 * ((b - 1) - b10) ≤ (zz_R Z).slots := ⟨by omega, by omega⟩
      refine hx_astore_n (L' := [(2, aR (some q9)), (0, aR (some (cX_h X))), (1, aI l1)]) C dX0_term_46 rfl (by decide) rfl ?_
      refine hx_aload_n C dX0_term_47 1 rfl rfl ?_
      refine hx_aload_n C dX0_term_48 0 rfl rfl ?_
      obtain ⟨ht15, hw⟩ := hw
      refine cx_getN (μ := μ13x) (v := aI (oI μ13x q9 7)) C hK 3 7 rfl in_X4 (by decide) (List.mem_of_getElem? (i := 17) rfl) rfl (cdE_3 ht15) rfl dX0_term_49 ?_
      refine cx_putS C hK 0 8 (by decide) rfl in_X0 tyX0_ok nmX0 (by decide) q174 rfl rfl rfl (Nat.le_of_ble_eq_true rfl) ⟨rfl, rfl⟩ (csb_8 X _ _) rfl rfl rfl rfl dX0_term_52 ?_
      refine hx_bipush C dX0_term_55 (by decide) ?_
      refine hx_aload_n C dX0_term_57 0 rfl rfl ?_
      refine cx_getN (μ := (pkI μ13x 8 0 (oI μ13x q9 7))) (v := aI (oI μ13x q9 6)) C hK 3 6 rfl in_X4 (by decide) (List.mem_of_getElem? (i := 16) rfl) rfl (cdE_3 ht15) rfl dX0_term_58 ?_
      refine hx_isub C dX0_term_61 ?_
      refine hx_istore_n (L' := [(3, aI ((-10) - (oI μ13x q9 6))), (2, aR (some q9)), (0, aR (some (cX_h X))), (1, aI l1)]) C dX0_term_62 rfl (by decide) rfl ?_
      refine hx_aload_n C dX0_term_63 2 rfl rfl ?_
      refine hx_iconst C dX0_term_64 ?_
      refine cx_putS C hK 0 7 (by decide) rfl in_X0 tyX0_ok nmX0 (by decide) q173 rfl rfl rfl (Nat.le_of_ble_eq_true rfl) ⟨rfl, rfl⟩ (csb_7 X _ _) rfl rfl rfl rfl dX0_term_65 ?_
      refine hx_iload_n C dX0_term_68 0 rfl rfl ?_
      exact cx_iret C hQ (by omega) (by omega) rfl hw dX0_term_69
    · skip
      obtain hb : ((0 + 1) + b10) + ((b - 1) - b10) ≤ (zz_R Z).cells ∧ ((0 + 4) + 5 * b10) + 5 * ((b - 1) - b10) ≤ (zz_R Z).slots := ⟨by omega, by omega⟩
      refine fun H locs hI ls hl => cx_ri (S := []) hI hl (fun _ h => h) (cr_V (Cn := RX0) (As := [toV (aI l1), toV (aR r12)]) (rest := []) C hK hI hl 2 (cv_dyn hK hI (ci := 0) rfl (Or.inl ⟨0, rfl⟩)) (sc_X0_lay _ X H.size _ _ _ _ hw) (lw_V q479 q481 qs8 q84 q482) (by decide +kernel) ⟨rfl, rfl, Nat.le_of_ble_eq_true rfl, Nat.le_of_ble_eq_true rfl⟩ (av_W [] 8 (Nat.le_of_ble_eq_true rfl)) dX0_term_35 rfl rfl ⟨by omega, by omega⟩) (fun r16 μ17 hw => ?_)
      refine hx_istore_n (L' := [(2, aI r16), (0, aR (some (cX_h X))), (1, aI l1)]) C dX0_term_38 rfl (by decide) rfl ?_
      refine hx_aload_n C dX0_term_39 1 rfl rfl ?_
      refine hx_iconst C dX0_term_40 ?_
      refine cx_putS C hK 0 7 (by decide) rfl in_X0 tyX0_ok nmX0 (by decide) q173 rfl rfl rfl (Nat.le_of_ble_eq_true rfl) ⟨rfl, rfl⟩ (csb_7 X _ _) rfl rfl rfl rfl dX0_term_41 ?_
      refine hx_iload_n C dX0_term_44 0 rfl rfl ?_
      exact cx_iret C hQ (by omega) (by omega) rfl hw dX0_term_45
  · have hw := hw.2 h
    refine hx_ldc C (-1000000001) q218 (by decide) dX0_term_7 ?_
    exact cx_iret C hQ (by omega) (by omega) rfl hw dX0_term_9
-- ('BinderPress', 'toldOf', '(LBinderPress$Term;I)I')
def wc_X0_toldOf_97 (X : cX) (Q : Int → CM → Prop) (s0 : Int) (b : Nat) (μ : CM) : Prop := Q s0 μ
set_option maxHeartbeats 4000000 in
theorem sc_X0_toldOf_97 {Z : zz} {X : cX} {μ0 : CM} {Q : Int → CM → Prop} (C : gC Z cX0_toldOf 2 RX0 (some .int) 268 5775) (hK : cCt Z X μ0) (hQ : zz_q Z = MQ (zz_b Z) (cQi X μ0 (zz_s Z).heap.size Q) (zz_a Z) (zz_s Z) (zz_R Z).cells (zz_R Z).slots (cA X μ0 (zz_s Z).heap.size))  : ∀ s0 b μ, wc_X0_toldOf_97 X Q s0 b μ → ∀ kk nn, (kk + b ≤ (zz_R Z).cells ∧ nn + 5 * b ≤ (zz_R Z).slots) → hG Z 2 (cI Z X μ0 μ) kk nn 97 [] [aI s0] := by
  intro s0 b μ hw kk nn hb
  unfold wc_X0_toldOf_97 at hw
  exact cx_iret C hQ (by omega) (by omega) rfl hw dX0_toldOf_97
def wc_X0_toldOf_73 (X : cX) (Q : Int → CM → Prop) (l0 : Option Nat) (l1 : Int) (b : Nat) (μ : CM) : Prop := (∃ a1, l0 = some a1 ∧ wr_V_count X 130 a1 (l1 - 3) μ (fun r3 μ4 => wc_X0_toldOf_97 X   Q r3 b μ4))
set_option maxHeartbeats 4000000 in
theorem sc_X0_toldOf_73 {Z : zz} {X : cX} {μ0 : CM} {Q : Int → CM → Prop} (C : gC Z cX0_toldOf 2 RX0 (some .int) 268 5775) (hK : cCt Z X μ0) (hQ : zz_q Z = MQ (zz_b Z) (cQi X μ0 (zz_s Z).heap.size Q) (zz_a Z) (zz_s Z) (zz_R Z).cells (zz_R Z).slots (cA X μ0 (zz_s Z).heap.size))  : ∀ l0 l1 b μ, wc_X0_toldOf_73 X Q l0 l1 b μ → ∀ kk nn, (kk + b ≤ (zz_R Z).cells ∧ nn + 5 * b ≤ (zz_R Z).slots) → hG Z 2 (cI Z X μ0 μ) kk nn 73 [(0, aR l0), (1, aI l1)] [] := by
  intro l0 l1 b μ hw kk nn hb
  unfold wc_X0_toldOf_73 at hw
  refine hx_aload_n C dX0_toldOf_73 0 rfl rfl ?_
  refine hx_iload_n C dX0_toldOf_74 1 rfl rfl ?_
  refine hx_iconst C dX0_toldOf_75 ?_
  refine hx_isub C dX0_toldOf_76 ?_
  obtain ⟨a1, ha2, hw⟩ := hw
  rw [ha2]
  refine fun H locs hI ls hl => cx_ri (S := []) hI hl (fun _ h => h) (dv_count (rest := []) C hK hI hl (rr_V_count _ X 130) hw (by omega) (by omega) (C.w _ q851) (av_W [] 8 (Nat.le_of_ble_eq_true rfl)) dX0_toldOf_77 rfl rfl ⟨by omega, by omega⟩) (fun r3 μ4 hw => ?_)
  refine hx_goto (tgt := 97) C dX0_toldOf_80 (by decide) ?_
  refine hx_L [] rfl ?_
  exact sc_X0_toldOf_97 C hK hQ  _ _ _ hw _ _ hb
def wc_X0_toldOf (X : cX) (b : Nat) (l0 : Option Nat) (l1 : Int) (μ : CM) (Q : Int → CM → Prop) : Prop := R32 l1 ∧ ((l1 = 0 → (∃ a2, l0 = some a2 ∧ wr_V_size X 130 a2 μ (fun r4 μ5 => wc_X0_toldOf_97 X   Q r4 b μ5))) ∧ (l1 = 1 → (∃ a6, l0 = some a6 ∧ wr_V_free X 130 a6 μ (fun r8 μ9 => wc_X0_toldOf_97 X   Q r8 b μ9))) ∧ (l1 = 2 → (∃ a10, l0 = some a10 ∧ wr_V_binders X 130 a10 μ (fun r12 μ13 => wc_X0_toldOf_97 X   Q r12 b μ13))) ∧ (l1 = 3 → wc_X0_toldOf_73 X   Q l0 l1 b μ) ∧ (l1 = 4 → wc_X0_toldOf_73 X   Q l0 l1 b μ) ∧ (l1 = 5 → wc_X0_toldOf_73 X   Q l0 l1 b μ) ∧ (l1 = 6 → wc_X0_toldOf_73 X   Q l0 l1 b μ) ∧ (l1 = 7 → wc_X0_toldOf_73 X   Q l0 l1 b μ) ∧ (l1 = 8 → (∃ b14, b14 ≤ b ∧ wc_X0_written X b14 l0 μ (fun r16 μ17 => (∃ a18, r16 = some a18 ∧ (tg μ17 a18 = 13 ∨ tg μ17 a18 = 14) ∧ wc_J0_length X a18 μ17 (fun r20 μ21 => wc_X0_toldOf_97 X   Q r20 (b - b14) μ21))))) ∧ ((l1 < 0 ∨ 8 < l1) → (∃ a23, l0 = some a23 ∧ wr_V_deep X 130 a23 μ (fun r25 μ26 => wc_X0_toldOf_97 X   Q r25 b μ26))))
set_option maxHeartbeats 4000000 in
theorem sc_X0_toldOf (l : Launch) (X : cX) (sz : Nat) (Q : Int → CM → Prop) (b : Nat) (l0 : Option Nat) (l1 : Int) (μ : CM) (hw : wc_X0_toldOf X b l0 l1 μ Q) : Met l yX0_toldOf (ws_ yX0_toldOf cX0_toldOf 2 (some .int)) ({ frames := 268, cells := b, slots := 5 * b, locals := 5775 }) (cPc X (([aR l0, aI l1] : List AV).map toV) μ sz) (cQi X μ sz Q) b (5 * b) (cA X μ sz) := by
  refine cx_met2 (rm := ({ frames := 268, cells := b, slots := 5 * b, locals := 5775 })) (As := [aR l0, aI l1]) (L0 := [(0, aR l0), (1, aI l1)]) (by decide) rfl (Nat.le_of_ble_eq_true rfl) rfl ?_
  intro Z C hK hsz hR hl0 hin hQ
  subst hsz
  have C : gC Z cX0_toldOf 2 RX0 (some .int) 268 5775 := C
  have hQ : zz_q Z = MQ (zz_b Z) (cQi X μ (zz_s Z).heap.size Q) (zz_a Z) (zz_s Z) (zz_R Z).cells (zz_R Z).slots (cA X μ (zz_s Z).heap.size) := by rw [hR]; exact hQ
  have hb : 0 + b ≤ (zz_R Z).cells ∧ 0 + 5 * b ≤ (zz_R Z).slots := by rw [hR]; exact ⟨by dsimp only; omega, by dsimp only; omega⟩
  unfold wc_X0_toldOf at hw
  refine hx_iload_n C dX0_toldOf_0 1 rfl rfl ?_
  obtain ⟨hr1, hw⟩ := hw
  rcases (show l1 = 0 ∨ l1 = 1 ∨ l1 = 2 ∨ l1 = 3 ∨ l1 = 4 ∨ l1 = 5 ∨ l1 = 6 ∨ l1 = 7 ∨ l1 = 8 ∨ (l1 < 0 ∨ 8 < l1) by omega) with h | h | h | h | h | h | h | h | h | h
  · have hw := hw.1 h
    refine hx_tableIn (tgt := 52) (off := 51) C 0 dX0_toldOf_1 h (by decide) (by decide) (by decide) rfl (by decide) ?_
    refine hx_aload_n C dX0_toldOf_52 0 rfl rfl ?_
    obtain ⟨a2, ha3, hw⟩ := hw
    rw [ha3]
    refine fun H locs hI ls hl => cx_ri (S := []) hI hl (fun _ h => h) (dv_size (rest := []) C hK hI hl (rr_V_size _ X 130) hw (by omega) (by omega) (va_Nw.use rfl (hK.1.2.2.1 _ (List.mem_of_getElem? (i := 72) rfl))) (av_W [] 8 (Nat.le_of_ble_eq_true rfl)) dX0_toldOf_53 rfl rfl ⟨by omega, by omega⟩) (fun r4 μ5 hw => ?_)
    refine hx_goto (tgt := 97) C dX0_toldOf_56 (by decide) ?_
    refine hx_L [] rfl ?_
    exact sc_X0_toldOf_97 C hK hQ  _ _ _ hw _ _ hb
  · have hw := hw.2.1 h
    refine hx_tableIn (tgt := 59) (off := 58) C 1 dX0_toldOf_1 h (by decide) (by decide) (by decide) rfl (by decide) ?_
    refine hx_aload_n C dX0_toldOf_59 0 rfl rfl ?_
    obtain ⟨a6, ha7, hw⟩ := hw
    rw [ha7]
    refine fun H locs hI ls hl => cx_ri (S := []) hI hl (fun _ h => h) (dv_free (rest := []) C hK hI hl (rr_V_free _ X 130) hw (by omega) (by omega) (C.w _ q850) (av_W [] 8 (Nat.le_of_ble_eq_true rfl)) dX0_toldOf_60 rfl rfl ⟨by omega, by omega⟩) (fun r8 μ9 hw => ?_)
    refine hx_goto (tgt := 97) C dX0_toldOf_63 (by decide) ?_
    refine hx_L [] rfl ?_
    exact sc_X0_toldOf_97 C hK hQ  _ _ _ hw _ _ hb
  · have hw := hw.2.2.1 h
    refine hx_tableIn (tgt := 66) (off := 65) C 2 dX0_toldOf_1 h (by decide) (by decide) (by decide) rfl (by decide) ?_
    refine hx_aload_n C dX0_toldOf_66 0 rfl rfl ?_
    obtain ⟨a10, ha11, hw⟩ := hw
    rw [ha11]
    refine fun H locs hI ls hl => cx_ri (S := []) hI hl (fun _ h => h) (dv_binders (rest := []) C hK hI hl (rr_V_binders _ X 130) hw (by omega) (by omega) (C.w _ q618) (av_W [] 8 (Nat.le_of_ble_eq_true rfl)) dX0_toldOf_67 rfl rfl ⟨by omega, by omega⟩) (fun r12 μ13 hw => ?_)
    refine hx_goto (tgt := 97) C dX0_toldOf_70 (by decide) ?_
    refine hx_L [] rfl ?_
    exact sc_X0_toldOf_97 C hK hQ  _ _ _ hw _ _ hb
  · have hw := hw.2.2.2.1 h
    refine hx_tableIn (tgt := 73) (off := 72) C 3 dX0_toldOf_1 h (by decide) (by decide) (by decide) rfl (by decide) ?_
    refine hx_L [0, 1] rfl ?_
    exact sc_X0_toldOf_73 C hK hQ  _ _ _ _ hw _ _ hb
  · have hw := hw.2.2.2.2.1 h
    refine hx_tableIn (tgt := 73) (off := 72) C 4 dX0_toldOf_1 h (by decide) (by decide) (by decide) rfl (by decide) ?_
    refine hx_L [0, 1] rfl ?_
    exact sc_X0_toldOf_73 C hK hQ  _ _ _ _ hw _ _ hb
  · have hw := hw.2.2.2.2.2.1 h
    refine hx_tableIn (tgt := 73) (off := 72) C 5 dX0_toldOf_1 h (by decide) (by decide) (by decide) rfl (by decide) ?_
    refine hx_L [0, 1] rfl ?_
    exact sc_X0_toldOf_73 C hK hQ  _ _ _ _ hw _ _ hb
  · have hw := hw.2.2.2.2.2.2.1 h
    refine hx_tableIn (tgt := 73) (off := 72) C 6 dX0_toldOf_1 h (by decide) (by decide) (by decide) rfl (by decide) ?_
    refine hx_L [0, 1] rfl ?_
    exact sc_X0_toldOf_73 C hK hQ  _ _ _ _ hw _ _ hb
  · have hw := hw.2.2.2.2.2.2.2.1 h
    refine hx_tableIn (tgt := 73) (off := 72) C 7 dX0_toldOf_1 h (by decide) (by decide) (by decide) rfl (by decide) ?_
    refine hx_L [0, 1] rfl ?_
    exact sc_X0_toldOf_73 C hK hQ  _ _ _ _ hw _ _ hb
  · have hw := hw.2.2.2.2.2.2.2.2.1 h
    refine hx_tableIn (tgt := 83) (off := 82) C 8 dX0_toldOf_1 h (by decide) (by decide) (by decide) rfl (by decide) ?_
    refine hx_aload_n C dX0_toldOf_83 0 rfl rfl ?_
    obtain ⟨b14, hu15, hw⟩ := hw
    refine fun H locs hI ls hl => cx_rr (S := []) hI hl (fun _ h => h) (cr_S (As := [toV (aR l0)]) (rest := []) C hK hI hl 1 (sc_X0_written _ X H.size _ b14 _ _ hw) (lw_S q870 q871 q84 q872) (by decide +kernel) ⟨rfl, rfl, Nat.le_of_ble_eq_true rfl, Nat.le_of_ble_eq_true rfl⟩ (av_W [] 8 (Nat.le_of_ble_eq_true rfl)) dX0_toldOf_84 rfl rfl ⟨by omega, by omega⟩) (fun r16 μ17 hw => ?_)
    obtain hb : (0 + b14) + (b - b14) ≤ (zz_R Z).cells ∧ (0 + 5 * b14) + 5 * (b - b14) ≤ (zz_R Z).slots := ⟨by omega, by omega⟩
    obtain ⟨a18, ha19, hw⟩ := hw
    rw [ha19]
    obtain ⟨ht22, hw⟩ := hw
    refine fun H locs hI ls hl => cx_ri (S := []) hI hl (fun _ h => h) (cr_V (Cn := RJ0) (As := []) (rest := []) C hK hI hl 0 (cv_str hK hI ht22) (sc_J0_length _ X H.size _ _ _ hw) (lw_V q822 q270 q271 q88 q272) (by decide +kernel) ⟨rfl, rfl, Nat.le_of_ble_eq_true rfl, Nat.le_of_ble_eq_true rfl⟩ (av_W [] 8 (Nat.le_of_ble_eq_true rfl)) dX0_toldOf_87 rfl rfl ⟨by omega, by omega⟩) (fun r20 μ21 hw => ?_)
    refine hx_goto (tgt := 97) C dX0_toldOf_90 (by decide) ?_
    refine hx_L [] rfl ?_
    exact sc_X0_toldOf_97 C hK hQ  _ _ _ hw _ _ hb
  · have hw := hw.2.2.2.2.2.2.2.2.2 h
    refine hx_tableOut (tgt := 93) C dX0_toldOf_1 hr1 h (by decide) ?_
    refine hx_aload_n C dX0_toldOf_93 0 rfl rfl ?_
    obtain ⟨a23, ha24, hw⟩ := hw
    rw [ha24]
    refine fun H locs hI ls hl => cx_ri (S := []) hI hl (fun _ h => h) (dv_deep (rest := []) C hK hI hl (rr_V_deep _ X 130) hw (by omega) (by omega) (C.w _ q1120) (av_W [] 8 (Nat.le_of_ble_eq_true rfl)) dX0_toldOf_94 rfl rfl ⟨by omega, by omega⟩) (fun r25 μ26 hw => ?_)
    refine hx_L [] rfl ?_
    exact sc_X0_toldOf_97 C hK hQ  _ _ _ hw _ _ hb
-- ('BinderPress$Kind', '<init>', '()V')
def wc_X12_init (X : cX) (l0 : Nat) (μ : CM) (Q : CM → Prop) : Prop := Q μ
set_option maxHeartbeats 4000000 in
theorem sc_X12_init (l : Launch) (X : cX) (sz : Nat) (Q : CM → Prop) (l0 : Nat) (μ : CM) (hw : wc_X12_init X l0 μ Q) : Met l yX12_init (ws_ yX12_init cX12_init 1 none) ({ frames := 1, cells := 0, slots := 0, locals := 30 }) (cPc X (([aR (some l0)] : List AV).map toV) μ sz) (cQv X μ sz Q) 0 (0) (cA X μ sz) := by
  refine cx_met2 (rm := ({ frames := 1, cells := 0, slots := 0, locals := 30 })) (As := [aR (some l0)]) (L0 := [(0, aR (some l0))]) (by decide) rfl (Nat.le_of_ble_eq_true rfl) rfl ?_
  intro Z C hK hsz hR hl0 hin hQ
  subst hsz
  have C : gC Z cX12_init 1 RX12 none 1 30 := C
  have hQ : zz_q Z = MQ (zz_b Z) (cQv X μ (zz_s Z).heap.size Q) (zz_a Z) (zz_s Z) (zz_R Z).cells (zz_R Z).slots (cA X μ (zz_s Z).heap.size) := by rw [hR]; exact hQ
  unfold wc_X12_init at hw
  refine hx_aload_n C dX12_init_0 0 rfl rfl ?_
  refine cx_objInit C q1163 q116 q117 (by omega) (by simp [toV_cat, avc]; try omega) dX12_init_1 ?_
  exact cx_vret C hQ (by omega) (by omega) hw dX12_init_4
-- ('BinderPress$Kind', 'arrow', '(LBinderPress$Kind;LBinderPress$Kind;)LBinderPress$Kind;')
def wc_X12_arrow (X : cX) (b : Nat) (l0 : Option Nat) (l1 : Option Nat) (μ : CM) (Q : Option Nat → CM → Prop) : Prop := 1 ≤ b ∧ ∀ a2, tg μ a2 = 0 → wc_X12_init X a2 (alc μ a2 10 0) (fun μ6 => tg μ6 a2 = 10 ∧ Q (some a2) (poR (poR μ6 a2 1 l0) a2 2 l1))
set_option maxHeartbeats 4000000 in
theorem sc_X12_arrow (l : Launch) (X : cX) (sz : Nat) (Q : Option Nat → CM → Prop) (b : Nat) (l0 : Option Nat) (l1 : Option Nat) (μ : CM) (hw : wc_X12_arrow X b l0 l1 μ Q) : Met l yX12_arrow (ws_ yX12_arrow cX12_arrow 3 (some (.object "BinderPress$Kind"))) ({ frames := 2, cells := b, slots := 5 * b, locals := 50 }) (cPc X (([aR l0, aR l1] : List AV).map toV) μ sz) (cQr X μ sz Q) b (5 * b) (cA X μ sz) := by
  refine cx_met2 (rm := ({ frames := 2, cells := b, slots := 5 * b, locals := 50 })) (As := [aR l0, aR l1]) (L0 := [(0, aR l0), (1, aR l1)]) (by decide) rfl (Nat.le_of_ble_eq_true rfl) rfl ?_
  intro Z C hK hsz hR hl0 hin hQ
  subst hsz
  have C : gC Z cX12_arrow 3 RX12 (some (.object "BinderPress$Kind")) 2 50 := C
  have hQ : zz_q Z = MQ (zz_b Z) (cQr X μ (zz_s Z).heap.size Q) (zz_a Z) (zz_s Z) (zz_R Z).cells (zz_R Z).slots (cA X μ (zz_s Z).heap.size) := by rw [hR]; exact hQ
  have hb : 0 + b ≤ (zz_R Z).cells ∧ 0 + 5 * b ≤ (zz_R Z).slots := by rw [hR]; exact ⟨by dsimp only; omega, by dsimp only; omega⟩
  unfold wc_X12_arrow at hw
  obtain ⟨hu1, hw⟩ := hw
  refine cx_new (fs := fun a => coF_9 (alc μ a 10 0) a) C hK 9 10 rfl in_X12 tyX12_ok q1197 q1159 q108 (by decide) (fun a => cdE_9 alc_t) (cxd_9 _) (by omega) (by omega) dX12_arrow_0 (fun a2 hf3 => ?_)
  have hw := hw a2 hf3
  obtain hb : (0 + 1) + (b - 1) ≤ (zz_R Z).cells ∧ (0 + 4) + 5 * (b - 1) ≤ (zz_R Z).slots := ⟨by omega, by omega⟩
  have ht4 : tg (alc μ a2 10 0) a2 = 10 := alc_t
  refine hx_dup C dX12_arrow_3 rfl ?_
  refine fun H locs hI ls hl => cx_rv (S := [aR (some a2)]) hI hl (fun _ h => h) (cr_I (a := a2) (As := []) (rest := [toV (aR (some a2))]) C hK hI hl 0 (sc_X12_init _ X H.size _ _ _ hw) q1198 q1161 q108 q1162 rfl (by decide +kernel) ⟨rfl, rfl, Nat.le_of_ble_eq_true rfl, Nat.le_of_ble_eq_true rfl⟩ (av_W [aR (some a2)] 8 (Nat.le_of_ble_eq_true rfl)) dX12_arrow_4 rfl rfl ⟨by omega, by omega⟩) (fun μ6 hw => ?_)
  refine hx_astore_n (L' := [(2, aR (some a2)), (0, aR l0), (1, aR l1)]) C dX12_arrow_7 rfl (by decide) rfl ?_
  refine hx_aload_n C dX12_arrow_8 0 rfl rfl ?_
  refine hx_aload_n C dX12_arrow_9 1 rfl rfl ?_
  obtain ⟨ht7, hw⟩ := hw
  refine cx_put (μ := μ6) (μ' := (poR μ6 a2 1 l0)) C hK 9 1 rfl in_X12 tyX12_ok nmX12 (by decide) q1165 rfl rfl (cdE_9 ht7) (Nat.le_of_ble_eq_true rfl) (cz_r (ty := tyX12 1) rfl l0) (cset_9_1 μ6 a2 l0) (cdE_9 ht7) rfl rfl rfl (fun _ _ => rfl) (fun _ hb => stq_o hb) dX12_arrow_10 ?_
  refine hx_aload_n C dX12_arrow_13 0 rfl rfl ?_
  refine hx_aload_n C dX12_arrow_14 2 rfl rfl ?_
  refine cx_put (μ := (poR μ6 a2 1 l0)) (μ' := (poR (poR μ6 a2 1 l0) a2 2 l1)) C hK 9 2 rfl in_X12 tyX12_ok nmX12 (by decide) q1167 rfl rfl (cdE_9 ht7) (Nat.le_of_ble_eq_true rfl) (cz_r (ty := tyX12 2) rfl l1) (cset_9_2 (poR μ6 a2 1 l0) a2 l1) (cdE_9 ht7) rfl rfl rfl (fun _ _ => rfl) (fun _ hb => stq_o hb) dX12_arrow_15 ?_
  refine hx_aload_n C dX12_arrow_18 0 rfl rfl ?_
  exact cx_aret C hQ (by omega) (by omega) (Or.inl ⟨_, rfl⟩) hw dX12_arrow_19
-- ('BinderPress$Kinds', 'ofSign', '(Ljava/lang/String;)LBinderPress$Kind;')
def wc_X11_ofSign_137 (X : cX) (Q : Option Nat → CM → Prop) (l1 : Option Nat) (l2 : Option Nat) (l3 : Option Nat) (l5 : Int) (b : Nat) (μ : CM) : Prop := R32 l5 ∧ ((l5 = 0 → (∃ b2, b2 ≤ b ∧ wc_X12_arrow X b2 l1 l1 μ (fun r4 μ5 => Q r4 μ5))) ∧ (l5 = 1 → (∃ b6, b6 ≤ b ∧ wc_X12_arrow X b6 l2 l1 μ (fun r8 μ9 => (∃ b10, b10 ≤ (b - b6) ∧ wc_X12_arrow X b10 l1 r8 μ9 (fun r12 μ13 => Q r12 μ13))))) ∧ (l5 = 2 → (∃ b14, b14 ≤ b ∧ wc_X12_arrow X b14 l2 l3 μ (fun r16 μ17 => (∃ b18, b18 ≤ (b - b14) ∧ wc_X12_arrow X b18 l1 r16 μ17 (fun r20 μ21 => (∃ b22, b22 ≤ ((b - b14) - b18) ∧ wc_X12_arrow X b22 l1 l2 μ21 (fun r24 μ25 => (∃ b26, b26 ≤ (((b - b14) - b18) - b22) ∧ wc_X12_arrow X b26 l1 l3 μ25 (fun r28 μ29 => (∃ b30, b30 ≤ ((((b - b14) - b18) - b22) - b26) ∧ wc_X12_arrow X b30 r24 r28 μ29 (fun r32 μ33 => (∃ b34, b34 ≤ (((((b - b14) - b18) - b22) - b26) - b30) ∧ wc_X12_arrow X b34 r20 r32 μ33 (fun r36 μ37 => Q r36 μ37))))))))))))) ∧ (l5 = 3 → (∃ b38, b38 ≤ b ∧ wc_X12_arrow X b38 l2 l3 μ (fun r40 μ41 => (∃ b42, b42 ≤ (b - b38) ∧ wc_X12_arrow X b42 l1 l2 μ41 (fun r44 μ45 => (∃ b46, b46 ≤ ((b - b38) - b42) ∧ wc_X12_arrow X b46 l1 l3 μ45 (fun r48 μ49 => (∃ b50, b50 ≤ (((b - b38) - b42) - b46) ∧ wc_X12_arrow X b50 r44 r48 μ49 (fun r52 μ53 => (∃ b54, b54 ≤ ((((b - b38) - b42) - b46) - b50) ∧ wc_X12_arrow X b54 r40 r52 μ53 (fun r56 μ57 => Q r56 μ57))))))))))) ∧ ((l5 < 0 ∨ 3 < l5) → (∃ b58, b58 ≤ b ∧ wc_X12_arrow X b58 l2 l3 μ (fun r60 μ61 => (∃ b62, b62 ≤ (b - b58) ∧ wc_X12_arrow X b62 l1 r60 μ61 (fun r64 μ65 => (∃ b66, b66 ≤ ((b - b58) - b62) ∧ wc_X12_arrow X b66 l1 l3 μ65 (fun r68 μ69 => (∃ b70, b70 ≤ (((b - b58) - b62) - b66) ∧ wc_X12_arrow X b70 l2 r68 μ69 (fun r72 μ73 => (∃ b74, b74 ≤ ((((b - b58) - b62) - b66) - b70) ∧ wc_X12_arrow X b74 r64 r72 μ73 (fun r76 μ77 => Q r76 μ77))))))))))))
set_option maxHeartbeats 4000000 in
theorem sc_X11_ofSign_137 {Z : zz} {X : cX} {μ0 : CM} {Q : Option Nat → CM → Prop} (C : gC Z cX11_ofSign 6 RX11 (some (.object "BinderPress$Kind")) 3 72) (hK : cCt Z X μ0) (hQ : zz_q Z = MQ (zz_b Z) (cQr X μ0 (zz_s Z).heap.size Q) (zz_a Z) (zz_s Z) (zz_R Z).cells (zz_R Z).slots (cA X μ0 (zz_s Z).heap.size))  : ∀ l1 l2 l3 l5 b μ, wc_X11_ofSign_137 X Q l1 l2 l3 l5 b μ → ∀ kk nn, (kk + b ≤ (zz_R Z).cells ∧ nn + 5 * b ≤ (zz_R Z).slots) → hG Z 6 (cI Z X μ0 μ) kk nn 137 [(1, aR l1), (2, aR l2), (3, aR l3), (5, aI l5)] [] := by
  intro l1 l2 l3 l5 b μ hw kk nn hb
  unfold wc_X11_ofSign_137 at hw
  refine hx_iload C dX11_ofSign_137 3 rfl ?_
  obtain ⟨hr1, hw⟩ := hw
  rcases (show l5 = 0 ∨ l5 = 1 ∨ l5 = 2 ∨ l5 = 3 ∨ (l5 < 0 ∨ 3 < l5) by omega) with h | h | h | h | h
  · have hw := hw.1 h
    refine hx_tableIn (tgt := 168) (off := 29) C 0 dX11_ofSign_139 h (by decide) (by decide) (by decide) rfl (by decide) ?_
    refine hx_aload_n C dX11_ofSign_168 0 rfl rfl ?_
    refine hx_aload_n C dX11_ofSign_169 0 rfl rfl ?_
    obtain ⟨b2, hu3, hw⟩ := hw
    refine fun H locs hI ls hl => cx_rr (S := []) hI hl (fun _ h => h) (cr_S (As := [toV (aR l1), toV (aR l1)]) (rest := []) C hK hI hl 2 (sc_X12_arrow _ X H.size _ b2 _ _ _ hw) (lw_S q1194 q1195 q108 q1196) (by decide +kernel) ⟨rfl, rfl, Nat.le_of_ble_eq_true rfl, Nat.le_of_ble_eq_true rfl⟩ (av_W [] 8 (Nat.le_of_ble_eq_true rfl)) dX11_ofSign_170 rfl rfl ⟨by omega, by omega⟩) (fun r4 μ5 hw => ?_)
    obtain hb : (kk + b2) + (b - b2) ≤ (zz_R Z).cells ∧ (nn + 5 * b2) + 5 * (b - b2) ≤ (zz_R Z).slots := ⟨by omega, by omega⟩
    exact cx_aret C hQ (by omega) (by omega) (Or.inl ⟨_, rfl⟩) hw dX11_ofSign_173
  · have hw := hw.2.1 h
    refine hx_tableIn (tgt := 174) (off := 35) C 1 dX11_ofSign_139 h (by decide) (by decide) (by decide) rfl (by decide) ?_
    refine hx_aload_n C dX11_ofSign_174 0 rfl rfl ?_
    refine hx_aload_n C dX11_ofSign_175 1 rfl rfl ?_
    refine hx_aload_n C dX11_ofSign_176 0 rfl rfl ?_
    obtain ⟨b6, hu7, hw⟩ := hw
    refine fun H locs hI ls hl => cx_rr (S := [aR l1]) hI hl (fun _ h => h) (cr_S (As := [toV (aR l2), toV (aR l1)]) (rest := [toV (aR l1)]) C hK hI hl 2 (sc_X12_arrow _ X H.size _ b6 _ _ _ hw) (lw_S q1194 q1195 q108 q1196) (by decide +kernel) ⟨rfl, rfl, Nat.le_of_ble_eq_true rfl, Nat.le_of_ble_eq_true rfl⟩ (av_W [aR l1] 8 (Nat.le_of_ble_eq_true rfl)) dX11_ofSign_177 rfl rfl ⟨by omega, by omega⟩) (fun r8 μ9 hw => ?_)
    obtain hb : (kk + b6) + (b - b6) ≤ (zz_R Z).cells ∧ (nn + 5 * b6) + 5 * (b - b6) ≤ (zz_R Z).slots := ⟨by omega, by omega⟩
    obtain ⟨b10, hu11, hw⟩ := hw
    refine fun H locs hI ls hl => cx_rr (S := []) hI hl (fun _ h => h) (cr_S (As := [toV (aR l1), toV (aR r8)]) (rest := []) C hK hI hl 2 (sc_X12_arrow _ X H.size _ b10 _ _ _ hw) (lw_S q1194 q1195 q108 q1196) (by decide +kernel) ⟨rfl, rfl, Nat.le_of_ble_eq_true rfl, Nat.le_of_ble_eq_true rfl⟩ (av_W [] 8 (Nat.le_of_ble_eq_true rfl)) dX11_ofSign_180 rfl rfl ⟨by omega, by omega⟩) (fun r12 μ13 hw => ?_)
    obtain hb : ((kk + b6) + b10) + ((b - b6) - b10) ≤ (zz_R Z).cells ∧ ((nn + 5 * b6) + 5 * b10) + 5 * ((b - b6) - b10) ≤ (zz_R Z).slots := ⟨by omega, by omega⟩
    exact cx_aret C hQ (by omega) (by omega) (Or.inl ⟨_, rfl⟩) hw dX11_ofSign_183
  · have hw := hw.2.2.1 h
    refine hx_tableIn (tgt := 184) (off := 45) C 2 dX11_ofSign_139 h (by decide) (by decide) (by decide) rfl (by decide) ?_
    refine hx_aload_n C dX11_ofSign_184 0 rfl rfl ?_
    refine hx_aload_n C dX11_ofSign_185 1 rfl rfl ?_
    refine hx_aload_n C dX11_ofSign_186 2 rfl rfl ?_
    obtain ⟨b14, hu15, hw⟩ := hw
    refine fun H locs hI ls hl => cx_rr (S := [aR l1]) hI hl (fun _ h => h) (cr_S (As := [toV (aR l2), toV (aR l3)]) (rest := [toV (aR l1)]) C hK hI hl 2 (sc_X12_arrow _ X H.size _ b14 _ _ _ hw) (lw_S q1194 q1195 q108 q1196) (by decide +kernel) ⟨rfl, rfl, Nat.le_of_ble_eq_true rfl, Nat.le_of_ble_eq_true rfl⟩ (av_W [aR l1] 8 (Nat.le_of_ble_eq_true rfl)) dX11_ofSign_187 rfl rfl ⟨by omega, by omega⟩) (fun r16 μ17 hw => ?_)
    obtain hb : (kk + b14) + (b - b14) ≤ (zz_R Z).cells ∧ (nn + 5 * b14) + 5 * (b - b14) ≤ (zz_R Z).slots := ⟨by omega, by omega⟩
    obtain ⟨b18, hu19, hw⟩ := hw
    refine fun H locs hI ls hl => cx_rr (S := []) hI hl (fun _ h => h) (cr_S (As := [toV (aR l1), toV (aR r16)]) (rest := []) C hK hI hl 2 (sc_X12_arrow _ X H.size _ b18 _ _ _ hw) (lw_S q1194 q1195 q108 q1196) (by decide +kernel) ⟨rfl, rfl, Nat.le_of_ble_eq_true rfl, Nat.le_of_ble_eq_true rfl⟩ (av_W [] 8 (Nat.le_of_ble_eq_true rfl)) dX11_ofSign_190 rfl rfl ⟨by omega, by omega⟩) (fun r20 μ21 hw => ?_)
    obtain hb : ((kk + b14) + b18) + ((b - b14) - b18) ≤ (zz_R Z).cells ∧ ((nn + 5 * b14) + 5 * b18) + 5 * ((b - b14) - b18) ≤ (zz_R Z).slots := ⟨by omega, by omega⟩
    refine hx_aload_n C dX11_ofSign_193 0 rfl rfl ?_
    refine hx_aload_n C dX11_ofSign_194 1 rfl rfl ?_
    obtain ⟨b22, hu23, hw⟩ := hw
    refine fun H locs hI ls hl => cx_rr (S := [aR r20]) hI hl (fun _ h => h) (cr_S (As := [toV (aR l1), toV (aR l2)]) (rest := [toV (aR r20)]) C hK hI hl 2 (sc_X12_arrow _ X H.size _ b22 _ _ _ hw) (lw_S q1194 q1195 q108 q1196) (by decide +kernel) ⟨rfl, rfl, Nat.le_of_ble_eq_true rfl, Nat.le_of_ble_eq_true rfl⟩ (av_W [aR r20] 8 (Nat.le_of_ble_eq_true rfl)) dX11_ofSign_195 rfl rfl ⟨by omega, by omega⟩) (fun r24 μ25 hw => ?_)
    obtain hb : (((kk + b14) + b18) + b22) + (((b - b14) - b18) - b22) ≤ (zz_R Z).cells ∧ (((nn + 5 * b14) + 5 * b18) + 5 * b22) + 5 * (((b - b14) - b18) - b22) ≤ (zz_R Z).slots := ⟨by omega, by omega⟩
    refine hx_aload_n C dX11_ofSign_198 0 rfl rfl ?_
    refine hx_aload_n C dX11_ofSign_199 2 rfl rfl ?_
    obtain ⟨b26, hu27, hw⟩ := hw
    refine fun H locs hI ls hl => cx_rr (S := [aR r24, aR r20]) hI hl (fun _ h => h) (cr_S (As := [toV (aR l1), toV (aR l3)]) (rest := [toV (aR r24), toV (aR r20)]) C hK hI hl 2 (sc_X12_arrow _ X H.size _ b26 _ _ _ hw) (lw_S q1194 q1195 q108 q1196) (by decide +kernel) ⟨rfl, rfl, Nat.le_of_ble_eq_true rfl, Nat.le_of_ble_eq_true rfl⟩ (av_W [aR r24, aR r20] 8 (Nat.le_of_ble_eq_true rfl)) dX11_ofSign_200 rfl rfl ⟨by omega, by omega⟩) (fun r28 μ29 hw => ?_)
    obtain hb : ((((kk + b14) + b18) + b22) + b26) + ((((b - b14) - b18) - b22) - b26) ≤ (zz_R Z).cells ∧ ((((nn + 5 * b14) + 5 * b18) + 5 * b22) + 5 * b26) + 5 * ((((b - b14) - b18) - b22) - b26) ≤ (zz_R Z).slots := ⟨by omega, by omega⟩
    obtain ⟨b30, hu31, hw⟩ := hw
    refine fun H locs hI ls hl => cx_rr (S := [aR r20]) hI hl (fun _ h => h) (cr_S (As := [toV (aR r24), toV (aR r28)]) (rest := [toV (aR r20)]) C hK hI hl 2 (sc_X12_arrow _ X H.size _ b30 _ _ _ hw) (lw_S q1194 q1195 q108 q1196) (by decide +kernel) ⟨rfl, rfl, Nat.le_of_ble_eq_true rfl, Nat.le_of_ble_eq_true rfl⟩ (av_W [aR r20] 8 (Nat.le_of_ble_eq_true rfl)) dX11_ofSign_203 rfl rfl ⟨by omega, by omega⟩) (fun r32 μ33 hw => ?_)
    obtain hb : (((((kk + b14) + b18) + b22) + b26) + b30) + (((((b - b14) - b18) - b22) - b26) - b30) ≤ (zz_R Z).cells ∧ (((((nn + 5 * b14) + 5 * b18) + 5 * b22) + 5 * b26) + 5 * b30) + 5 * (((((b - b14) - b18) - b22) - b26) - b30) ≤ (zz_R Z).slots := ⟨by omega, by omega⟩
    obtain ⟨b34, hu35, hw⟩ := hw
    refine fun H locs hI ls hl => cx_rr (S := []) hI hl (fun _ h => h) (cr_S (As := [toV (aR r20), toV (aR r32)]) (rest := []) C hK hI hl 2 (sc_X12_arrow _ X H.size _ b34 _ _ _ hw) (lw_S q1194 q1195 q108 q1196) (by decide +kernel) ⟨rfl, rfl, Nat.le_of_ble_eq_true rfl, Nat.le_of_ble_eq_true rfl⟩ (av_W [] 8 (Nat.le_of_ble_eq_true rfl)) dX11_ofSign_206 rfl rfl ⟨by omega, by omega⟩) (fun r36 μ37 hw => ?_)
    obtain hb : ((((((kk + b14) + b18) + b22) + b26) + b30) + b34) + ((((((b - b14) - b18) - b22) - b26) - b30) - b34) ≤ (zz_R Z).cells ∧ ((((((nn + 5 * b14) + 5 * b18) + 5 * b22) + 5 * b26) + 5 * b30) + 5 * b34) + 5 * ((((((b - b14) - b18) - b22) - b26) - b30) - b34) ≤ (zz_R Z).slots := ⟨by omega, by omega⟩
    exact cx_aret C hQ (by omega) (by omega) (Or.inl ⟨_, rfl⟩) hw dX11_ofSign_209
  · have hw := hw.2.2.2.1 h
    refine hx_tableIn (tgt := 210) (off := 71) C 3 dX11_ofSign_139 h (by decide) (by decide) (by decide) rfl (by decide) ?_
    refine hx_aload_n C dX11_ofSign_210 1 rfl rfl ?_
    refine hx_aload_n C dX11_ofSign_211 2 rfl rfl ?_
    obtain ⟨b38, hu39, hw⟩ := hw
    refine fun H locs hI ls hl => cx_rr (S := []) hI hl (fun _ h => h) (cr_S (As := [toV (aR l2), toV (aR l3)]) (rest := []) C hK hI hl 2 (sc_X12_arrow _ X H.size _ b38 _ _ _ hw) (lw_S q1194 q1195 q108 q1196) (by decide +kernel) ⟨rfl, rfl, Nat.le_of_ble_eq_true rfl, Nat.le_of_ble_eq_true rfl⟩ (av_W [] 8 (Nat.le_of_ble_eq_true rfl)) dX11_ofSign_212 rfl rfl ⟨by omega, by omega⟩) (fun r40 μ41 hw => ?_)
    obtain hb : (kk + b38) + (b - b38) ≤ (zz_R Z).cells ∧ (nn + 5 * b38) + 5 * (b - b38) ≤ (zz_R Z).slots := ⟨by omega, by omega⟩
    refine hx_aload_n C dX11_ofSign_215 0 rfl rfl ?_
    refine hx_aload_n C dX11_ofSign_216 1 rfl rfl ?_
    obtain ⟨b42, hu43, hw⟩ := hw
    refine fun H locs hI ls hl => cx_rr (S := [aR r40]) hI hl (fun _ h => h) (cr_S (As := [toV (aR l1), toV (aR l2)]) (rest := [toV (aR r40)]) C hK hI hl 2 (sc_X12_arrow _ X H.size _ b42 _ _ _ hw) (lw_S q1194 q1195 q108 q1196) (by decide +kernel) ⟨rfl, rfl, Nat.le_of_ble_eq_true rfl, Nat.le_of_ble_eq_true rfl⟩ (av_W [aR r40] 8 (Nat.le_of_ble_eq_true rfl)) dX11_ofSign_217 rfl rfl ⟨by omega, by omega⟩) (fun r44 μ45 hw => ?_)
    obtain hb : ((kk + b38) + b42) + ((b - b38) - b42) ≤ (zz_R Z).cells ∧ ((nn + 5 * b38) + 5 * b42) + 5 * ((b - b38) - b42) ≤ (zz_R Z).slots := ⟨by omega, by omega⟩
    refine hx_aload_n C dX11_ofSign_220 0 rfl rfl ?_
    refine hx_aload_n C dX11_ofSign_221 2 rfl rfl ?_
    obtain ⟨b46, hu47, hw⟩ := hw
    refine fun H locs hI ls hl => cx_rr (S := [aR r44, aR r40]) hI hl (fun _ h => h) (cr_S (As := [toV (aR l1), toV (aR l3)]) (rest := [toV (aR r44), toV (aR r40)]) C hK hI hl 2 (sc_X12_arrow _ X H.size _ b46 _ _ _ hw) (lw_S q1194 q1195 q108 q1196) (by decide +kernel) ⟨rfl, rfl, Nat.le_of_ble_eq_true rfl, Nat.le_of_ble_eq_true rfl⟩ (av_W [aR r44, aR r40] 8 (Nat.le_of_ble_eq_true rfl)) dX11_ofSign_222 rfl rfl ⟨by omega, by omega⟩) (fun r48 μ49 hw => ?_)
    obtain hb : (((kk + b38) + b42) + b46) + (((b - b38) - b42) - b46) ≤ (zz_R Z).cells ∧ (((nn + 5 * b38) + 5 * b42) + 5 * b46) + 5 * (((b - b38) - b42) - b46) ≤ (zz_R Z).slots := ⟨by omega, by omega⟩
    obtain ⟨b50, hu51, hw⟩ := hw
    refine fun H locs hI ls hl => cx_rr (S := [aR r40]) hI hl (fun _ h => h) (cr_S (As := [toV (aR r44), toV (aR r48)]) (rest := [toV (aR r40)]) C hK hI hl 2 (sc_X12_arrow _ X H.size _ b50 _ _ _ hw) (lw_S q1194 q1195 q108 q1196) (by decide +kernel) ⟨rfl, rfl, Nat.le_of_ble_eq_true rfl, Nat.le_of_ble_eq_true rfl⟩ (av_W [aR r40] 8 (Nat.le_of_ble_eq_true rfl)) dX11_ofSign_225 rfl rfl ⟨by omega, by omega⟩) (fun r52 μ53 hw => ?_)
    obtain hb : ((((kk + b38) + b42) + b46) + b50) + ((((b - b38) - b42) - b46) - b50) ≤ (zz_R Z).cells ∧ ((((nn + 5 * b38) + 5 * b42) + 5 * b46) + 5 * b50) + 5 * ((((b - b38) - b42) - b46) - b50) ≤ (zz_R Z).slots := ⟨by omega, by omega⟩
    obtain ⟨b54, hu55, hw⟩ := hw
    refine fun H locs hI ls hl => cx_rr (S := []) hI hl (fun _ h => h) (cr_S (As := [toV (aR r40), toV (aR r52)]) (rest := []) C hK hI hl 2 (sc_X12_arrow _ X H.size _ b54 _ _ _ hw) (lw_S q1194 q1195 q108 q1196) (by decide +kernel) ⟨rfl, rfl, Nat.le_of_ble_eq_true rfl, Nat.le_of_ble_eq_true rfl⟩ (av_W [] 8 (Nat.le_of_ble_eq_true rfl)) dX11_ofSign_228 rfl rfl ⟨by omega, by omega⟩) (fun r56 μ57 hw => ?_)
    obtain hb : (((((kk + b38) + b42) + b46) + b50) + b54) + (((((b - b38) - b42) - b46) - b50) - b54) ≤ (zz_R Z).cells ∧ (((((nn + 5 * b38) + 5 * b42) + 5 * b46) + 5 * b50) + 5 * b54) + 5 * (((((b - b38) - b42) - b46) - b50) - b54) ≤ (zz_R Z).slots := ⟨by omega, by omega⟩
    exact cx_aret C hQ (by omega) (by omega) (Or.inl ⟨_, rfl⟩) hw dX11_ofSign_231
  · have hw := hw.2.2.2.2 h
    refine hx_tableOut (tgt := 232) C dX11_ofSign_139 hr1 h (by decide) ?_
    refine hx_aload_n C dX11_ofSign_232 0 rfl rfl ?_
    refine hx_aload_n C dX11_ofSign_233 1 rfl rfl ?_
    refine hx_aload_n C dX11_ofSign_234 2 rfl rfl ?_
    obtain ⟨b58, hu59, hw⟩ := hw
    refine fun H locs hI ls hl => cx_rr (S := [aR l1]) hI hl (fun _ h => h) (cr_S (As := [toV (aR l2), toV (aR l3)]) (rest := [toV (aR l1)]) C hK hI hl 2 (sc_X12_arrow _ X H.size _ b58 _ _ _ hw) (lw_S q1194 q1195 q108 q1196) (by decide +kernel) ⟨rfl, rfl, Nat.le_of_ble_eq_true rfl, Nat.le_of_ble_eq_true rfl⟩ (av_W [aR l1] 8 (Nat.le_of_ble_eq_true rfl)) dX11_ofSign_235 rfl rfl ⟨by omega, by omega⟩) (fun r60 μ61 hw => ?_)
    obtain hb : (kk + b58) + (b - b58) ≤ (zz_R Z).cells ∧ (nn + 5 * b58) + 5 * (b - b58) ≤ (zz_R Z).slots := ⟨by omega, by omega⟩
    obtain ⟨b62, hu63, hw⟩ := hw
    refine fun H locs hI ls hl => cx_rr (S := []) hI hl (fun _ h => h) (cr_S (As := [toV (aR l1), toV (aR r60)]) (rest := []) C hK hI hl 2 (sc_X12_arrow _ X H.size _ b62 _ _ _ hw) (lw_S q1194 q1195 q108 q1196) (by decide +kernel) ⟨rfl, rfl, Nat.le_of_ble_eq_true rfl, Nat.le_of_ble_eq_true rfl⟩ (av_W [] 8 (Nat.le_of_ble_eq_true rfl)) dX11_ofSign_238 rfl rfl ⟨by omega, by omega⟩) (fun r64 μ65 hw => ?_)
    obtain hb : ((kk + b58) + b62) + ((b - b58) - b62) ≤ (zz_R Z).cells ∧ ((nn + 5 * b58) + 5 * b62) + 5 * ((b - b58) - b62) ≤ (zz_R Z).slots := ⟨by omega, by omega⟩
    refine hx_aload_n C dX11_ofSign_241 1 rfl rfl ?_
    refine hx_aload_n C dX11_ofSign_242 0 rfl rfl ?_
    refine hx_aload_n C dX11_ofSign_243 2 rfl rfl ?_
    obtain ⟨b66, hu67, hw⟩ := hw
    refine fun H locs hI ls hl => cx_rr (S := [aR l2, aR r64]) hI hl (fun _ h => h) (cr_S (As := [toV (aR l1), toV (aR l3)]) (rest := [toV (aR l2), toV (aR r64)]) C hK hI hl 2 (sc_X12_arrow _ X H.size _ b66 _ _ _ hw) (lw_S q1194 q1195 q108 q1196) (by decide +kernel) ⟨rfl, rfl, Nat.le_of_ble_eq_true rfl, Nat.le_of_ble_eq_true rfl⟩ (av_W [aR l2, aR r64] 8 (Nat.le_of_ble_eq_true rfl)) dX11_ofSign_244 rfl rfl ⟨by omega, by omega⟩) (fun r68 μ69 hw => ?_)
    obtain hb : (((kk + b58) + b62) + b66) + (((b - b58) - b62) - b66) ≤ (zz_R Z).cells ∧ (((nn + 5 * b58) + 5 * b62) + 5 * b66) + 5 * (((b - b58) - b62) - b66) ≤ (zz_R Z).slots := ⟨by omega, by omega⟩
    obtain ⟨b70, hu71, hw⟩ := hw
    refine fun H locs hI ls hl => cx_rr (S := [aR r64]) hI hl (fun _ h => h) (cr_S (As := [toV (aR l2), toV (aR r68)]) (rest := [toV (aR r64)]) C hK hI hl 2 (sc_X12_arrow _ X H.size _ b70 _ _ _ hw) (lw_S q1194 q1195 q108 q1196) (by decide +kernel) ⟨rfl, rfl, Nat.le_of_ble_eq_true rfl, Nat.le_of_ble_eq_true rfl⟩ (av_W [aR r64] 8 (Nat.le_of_ble_eq_true rfl)) dX11_ofSign_247 rfl rfl ⟨by omega, by omega⟩) (fun r72 μ73 hw => ?_)
    obtain hb : ((((kk + b58) + b62) + b66) + b70) + ((((b - b58) - b62) - b66) - b70) ≤ (zz_R Z).cells ∧ ((((nn + 5 * b58) + 5 * b62) + 5 * b66) + 5 * b70) + 5 * ((((b - b58) - b62) - b66) - b70) ≤ (zz_R Z).slots := ⟨by omega, by omega⟩
    obtain ⟨b74, hu75, hw⟩ := hw
    refine fun H locs hI ls hl => cx_rr (S := []) hI hl (fun _ h => h) (cr_S (As := [toV (aR r64), toV (aR r72)]) (rest := []) C hK hI hl 2 (sc_X12_arrow _ X H.size _ b74 _ _ _ hw) (lw_S q1194 q1195 q108 q1196) (by decide +kernel) ⟨rfl, rfl, Nat.le_of_ble_eq_true rfl, Nat.le_of_ble_eq_true rfl⟩ (av_W [] 8 (Nat.le_of_ble_eq_true rfl)) dX11_ofSign_250 rfl rfl ⟨by omega, by omega⟩) (fun r76 μ77 hw => ?_)
    obtain hb : (((((kk + b58) + b62) + b66) + b70) + b74) + (((((b - b58) - b62) - b66) - b70) - b74) ≤ (zz_R Z).cells ∧ (((((nn + 5 * b58) + 5 * b62) + 5 * b66) + 5 * b70) + 5 * b74) + 5 * (((((b - b58) - b62) - b66) - b70) - b74) ≤ (zz_R Z).slots := ⟨by omega, by omega⟩
    exact cx_aret C hQ (by omega) (by omega) (Or.inl ⟨_, rfl⟩) hw dX11_ofSign_253
def wc_X11_ofSign (X : cX) (b : Nat) (l0 : Option Nat) (μ : CM) (Q : Option Nat → CM → Prop) : Prop := 1 ≤ b ∧ ∀ a2, tg μ a2 = 0 → wc_X12_init X a2 (alc μ a2 10 0) (fun μ6 => 1 ≤ (b - 1) ∧ ∀ a8, tg μ6 a8 = 0 → wc_X12_init X a8 (alc μ6 a8 10 0) (fun μ12 => 1 ≤ ((b - 1) - 1) ∧ ∀ a14, tg μ12 a14 = 0 → wc_X12_init X a14 (alc μ12 a14 10 0) (fun μ18 => (∃ a19, l0 = some a19 ∧ (tg μ18 a19 = 13 ∨ tg μ18 a19 = 14) ∧ wc_J0_hashCode X a19 μ18 (fun r21 μ22 => R32 r21 ∧ ((r21 = 66 → (tg μ22 a19 = 13 ∨ tg μ22 a19 = 14) ∧ wc_J0_equals X a19 (some (cX_s X 3)) μ22 (fun r25 μ26 => R32 r25 ∧ ((r25 = 0 → wc_X11_ofSign_137 X   Q (some a2) (some a8) (some a14) (-1) (((b - 1) - 1) - 1) μ26) ∧ (¬ r25 = 0 → wc_X11_ofSign_137 X   Q (some a2) (some a8) (some a14) 3 (((b - 1) - 1) - 1) μ26)))) ∧ (r21 = 73 → (tg μ22 a19 = 13 ∨ tg μ22 a19 = 14) ∧ wc_J0_equals X a19 (some (cX_s X 0)) μ22 (fun r29 μ30 => R32 r29 ∧ ((r29 = 0 → wc_X11_ofSign_137 X   Q (some a2) (some a8) (some a14) (-1) (((b - 1) - 1) - 1) μ30) ∧ (¬ r29 = 0 → wc_X11_ofSign_137 X   Q (some a2) (some a8) (some a14) 0 (((b - 1) - 1) - 1) μ30)))) ∧ (r21 = 75 → (tg μ22 a19 = 13 ∨ tg μ22 a19 = 14) ∧ wc_J0_equals X a19 (some (cX_s X 1)) μ22 (fun r33 μ34 => R32 r33 ∧ ((r33 = 0 → wc_X11_ofSign_137 X   Q (some a2) (some a8) (some a14) (-1) (((b - 1) - 1) - 1) μ34) ∧ (¬ r33 = 0 → wc_X11_ofSign_137 X   Q (some a2) (some a8) (some a14) 1 (((b - 1) - 1) - 1) μ34)))) ∧ (r21 = 83 → (tg μ22 a19 = 13 ∨ tg μ22 a19 = 14) ∧ wc_J0_equals X a19 (some (cX_s X 2)) μ22 (fun r37 μ38 => R32 r37 ∧ ((r37 = 0 → wc_X11_ofSign_137 X   Q (some a2) (some a8) (some a14) (-1) (((b - 1) - 1) - 1) μ38) ∧ (¬ r37 = 0 → wc_X11_ofSign_137 X   Q (some a2) (some a8) (some a14) 2 (((b - 1) - 1) - 1) μ38)))) ∧ ((¬ r21 = 66 ∧ ¬ r21 = 73 ∧ ¬ r21 = 75 ∧ ¬ r21 = 83) → wc_X11_ofSign_137 X   Q (some a2) (some a8) (some a14) (-1) (((b - 1) - 1) - 1) μ22)))))))
set_option maxHeartbeats 4000000 in
theorem sc_X11_ofSign (l : Launch) (X : cX) (sz : Nat) (Q : Option Nat → CM → Prop) (b : Nat) (l0 : Option Nat) (μ : CM) (hw : wc_X11_ofSign X b l0 μ Q) : Met l yX11_ofSign (ws_ yX11_ofSign cX11_ofSign 6 (some (.object "BinderPress$Kind"))) ({ frames := 3, cells := b, slots := 5 * b, locals := 72 }) (cPc X (([aR l0] : List AV).map toV) μ sz) (cQr X μ sz Q) b (5 * b) (cA X μ sz) := by
  refine cx_met2 (rm := ({ frames := 3, cells := b, slots := 5 * b, locals := 72 })) (As := [aR l0]) (L0 := [(0, aR l0)]) (by decide) rfl (Nat.le_of_ble_eq_true rfl) rfl ?_
  intro Z C hK hsz hR hl0 hin hQ
  subst hsz
  have C : gC Z cX11_ofSign 6 RX11 (some (.object "BinderPress$Kind")) 3 72 := C
  have hQ : zz_q Z = MQ (zz_b Z) (cQr X μ (zz_s Z).heap.size Q) (zz_a Z) (zz_s Z) (zz_R Z).cells (zz_R Z).slots (cA X μ (zz_s Z).heap.size) := by rw [hR]; exact hQ
  have hb : 0 + b ≤ (zz_R Z).cells ∧ 0 + 5 * b ≤ (zz_R Z).slots := by rw [hR]; exact ⟨by dsimp only; omega, by dsimp only; omega⟩
  unfold wc_X11_ofSign at hw
  obtain ⟨hu1, hw⟩ := hw
  refine cx_new (fs := fun a => coF_9 (alc μ a 10 0) a) C hK 9 10 rfl in_X12 tyX12_ok q1157 q1159 q108 (by decide) (fun a => cdE_9 alc_t) (cxd_9 _) (by omega) (by omega) dX11_ofSign_0 (fun a2 hf3 => ?_)
  have hw := hw a2 hf3
  obtain hb : (0 + 1) + (b - 1) ≤ (zz_R Z).cells ∧ (0 + 4) + 5 * (b - 1) ≤ (zz_R Z).slots := ⟨by omega, by omega⟩
  have ht4 : tg (alc μ a2 10 0) a2 = 10 := alc_t
  refine hx_dup C dX11_ofSign_3 rfl ?_
  refine fun H locs hI ls hl => cx_rv (S := [aR (some a2)]) hI hl (fun _ h => h) (cr_IN (a := a2) (As := []) (rest := [toV (aR (some a2))]) C hK hI hl 0 (sc_X12_init _ X H.size _ _ _ hw) (List.mem_of_getElem? (i := 33) rfl) q1161 q108 q1162 rfl (by decide +kernel) ⟨rfl, rfl, Nat.le_of_ble_eq_true rfl, Nat.le_of_ble_eq_true rfl⟩ (av_W [aR (some a2)] 8 (Nat.le_of_ble_eq_true rfl)) dX11_ofSign_4 rfl rfl ⟨by omega, by omega⟩) (fun μ6 hw => ?_)
  refine hx_astore_n (L' := [(1, aR (some a2)), (0, aR l0)]) C dX11_ofSign_7 rfl (by decide) rfl ?_
  obtain ⟨hu7, hw⟩ := hw
  refine cx_new (fs := fun a => coF_9 (alc μ6 a 10 0) a) C hK 9 10 rfl in_X12 tyX12_ok q1157 q1159 q108 (by decide) (fun a => cdE_9 alc_t) (cxd_9 _) (by omega) (by omega) dX11_ofSign_8 (fun a8 hf9 => ?_)
  have hw := hw a8 hf9
  obtain hb : ((0 + 1) + 1) + ((b - 1) - 1) ≤ (zz_R Z).cells ∧ ((0 + 4) + 4) + 5 * ((b - 1) - 1) ≤ (zz_R Z).slots := ⟨by omega, by omega⟩
  have ht10 : tg (alc μ6 a8 10 0) a8 = 10 := alc_t
  refine hx_dup C dX11_ofSign_11 rfl ?_
  refine fun H locs hI ls hl => cx_rv (S := [aR (some a8)]) hI hl (fun _ h => h) (cr_IN (a := a8) (As := []) (rest := [toV (aR (some a8))]) C hK hI hl 0 (sc_X12_init _ X H.size _ _ _ hw) (List.mem_of_getElem? (i := 33) rfl) q1161 q108 q1162 rfl (by decide +kernel) ⟨rfl, rfl, Nat.le_of_ble_eq_true rfl, Nat.le_of_ble_eq_true rfl⟩ (av_W [aR (some a8)] 8 (Nat.le_of_ble_eq_true rfl)) dX11_ofSign_12 rfl rfl ⟨by omega, by omega⟩) (fun μ12 hw => ?_)
  refine hx_astore_n (L' := [(2, aR (some a8)), (1, aR (some a2)), (0, aR l0)]) C dX11_ofSign_15 rfl (by decide) rfl ?_
  obtain ⟨hu13, hw⟩ := hw
  refine cx_new (fs := fun a => coF_9 (alc μ12 a 10 0) a) C hK 9 10 rfl in_X12 tyX12_ok q1157 q1159 q108 (by decide) (fun a => cdE_9 alc_t) (cxd_9 _) (by omega) (by omega) dX11_ofSign_16 (fun a14 hf15 => ?_)
  have hw := hw a14 hf15
  obtain hb : (((0 + 1) + 1) + 1) + (((b - 1) - 1) - 1) ≤ (zz_R Z).cells ∧ (((0 + 4) + 4) + 4) + 5 * (((b - 1) - 1) - 1) ≤ (zz_R Z).slots := ⟨by omega, by omega⟩
  have ht16 : tg (alc μ12 a14 10 0) a14 = 10 := alc_t
  refine hx_dup C dX11_ofSign_19 rfl ?_
  refine fun H locs hI ls hl => cx_rv (S := [aR (some a14)]) hI hl (fun _ h => h) (cr_IN (a := a14) (As := []) (rest := [toV (aR (some a14))]) C hK hI hl 0 (sc_X12_init _ X H.size _ _ _ hw) (List.mem_of_getElem? (i := 33) rfl) q1161 q108 q1162 rfl (by decide +kernel) ⟨rfl, rfl, Nat.le_of_ble_eq_true rfl, Nat.le_of_ble_eq_true rfl⟩ (av_W [aR (some a14)] 8 (Nat.le_of_ble_eq_true rfl)) dX11_ofSign_20 rfl rfl ⟨by omega, by omega⟩) (fun μ18 hw => ?_)
  refine hx_astore_n (L' := [(3, aR (some a14)), (2, aR (some a8)), (1, aR (some a2)), (0, aR l0)]) C dX11_ofSign_23 rfl (by decide) rfl ?_
  refine hx_aload_n C dX11_ofSign_24 3 rfl rfl ?_
  refine hx_astore (L' := [(4, aR l0), (3, aR (some a14)), (2, aR (some a8)), (1, aR (some a2)), (0, aR l0)]) C dX11_ofSign_25 (by decide) rfl ?_
  refine hx_iconst C dX11_ofSign_27 ?_
  refine hx_istore (L' := [(5, aI (-1)), (4, aR l0), (3, aR (some a14)), (2, aR (some a8)), (1, aR (some a2)), (0, aR l0)]) C dX11_ofSign_28 (by decide) rfl ?_
  refine hx_aload C dX11_ofSign_30 1 rfl ?_
  obtain ⟨a19, ha20, hw⟩ := hw
  rw [ha20]
  obtain ⟨ht23, hw⟩ := hw
  refine fun H locs hI ls hl => cx_ri (S := []) hI hl (fun _ h => h) (cr_V (Cn := RJ0) (As := []) (rest := []) C hK hI hl 0 (cv_str hK hI ht23) (sc_J0_hashCode _ X H.size _ _ _ hw) (lw_V q1188 q717 q718 q88 q719) (by decide +kernel) ⟨rfl, rfl, Nat.le_of_ble_eq_true rfl, Nat.le_of_ble_eq_true rfl⟩ (av_W [] 8 (Nat.le_of_ble_eq_true rfl)) dX11_ofSign_32 rfl rfl ⟨by omega, by omega⟩) (fun r21 μ22 hw => ?_)
  obtain ⟨hr24, hw⟩ := hw
  rcases (show r21 = 66 ∨ r21 = 73 ∨ r21 = 75 ∨ r21 = 83 ∨ (¬ r21 = 66 ∧ ¬ r21 = 73 ∧ ¬ r21 = 75 ∧ ¬ r21 = 83) by omega) with h | h | h | h | h
  · have hw := hw.1 h
    refine hx_lookup (tgt := 124) (off := 89) C dX11_ofSign_35 hr24 rfl (by rw [h]; rfl) (by decide) ?_
    refine hx_aload C dX11_ofSign_124 1 rfl ?_
    refine cx_ldcS (num := 3) (tx := "B") C hK (List.mem_of_getElem? (i := 16) rfl) dX11_ofSign_126 ?_
    obtain ⟨ht27, hw⟩ := hw
    refine fun H locs hI ls hl => cx_ri (S := []) hI hl (fun _ h => h) (cr_V (Cn := RJ0) (As := [toV (aR (some (cX_s X 3)))]) (rest := []) C hK hI hl 1 (cv_str hK hI ht27) (sc_J0_equals _ X H.size _ _ _ _ hw) (lw_V q1190 q767 q768 q88 q769) (by decide +kernel) ⟨rfl, rfl, Nat.le_of_ble_eq_true rfl, Nat.le_of_ble_eq_true rfl⟩ (av_W [] 8 (Nat.le_of_ble_eq_true rfl)) dX11_ofSign_128 rfl rfl ⟨by omega, by omega⟩) (fun r25 μ26 hw => ?_)
    obtain ⟨hr28, hw⟩ := hw
    refine hx_if_eq (tgt := 137) C dX11_ofSign_131 (by decide) hr28 (fun h => ?_) (fun h => ?_)
    · have hw := hw.1 h
      refine hx_L [4, 3, 2, 0] rfl ?_
      exact sc_X11_ofSign_137 C hK hQ  _ _ _ _ _ _ hw _ _ hb
    · have hw := hw.2 h
      refine hx_iconst C dX11_ofSign_134 ?_
      refine hx_istore (L' := [(5, aI 3), (4, aR (some a19)), (3, aR (some a14)), (2, aR (some a8)), (1, aR (some a2)), (0, aR (some a19))]) C dX11_ofSign_135 (by decide) rfl ?_
      refine hx_L [4, 3, 2, 0] rfl ?_
      exact sc_X11_ofSign_137 C hK hQ  _ _ _ _ _ _ hw _ _ hb
  · have hw := hw.2.1 h
    refine hx_lookup (tgt := 76) (off := 41) C dX11_ofSign_35 hr24 rfl (by rw [h]; rfl) (by decide) ?_
    refine hx_aload C dX11_ofSign_76 1 rfl ?_
    refine cx_ldcS (num := 0) (tx := "I") C hK (List.mem_of_getElem? (i := 13) rfl) dX11_ofSign_78 ?_
    obtain ⟨ht31, hw⟩ := hw
    refine fun H locs hI ls hl => cx_ri (S := []) hI hl (fun _ h => h) (cr_V (Cn := RJ0) (As := [toV (aR (some (cX_s X 0)))]) (rest := []) C hK hI hl 1 (cv_str hK hI ht31) (sc_J0_equals _ X H.size _ _ _ _ hw) (lw_V q1190 q767 q768 q88 q769) (by decide +kernel) ⟨rfl, rfl, Nat.le_of_ble_eq_true rfl, Nat.le_of_ble_eq_true rfl⟩ (av_W [] 8 (Nat.le_of_ble_eq_true rfl)) dX11_ofSign_80 rfl rfl ⟨by omega, by omega⟩) (fun r29 μ30 hw => ?_)
    obtain ⟨hr32, hw⟩ := hw
    refine hx_if_eq (tgt := 137) C dX11_ofSign_83 (by decide) hr32 (fun h => ?_) (fun h => ?_)
    · have hw := hw.1 h
      refine hx_L [4, 3, 2, 0] rfl ?_
      exact sc_X11_ofSign_137 C hK hQ  _ _ _ _ _ _ hw _ _ hb
    · have hw := hw.2 h
      refine hx_iconst C dX11_ofSign_86 ?_
      refine hx_istore (L' := [(5, aI 0), (4, aR (some a19)), (3, aR (some a14)), (2, aR (some a8)), (1, aR (some a2)), (0, aR (some a19))]) C dX11_ofSign_87 (by decide) rfl ?_
      refine hx_goto (tgt := 137) C dX11_ofSign_89 (by decide) ?_
      refine hx_L [4, 3, 2, 0] rfl ?_
      exact sc_X11_ofSign_137 C hK hQ  _ _ _ _ _ _ hw _ _ hb
  · have hw := hw.2.2.1 h
    refine hx_lookup (tgt := 92) (off := 57) C dX11_ofSign_35 hr24 rfl (by rw [h]; rfl) (by decide) ?_
    refine hx_aload C dX11_ofSign_92 1 rfl ?_
    refine cx_ldcS (num := 1) (tx := "K") C hK (List.mem_of_getElem? (i := 14) rfl) dX11_ofSign_94 ?_
    obtain ⟨ht35, hw⟩ := hw
    refine fun H locs hI ls hl => cx_ri (S := []) hI hl (fun _ h => h) (cr_V (Cn := RJ0) (As := [toV (aR (some (cX_s X 1)))]) (rest := []) C hK hI hl 1 (cv_str hK hI ht35) (sc_J0_equals _ X H.size _ _ _ _ hw) (lw_V q1190 q767 q768 q88 q769) (by decide +kernel) ⟨rfl, rfl, Nat.le_of_ble_eq_true rfl, Nat.le_of_ble_eq_true rfl⟩ (av_W [] 8 (Nat.le_of_ble_eq_true rfl)) dX11_ofSign_96 rfl rfl ⟨by omega, by omega⟩) (fun r33 μ34 hw => ?_)
    obtain ⟨hr36, hw⟩ := hw
    refine hx_if_eq (tgt := 137) C dX11_ofSign_99 (by decide) hr36 (fun h => ?_) (fun h => ?_)
    · have hw := hw.1 h
      refine hx_L [4, 3, 2, 0] rfl ?_
      exact sc_X11_ofSign_137 C hK hQ  _ _ _ _ _ _ hw _ _ hb
    · have hw := hw.2 h
      refine hx_iconst C dX11_ofSign_102 ?_
      refine hx_istore (L' := [(5, aI 1), (4, aR (some a19)), (3, aR (some a14)), (2, aR (some a8)), (1, aR (some a2)), (0, aR (some a19))]) C dX11_ofSign_103 (by decide) rfl ?_
      refine hx_goto (tgt := 137) C dX11_ofSign_105 (by decide) ?_
      refine hx_L [4, 3, 2, 0] rfl ?_
      exact sc_X11_ofSign_137 C hK hQ  _ _ _ _ _ _ hw _ _ hb
  · have hw := hw.2.2.2.1 h
    refine hx_lookup (tgt := 108) (off := 73) C dX11_ofSign_35 hr24 rfl (by rw [h]; rfl) (by decide) ?_
    refine hx_aload C dX11_ofSign_108 1 rfl ?_
    refine cx_ldcS (num := 2) (tx := "S") C hK (List.mem_of_getElem? (i := 15) rfl) dX11_ofSign_110 ?_
    obtain ⟨ht39, hw⟩ := hw
    refine fun H locs hI ls hl => cx_ri (S := []) hI hl (fun _ h => h) (cr_V (Cn := RJ0) (As := [toV (aR (some (cX_s X 2)))]) (rest := []) C hK hI hl 1 (cv_str hK hI ht39) (sc_J0_equals _ X H.size _ _ _ _ hw) (lw_V q1190 q767 q768 q88 q769) (by decide +kernel) ⟨rfl, rfl, Nat.le_of_ble_eq_true rfl, Nat.le_of_ble_eq_true rfl⟩ (av_W [] 8 (Nat.le_of_ble_eq_true rfl)) dX11_ofSign_112 rfl rfl ⟨by omega, by omega⟩) (fun r37 μ38 hw => ?_)
    obtain ⟨hr40, hw⟩ := hw
    refine hx_if_eq (tgt := 137) C dX11_ofSign_115 (by decide) hr40 (fun h => ?_) (fun h => ?_)
    · have hw := hw.1 h
      refine hx_L [4, 3, 2, 0] rfl ?_
      exact sc_X11_ofSign_137 C hK hQ  _ _ _ _ _ _ hw _ _ hb
    · have hw := hw.2 h
      refine hx_iconst C dX11_ofSign_118 ?_
      refine hx_istore (L' := [(5, aI 2), (4, aR (some a19)), (3, aR (some a14)), (2, aR (some a8)), (1, aR (some a2)), (0, aR (some a19))]) C dX11_ofSign_119 (by decide) rfl ?_
      refine hx_goto (tgt := 137) C dX11_ofSign_121 (by decide) ?_
      refine hx_L [4, 3, 2, 0] rfl ?_
      exact sc_X11_ofSign_137 C hK hQ  _ _ _ _ _ _ hw _ _ hb
  · have hw := hw.2.2.2.2 h
    refine hx_lookup (tgt := 137) (off := 102) C dX11_ofSign_35 hr24 rfl (by simp only [Op.lookupswitch.offset, List.toList_toArray]; repeat (rw [if_neg (by omega)])) (by decide) ?_
    refine hx_L [4, 3, 2, 0] rfl ?_
    exact sc_X11_ofSign_137 C hK hQ  _ _ _ _ _ _ hw _ _ hb
