/-! walks of the component (printed by gen_comp) -/
set_option maxRecDepth 100000
-- ('java/lang/StringBuilder', 'append', '(Ljava/lang/String;)Ljava/lang/StringBuilder;')
def wc_J9_append_2 (X : cX) (b : Nat) (l0 : Nat) (l1 : Option Nat) (μ : CM) (Q : Option Nat → CM → Prop) : Prop := (∃ b1, b1 ≤ b ∧ tg μ l0 = 12 ∧ wc_J8_append_2 X b1 l0 l1 μ (fun r3 μ4 => Q (some l0) μ4))
set_option maxHeartbeats 4000000 in
theorem sc_J9_append_2 (l : Launch) (X : cX) (sz : Nat) (Q : Option Nat → CM → Prop) (b : Nat) (l0 : Nat) (l1 : Option Nat) (μ : CM) (hw : wc_J9_append_2 X b l0 l1 μ Q) : Met l yJ9_append_2 (ws_ yJ9_append_2 cJ9_append_2 2 (some (.object "java/lang/StringBuilder"))) ({ frames := 5, cells := b, slots := 5 * b, locals := 122 }) (cPc X (([aR (some l0), aR l1] : List AV).map toV) μ sz) (cQr X μ sz Q) b (5 * b) (cA X μ sz) := by
  refine cx_met2 (rm := ({ frames := 5, cells := b, slots := 5 * b, locals := 122 })) (As := [aR (some l0), aR l1]) (L0 := [(0, aR (some l0)), (1, aR l1)]) (by decide) rfl (Nat.le_of_ble_eq_true rfl) rfl ?_
  intro Z C hK hsz hR hl0 hin hQ
  subst hsz
  have C : gC Z cJ9_append_2 2 RJ9 (some (.object "java/lang/StringBuilder")) 5 122 := C
  have hQ : zz_q Z = MQ (zz_b Z) (cQr X μ (zz_s Z).heap.size Q) (zz_a Z) (zz_s Z) (zz_R Z).cells (zz_R Z).slots (cA X μ (zz_s Z).heap.size) := by rw [hR]; exact hQ
  have hb : 0 + b ≤ (zz_R Z).cells ∧ 0 + 5 * b ≤ (zz_R Z).slots := by rw [hR]; exact ⟨by dsimp only; omega, by dsimp only; omega⟩
  unfold wc_J9_append_2 at hw
  refine hx_aload_n C dJ9_append_2_0 0 rfl rfl ?_
  refine hx_aload_n C dJ9_append_2_1 1 rfl rfl ?_
  obtain ⟨b1, hu2, hw⟩ := hw
  obtain ⟨ht5, hw⟩ := hw
  refine fun H locs hI ls hl => cx_rr (S := []) hI hl (fun _ h => h) (cr_SU (ci := 11) (As := [toV (aR l1)]) (rest := []) C hK hI hl 1 rfl (Or.inr (cdE_11 ht5)) (sc_J8_append_2 _ X H.size _ b1 _ _ _ hw) q1006 q1815 q902 q1007 q104 q1008 (by decide +kernel) ⟨rfl, rfl, Nat.le_of_ble_eq_true rfl, Nat.le_of_ble_eq_true rfl⟩ (av_W [] 8 (Nat.le_of_ble_eq_true rfl)) dJ9_append_2_2 rfl rfl ⟨by omega, by omega⟩) (fun r3 μ4 hw => ?_)
  obtain hb : (0 + b1) + (b - b1) ≤ (zz_R Z).cells ∧ (0 + 5 * b1) + 5 * (b - b1) ≤ (zz_R Z).slots := ⟨by omega, by omega⟩
  refine hx_pop C dJ9_append_2_5 rfl ?_
  refine hx_aload_n C dJ9_append_2_6 0 rfl rfl ?_
  exact cx_aret C hQ (by omega) (by omega) (Or.inl ⟨_, rfl⟩) hw dJ9_append_2_7
-- ('java/lang/AbstractStringBuilder', 'length', '()I')
def wc_J8_length (X : cX) (l0 : Nat) (μ : CM) (Q : Int → CM → Prop) : Prop := tg μ l0 = 12 ∧ Q (oI μ l0 3) μ
set_option maxHeartbeats 4000000 in
theorem sc_J8_length (l : Launch) (X : cX) (sz : Nat) (Q : Int → CM → Prop) (l0 : Nat) (μ : CM) (hw : wc_J8_length X l0 μ Q) : Met l yJ8_length (ws_ yJ8_length cJ8_length 1 (some .int)) ({ frames := 0, cells := 0, slots := 0, locals := 0 }) (cPc X (([aR (some l0)] : List AV).map toV) μ sz) (cQi X μ sz Q) 0 (0) (cA X μ sz) := by
  refine cx_met2 (rm := ({ frames := 0, cells := 0, slots := 0, locals := 0 })) (As := [aR (some l0)]) (L0 := [(0, aR (some l0))]) (by decide) rfl (Nat.le_of_ble_eq_true rfl) rfl ?_
  intro Z C hK hsz hR hl0 hin hQ
  subst hsz
  have C : gC Z cJ8_length 1 RJ8 (some .int) 0 0 := C
  have hQ : zz_q Z = MQ (zz_b Z) (cQi X μ (zz_s Z).heap.size Q) (zz_a Z) (zz_s Z) (zz_R Z).cells (zz_R Z).slots (cA X μ (zz_s Z).heap.size) := by rw [hR]; exact hQ
  unfold wc_J8_length at hw
  refine hx_aload_n C dJ8_length_0 0 rfl rfl ?_
  obtain ⟨ht1, hw⟩ := hw
  refine cx_get (μ := μ) (v := aI (oI μ l0 3)) C hK 11 3 rfl in_J9 (by decide) q893 rfl (cdE_11 ht1) rfl dJ8_length_1 ?_
  exact cx_iret C hQ (by omega) (by omega) rfl hw dJ8_length_4
-- ('java/lang/StringBuilder', 'length', '()I')
def wc_J9_length (X : cX) (l0 : Nat) (μ : CM) (Q : Int → CM → Prop) : Prop := tg μ l0 = 12 ∧ wc_J8_length X l0 μ (fun r1 μ2 => Q r1 μ2)
set_option maxHeartbeats 4000000 in
theorem sc_J9_length (l : Launch) (X : cX) (sz : Nat) (Q : Int → CM → Prop) (l0 : Nat) (μ : CM) (hw : wc_J9_length X l0 μ Q) : Met l yJ9_length (ws_ yJ9_length cJ9_length 1 (some .int)) ({ frames := 1, cells := 0, slots := 0, locals := 30 }) (cPc X (([aR (some l0)] : List AV).map toV) μ sz) (cQi X μ sz Q) 0 (0) (cA X μ sz) := by
  refine cx_met2 (rm := ({ frames := 1, cells := 0, slots := 0, locals := 30 })) (As := [aR (some l0)]) (L0 := [(0, aR (some l0))]) (by decide) rfl (Nat.le_of_ble_eq_true rfl) rfl ?_
  intro Z C hK hsz hR hl0 hin hQ
  subst hsz
  have C : gC Z cJ9_length 1 RJ9 (some .int) 1 30 := C
  have hQ : zz_q Z = MQ (zz_b Z) (cQi X μ (zz_s Z).heap.size Q) (zz_a Z) (zz_s Z) (zz_R Z).cells (zz_R Z).slots (cA X μ (zz_s Z).heap.size) := by rw [hR]; exact hQ
  unfold wc_J9_length at hw
  refine hx_aload_n C dJ9_length_0 0 rfl rfl ?_
  obtain ⟨ht3, hw⟩ := hw
  refine fun H locs hI ls hl => cx_ri (S := []) hI hl (fun _ h => h) (cr_SU (ci := 11) (As := []) (rest := []) C hK hI hl 0 rfl (Or.inr (cdE_11 ht3)) (sc_J8_length _ X H.size _ _ _ hw) q1085 q1081 q902 q1080 q104 q1086 (by decide +kernel) ⟨rfl, rfl, Nat.le_of_ble_eq_true rfl, Nat.le_of_ble_eq_true rfl⟩ (av_W [] 8 (Nat.le_of_ble_eq_true rfl)) dJ9_length_1 rfl rfl ⟨by omega, by omega⟩) (fun r1 μ2 hw => ?_)
  exact cx_iret C hQ (by omega) (by omega) rfl hw dJ9_length_4
-- ('java/lang/AbstractStringBuilder', 'getValue', '()[B')
def wc_J8_getValue (X : cX) (l0 : Nat) (μ : CM) (Q : Option Nat → CM → Prop) : Prop := tg μ l0 = 12 ∧ Q (oR μ l0 0) μ
set_option maxHeartbeats 4000000 in
theorem sc_J8_getValue (l : Launch) (X : cX) (sz : Nat) (Q : Option Nat → CM → Prop) (l0 : Nat) (μ : CM) (hw : wc_J8_getValue X l0 μ Q) : Met l yJ8_getValue (ws_ yJ8_getValue cJ8_getValue 1 (some (.array .byte))) ({ frames := 0, cells := 0, slots := 0, locals := 0 }) (cPc X (([aR (some l0)] : List AV).map toV) μ sz) (cQr X μ sz Q) 0 (0) (cA X μ sz) := by
  refine cx_met2 (rm := ({ frames := 0, cells := 0, slots := 0, locals := 0 })) (As := [aR (some l0)]) (L0 := [(0, aR (some l0))]) (by decide) rfl (Nat.le_of_ble_eq_true rfl) rfl ?_
  intro Z C hK hsz hR hl0 hin hQ
  subst hsz
  have C : gC Z cJ8_getValue 1 RJ8 (some (.array .byte)) 0 0 := C
  have hQ : zz_q Z = MQ (zz_b Z) (cQr X μ (zz_s Z).heap.size Q) (zz_a Z) (zz_s Z) (zz_R Z).cells (zz_R Z).slots (cA X μ (zz_s Z).heap.size) := by rw [hR]; exact hQ
  unfold wc_J8_getValue at hw
  refine hx_aload_n C dJ8_getValue_0 0 rfl rfl ?_
  obtain ⟨ht1, hw⟩ := hw
  refine cx_get (μ := μ) (v := aR (oR μ l0 0)) C hK 11 0 rfl in_J9 (by decide) q890 rfl (cdE_11 ht1) rfl dJ8_getValue_1 ?_
  exact cx_aret C hQ (by omega) (by omega) (Or.inr ⟨_, rfl⟩) hw dJ8_getValue_4
-- ('java/util/Arrays', 'checkLength', '(II)V')
def wc_J10_checkLength (X : cX) (l0 : Int) (l1 : Int) (μ : CM) (Q : CM → Prop) : Prop := R32 l1 ∧ R32 l0 ∧ ((l0 ≤ l1 → Q μ) ∧ (l1 < l0 → False))
set_option maxHeartbeats 4000000 in
theorem sc_J10_checkLength (l : Launch) (X : cX) (sz : Nat) (Q : CM → Prop) (l0 : Int) (l1 : Int) (μ : CM) (hw : wc_J10_checkLength X l0 l1 μ Q) : Met l yJ10_checkLength (ws_ yJ10_checkLength cJ10_checkLength 2 none) ({ frames := 0, cells := 0, slots := 0, locals := 0 }) (cPc X (([aI l0, aI l1] : List AV).map toV) μ sz) (cQv X μ sz Q) 0 (0) (cA X μ sz) := by
  refine cx_met2 (rm := ({ frames := 0, cells := 0, slots := 0, locals := 0 })) (As := [aI l0, aI l1]) (L0 := [(0, aI l0), (1, aI l1)]) (by decide) rfl (Nat.le_of_ble_eq_true rfl) rfl ?_
  intro Z C hK hsz hR hl0 hin hQ
  subst hsz
  have C : gC Z cJ10_checkLength 2 RJ10 none 0 0 := C
  have hQ : zz_q Z = MQ (zz_b Z) (cQv X μ (zz_s Z).heap.size Q) (zz_a Z) (zz_s Z) (zz_R Z).cells (zz_R Z).slots (cA X μ (zz_s Z).heap.size) := by rw [hR]; exact hQ
  unfold wc_J10_checkLength at hw
  refine hx_iload_n C dJ10_checkLength_0 1 rfl rfl ?_
  refine hx_iload_n C dJ10_checkLength_1 0 rfl rfl ?_
  obtain ⟨hr1, hw⟩ := hw
  obtain ⟨hr2, hw⟩ := hw
  refine hx_icmp_ge (tgt := 37) C dJ10_checkLength_2 (by decide) hr1 hr2 (fun h => ?_) (fun h => ?_)
  · have hw := hw.1 h
    exact cx_vret C hQ (by omega) (by omega) hw dJ10_checkLength_37
  · have hw := hw.2 h
    exact hw.elim
-- ('java/util/Arrays', 'copyOfRangeByte', '([BII)[B')
def wc_J10_copyOfRangeByte (X : cX) (b : Nat) (l0 : Option Nat) (l1 : Int) (l2 : Int) (μ : CM) (Q : Option Nat → CM → Prop) : Prop := wc_J10_checkLength X l1 l2 μ (fun μ2 => ((0 ≤ (l2 - l1) ∧ (l2 - l1) ≤ 100000000) ∧ ∃ u4 : Nat, (1 ≤ u4 ∧ ((l2 - l1)).toNat ≤ 5 * u4 ∧ u4 ≤ b) ∧ ∀ a6, tg μ2 a6 = 0 → ∃ a9, l0 = some a9 ∧ (tg (alc μ2 a6 21 ((l2 - l1)).toNat) a9 = 21 ∨ tg (alc μ2 a6 21 ((l2 - l1)).toNat) a9 = 26) ∧ R32 (((ln (alc μ2 a6 21 ((l2 - l1)).toNat) a9) : Int) - l1) ∧ R32 (l2 - l1) ∧ ((0 ≤ l1 ∧ 0 ≤ (0 : Int) ∧ 0 ≤ (if (l2 - l1) < (((ln (alc μ2 a6 21 ((l2 - l1)).toNat) a9) : Int) - l1) then (l2 - l1) else (((ln (alc μ2 a6 21 ((l2 - l1)).toNat) a9) : Int) - l1))) ∧ (l1 + (if (l2 - l1) < (((ln (alc μ2 a6 21 ((l2 - l1)).toNat) a9) : Int) - l1) then (l2 - l1) else (((ln (alc μ2 a6 21 ((l2 - l1)).toNat) a9) : Int) - l1)) ≤ ((ln (alc μ2 a6 21 ((l2 - l1)).toNat) a9) : Int) ∧ (0 : Int) + (if (l2 - l1) < (((ln (alc μ2 a6 21 ((l2 - l1)).toNat) a9) : Int) - l1) then (l2 - l1) else (((ln (alc μ2 a6 21 ((l2 - l1)).toNat) a9) : Int) - l1)) ≤ ((ln (alc μ2 a6 21 ((l2 - l1)).toNat) a6) : Int)) ∧ (ln (alc μ2 a6 21 ((l2 - l1)).toNat) a9) < 2147483648 ∧ (ln (alc μ2 a6 21 ((l2 - l1)).toNat) a6) < 2147483648) ∧ (∀ i : Nat, (i : Int) < (if (l2 - l1) < (((ln (alc μ2 a6 21 ((l2 - l1)).toNat) a9) : Int) - l1) then (l2 - l1) else (((ln (alc μ2 a6 21 ((l2 - l1)).toNat) a9) : Int) - l1)) → -128 ≤ (oI (alc μ2 a6 21 ((l2 - l1)).toNat) a9 ((l1).toNat + i)) ∧ (oI (alc μ2 a6 21 ((l2 - l1)).toNat) a9 ((l1).toNat + i)) < 128) ∧ Q (some a6) (prI (alc μ2 a6 21 ((l2 - l1)).toNat) a6 (va_cpy (oI (alc μ2 a6 21 ((l2 - l1)).toNat) a9) (oI (alc μ2 a6 21 ((l2 - l1)).toNat) a6) (l1).toNat ((0 : Int)).toNat ((if (l2 - l1) < (((ln (alc μ2 a6 21 ((l2 - l1)).toNat) a9) : Int) - l1) then (l2 - l1) else (((ln (alc μ2 a6 21 ((l2 - l1)).toNat) a9) : Int) - l1))).toNat))))
set_option maxHeartbeats 4000000 in
theorem sc_J10_copyOfRangeByte (l : Launch) (X : cX) (sz : Nat) (Q : Option Nat → CM → Prop) (b : Nat) (l0 : Option Nat) (l1 : Int) (l2 : Int) (μ : CM) (hw : wc_J10_copyOfRangeByte X b l0 l1 l2 μ Q) : Met l yJ10_copyOfRangeByte (ws_ yJ10_copyOfRangeByte cJ10_copyOfRangeByte 5 (some (.array .byte))) ({ frames := 1, cells := b, slots := 5 * b, locals := 30 }) (cPc X (([aR l0, aI l1, aI l2] : List AV).map toV) μ sz) (cQr X μ sz Q) b (5 * b) (cA X μ sz) := by
  refine cx_met2 (rm := ({ frames := 1, cells := b, slots := 5 * b, locals := 30 })) (As := [aR l0, aI l1, aI l2]) (L0 := [(0, aR l0), (1, aI l1), (2, aI l2)]) (by decide) rfl (Nat.le_of_ble_eq_true rfl) rfl ?_
  intro Z C hK hsz hR hl0 hin hQ
  subst hsz
  have C : gC Z cJ10_copyOfRangeByte 5 RJ10 (some (.array .byte)) 1 30 := C
  have hQ : zz_q Z = MQ (zz_b Z) (cQr X μ (zz_s Z).heap.size Q) (zz_a Z) (zz_s Z) (zz_R Z).cells (zz_R Z).slots (cA X μ (zz_s Z).heap.size) := by rw [hR]; exact hQ
  have hb : 0 + b ≤ (zz_R Z).cells ∧ 0 + 5 * b ≤ (zz_R Z).slots := by rw [hR]; exact ⟨by dsimp only; omega, by dsimp only; omega⟩
  unfold wc_J10_copyOfRangeByte at hw
  refine hx_iload_n C dJ10_copyOfRangeByte_0 1 rfl rfl ?_
  refine hx_iload_n C dJ10_copyOfRangeByte_1 2 rfl rfl ?_
  refine fun H locs hI ls hl => cx_rv (S := []) hI hl (fun _ h => h) (cr_S (As := [toV (aI l1), toV (aI l2)]) (rest := []) C hK hI hl 2 (sc_J10_checkLength _ X H.size _ _ _ _ hw) (lw_S q1094 q1095 q106 q1096) (by decide +kernel) ⟨rfl, rfl, Nat.le_of_ble_eq_true rfl, Nat.le_of_ble_eq_true rfl⟩ (av_W [] 8 (Nat.le_of_ble_eq_true rfl)) dJ10_copyOfRangeByte_2 rfl rfl ⟨by omega, by omega⟩) (fun μ2 hw => ?_)
  refine hx_iload_n C dJ10_copyOfRangeByte_5 2 rfl rfl ?_
  refine hx_iload_n C dJ10_copyOfRangeByte_6 1 rfl rfl ?_
  refine hx_isub C dJ10_copyOfRangeByte_7 ?_
  refine hx_istore_n (L' := [(3, aI (l2 - l1)), (0, aR l0), (1, aI l1), (2, aI l2)]) C dJ10_copyOfRangeByte_8 rfl (by decide) rfl ?_
  refine hx_iload_n C dJ10_copyOfRangeByte_9 0 rfl rfl ?_
  obtain ⟨hm3, u4, hu5, hw⟩ := hw
  refine cx_newB C hK q200 hm3.1 hm3.2 (by omega) (by omega) dJ10_copyOfRangeByte_10 (fun a6 hf7 => ?_)
  have hw := hw a6 hf7
  obtain hb : (0 + 1) + (b - u4) ≤ (zz_R Z).cells ∧ (0 + ((l2 - l1)).toNat) + 5 * (b - u4) ≤ (zz_R Z).slots := ⟨by omega, by omega⟩
  have ht8 : tg (alc μ2 a6 21 ((l2 - l1)).toNat) a6 = 21 := alc_t
  refine hx_astore (L' := [(4, aR (some a6)), (3, aI (l2 - l1)), (0, aR l0), (1, aI l1), (2, aI l2)]) C dJ10_copyOfRangeByte_12 (by decide) rfl ?_
  refine hx_aload_n C dJ10_copyOfRangeByte_14 2 rfl rfl ?_
  refine hx_iload_n C dJ10_copyOfRangeByte_15 3 rfl rfl ?_
  refine hx_aload C dJ10_copyOfRangeByte_16 0 rfl ?_
  refine hx_iconst C dJ10_copyOfRangeByte_18 ?_
  refine hx_aload_n C dJ10_copyOfRangeByte_19 2 rfl rfl ?_
  obtain ⟨a9, ha10, hw⟩ := hw
  rw [ha10]
  obtain ⟨ht11, hw⟩ := hw
  refine cx_alenK C hK ht11 dJ10_copyOfRangeByte_20 ?_
  refine hx_iload_n C dJ10_copyOfRangeByte_21 3 rfl rfl ?_
  refine hx_isub C dJ10_copyOfRangeByte_22 ?_
  refine hx_iload_n C dJ10_copyOfRangeByte_23 1 rfl rfl ?_
  obtain ⟨hr12, hw⟩ := hw
  obtain ⟨hr13, hw⟩ := hw
  refine cx_mmin (S := [aI 0, aR (some a6), aI l1, aR (some a9)]) C q945 q441 q97 q442 (by omega) (by simp [toV_cat, avc]; try omega) (by omega) (by omega) hr12 hr13 dJ10_copyOfRangeByte_24 ?_
  obtain ⟨hc14, hx15, hw⟩ := hw
  refine cx_copyB (S := []) C hK q946 q485 q484 q98 ht11 ht8 hc14 hx15 (by omega) (by simp [toV_cat, avc, nativeFrameWords]; try omega) dJ10_copyOfRangeByte_27 ?_
  refine hx_aload C dJ10_copyOfRangeByte_30 0 rfl ?_
  exact cx_aret C hQ (by omega) (by omega) (Or.inr ⟨_, rfl⟩) hw dJ10_copyOfRangeByte_32
-- ('java/util/Arrays', 'copyOfRange', '([BII)[B')
def wc_J10_copyOfRange_10 (X : cX) (Q : Option Nat → CM → Prop) (l0 : Option Nat) (l1 : Int) (l2 : Int) (b : Nat) (μ : CM) : Prop := (∃ b1, b1 ≤ b ∧ wc_J10_copyOfRangeByte X b1 l0 l1 l2 μ (fun r3 μ4 => Q r3 μ4))
set_option maxHeartbeats 4000000 in
theorem sc_J10_copyOfRange_10 {Z : zz} {X : cX} {μ0 : CM} {Q : Option Nat → CM → Prop} (C : gC Z cJ10_copyOfRange 3 RJ10 (some (.array .byte)) 2 54) (hK : cCt Z X μ0) (hQ : zz_q Z = MQ (zz_b Z) (cQr X μ0 (zz_s Z).heap.size Q) (zz_a Z) (zz_s Z) (zz_R Z).cells (zz_R Z).slots (cA X μ0 (zz_s Z).heap.size))  : ∀ l0 l1 l2 b μ, wc_J10_copyOfRange_10 X Q l0 l1 l2 b μ → ∀ kk nn, (kk + b ≤ (zz_R Z).cells ∧ nn + 5 * b ≤ (zz_R Z).slots) → hG Z 3 (cI Z X μ0 μ) kk nn 10 [(0, aR l0), (1, aI l1), (2, aI l2)] [] := by
  intro l0 l1 l2 b μ hw kk nn hb
  unfold wc_J10_copyOfRange_10 at hw
  refine hx_aload_n C dJ10_copyOfRange_10 0 rfl rfl ?_
  refine hx_iload_n C dJ10_copyOfRange_11 1 rfl rfl ?_
  refine hx_iload_n C dJ10_copyOfRange_12 2 rfl rfl ?_
  obtain ⟨b1, hu2, hw⟩ := hw
  refine fun H locs hI ls hl => cx_rr (S := []) hI hl (fun _ h => h) (cr_S (As := [toV (aR l0), toV (aI l1), toV (aI l2)]) (rest := []) C hK hI hl 3 (sc_J10_copyOfRangeByte _ X H.size _ b1 _ _ _ _ hw) (lw_S q1091 q1092 q106 q1093) (by decide +kernel) ⟨rfl, rfl, Nat.le_of_ble_eq_true rfl, Nat.le_of_ble_eq_true rfl⟩ (av_W [] 8 (Nat.le_of_ble_eq_true rfl)) dJ10_copyOfRange_13 rfl rfl ⟨by omega, by omega⟩) (fun r3 μ4 hw => ?_)
  obtain hb : (kk + b1) + (b - b1) ≤ (zz_R Z).cells ∧ (nn + 5 * b1) + 5 * (b - b1) ≤ (zz_R Z).slots := ⟨by omega, by omega⟩
  exact cx_aret C hQ (by omega) (by omega) (Or.inr ⟨_, rfl⟩) hw dJ10_copyOfRange_16
def wc_J10_copyOfRange (X : cX) (b : Nat) (l0 : Option Nat) (l1 : Int) (l2 : Int) (μ : CM) (Q : Option Nat → CM → Prop) : Prop := R32 l1 ∧ ((¬ l1 = 0 → wc_J10_copyOfRange_10 X   Q l0 l1 l2 b μ) ∧ (l1 = 0 → (∃ a2, l0 = some a2 ∧ (tg μ a2 = 21 ∨ tg μ a2 = 26) ∧ R32 l2 ∧ R32 ((ln μ a2) : Int) ∧ ((l2 = ((ln μ a2) : Int) → (tg μ a2 = 21 ∧ (∀ i : Nat, i < (ln μ a2) → -128 ≤ (oI μ a2 i) ∧ (oI μ a2 i) < 128) ∧ ∃ u9 : Nat, (1 ≤ u9 ∧ (ln μ a2) ≤ 5 * u9 ∧ u9 ≤ b) ∧ ∀ a11, tg μ a11 = 0 → Q (some a11) (prI (alc μ a11 21 (ln μ a2)) a11 (oI μ a2)))) ∧ (¬ l2 = ((ln μ a2) : Int) → wc_J10_copyOfRange_10 X   Q (some a2) l1 l2 b μ)))))
set_option maxHeartbeats 4000000 in
theorem sc_J10_copyOfRange (l : Launch) (X : cX) (sz : Nat) (Q : Option Nat → CM → Prop) (b : Nat) (l0 : Option Nat) (l1 : Int) (l2 : Int) (μ : CM) (hw : wc_J10_copyOfRange X b l0 l1 l2 μ Q) : Met l yJ10_copyOfRange (ws_ yJ10_copyOfRange cJ10_copyOfRange 3 (some (.array .byte))) ({ frames := 2, cells := b, slots := 5 * b, locals := 54 }) (cPc X (([aR l0, aI l1, aI l2] : List AV).map toV) μ sz) (cQr X μ sz Q) b (5 * b) (cA X μ sz) := by
  refine cx_met2 (rm := ({ frames := 2, cells := b, slots := 5 * b, locals := 54 })) (As := [aR l0, aI l1, aI l2]) (L0 := [(0, aR l0), (1, aI l1), (2, aI l2)]) (by decide) rfl (Nat.le_of_ble_eq_true rfl) rfl ?_
  intro Z C hK hsz hR hl0 hin hQ
  subst hsz
  have C : gC Z cJ10_copyOfRange 3 RJ10 (some (.array .byte)) 2 54 := C
  have hQ : zz_q Z = MQ (zz_b Z) (cQr X μ (zz_s Z).heap.size Q) (zz_a Z) (zz_s Z) (zz_R Z).cells (zz_R Z).slots (cA X μ (zz_s Z).heap.size) := by rw [hR]; exact hQ
  have hb : 0 + b ≤ (zz_R Z).cells ∧ 0 + 5 * b ≤ (zz_R Z).slots := by rw [hR]; exact ⟨by dsimp only; omega, by dsimp only; omega⟩
  unfold wc_J10_copyOfRange at hw
  refine hx_iload_n C dJ10_copyOfRange_0 1 rfl rfl ?_
  obtain ⟨hr1, hw⟩ := hw
  refine hx_if_ne (tgt := 10) C dJ10_copyOfRange_1 (by decide) hr1 (fun h => ?_) (fun h => ?_)
  · have hw := hw.1 h
    refine hx_L [0, 1, 2] rfl ?_
    exact sc_J10_copyOfRange_10 C hK hQ  _ _ _ _ _ hw _ _ hb
  · have hw := hw.2 h
    refine hx_iload_n C dJ10_copyOfRange_4 2 rfl rfl ?_
    refine hx_aload_n C dJ10_copyOfRange_5 0 rfl rfl ?_
    obtain ⟨a2, ha3, hw⟩ := hw
    rw [ha3]
    obtain ⟨ht4, hw⟩ := hw
    refine cx_alenK C hK ht4 dJ10_copyOfRange_6 ?_
    obtain ⟨hr5, hw⟩ := hw
    obtain ⟨hr6, hw⟩ := hw
    refine hx_icmp_eq (tgt := 17) C dJ10_copyOfRange_7 (by decide) hr5 hr6 (fun h => ?_) (fun h => ?_)
    · have hw := hw.1 h
      refine hx_aload_n C dJ10_copyOfRange_17 0 rfl rfl ?_
      obtain ⟨ht7, hw⟩ := hw
      obtain ⟨hx8, u9, hu10, hw⟩ := hw
      refine cx_cloneB (S := []) C hK q938 q939 q940 q941 q942 (List.mem_of_getElem? (i := 67) rfl) ht7 hx8 (by omega) (by simp [toV_cat, avc]; try omega) (by omega) (by omega) dJ10_copyOfRange_18 (fun a11 hf12 => ?_)
      have hw := hw a11 hf12
      obtain hb : (0 + 1) + (b - u9) ≤ (zz_R Z).cells ∧ (0 + (ln μ a2)) + 5 * (b - u9) ≤ (zz_R Z).slots := ⟨by omega, by omega⟩
      have ht13 := alc_kp (t := 21) (m := (ln μ a2)) hf12 ht7 (by decide)
      have ht14 : tg (alc μ a11 21 (ln μ a2)) a11 = 21 := alc_t
      refine cx_castB C hK q944 ht14 dJ10_copyOfRange_21 ?_
      exact cx_aret C hQ (by omega) (by omega) (Or.inr ⟨_, rfl⟩) hw dJ10_copyOfRange_24
    · have hw := hw.2 h
      refine hx_L [0, 1, 2] rfl ?_
      exact sc_J10_copyOfRange_10 C hK hQ  _ _ _ _ _ hw _ _ hb
-- ('java/lang/String', '<init>', '(Ljava/lang/AbstractStringBuilder;Ljava/lang/Void;)V')
def wc_J0_init_2 (X : cX) (b : Nat) (l0 : Nat) (l1 : Option Nat) (l2 : Option Nat) (μ : CM) (Q : CM → Prop) : Prop := (∃ a1, l1 = some a1 ∧ tg μ a1 = 12 ∧ wc_J8_getValue X a1 μ (fun r3 μ4 => tg μ4 a1 = 12 ∧ wc_J9_length X a1 μ4 (fun r6 μ7 => tg μ7 a1 = 12 ∧ wc_J8_isLatin1 X a1 μ7 (fun r9 μ10 => R32 r9 ∧ ((r9 = 0 → False) ∧ (¬ r9 = 0 → (tg μ10 l0 = 13 ∧ ∃ b14, b14 ≤ b ∧ wc_J10_copyOfRange X b14 r3 0 r6 (poI μ10 l0 1 0) (fun r16 μ17 => tg μ17 l0 = 13 ∧ Q (poR μ17 l0 0 r16)))))))))
set_option maxHeartbeats 4000000 in
theorem sc_J0_init_2 (l : Launch) (X : cX) (sz : Nat) (Q : CM → Prop) (b : Nat) (l0 : Nat) (l1 : Option Nat) (l2 : Option Nat) (μ : CM) (hw : wc_J0_init_2 X b l0 l1 l2 μ Q) : Met l yJ0_init_2 (ws_ yJ0_init_2 cJ0_init_2 5 none) ({ frames := 3, cells := b, slots := 5 * b, locals := 76 }) (cPc X (([aR (some l0), aR l1, aR l2] : List AV).map toV) μ sz) (cQv X μ sz Q) b (5 * b) (cA X μ sz) := by
  refine cx_met2 (rm := ({ frames := 3, cells := b, slots := 5 * b, locals := 76 })) (As := [aR (some l0), aR l1, aR l2]) (L0 := [(0, aR (some l0)), (1, aR l1), (2, aR l2)]) (by decide) rfl (Nat.le_of_ble_eq_true rfl) rfl ?_
  intro Z C hK hsz hR hl0 hin hQ
  subst hsz
  have C : gC Z cJ0_init_2 5 RJ0 none 3 76 := C
  have hQ : zz_q Z = MQ (zz_b Z) (cQv X μ (zz_s Z).heap.size Q) (zz_a Z) (zz_s Z) (zz_R Z).cells (zz_R Z).slots (cA X μ (zz_s Z).heap.size) := by rw [hR]; exact hQ
  have hb : 0 + b ≤ (zz_R Z).cells ∧ 0 + 5 * b ≤ (zz_R Z).slots := by rw [hR]; exact ⟨by dsimp only; omega, by dsimp only; omega⟩
  unfold wc_J0_init_2 at hw
  refine hx_aload_n C dJ0_init_2_0 0 rfl rfl ?_
  refine cx_objInit C q1073 q116 q117 (by omega) (by simp [toV_cat, avc]; try omega) dJ0_init_2_1 ?_
  refine hx_aload_n C dJ0_init_2_4 1 rfl rfl ?_
  obtain ⟨a1, ha2, hw⟩ := hw
  rw [ha2]
  obtain ⟨ht5, hw⟩ := hw
  refine fun H locs hI ls hl => cx_rr (S := []) hI hl (fun _ h => h) (cr_U (x := ⟨"java/lang/AbstractStringBuilder", "getValue", "()[B"⟩) (owner := "java/lang/AbstractStringBuilder") (Cn := "java/lang/StringBuilder") (As := []) (rest := []) C hK hI hl 0 (cv_dyn hK hI (ci := 11) rfl (Or.inr (cdE_11 ht5))) (sc_J8_getValue _ X H.size _ _ _ hw) (C.w _ q1074) (C.w _ q1076) (va_Decl.of (C.w _ q1075) (C.w _ q1078)) (C.w _ q1077) q1075 q104 q1078 (by decide +kernel) ⟨rfl, rfl, Nat.le_of_ble_eq_true rfl, Nat.le_of_ble_eq_true rfl⟩ (av_W [] 8 (Nat.le_of_ble_eq_true rfl)) dJ0_init_2_5 rfl rfl ⟨by omega, by omega⟩) (fun r3 μ4 hw => ?_)
  refine hx_astore_n (L' := [(3, aR r3), (0, aR (some l0)), (1, aR (some a1)), (2, aR l2)]) C dJ0_init_2_8 rfl (by decide) rfl ?_
  refine hx_aload_n C dJ0_init_2_9 2 rfl rfl ?_
  obtain ⟨ht8, hw⟩ := hw
  refine fun H locs hI ls hl => cx_ri (S := []) hI hl (fun _ h => h) (cr_U (x := ⟨"java/lang/AbstractStringBuilder", "length", "()I"⟩) (owner := "java/lang/AbstractStringBuilder") (Cn := "java/lang/StringBuilder") (As := []) (rest := []) C hK hI hl 0 (cv_dyn hK hI (ci := 11) rfl (Or.inr (cdE_11 ht8))) (sc_J9_length _ X H.size _ _ _ hw) (C.w _ q1079) (C.w _ q1081) (va_Decl.of (C.w _ q1080) (C.w _ q1086)) (C.w _ q1082) q1083 q105 q1084 (by decide +kernel) ⟨rfl, rfl, Nat.le_of_ble_eq_true rfl, Nat.le_of_ble_eq_true rfl⟩ (av_W [] 8 (Nat.le_of_ble_eq_true rfl)) dJ0_init_2_10 rfl rfl ⟨by omega, by omega⟩) (fun r6 μ7 hw => ?_)
  refine hx_istore (L' := [(4, aI r6), (3, aR r3), (0, aR (some l0)), (1, aR (some a1)), (2, aR l2)]) C dJ0_init_2_13 (by decide) rfl ?_
  refine hx_aload_n C dJ0_init_2_15 3 rfl rfl ?_
  obtain ⟨ht11, hw⟩ := hw
  refine fun H locs hI ls hl => cx_ri (S := []) hI hl (fun _ h => h) (cr_U (x := ⟨"java/lang/AbstractStringBuilder", "isLatin1", "()Z"⟩) (owner := "java/lang/AbstractStringBuilder") (Cn := "java/lang/StringBuilder") (As := []) (rest := []) C hK hI hl 0 (cv_dyn hK hI (ci := 11) rfl (Or.inr (cdE_11 ht11))) (sc_J8_isLatin1 _ X H.size _ _ _ hw) (C.w _ q1087) (C.w _ q949) (va_Decl.of (C.w _ q948) (C.w _ q951)) (C.w _ q950) q948 q104 q951 (by decide +kernel) ⟨rfl, rfl, Nat.le_of_ble_eq_true rfl, Nat.le_of_ble_eq_true rfl⟩ (av_W [] 8 (Nat.le_of_ble_eq_true rfl)) dJ0_init_2_16 rfl rfl ⟨by omega, by omega⟩) (fun r9 μ10 hw => ?_)
  obtain ⟨hr12, hw⟩ := hw
  refine hx_if_eq (tgt := 41) C dJ0_init_2_19 (by decide) hr12 (fun h => ?_) (fun h => ?_)
  · have hw := hw.1 h
    exact hw.elim
  · have hw := hw.2 h
    refine hx_aload_n C dJ0_init_2_22 2 rfl rfl ?_
    refine hx_iconst C dJ0_init_2_23 ?_
    obtain ⟨ht13, hw⟩ := hw
    refine cx_putF (μ := μ10) (μ' := (poI μ10 l0 1 0)) C hK hin 12 1 rfl in_J0 tyJ0_ok nmJ0 (by decide) q1108 rfl rfl rfl (cdE_12 ht13) (Nat.le_of_ble_eq_true rfl) ⟨mz_b (by decide), mz_fb (by decide)⟩ (cset_12_1 μ10 l0 0) (cdE_12 ht13) rfl rfl rfl (fun _ hb => st_o hb) (fun _ _ => rfl) dJ0_init_2_24 ?_
    refine hx_aload_n C dJ0_init_2_27 2 rfl rfl ?_
    refine hx_aload_n C dJ0_init_2_28 1 rfl rfl ?_
    refine hx_iconst C dJ0_init_2_29 ?_
    refine hx_iload C dJ0_init_2_30 0 rfl ?_
    obtain ⟨b14, hu15, hw⟩ := hw
    refine fun H locs hI ls hl => cx_rr (S := [aR (some l0)]) hI hl (fun _ h => h) (cr_S (As := [toV (aR r3), toV (aI 0), toV (aI r6)]) (rest := [toV (aR (some l0))]) C hK hI hl 3 (sc_J10_copyOfRange _ X H.size _ b14 _ _ _ _ hw) (lw_S q1088 q1089 q106 q1090) (by decide +kernel) ⟨rfl, rfl, Nat.le_of_ble_eq_true rfl, Nat.le_of_ble_eq_true rfl⟩ (av_W [aR (some l0)] 8 (Nat.le_of_ble_eq_true rfl)) dJ0_init_2_32 rfl rfl ⟨by omega, by omega⟩) (fun r16 μ17 hw => ?_)
    obtain hb : (0 + b14) + (b - b14) ≤ (zz_R Z).cells ∧ (0 + 5 * b14) + 5 * (b - b14) ≤ (zz_R Z).slots := ⟨by omega, by omega⟩
    obtain ⟨ht18, hw⟩ := hw
    refine cx_putF (μ := μ17) (μ' := (poR μ17 l0 0 r16)) C hK hin 12 0 rfl in_J0 tyJ0_ok nmJ0 (by decide) q1107 rfl rfl rfl (cdE_12 ht18) (Nat.le_of_ble_eq_true rfl) (cz_r (ty := tyJ0 0) rfl r16) (cset_12_0 μ17 l0 r16) (cdE_12 ht18) rfl rfl rfl (fun _ _ => rfl) (fun _ hb => stq_o hb) dJ0_init_2_35 ?_
    refine hx_goto (tgt := 97) C dJ0_init_2_38 (by decide) ?_
    exact cx_vret C hQ (by omega) (by omega) hw dJ0_init_2_97
