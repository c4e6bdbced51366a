/-! walks of the component (printed by gen_comp) -/
set_option maxRecDepth 100000
-- ('java/lang/String', 'coder', '()B')
def wc_J0_coder (X : cX) (l0 : Nat) (μ : CM) (Q : Int → CM → Prop) : Prop := (tg μ l0 = 13 ∨ tg μ l0 = 14) ∧ (-128 ≤ (oI μ l0 1) ∧ (oI μ l0 1) < 128) ∧ Q (oI μ l0 1) μ
set_option maxHeartbeats 4000000 in
theorem sc_J0_coder (l : Launch) (X : cX) (sz : Nat) (Q : Int → CM → Prop) (l0 : Nat) (μ : CM) (hw : wc_J0_coder X l0 μ Q) : Met l yJ0_coder (ws_ yJ0_coder cJ0_coder 1 (some .byte)) ({ frames := 0, cells := 0, slots := 0, locals := 0 }) (cPc X (([aR (some l0)] : List AV).map toV) μ sz) (cQi X μ sz Q) 0 (0) (cA X μ sz) := by
  refine cx_met2 (rm := ({ frames := 0, cells := 0, slots := 0, locals := 0 })) (As := [aR (some l0)]) (L0 := [(0, aR (some l0))]) (by decide) rfl (Nat.le_of_ble_eq_true rfl) rfl ?_
  intro Z C hK hsz hR hl0 hin hQ
  subst hsz
  have C : gC Z cJ0_coder 1 RJ0 (some .byte) 0 0 := C
  have hQ : zz_q Z = MQ (zz_b Z) (cQi X μ (zz_s Z).heap.size Q) (zz_a Z) (zz_s Z) (zz_R Z).cells (zz_R Z).slots (cA X μ (zz_s Z).heap.size) := by rw [hR]; exact hQ
  unfold wc_J0_coder at hw
  refine cx_compact C hK q277 dJ0_coder_0 ?_
  refine hx_if_eq (tgt := 13) C dJ0_coder_3 (by decide) (by decide) (fun h => ?_) (fun h => ?_)
  · exact absurd h (by decide)
  · skip
    refine hx_aload_n C dJ0_coder_6 0 rfl rfl ?_
    obtain ⟨ht1, hw⟩ := hw
    refine cx_getStr (v := aI (oI μ l0 1)) C hK 1 (by decide) q1108 ht1 rfl dJ0_coder_7 ?_
    refine hx_goto (tgt := 14) C dJ0_coder_10 (by decide) ?_
    obtain ⟨hz, hw⟩ := hw
    exact cx_iret C hQ (by omega) (by omega) (mz_b hz) hw dJ0_coder_14
-- ('java/lang/String', 'length', '()I')
def wc_J0_length (X : cX) (l0 : Nat) (μ : CM) (Q : Int → CM → Prop) : Prop := ((tg μ l0 = 13 ∨ tg μ l0 = 14) ∧ ∃ a2, (oR μ l0 0) = some a2 ∧ (tg μ a2 = 21 ∨ tg μ a2 = 26) ∧ wc_J0_coder X l0 μ (fun r5 μ6 => Q (io_shr ((ln μ a2) : Int) r5) μ6))
set_option maxHeartbeats 4000000 in
theorem sc_J0_length (l : Launch) (X : cX) (sz : Nat) (Q : Int → CM → Prop) (l0 : Nat) (μ : CM) (hw : wc_J0_length X l0 μ Q) : Met l yJ0_length (ws_ yJ0_length cJ0_length 1 (some .int)) ({ frames := 1, cells := 0, slots := 0, locals := 20 }) (cPc X (([aR (some l0)] : List AV).map toV) μ sz) (cQi X μ sz Q) 0 (0) (cA X μ sz) := by
  refine cx_met2 (rm := ({ frames := 1, cells := 0, slots := 0, locals := 20 })) (As := [aR (some l0)]) (L0 := [(0, aR (some l0))]) (by decide) rfl (Nat.le_of_ble_eq_true rfl) rfl ?_
  intro Z C hK hsz hR hl0 hin hQ
  subst hsz
  have C : gC Z cJ0_length 1 RJ0 (some .int) 1 20 := C
  have hQ : zz_q Z = MQ (zz_b Z) (cQi X μ (zz_s Z).heap.size Q) (zz_a Z) (zz_s Z) (zz_R Z).cells (zz_R Z).slots (cA X μ (zz_s Z).heap.size) := by rw [hR]; exact hQ
  unfold wc_J0_length at hw
  refine hx_aload_n C dJ0_length_0 0 rfl rfl ?_
  obtain ⟨ht1, hw⟩ := hw
  refine cx_getStr (v := aR (oR μ l0 0)) C hK 0 (by decide) q1107 ht1 rfl dJ0_length_1 ?_
  obtain ⟨a2, ha3, hw⟩ := hw
  rw [ha3]
  obtain ⟨ht4, hw⟩ := hw
  refine cx_alenK C hK ht4 dJ0_length_4 ?_
  refine hx_aload_n C dJ0_length_5 0 rfl rfl ?_
  refine fun H locs hI ls hl => cx_ri (S := [aI ((ln μ a2) : Int)]) hI hl (fun _ h => h) (cr_V (Cn := RJ0) (As := []) (rest := [toV (aI ((ln μ a2) : Int))]) C hK hI hl 0 (cv_str hK hI ht1) (sc_J0_coder _ X H.size _ _ _ hw) (lw_V q273 q274 q275 q88 q276) (by decide +kernel) ⟨rfl, rfl, Nat.le_of_ble_eq_true rfl, Nat.le_of_ble_eq_true rfl⟩ (av_W [aI ((ln μ a2) : Int)] 8 (Nat.le_of_ble_eq_true rfl)) dJ0_length_6 rfl rfl ⟨by omega, by omega⟩) (fun r5 μ6 hw => ?_)
  refine hx_ishr C dJ0_length_9 ?_
  exact cx_iret C hQ (by omega) (by omega) rfl hw dJ0_length_10
-- ('java/lang/String', 'isLatin1', '()Z')
def wc_J0_isLatin1_17 (X : cX) (Q : Int → CM → Prop) (μ : CM) : Prop := False
set_option maxHeartbeats 4000000 in
theorem sc_J0_isLatin1_17 {Z : zz} {X : cX} {μ0 : CM} {Q : Int → CM → Prop} (C : gC Z cJ0_isLatin1 1 RJ0 (some .boolean) 0 0) (hK : cCt Z X μ0) (hQ : zz_q Z = MQ (zz_b Z) (cQi X μ0 (zz_s Z).heap.size Q) (zz_a Z) (zz_s Z) (zz_R Z).cells (zz_R Z).slots (cA X μ0 (zz_s Z).heap.size))  : ∀ μ, wc_J0_isLatin1_17 X Q μ → hG Z 1 (cI Z X μ0 μ) 0 0 17 [] [] := by
  intro μ hw
  unfold wc_J0_isLatin1_17 at hw
  exact hw.elim
def wc_J0_isLatin1 (X : cX) (l0 : Nat) (μ : CM) (Q : Int → CM → Prop) : Prop := (tg μ l0 = 13 ∨ tg μ l0 = 14) ∧ R32 (oI μ l0 1) ∧ ((¬ (oI μ l0 1) = 0 → False) ∧ ((oI μ l0 1) = 0 → Q 1 μ))
set_option maxHeartbeats 4000000 in
theorem sc_J0_isLatin1 (l : Launch) (X : cX) (sz : Nat) (Q : Int → CM → Prop) (l0 : Nat) (μ : CM) (hw : wc_J0_isLatin1 X l0 μ Q) : Met l yJ0_isLatin1 (ws_ yJ0_isLatin1 cJ0_isLatin1 1 (some .boolean)) ({ frames := 0, cells := 0, slots := 0, locals := 0 }) (cPc X (([aR (some l0)] : List AV).map toV) μ sz) (cQi X μ sz Q) 0 (0) (cA X μ sz) := by
  refine cx_met2 (rm := ({ frames := 0, cells := 0, slots := 0, locals := 0 })) (As := [aR (some l0)]) (L0 := [(0, aR (some l0))]) (by decide) rfl (Nat.le_of_ble_eq_true rfl) rfl ?_
  intro Z C hK hsz hR hl0 hin hQ
  subst hsz
  have C : gC Z cJ0_isLatin1 1 RJ0 (some .boolean) 0 0 := C
  have hQ : zz_q Z = MQ (zz_b Z) (cQi X μ (zz_s Z).heap.size Q) (zz_a Z) (zz_s Z) (zz_R Z).cells (zz_R Z).slots (cA X μ (zz_s Z).heap.size) := by rw [hR]; exact hQ
  unfold wc_J0_isLatin1 at hw
  refine cx_compact C hK q277 dJ0_isLatin1_0 ?_
  refine hx_if_eq (tgt := 17) C dJ0_isLatin1_3 (by decide) (by decide) (fun h => ?_) (fun h => ?_)
  · exact absurd h (by decide)
  · skip
    refine hx_aload_n C dJ0_isLatin1_6 0 rfl rfl ?_
    obtain ⟨ht1, hw⟩ := hw
    refine cx_getStr (v := aI (oI μ l0 1)) C hK 1 (by decide) q1108 ht1 rfl dJ0_isLatin1_7 ?_
    obtain ⟨hr2, hw⟩ := hw
    refine hx_if_ne (tgt := 17) C dJ0_isLatin1_10 (by decide) hr2 (fun h => ?_) (fun h => ?_)
    · have hw := hw.1 h
      exact hw.elim
    · have hw := hw.2 h
      refine hx_iconst C dJ0_isLatin1_13 ?_
      refine hx_goto (tgt := 18) C dJ0_isLatin1_14 (by decide) ?_
      exact cx_iret C hQ (by omega) (by omega) (mz_n (by decide)) hw dJ0_isLatin1_18
-- ('jdk/internal/util/Preconditions', 'checkIndex', '(IILjava/util/function/BiFunction;)I')
def wc_J5_checkIndex_9 (X : cX) (Q : Int → CM → Prop) (l2 : Option Nat) (μ : CM) : Prop := False
set_option maxHeartbeats 4000000 in
theorem sc_J5_checkIndex_9 {Z : zz} {X : cX} {μ0 : CM} {Q : Int → CM → Prop} (C : gC Z cJ5_checkIndex 3 RJ5 (some .int) 0 0) (hK : cCt Z X μ0) (hQ : zz_q Z = MQ (zz_b Z) (cQi X μ0 (zz_s Z).heap.size Q) (zz_a Z) (zz_s Z) (zz_R Z).cells (zz_R Z).slots (cA X μ0 (zz_s Z).heap.size))  : ∀ l2 μ, wc_J5_checkIndex_9 X Q l2 μ → hG Z 3 (cI Z X μ0 μ) 0 0 9 [(2, aR l2)] [] := by
  intro l2 μ hw
  unfold wc_J5_checkIndex_9 at hw
  exact hw.elim
def wc_J5_checkIndex (X : cX) (l0 : Int) (l1 : Int) (l2 : Option Nat) (μ : CM) (Q : Int → CM → Prop) : Prop := R32 l0 ∧ ((l0 < 0 → False) ∧ (0 ≤ l0 → R32 l0 ∧ R32 l1 ∧ ((l0 < l1 → Q l0 μ) ∧ (l1 ≤ l0 → False))))
set_option maxHeartbeats 4000000 in
theorem sc_J5_checkIndex (l : Launch) (X : cX) (sz : Nat) (Q : Int → CM → Prop) (l0 : Int) (l1 : Int) (l2 : Option Nat) (μ : CM) (hw : wc_J5_checkIndex X l0 l1 l2 μ Q) : Met l yJ5_checkIndex (ws_ yJ5_checkIndex cJ5_checkIndex 3 (some .int)) ({ frames := 0, cells := 0, slots := 0, locals := 0 }) (cPc X (([aI l0, aI l1, aR l2] : List AV).map toV) μ sz) (cQi X μ sz Q) 0 (0) (cA X μ sz) := by
  refine cx_met2 (rm := ({ frames := 0, cells := 0, slots := 0, locals := 0 })) (As := [aI l0, aI l1, aR l2]) (L0 := [(0, aI l0), (1, aI l1), (2, aR l2)]) (by decide) rfl (Nat.le_of_ble_eq_true rfl) rfl ?_
  intro Z C hK hsz hR hl0 hin hQ
  subst hsz
  have C : gC Z cJ5_checkIndex 3 RJ5 (some .int) 0 0 := C
  have hQ : zz_q Z = MQ (zz_b Z) (cQi X μ (zz_s Z).heap.size Q) (zz_a Z) (zz_s Z) (zz_R Z).cells (zz_R Z).slots (cA X μ (zz_s Z).heap.size) := by rw [hR]; exact hQ
  unfold wc_J5_checkIndex at hw
  refine hx_iload_n C dJ5_checkIndex_0 0 rfl rfl ?_
  obtain ⟨hr1, hw⟩ := hw
  refine hx_if_lt (tgt := 9) C dJ5_checkIndex_1 (by decide) hr1 (fun h => ?_) (fun h => ?_)
  · have hw := hw.1 h
    exact hw.elim
  · have hw := hw.2 h
    refine hx_iload_n C dJ5_checkIndex_4 0 rfl rfl ?_
    refine hx_iload_n C dJ5_checkIndex_5 1 rfl rfl ?_
    obtain ⟨hr2, hw⟩ := hw
    obtain ⟨hr3, hw⟩ := hw
    refine hx_icmp_lt (tgt := 16) C dJ5_checkIndex_6 (by decide) hr2 hr3 (fun h => ?_) (fun h => ?_)
    · have hw := hw.1 h
      refine hx_iload_n C dJ5_checkIndex_16 0 rfl rfl ?_
      exact cx_iret C hQ (by omega) (by omega) rfl hw dJ5_checkIndex_17
    · have hw := hw.2 h
      exact hw.elim
-- ('java/lang/String', 'checkIndex', '(II)V')
def wc_J0_checkIndex (X : cX) (l0 : Int) (l1 : Int) (μ : CM) (Q : CM → Prop) : Prop := ∀ g1 : Option Nat, wc_J5_checkIndex X l0 l1 g1 μ (fun r2 μ3 => Q μ3)
set_option maxHeartbeats 4000000 in
theorem sc_J0_checkIndex (l : Launch) (X : cX) (sz : Nat) (Q : CM → Prop) (l0 : Int) (l1 : Int) (μ : CM) (hw : wc_J0_checkIndex X l0 l1 μ Q) : Met l yJ0_checkIndex (ws_ yJ0_checkIndex cJ0_checkIndex 2 none) ({ frames := 1, cells := 0, slots := 0, locals := 30 }) (cPc X (([aI l0, aI l1] : List AV).map toV) μ sz) (cQv X μ sz Q) 0 (0) (cA X μ sz) := by
  refine cx_met2 (rm := ({ frames := 1, cells := 0, slots := 0, locals := 30 })) (As := [aI l0, aI l1]) (L0 := [(0, aI l0), (1, aI l1)]) (by decide) rfl (Nat.le_of_ble_eq_true rfl) rfl ?_
  intro Z C hK hsz hR hl0 hin hQ
  subst hsz
  have C : gC Z cJ0_checkIndex 2 RJ0 none 1 30 := C
  have hQ : zz_q Z = MQ (zz_b Z) (cQv X μ (zz_s Z).heap.size Q) (zz_a Z) (zz_s Z) (zz_R Z).cells (zz_R Z).slots (cA X μ (zz_s Z).heap.size) := by rw [hR]; exact hQ
  unfold wc_J0_checkIndex at hw
  refine hx_iload_n C dJ0_checkIndex_0 0 rfl rfl ?_
  refine hx_iload_n C dJ0_checkIndex_1 1 rfl rfl ?_
  refine cx_statq C hK.2.2.2.2.2 q668 dJ0_checkIndex_2 (fun g1 => ?_)
  have hw := hw g1
  refine fun H locs hI ls hl => cx_ri (S := []) hI hl (fun _ h => h) (cr_S (As := [toV (aI l0), toV (aI l1), toV (aR g1)]) (rest := []) C hK hI hl 3 (sc_J5_checkIndex _ X H.size _ _ _ _ _ hw) (lw_S q670 q671 q101 q672) (by decide +kernel) ⟨rfl, rfl, Nat.le_of_ble_eq_true rfl, Nat.le_of_ble_eq_true rfl⟩ (av_W [] 8 (Nat.le_of_ble_eq_true rfl)) dJ0_checkIndex_5 rfl rfl ⟨by omega, by omega⟩) (fun r2 μ3 hw => ?_)
  refine hx_pop C dJ0_checkIndex_8 rfl ?_
  exact cx_vret C hQ (by omega) (by omega) hw dJ0_checkIndex_9
-- ('java/lang/StringLatin1', 'charAt', '([BI)C')
def wc_J4_charAt (X : cX) (l0 : Option Nat) (l1 : Int) (μ : CM) (Q : Int → CM → Prop) : Prop := (∃ a1, l0 = some a1 ∧ (tg μ a1 = 21 ∨ tg μ a1 = 26) ∧ wc_J0_checkIndex X l1 ((ln μ a1) : Int) μ (fun μ5 => (tg μ5 a1 = 21 ∨ tg μ5 a1 = 26) ∧ (0 ≤ l1 ∧ l1 < ((ln μ5 a1) : Int)) ∧ (ln μ5 a1) < 2147483648 ∧ (0 ≤ (io_and (oI μ5 a1 (l1).toNat) 255) ∧ (io_and (oI μ5 a1 (l1).toNat) 255) < 65536) ∧ (0 ≤ (io_and (oI μ5 a1 (l1).toNat) 255) ∧ (io_and (oI μ5 a1 (l1).toNat) 255) < 65536) ∧ Q (io_and (oI μ5 a1 (l1).toNat) 255) μ5))
set_option maxHeartbeats 4000000 in
theorem sc_J4_charAt (l : Launch) (X : cX) (sz : Nat) (Q : Int → CM → Prop) (l0 : Option Nat) (l1 : Int) (μ : CM) (hw : wc_J4_charAt X l0 l1 μ Q) : Met l yJ4_charAt (ws_ yJ4_charAt cJ4_charAt 2 (some .char)) ({ frames := 2, cells := 0, slots := 0, locals := 51 }) (cPc X (([aR l0, aI l1] : List AV).map toV) μ sz) (cQi X μ sz Q) 0 (0) (cA X μ sz) := by
  refine cx_met2 (rm := ({ frames := 2, cells := 0, slots := 0, locals := 51 })) (As := [aR l0, aI l1]) (L0 := [(0, aR l0), (1, aI l1)]) (by decide) rfl (Nat.le_of_ble_eq_true rfl) rfl ?_
  intro Z C hK hsz hR hl0 hin hQ
  subst hsz
  have C : gC Z cJ4_charAt 2 RJ4 (some .char) 2 51 := C
  have hQ : zz_q Z = MQ (zz_b Z) (cQi X μ (zz_s Z).heap.size Q) (zz_a Z) (zz_s Z) (zz_R Z).cells (zz_R Z).slots (cA X μ (zz_s Z).heap.size) := by rw [hR]; exact hQ
  unfold wc_J4_charAt at hw
  refine hx_iload_n C dJ4_charAt_0 1 rfl rfl ?_
  refine hx_aload_n C dJ4_charAt_1 0 rfl rfl ?_
  obtain ⟨a1, ha2, hw⟩ := hw
  rw [ha2]
  obtain ⟨ht3, hw⟩ := hw
  refine cx_alenK C hK ht3 dJ4_charAt_2 ?_
  refine fun H locs hI ls hl => cx_rv (S := []) hI hl (fun _ h => h) (cr_S (As := [toV (aI l1), toV (aI ((ln μ a1) : Int))]) (rest := []) C hK hI hl 2 (sc_J0_checkIndex _ X H.size _ _ _ _ hw) (lw_S q665 q666 q88 q667) (by decide +kernel) ⟨rfl, rfl, Nat.le_of_ble_eq_true rfl, Nat.le_of_ble_eq_true rfl⟩ (av_W [] 8 (Nat.le_of_ble_eq_true rfl)) dJ4_charAt_3 rfl rfl ⟨by omega, by omega⟩) (fun μ5 hw => ?_)
  refine hx_aload_n C dJ4_charAt_6 0 rfl rfl ?_
  refine hx_iload_n C dJ4_charAt_7 1 rfl rfl ?_
  obtain ⟨ht6, hw⟩ := hw
  obtain ⟨hx7, hw⟩ := hw
  obtain ⟨hl8, hw⟩ := hw
  refine cx_baldK C hK ht6 hx7.1 hx7.2 hl8 dJ4_charAt_8 ?_
  refine hx_sipush C dJ4_charAt_9 (by decide) ?_
  refine hx_iand C dJ4_charAt_12 ?_
  obtain ⟨hc9, hw⟩ := hw
  refine hx_i2c C dJ4_charAt_13 hc9 ?_
  obtain ⟨hz, hw⟩ := hw
  exact cx_iret C hQ (by omega) (by omega) (mz_c hz) hw dJ4_charAt_14
-- ('java/lang/String', 'charAt', '(I)C')
def wc_J0_charAt (X : cX) (l0 : Nat) (l1 : Int) (μ : CM) (Q : Int → CM → Prop) : Prop := (tg μ l0 = 13 ∨ tg μ l0 = 14) ∧ wc_J0_isLatin1 X l0 μ (fun r1 μ2 => R32 r1 ∧ ((r1 = 0 → False) ∧ (¬ r1 = 0 → (tg μ2 l0 = 13 ∨ tg μ2 l0 = 14) ∧ wc_J4_charAt X (oR μ2 l0 0) l1 μ2 (fun r6 μ7 => (0 ≤ r6 ∧ r6 < 65536) ∧ Q r6 μ7))))
set_option maxHeartbeats 4000000 in
theorem sc_J0_charAt (l : Launch) (X : cX) (sz : Nat) (Q : Int → CM → Prop) (l0 : Nat) (l1 : Int) (μ : CM) (hw : wc_J0_charAt X l0 l1 μ Q) : Met l yJ0_charAt (ws_ yJ0_charAt cJ0_charAt 2 (some .char)) ({ frames := 3, cells := 0, slots := 0, locals := 72 }) (cPc X (([aR (some l0), aI l1] : List AV).map toV) μ sz) (cQi X μ sz Q) 0 (0) (cA X μ sz) := by
  refine cx_met2 (rm := ({ frames := 3, cells := 0, slots := 0, locals := 72 })) (As := [aR (some l0), aI l1]) (L0 := [(0, aR (some l0)), (1, aI l1)]) (by decide) rfl (Nat.le_of_ble_eq_true rfl) rfl ?_
  intro Z C hK hsz hR hl0 hin hQ
  subst hsz
  have C : gC Z cJ0_charAt 2 RJ0 (some .char) 3 72 := C
  have hQ : zz_q Z = MQ (zz_b Z) (cQi X μ (zz_s Z).heap.size Q) (zz_a Z) (zz_s Z) (zz_R Z).cells (zz_R Z).slots (cA X μ (zz_s Z).heap.size) := by rw [hR]; exact hQ
  unfold wc_J0_charAt at hw
  refine hx_aload_n C dJ0_charAt_0 0 rfl rfl ?_
  obtain ⟨ht3, hw⟩ := hw
  refine fun H locs hI ls hl => cx_ri (S := []) hI hl (fun _ h => h) (cr_V (Cn := RJ0) (As := []) (rest := []) C hK hI hl 0 (cv_str hK hI ht3) (sc_J0_isLatin1 _ X H.size _ _ _ hw) (lw_V q658 q659 q660 q88 q661) (by decide +kernel) ⟨rfl, rfl, Nat.le_of_ble_eq_true rfl, Nat.le_of_ble_eq_true rfl⟩ (av_W [] 8 (Nat.le_of_ble_eq_true rfl)) dJ0_charAt_1 rfl rfl ⟨by omega, by omega⟩) (fun r1 μ2 hw => ?_)
  obtain ⟨hr4, hw⟩ := hw
  refine hx_if_eq (tgt := 16) C dJ0_charAt_4 (by decide) hr4 (fun h => ?_) (fun h => ?_)
  · have hw := hw.1 h
    exact hw.elim
  · have hw := hw.2 h
    refine hx_aload_n C dJ0_charAt_7 0 rfl rfl ?_
    obtain ⟨ht5, hw⟩ := hw
    refine cx_getStr (v := aR (oR μ2 l0 0)) C hK 0 (by decide) q1107 ht5 rfl dJ0_charAt_8 ?_
    refine hx_iload_n C dJ0_charAt_11 1 rfl rfl ?_
    refine fun H locs hI ls hl => cx_ri (S := []) hI hl (fun _ h => h) (cr_S (As := [toV (aR (oR μ2 l0 0)), toV (aI l1)]) (rest := []) C hK hI hl 2 (sc_J4_charAt _ X H.size _ _ _ _ hw) (lw_S q662 q663 q100 q664) (by decide +kernel) ⟨rfl, rfl, Nat.le_of_ble_eq_true rfl, Nat.le_of_ble_eq_true rfl⟩ (av_W [] 8 (Nat.le_of_ble_eq_true rfl)) dJ0_charAt_12 rfl rfl ⟨by omega, by omega⟩) (fun r6 μ7 hw => ?_)
    obtain ⟨hz, hw⟩ := hw
    exact cx_iret C hQ (by omega) (by omega) (mz_c hz) hw dJ0_charAt_15
-- ('java/lang/StringLatin1', 'equals', '([B[B)Z')
def wc_J4_equals_9b (X : cX) (P9 : Option Nat → Option Nat → Int → CM → Prop) (Q : Int → CM → Prop) (l0 : Option Nat) (l1 : Option Nat) (l2 : Int) (μ : CM) : Prop := (∃ a1, l0 = some a1 ∧ (tg μ a1 = 21 ∨ tg μ a1 = 26) ∧ R32 l2 ∧ R32 ((ln μ a1) : Int) ∧ ((((ln μ a1) : Int) ≤ l2 → Q 1 μ) ∧ (l2 < ((ln μ a1) : Int) → ((0 ≤ l2 ∧ l2 < ((ln μ a1) : Int)) ∧ (ln μ a1) < 2147483648 ∧ ∃ a8, l1 = some a8 ∧ (tg μ a8 = 21 ∨ tg μ a8 = 26) ∧ (0 ≤ l2 ∧ l2 < ((ln μ a8) : Int)) ∧ (ln μ a8) < 2147483648 ∧ R32 (oI μ a1 (l2).toNat) ∧ R32 (oI μ a8 (l2).toNat) ∧ (((oI μ a1 (l2).toNat) = (oI μ a8 (l2).toNat) → P9 (some a1) (some a8) (l2 + 1) μ) ∧ (¬ (oI μ a1 (l2).toNat) = (oI μ a8 (l2).toNat) → Q 0 μ))))))
set_option maxHeartbeats 4000000 in
theorem sc_J4_equals_9b {Z : zz} {X : cX} {μ0 : CM} {Q : Int → CM → Prop} (C : gC Z cJ4_equals 3 RJ4 (some .boolean) 0 0) (hK : cCt Z X μ0) (hQ : zz_q Z = MQ (zz_b Z) (cQi X μ0 (zz_s Z).heap.size Q) (zz_a Z) (zz_s Z) (zz_R Z).cells (zz_R Z).slots (cA X μ0 (zz_s Z).heap.size)) {P9 : Option Nat → Option Nat → Int → CM → Prop} (hP9 : ∀ l0 l1 l2 μ, P9 l0 l1 l2 μ → hG Z 3 (cI Z X μ0 μ) 0 0 9 [(0, aR l0), (1, aR l1), (2, aI l2)] [])  : ∀ l0 l1 l2 μ, wc_J4_equals_9b X P9 Q l0 l1 l2 μ → hG Z 3 (cI Z X μ0 μ) 0 0 9 [(0, aR l0), (1, aR l1), (2, aI l2)] [] := by
  intro l0 l1 l2 μ hw
  unfold wc_J4_equals_9b at hw
  refine hx_iload_n C dJ4_equals_9 2 rfl rfl ?_
  refine hx_aload_n C dJ4_equals_10 0 rfl rfl ?_
  obtain ⟨a1, ha2, hw⟩ := hw
  rw [ha2]
  obtain ⟨ht3, hw⟩ := hw
  refine cx_alenK C hK ht3 dJ4_equals_11 ?_
  obtain ⟨hr4, hw⟩ := hw
  obtain ⟨hr5, hw⟩ := hw
  refine hx_icmp_ge (tgt := 32) C dJ4_equals_12 (by decide) hr4 hr5 (fun h => ?_) (fun h => ?_)
  · have hw := hw.1 h
    refine hx_iconst C dJ4_equals_32 ?_
    exact cx_iret C hQ (by omega) (by omega) (mz_n (by decide)) hw dJ4_equals_33
  · have hw := hw.2 h
    refine hx_aload_n C dJ4_equals_15 0 rfl rfl ?_
    refine hx_iload_n C dJ4_equals_16 2 rfl rfl ?_
    obtain ⟨hx6, hw⟩ := hw
    obtain ⟨hl7, hw⟩ := hw
    refine cx_baldK C hK ht3 hx6.1 hx6.2 hl7 dJ4_equals_17 ?_
    refine hx_aload_n C dJ4_equals_18 1 rfl rfl ?_
    refine hx_iload_n C dJ4_equals_19 2 rfl rfl ?_
    obtain ⟨a8, ha9, hw⟩ := hw
    rw [ha9]
    obtain ⟨ht10, hw⟩ := hw
    obtain ⟨hx11, hw⟩ := hw
    obtain ⟨hl12, hw⟩ := hw
    refine cx_baldK C hK ht10 hx11.1 hx11.2 hl12 dJ4_equals_20 ?_
    obtain ⟨hr13, hw⟩ := hw
    obtain ⟨hr14, hw⟩ := hw
    refine hx_icmp_eq (tgt := 26) C dJ4_equals_21 (by decide) hr13 hr14 (fun h => ?_) (fun h => ?_)
    · have hw := hw.1 h
      refine hx_iinc (L' := [(2, aI (l2 + 1)), (0, aR (some a1)), (1, aR (some a8))]) C dJ4_equals_26 2 rfl (by decide) rfl ?_
      refine hx_goto (tgt := 9) C dJ4_equals_29 (by decide) ?_
      refine hx_L [1, 2, 0] rfl ?_
      exact hP9 _ _ _ _ hw
    · have hw := hw.2 h
      refine hx_iconst C dJ4_equals_24 ?_
      exact cx_iret C hQ (by omega) (by omega) (mz_n (by decide)) hw dJ4_equals_25
def wc_J4_equals_9 (X : cX) (Q : Int → CM → Prop) (l0 : Option Nat) (l1 : Option Nat) (l2 : Int) (μ : CM) : Prop := ∀ P9 : Option Nat → Option Nat → Int → CM → Prop, (∀ l0 l1 l2 μ, wc_J4_equals_9b X P9 Q l0 l1 l2 μ → P9 l0 l1 l2 μ) → P9 l0 l1 l2 μ
set_option maxHeartbeats 4000000 in
theorem sc_J4_equals_9 {Z : zz} {X : cX} {μ0 : CM} {Q : Int → CM → Prop} (C : gC Z cJ4_equals 3 RJ4 (some .boolean) 0 0) (hK : cCt Z X μ0) (hQ : zz_q Z = MQ (zz_b Z) (cQi X μ0 (zz_s Z).heap.size Q) (zz_a Z) (zz_s Z) (zz_R Z).cells (zz_R Z).slots (cA X μ0 (zz_s Z).heap.size))  : ∀ l0 l1 l2 μ, wc_J4_equals_9 X Q l0 l1 l2 μ → hG Z 3 (cI Z X μ0 μ) 0 0 9 [(0, aR l0), (1, aR l1), (2, aI l2)] [] := by
  intro l0 l1 l2 μ hw
  exact hw (fun l0 l1 l2 μ => hG Z 3 (cI Z X μ0 μ) 0 0 9 [(0, aR l0), (1, aR l1), (2, aI l2)] []) (fun l0 l1 l2 μ hw => sc_J4_equals_9b C hK hQ (fun _ _ _ _ h => h) l0 l1 l2 μ hw)
def wc_J4_equals (X : cX) (l0 : Option Nat) (l1 : Option Nat) (μ : CM) (Q : Int → CM → Prop) : Prop := (∃ a1, l0 = some a1 ∧ (tg μ a1 = 21 ∨ tg μ a1 = 26) ∧ ∃ a4, l1 = some a4 ∧ (tg μ a4 = 21 ∨ tg μ a4 = 26) ∧ R32 ((ln μ a1) : Int) ∧ R32 ((ln μ a4) : Int) ∧ ((¬ ((ln μ a1) : Int) = ((ln μ a4) : Int) → Q 0 μ) ∧ (((ln μ a1) : Int) = ((ln μ a4) : Int) → wc_J4_equals_9 X   Q (some a1) (some a4) 0 μ)))
set_option maxHeartbeats 4000000 in
theorem sc_J4_equals (l : Launch) (X : cX) (sz : Nat) (Q : Int → CM → Prop) (l0 : Option Nat) (l1 : Option Nat) (μ : CM) (hw : wc_J4_equals X l0 l1 μ Q) : Met l yJ4_equals (ws_ yJ4_equals cJ4_equals 3 (some .boolean)) ({ frames := 0, cells := 0, slots := 0, locals := 0 }) (cPc X (([aR l0, aR l1] : List AV).map toV) μ sz) (cQi X μ sz Q) 0 (0) (cA X μ sz) := by
  refine cx_met2 (rm := ({ frames := 0, cells := 0, slots := 0, locals := 0 })) (As := [aR l0, aR l1]) (L0 := [(0, aR l0), (1, aR l1)]) (by decide) rfl (Nat.le_of_ble_eq_true rfl) rfl ?_
  intro Z C hK hsz hR hl0 hin hQ
  subst hsz
  have C : gC Z cJ4_equals 3 RJ4 (some .boolean) 0 0 := C
  have hQ : zz_q Z = MQ (zz_b Z) (cQi X μ (zz_s Z).heap.size Q) (zz_a Z) (zz_s Z) (zz_R Z).cells (zz_R Z).slots (cA X μ (zz_s Z).heap.size) := by rw [hR]; exact hQ
  unfold wc_J4_equals at hw
  refine hx_aload_n C dJ4_equals_0 0 rfl rfl ?_
  obtain ⟨a1, ha2, hw⟩ := hw
  rw [ha2]
  obtain ⟨ht3, hw⟩ := hw
  refine cx_alenK C hK ht3 dJ4_equals_1 ?_
  refine hx_aload_n C dJ4_equals_2 1 rfl rfl ?_
  obtain ⟨a4, ha5, hw⟩ := hw
  rw [ha5]
  obtain ⟨ht6, hw⟩ := hw
  refine cx_alenK C hK ht6 dJ4_equals_3 ?_
  obtain ⟨hr7, hw⟩ := hw
  obtain ⟨hr8, hw⟩ := hw
  refine hx_icmp_ne (tgt := 34) C dJ4_equals_4 (by decide) hr7 hr8 (fun h => ?_) (fun h => ?_)
  · have hw := hw.1 h
    refine hx_iconst C dJ4_equals_34 ?_
    exact cx_iret C hQ (by omega) (by omega) (mz_n (by decide)) hw dJ4_equals_35
  · have hw := hw.2 h
    refine hx_iconst C dJ4_equals_7 ?_
    refine hx_istore_n (L' := [(2, aI 0), (0, aR (some a1)), (1, aR (some a4))]) C dJ4_equals_8 rfl (by decide) rfl ?_
    refine hx_L [1, 2, 0] rfl ?_
    exact sc_J4_equals_9 C hK hQ  _ _ _ _ hw
-- ('java/lang/String', 'equals', '(Ljava/lang/Object;)Z')
def wc_J0_equals_55 (X : cX) (Q : Int → CM → Prop) (s0 : Int) (μ : CM) : Prop := (s0 = 0 ∨ s0 = 1) ∧ Q s0 μ
set_option maxHeartbeats 4000000 in
theorem sc_J0_equals_55 {Z : zz} {X : cX} {μ0 : CM} {Q : Int → CM → Prop} (C : gC Z cJ0_equals 3 RJ0 (some .boolean) 1 30) (hK : cCt Z X μ0) (hQ : zz_q Z = MQ (zz_b Z) (cQi X μ0 (zz_s Z).heap.size Q) (zz_a Z) (zz_s Z) (zz_R Z).cells (zz_R Z).slots (cA X μ0 (zz_s Z).heap.size))  : ∀ s0 μ, wc_J0_equals_55 X Q s0 μ → hG Z 3 (cI Z X μ0 μ) 0 0 55 [] [aI s0] := by
  intro s0 μ hw
  unfold wc_J0_equals_55 at hw
  obtain ⟨hz, hw⟩ := hw
  exact cx_iret C hQ (by omega) (by omega) (mz_n hz) hw dJ0_equals_55
def wc_J0_equals_54 (X : cX) (Q : Int → CM → Prop) (μ : CM) : Prop := wc_J0_equals_55 X   Q 0 μ
set_option maxHeartbeats 4000000 in
theorem sc_J0_equals_54 {Z : zz} {X : cX} {μ0 : CM} {Q : Int → CM → Prop} (C : gC Z cJ0_equals 3 RJ0 (some .boolean) 1 30) (hK : cCt Z X μ0) (hQ : zz_q Z = MQ (zz_b Z) (cQi X μ0 (zz_s Z).heap.size Q) (zz_a Z) (zz_s Z) (zz_R Z).cells (zz_R Z).slots (cA X μ0 (zz_s Z).heap.size))  : ∀ μ, wc_J0_equals_54 X Q μ → hG Z 3 (cI Z X μ0 μ) 0 0 54 [] [] := by
  intro μ hw
  unfold wc_J0_equals_54 at hw
  refine hx_iconst C dJ0_equals_54 ?_
  refine hx_L [] rfl ?_
  exact sc_J0_equals_55 C hK hQ  _ _ hw
def wc_J0_equals_36 (X : cX) (Q : Int → CM → Prop) (l0 : Nat) (l2 : Option Nat) (μ : CM) : Prop := ((tg μ l0 = 13 ∨ tg μ l0 = 14) ∧ ∃ a2, l2 = some a2 ∧ (tg μ a2 = 13 ∨ tg μ a2 = 14) ∧ wc_J4_equals X (oR μ l0 0) (oR μ a2 0) μ (fun r5 μ6 => R32 r5 ∧ ((r5 = 0 → wc_J0_equals_54 X   Q μ6) ∧ (¬ r5 = 0 → wc_J0_equals_55 X   Q 1 μ6))))
set_option maxHeartbeats 4000000 in
theorem sc_J0_equals_36 {Z : zz} {X : cX} {μ0 : CM} {Q : Int → CM → Prop} (C : gC Z cJ0_equals 3 RJ0 (some .boolean) 1 30) (hK : cCt Z X μ0) (hQ : zz_q Z = MQ (zz_b Z) (cQi X μ0 (zz_s Z).heap.size Q) (zz_a Z) (zz_s Z) (zz_R Z).cells (zz_R Z).slots (cA X μ0 (zz_s Z).heap.size))  : ∀ l0 l2 μ, wc_J0_equals_36 X Q l0 l2 μ → hG Z 3 (cI Z X μ0 μ) 0 0 36 [(0, aR (some l0)), (2, aR l2)] [] := by
  intro l0 l2 μ hw
  unfold wc_J0_equals_36 at hw
  refine hx_aload_n C dJ0_equals_36 0 rfl rfl ?_
  obtain ⟨ht1, hw⟩ := hw
  refine cx_getStr (v := aR (oR μ l0 0)) C hK 0 (by decide) q1107 ht1 rfl dJ0_equals_37 ?_
  refine hx_aload_n C dJ0_equals_40 1 rfl rfl ?_
  obtain ⟨a2, ha3, hw⟩ := hw
  rw [ha3]
  obtain ⟨ht4, hw⟩ := hw
  refine cx_getStr (v := aR (oR μ a2 0)) C hK 0 (by decide) q1107 ht4 rfl dJ0_equals_41 ?_
  refine fun H locs hI ls hl => cx_ri (S := []) hI hl (fun _ h => h) (cr_S (As := [toV (aR (oR μ l0 0)), toV (aR (oR μ a2 0))]) (rest := []) C hK hI hl 2 (sc_J4_equals _ X H.size _ _ _ _ hw) (lw_S q771 q772 q100 q773) (by decide +kernel) ⟨rfl, rfl, Nat.le_of_ble_eq_true rfl, Nat.le_of_ble_eq_true rfl⟩ (av_W [] 8 (Nat.le_of_ble_eq_true rfl)) dJ0_equals_44 rfl rfl ⟨by omega, by omega⟩) (fun r5 μ6 hw => ?_)
  obtain ⟨hr7, hw⟩ := hw
  refine hx_if_eq (tgt := 54) C dJ0_equals_47 (by decide) hr7 (fun h => ?_) (fun h => ?_)
  · have hw := hw.1 h
    refine hx_L [] rfl ?_
    exact sc_J0_equals_54 C hK hQ  _ hw
  · have hw := hw.2 h
    refine hx_iconst C dJ0_equals_50 ?_
    refine hx_goto (tgt := 55) C dJ0_equals_51 (by decide) ?_
    refine hx_L [] rfl ?_
    exact sc_J0_equals_55 C hK hQ  _ _ hw
def wc_J0_equals (X : cX) (l0 : Nat) (l1 : Option Nat) (μ : CM) (Q : Int → CM → Prop) : Prop := ((¬ (some l0) = l1 → (∃ a1, l1 = some a1 ∧ (tg μ a1 = 13 ∨ tg μ a1 = 14) ∧ (tg μ l0 = 13 ∨ tg μ l0 = 14) ∧ R32 (oI μ l0 1) ∧ R32 (oI μ a1 1) ∧ ((¬ (oI μ l0 1) = (oI μ a1 1) → wc_J0_equals_54 X   Q μ) ∧ ((oI μ l0 1) = (oI μ a1 1) → wc_J0_equals_36 X   Q l0 (some a1) μ)))) ∧ ((some l0) = l1 → Q 1 μ))
set_option maxHeartbeats 4000000 in
theorem sc_J0_equals (l : Launch) (X : cX) (sz : Nat) (Q : Int → CM → Prop) (l0 : Nat) (l1 : Option Nat) (μ : CM) (hw : wc_J0_equals X l0 l1 μ Q) : Met l yJ0_equals (ws_ yJ0_equals cJ0_equals 3 (some .boolean)) ({ frames := 1, cells := 0, slots := 0, locals := 30 }) (cPc X (([aR (some l0), aR l1] : List AV).map toV) μ sz) (cQi X μ sz Q) 0 (0) (cA X μ sz) := by
  refine cx_met2 (rm := ({ frames := 1, cells := 0, slots := 0, locals := 30 })) (As := [aR (some l0), aR l1]) (L0 := [(0, aR (some l0)), (1, aR l1)]) (by decide) rfl (Nat.le_of_ble_eq_true rfl) rfl ?_
  intro Z C hK hsz hR hl0 hin hQ
  subst hsz
  have C : gC Z cJ0_equals 3 RJ0 (some .boolean) 1 30 := C
  have hQ : zz_q Z = MQ (zz_b Z) (cQi X μ (zz_s Z).heap.size Q) (zz_a Z) (zz_s Z) (zz_R Z).cells (zz_R Z).slots (cA X μ (zz_s Z).heap.size) := by rw [hR]; exact hQ
  unfold wc_J0_equals at hw
  refine hx_aload_n C dJ0_equals_0 0 rfl rfl ?_
  refine hx_aload_n C dJ0_equals_1 1 rfl rfl ?_
  refine hx_acmp_ne (tgt := 7) C dJ0_equals_2 (by decide) (fun h => ?_) (fun h => ?_)
  · have hw := hw.1 h
    refine hx_aload_n C dJ0_equals_7 1 rfl rfl ?_
    obtain ⟨a1, ha2, hw⟩ := hw
    rw [ha2]
    obtain ⟨ht3, hw⟩ := hw
    refine cx_instStr C hK q770 ht3 dJ0_equals_8 ?_
    refine hx_if_eq (tgt := 54) C dJ0_equals_11 (by decide) (by decide) (fun h => ?_) (fun h => ?_)
    · exact absurd h (by decide)
    · skip
      refine hx_aload_n C dJ0_equals_14 1 rfl rfl ?_
      refine cx_castStr C hK q770 ht3 dJ0_equals_15 ?_
      refine hx_astore_n (L' := [(2, aR (some a1)), (0, aR (some l0)), (1, aR (some a1))]) C dJ0_equals_18 rfl (by decide) rfl ?_
      refine cx_compact C hK q277 dJ0_equals_19 ?_
      refine hx_if_eq (tgt := 36) C dJ0_equals_22 (by decide) (by decide) (fun h => ?_) (fun h => ?_)
      · exact absurd h (by decide)
      · skip
        refine hx_aload_n C dJ0_equals_25 1 rfl rfl ?_
        obtain ⟨ht4, hw⟩ := hw
        refine cx_getStr (v := aI (oI μ l0 1)) C hK 1 (by decide) q1108 ht4 rfl dJ0_equals_26 ?_
        refine hx_aload_n C dJ0_equals_29 0 rfl rfl ?_
        refine cx_getStr (v := aI (oI μ a1 1)) C hK 1 (by decide) q1108 ht3 rfl dJ0_equals_30 ?_
        obtain ⟨hr5, hw⟩ := hw
        obtain ⟨hr6, hw⟩ := hw
        refine hx_icmp_ne (tgt := 54) C dJ0_equals_33 (by decide) hr5 hr6 (fun h => ?_) (fun h => ?_)
        · have hw := hw.1 h
          refine hx_L [] rfl ?_
          exact sc_J0_equals_54 C hK hQ  _ hw
        · have hw := hw.2 h
          refine hx_L [1, 0] rfl ?_
          exact sc_J0_equals_36 C hK hQ  _ _ _ hw
  · have hw := hw.2 h
    refine hx_iconst C dJ0_equals_5 ?_
    exact cx_iret C hQ (by omega) (by omega) (mz_n (by decide)) hw dJ0_equals_6
-- ('java/lang/String', 'hashCode', '()I')
def wc_J0_hashCode_58 (X : cX) (Q : Int → CM → Prop) (l1 : Int) (μ : CM) : Prop := Q l1 μ
set_option maxHeartbeats 4000000 in
theorem sc_J0_hashCode_58 {Z : zz} {X : cX} {μ0 : CM} {Q : Int → CM → Prop} (C : gC Z cJ0_hashCode 2 RJ0 (some .int) 0 0) (hK : cCt Z X μ0) (hQ : zz_q Z = MQ (zz_b Z) (cQi X μ0 (zz_s Z).heap.size Q) (zz_a Z) (zz_s Z) (zz_R Z).cells (zz_R Z).slots (cA X μ0 (zz_s Z).heap.size))  : ∀ l1 μ, wc_J0_hashCode_58 X Q l1 μ → hG Z 2 (cI Z X μ0 μ) 0 0 58 [(1, aI l1)] [] := by
  intro l1 μ hw
  unfold wc_J0_hashCode_58 at hw
  refine hx_iload_n C dJ0_hashCode_58 0 rfl rfl ?_
  exact cx_iret C hQ (by omega) (by omega) rfl hw dJ0_hashCode_59
def wc_J0_hashCode (X : cX) (l0 : Nat) (μ : CM) (Q : Int → CM → Prop) : Prop := (tg μ l0 = 13 ∨ tg μ l0 = 14) ∧ R32 (oI μ l0 2) ∧ ((¬ (oI μ l0 2) = 0 → wc_J0_hashCode_58 X   Q (oI μ l0 2) μ) ∧ ((oI μ l0 2) = 0 → R32 (oI μ l0 3) ∧ ((¬ (oI μ l0 3) = 0 → wc_J0_hashCode_58 X   Q (oI μ l0 2) μ) ∧ ((oI μ l0 3) = 0 → False))))
set_option maxHeartbeats 4000000 in
theorem sc_J0_hashCode (l : Launch) (X : cX) (sz : Nat) (Q : Int → CM → Prop) (l0 : Nat) (μ : CM) (hw : wc_J0_hashCode X l0 μ Q) : Met l yJ0_hashCode (ws_ yJ0_hashCode cJ0_hashCode 2 (some .int)) ({ frames := 0, cells := 0, slots := 0, locals := 0 }) (cPc X (([aR (some l0)] : List AV).map toV) μ sz) (cQi X μ sz Q) 0 (0) (cA X μ sz) := by
  refine cx_met2 (rm := ({ frames := 0, cells := 0, slots := 0, locals := 0 })) (As := [aR (some l0)]) (L0 := [(0, aR (some l0))]) (by decide) rfl (Nat.le_of_ble_eq_true rfl) rfl ?_
  intro Z C hK hsz hR hl0 hin hQ
  subst hsz
  have C : gC Z cJ0_hashCode 2 RJ0 (some .int) 0 0 := C
  have hQ : zz_q Z = MQ (zz_b Z) (cQi X μ (zz_s Z).heap.size Q) (zz_a Z) (zz_s Z) (zz_R Z).cells (zz_R Z).slots (cA X μ (zz_s Z).heap.size) := by rw [hR]; exact hQ
  unfold wc_J0_hashCode at hw
  refine hx_aload_n C dJ0_hashCode_0 0 rfl rfl ?_
  obtain ⟨ht1, hw⟩ := hw
  refine cx_getStr (v := aI (oI μ l0 2)) C hK 2 (by decide) q1109 ht1 rfl dJ0_hashCode_1 ?_
  refine hx_istore_n (L' := [(1, aI (oI μ l0 2)), (0, aR (some l0))]) C dJ0_hashCode_4 rfl (by decide) rfl ?_
  refine hx_iload_n C dJ0_hashCode_5 0 rfl rfl ?_
  obtain ⟨hr2, hw⟩ := hw
  refine hx_if_ne (tgt := 58) C dJ0_hashCode_6 (by decide) hr2 (fun h => ?_) (fun h => ?_)
  · have hw := hw.1 h
    refine hx_L [0] rfl ?_
    exact sc_J0_hashCode_58 C hK hQ  _ _ hw
  · have hw := hw.2 h
    refine hx_aload_n C dJ0_hashCode_9 1 rfl rfl ?_
    refine cx_getStr (v := aI (oI μ l0 3)) C hK 3 (by decide) q1110 ht1 rfl dJ0_hashCode_10 ?_
    obtain ⟨hr3, hw⟩ := hw
    refine hx_if_ne (tgt := 58) C dJ0_hashCode_13 (by decide) hr3 (fun h => ?_) (fun h => ?_)
    · have hw := hw.1 h
      refine hx_L [0] rfl ?_
      exact sc_J0_hashCode_58 C hK hQ  _ _ hw
    · have hw := hw.2 h
      exact hw.elim
