/-! walks of the component (printed by gen_comp) -/
set_option maxRecDepth 100000
-- ('java/lang/AbstractStringBuilder', 'isLatin1', '()Z')
def wc_J8_isLatin1_17 (X : cX) (Q : Int → CM → Prop) (μ : CM) : Prop := False
set_option maxHeartbeats 4000000 in
theorem sc_J8_isLatin1_17 {Z : zz} {X : cX} {μ0 : CM} {Q : Int → CM → Prop} (C : gC Z cJ8_isLatin1 1 RJ8 (some .boolean) 0 0) (hK : cCt Z X μ0) (hQ : zz_q Z = MQ (zz_b Z) (cQi X μ0 (zz_s Z).heap.size Q) (zz_a Z) (zz_s Z) (zz_R Z).cells (zz_R Z).slots (cA X μ0 (zz_s Z).heap.size))  : ∀ μ, wc_J8_isLatin1_17 X Q μ → hG Z 1 (cI Z X μ0 μ) 0 0 17 [] [] := by
  intro μ hw
  unfold wc_J8_isLatin1_17 at hw
  exact hw.elim
def wc_J8_isLatin1 (X : cX) (l0 : Nat) (μ : CM) (Q : Int → CM → Prop) : Prop := tg μ l0 = 12 ∧ R32 (oI μ l0 1) ∧ ((¬ (oI μ l0 1) = 0 → False) ∧ ((oI μ l0 1) = 0 → Q 1 μ))
set_option maxHeartbeats 4000000 in
theorem sc_J8_isLatin1 (l : Launch) (X : cX) (sz : Nat) (Q : Int → CM → Prop) (l0 : Nat) (μ : CM) (hw : wc_J8_isLatin1 X l0 μ Q) : Met l yJ8_isLatin1 (ws_ yJ8_isLatin1 cJ8_isLatin1 1 (some .boolean)) ({ frames := 0, cells := 0, slots := 0, locals := 0 }) (cPc X (([aR (some l0)] : List AV).map toV) μ sz) (cQi X μ sz Q) 0 (0) (cA X μ sz) := by
  refine cx_met2 (rm := ({ frames := 0, cells := 0, slots := 0, locals := 0 })) (As := [aR (some l0)]) (L0 := [(0, aR (some l0))]) (by decide) rfl (Nat.le_of_ble_eq_true rfl) rfl ?_
  intro Z C hK hsz hR hl0 hin hQ
  subst hsz
  have C : gC Z cJ8_isLatin1 1 RJ8 (some .boolean) 0 0 := C
  have hQ : zz_q Z = MQ (zz_b Z) (cQi X μ (zz_s Z).heap.size Q) (zz_a Z) (zz_s Z) (zz_R Z).cells (zz_R Z).slots (cA X μ (zz_s Z).heap.size) := by rw [hR]; exact hQ
  unfold wc_J8_isLatin1 at hw
  refine cx_compact C hK q882 dJ8_isLatin1_0 ?_
  refine hx_if_eq (tgt := 17) C dJ8_isLatin1_3 (by decide) (by decide) (fun h => ?_) (fun h => ?_)
  · exact absurd h (by decide)
  · skip
    refine hx_aload_n C dJ8_isLatin1_6 0 rfl rfl ?_
    obtain ⟨ht1, hw⟩ := hw
    refine cx_get (μ := μ) (v := aI (oI μ l0 1)) C hK 11 1 rfl in_J9 (by decide) q891 rfl (cdE_11 ht1) rfl dJ8_isLatin1_7 ?_
    obtain ⟨hr2, hw⟩ := hw
    refine hx_if_ne (tgt := 17) C dJ8_isLatin1_10 (by decide) hr2 (fun h => ?_) (fun h => ?_)
    · have hw := hw.1 h
      exact hw.elim
    · have hw := hw.2 h
      refine hx_iconst C dJ8_isLatin1_13 ?_
      refine hx_goto (tgt := 18) C dJ8_isLatin1_14 (by decide) ?_
      exact cx_iret C hQ (by omega) (by omega) (mz_n (by decide)) hw dJ8_isLatin1_18
-- ('java/lang/StringLatin1', 'canEncode', '(C)Z')
def wc_J4_canEncode_12 (X : cX) (Q : Int → CM → Prop) (s0 : Int) (μ : CM) : Prop := (s0 = 0 ∨ s0 = 1) ∧ Q s0 μ
set_option maxHeartbeats 4000000 in
theorem sc_J4_canEncode_12 {Z : zz} {X : cX} {μ0 : CM} {Q : Int → CM → Prop} (C : gC Z cJ4_canEncode 1 RJ4 (some .boolean) 0 0) (hK : cCt Z X μ0) (hQ : zz_q Z = MQ (zz_b Z) (cQi X μ0 (zz_s Z).heap.size Q) (zz_a Z) (zz_s Z) (zz_R Z).cells (zz_R Z).slots (cA X μ0 (zz_s Z).heap.size))  : ∀ s0 μ, wc_J4_canEncode_12 X Q s0 μ → hG Z 1 (cI Z X μ0 μ) 0 0 12 [] [aI s0] := by
  intro s0 μ hw
  unfold wc_J4_canEncode_12 at hw
  obtain ⟨hz, hw⟩ := hw
  exact cx_iret C hQ (by omega) (by omega) (mz_n hz) hw dJ4_canEncode_12
def wc_J4_canEncode (X : cX) (l0 : Int) (μ : CM) (Q : Int → CM → Prop) : Prop := R32 l0 ∧ ((255 < l0 → wc_J4_canEncode_12 X   Q 0 μ) ∧ (l0 ≤ 255 → wc_J4_canEncode_12 X   Q 1 μ))
set_option maxHeartbeats 4000000 in
theorem sc_J4_canEncode (l : Launch) (X : cX) (sz : Nat) (Q : Int → CM → Prop) (l0 : Int) (μ : CM) (hw : wc_J4_canEncode X l0 μ Q) : Met l yJ4_canEncode (ws_ yJ4_canEncode cJ4_canEncode 1 (some .boolean)) ({ frames := 0, cells := 0, slots := 0, locals := 0 }) (cPc X (([aI l0] : List AV).map toV) μ sz) (cQi X μ sz Q) 0 (0) (cA X μ sz) := by
  refine cx_met2 (rm := ({ frames := 0, cells := 0, slots := 0, locals := 0 })) (As := [aI l0]) (L0 := [(0, aI l0)]) (by decide) rfl (Nat.le_of_ble_eq_true rfl) rfl ?_
  intro Z C hK hsz hR hl0 hin hQ
  subst hsz
  have C : gC Z cJ4_canEncode 1 RJ4 (some .boolean) 0 0 := C
  have hQ : zz_q Z = MQ (zz_b Z) (cQi X μ (zz_s Z).heap.size Q) (zz_a Z) (zz_s Z) (zz_R Z).cells (zz_R Z).slots (cA X μ (zz_s Z).heap.size) := by rw [hR]; exact hQ
  unfold wc_J4_canEncode at hw
  refine hx_iload_n C dJ4_canEncode_0 0 rfl rfl ?_
  refine hx_sipush C dJ4_canEncode_1 (by decide) ?_
  obtain ⟨hr1, hw⟩ := hw
  refine hx_icmp_gt (tgt := 11) C dJ4_canEncode_4 (by decide) hr1 (by decide) (fun h => ?_) (fun h => ?_)
  · have hw := hw.1 h
    refine hx_iconst C dJ4_canEncode_11 ?_
    refine hx_L [] rfl ?_
    exact sc_J4_canEncode_12 C hK hQ  _ _ hw
  · have hw := hw.2 h
    refine hx_iconst C dJ4_canEncode_7 ?_
    refine hx_goto (tgt := 12) C dJ4_canEncode_8 (by decide) ?_
    refine hx_L [] rfl ?_
    exact sc_J4_canEncode_12 C hK hQ  _ _ hw
-- ('java/lang/AbstractStringBuilder', 'append', '(C)Ljava/lang/AbstractStringBuilder;')
def wc_J8_append_45 (X : cX) (Q : Option Nat → CM → Prop) (l0 : Nat) (b : Nat) (μ : CM) : Prop := False
set_option maxHeartbeats 4000000 in
theorem sc_J8_append_45 {Z : zz} {X : cX} {μ0 : CM} {Q : Option Nat → CM → Prop} (C : gC Z cJ8_append 2 RJ8 (some (.object "java/lang/AbstractStringBuilder")) 4 100) (hK : cCt Z X μ0) (hQ : zz_q Z = MQ (zz_b Z) (cQr X μ0 (zz_s Z).heap.size Q) (zz_a Z) (zz_s Z) (zz_R Z).cells (zz_R Z).slots (cA X μ0 (zz_s Z).heap.size))  : ∀ l0 b μ, wc_J8_append_45 X Q l0 b μ → ∀ kk nn, (kk + b ≤ (zz_R Z).cells ∧ nn + 5 * b ≤ (zz_R Z).slots) → hG Z 2 (cI Z X μ0 μ) kk nn 45 [(0, aR (some l0))] [] := by
  intro l0 b μ hw kk nn hb
  unfold wc_J8_append_45 at hw
  exact hw.elim
def wc_J8_append (X : cX) (b : Nat) (l0 : Nat) (l1 : Int) (μ : CM) (Q : Option Nat → CM → Prop) : Prop := (tg μ l0 = 12 ∧ ∃ b2, b2 ≤ b ∧ wc_J8_ensureCapacityInternal X b2 l0 ((oI μ l0 3) + 1) μ (fun μ5 => tg μ5 l0 = 12 ∧ wc_J8_isLatin1 X l0 μ5 (fun r6 μ7 => R32 r6 ∧ ((r6 = 0 → False) ∧ (¬ r6 = 0 → wc_J4_canEncode X l1 μ7 (fun r10 μ11 => R32 r10 ∧ ((r10 = 0 → False) ∧ (¬ r10 = 0 → (tg μ11 l0 = 12 ∧ ∃ a14, (oR μ11 l0 0) = some a14 ∧ tg μ11 a14 = 21 ∧ (0 ≤ (oI μ11 l0 3) ∧ (oI μ11 l0 3) < ((ln μ11 a14) : Int)) ∧ (ln μ11 a14) < 2147483648 ∧ Q (some l0) (poI (poI μ11 l0 3 ((oI μ11 l0 3) + 1)) a14 ((oI μ11 l0 3)).toNat (io_byte (io_byte l1))))))))))))
set_option maxHeartbeats 4000000 in
theorem sc_J8_append (l : Launch) (X : cX) (sz : Nat) (Q : Option Nat → CM → Prop) (b : Nat) (l0 : Nat) (l1 : Int) (μ : CM) (hw : wc_J8_append X b l0 l1 μ Q) : Met l yJ8_append (ws_ yJ8_append cJ8_append 2 (some (.object "java/lang/AbstractStringBuilder"))) ({ frames := 4, cells := b, slots := 5 * b, locals := 100 }) (cPc X (([aR (some l0), aI l1] : List AV).map toV) μ sz) (cQr X μ sz Q) b (5 * b) (cA X μ sz) := by
  refine cx_met2 (rm := ({ frames := 4, cells := b, slots := 5 * b, locals := 100 })) (As := [aR (some l0), aI l1]) (L0 := [(0, aR (some l0)), (1, aI l1)]) (by decide) rfl (Nat.le_of_ble_eq_true rfl) rfl ?_
  intro Z C hK hsz hR hl0 hin hQ
  subst hsz
  have C : gC Z cJ8_append 2 RJ8 (some (.object "java/lang/AbstractStringBuilder")) 4 100 := C
  have hQ : zz_q Z = MQ (zz_b Z) (cQr X μ (zz_s Z).heap.size Q) (zz_a Z) (zz_s Z) (zz_R Z).cells (zz_R Z).slots (cA X μ (zz_s Z).heap.size) := by rw [hR]; exact hQ
  have hb : 0 + b ≤ (zz_R Z).cells ∧ 0 + 5 * b ≤ (zz_R Z).slots := by rw [hR]; exact ⟨by dsimp only; omega, by dsimp only; omega⟩
  unfold wc_J8_append at hw
  refine hx_aload_n C dJ8_append_0 0 rfl rfl ?_
  refine hx_aload_n C dJ8_append_1 0 rfl rfl ?_
  obtain ⟨ht1, hw⟩ := hw
  refine cx_get (μ := μ) (v := aI (oI μ l0 3)) C hK 11 3 rfl in_J9 (by decide) q893 rfl (cdE_11 ht1) rfl dJ8_append_2 ?_
  refine hx_iconst C dJ8_append_5 ?_
  refine hx_iadd C dJ8_append_6 ?_
  obtain ⟨b2, hu3, hw⟩ := hw
  refine fun H locs hI ls hl => cx_rv (S := []) hI hl (fun _ h => h) (cr_P (ci := 11) (As := [toV (aI ((oI μ l0 3) + 1))]) (rest := []) C hK hI hl 1 rfl (Or.inr (cdE_11 ht1)) (sc_J8_ensureCapacityInternal _ X H.size _ b2 _ _ _ hw) q916 q1812 (List.mem_of_getElem? (i := 5) rfl) q918 q104 q919 (by decide +kernel) ⟨rfl, rfl, Nat.le_of_ble_eq_true rfl, Nat.le_of_ble_eq_true rfl⟩ (av_W [] 8 (Nat.le_of_ble_eq_true rfl)) dJ8_append_7 rfl rfl ⟨by omega, by omega⟩) (fun μ5 hw => ?_)
  obtain hb : (0 + b2) + (b - b2) ≤ (zz_R Z).cells ∧ (0 + 5 * b2) + 5 * (b - b2) ≤ (zz_R Z).slots := ⟨by omega, by omega⟩
  refine hx_aload_n C dJ8_append_10 0 rfl rfl ?_
  obtain ⟨ht8, hw⟩ := hw
  refine fun H locs hI ls hl => cx_ri (S := []) hI hl (fun _ h => h) (cr_U (x := ⟨"java/lang/AbstractStringBuilder", "isLatin1", "()Z"⟩) (owner := "java/lang/AbstractStringBuilder") (Cn := "java/lang/StringBuilder") (As := []) (rest := []) C hK hI hl 0 (cv_dyn hK hI (ci := 11) rfl (Or.inr (cdE_11 ht8))) (sc_J8_isLatin1 _ X H.size _ _ _ hw) (C.w _ q947) (C.w _ q949) (va_Decl.of (C.w _ q948) (C.w _ q951)) (C.w _ q950) q948 q104 q951 (by decide +kernel) ⟨rfl, rfl, Nat.le_of_ble_eq_true rfl, Nat.le_of_ble_eq_true rfl⟩ (av_W [] 8 (Nat.le_of_ble_eq_true rfl)) dJ8_append_11 rfl rfl ⟨by omega, by omega⟩) (fun r6 μ7 hw => ?_)
  obtain ⟨hr9, hw⟩ := hw
  refine hx_if_eq (tgt := 45) C dJ8_append_14 (by decide) hr9 (fun h => ?_) (fun h => ?_)
  · have hw := hw.1 h
    exact hw.elim
  · have hw := hw.2 h
    refine hx_iload_n C dJ8_append_17 1 rfl rfl ?_
    refine fun H locs hI ls hl => cx_ri (S := []) hI hl (fun _ h => h) (cr_S (As := [toV (aI l1)]) (rest := []) C hK hI hl 1 (sc_J4_canEncode _ X H.size _ _ _ hw) (lw_S q952 q953 q100 q954) (by decide +kernel) ⟨rfl, rfl, Nat.le_of_ble_eq_true rfl, Nat.le_of_ble_eq_true rfl⟩ (av_W [] 8 (Nat.le_of_ble_eq_true rfl)) dJ8_append_18 rfl rfl ⟨by omega, by omega⟩) (fun r10 μ11 hw => ?_)
    obtain ⟨hr12, hw⟩ := hw
    refine hx_if_eq (tgt := 45) C dJ8_append_21 (by decide) hr12 (fun h => ?_) (fun h => ?_)
    · have hw := hw.1 h
      exact hw.elim
    · have hw := hw.2 h
      refine hx_aload_n C dJ8_append_24 0 rfl rfl ?_
      obtain ⟨ht13, hw⟩ := hw
      refine cx_get (μ := μ11) (v := aR (oR μ11 l0 0)) C hK 11 0 rfl in_J9 (by decide) q890 rfl (cdE_11 ht13) rfl dJ8_append_25 ?_
      refine hx_aload_n C dJ8_append_28 0 rfl rfl ?_
      refine hx_dup C dJ8_append_29 rfl ?_
      refine cx_get (μ := μ11) (v := aI (oI μ11 l0 3)) C hK 11 3 rfl in_J9 (by decide) q893 rfl (cdE_11 ht13) rfl dJ8_append_30 ?_
      refine hx_dup_x1 C dJ8_append_33 rfl rfl ?_
      refine hx_iconst C dJ8_append_34 ?_
      refine hx_iadd C dJ8_append_35 ?_
      refine cx_put (μ := μ11) (μ' := (poI μ11 l0 3 ((oI μ11 l0 3) + 1))) C hK 11 3 rfl in_J9 tyJ9_ok nmJ9 (by decide) q893 rfl rfl (cdE_11 ht13) (Nat.le_of_ble_eq_true rfl) ⟨rfl, rfl⟩ (cset_11_3 μ11 l0 ((oI μ11 l0 3) + 1)) (cdE_11 ht13) rfl rfl rfl (fun _ hb => st_o hb) (fun _ _ => rfl) dJ8_append_36 ?_
      refine hx_iload_n C dJ8_append_39 1 rfl rfl ?_
      refine hx_i2b C dJ8_append_40 ?_
      obtain ⟨a14, ha15, hw⟩ := hw
      rw [ha15]
      obtain ⟨ht16, hw⟩ := hw
      obtain ⟨hx17, hw⟩ := hw
      obtain ⟨hl18, hw⟩ := hw
      refine cx_bast (μ := (poI μ11 l0 3 ((oI μ11 l0 3) + 1))) (μ' := (poI (poI μ11 l0 3 ((oI μ11 l0 3) + 1)) a14 ((oI μ11 l0 3)).toNat (io_byte (io_byte l1)))) (len := (ln μ11 a14)) C hK (cu_oB ht16) hx17.1 hx17.2 hl18 dJ8_append_41 ?_
      refine hx_goto (tgt := 75) C dJ8_append_42 (by decide) ?_
      refine hx_aload_n C dJ8_append_75 0 rfl rfl ?_
      exact cx_aret C hQ (by omega) (by omega) (Or.inl ⟨_, rfl⟩) hw dJ8_append_76
-- ('java/lang/StringBuilder', 'append', '(C)Ljava/lang/StringBuilder;')
def wc_J9_append (X : cX) (b : Nat) (l0 : Nat) (l1 : Int) (μ : CM) (Q : Option Nat → CM → Prop) : Prop := (∃ b1, b1 ≤ b ∧ tg μ l0 = 12 ∧ wc_J8_append X b1 l0 l1 μ (fun r3 μ4 => Q (some l0) μ4))
set_option maxHeartbeats 4000000 in
theorem sc_J9_append (l : Launch) (X : cX) (sz : Nat) (Q : Option Nat → CM → Prop) (b : Nat) (l0 : Nat) (l1 : Int) (μ : CM) (hw : wc_J9_append X b l0 l1 μ Q) : Met l yJ9_append (ws_ yJ9_append cJ9_append 2 (some (.object "java/lang/StringBuilder"))) ({ frames := 5, cells := b, slots := 5 * b, locals := 121 }) (cPc X (([aR (some l0), aI l1] : List AV).map toV) μ sz) (cQr X μ sz Q) b (5 * b) (cA X μ sz) := by
  refine cx_met2 (rm := ({ frames := 5, cells := b, slots := 5 * b, locals := 121 })) (As := [aR (some l0), aI l1]) (L0 := [(0, aR (some l0)), (1, aI l1)]) (by decide) rfl (Nat.le_of_ble_eq_true rfl) rfl ?_
  intro Z C hK hsz hR hl0 hin hQ
  subst hsz
  have C : gC Z cJ9_append 2 RJ9 (some (.object "java/lang/StringBuilder")) 5 121 := C
  have hQ : zz_q Z = MQ (zz_b Z) (cQr X μ (zz_s Z).heap.size Q) (zz_a Z) (zz_s Z) (zz_R Z).cells (zz_R Z).slots (cA X μ (zz_s Z).heap.size) := by rw [hR]; exact hQ
  have hb : 0 + b ≤ (zz_R Z).cells ∧ 0 + 5 * b ≤ (zz_R Z).slots := by rw [hR]; exact ⟨by dsimp only; omega, by dsimp only; omega⟩
  unfold wc_J9_append at hw
  refine hx_aload_n C dJ9_append_0 0 rfl rfl ?_
  refine hx_iload_n C dJ9_append_1 1 rfl rfl ?_
  obtain ⟨b1, hu2, hw⟩ := hw
  obtain ⟨ht5, hw⟩ := hw
  refine fun H locs hI ls hl => cx_rr (S := []) hI hl (fun _ h => h) (cr_SU (ci := 11) (As := [toV (aI l1)]) (rest := []) C hK hI hl 1 rfl (Or.inr (cdE_11 ht5)) (sc_J8_append _ X H.size _ b1 _ _ _ hw) q913 q1811 q902 q914 q104 q915 (by decide +kernel) ⟨rfl, rfl, Nat.le_of_ble_eq_true rfl, Nat.le_of_ble_eq_true rfl⟩ (av_W [] 8 (Nat.le_of_ble_eq_true rfl)) dJ9_append_2 rfl rfl ⟨by omega, by omega⟩) (fun r3 μ4 hw => ?_)
  obtain hb : (0 + b1) + (b - b1) ≤ (zz_R Z).cells ∧ (0 + 5 * b1) + 5 * (b - b1) ≤ (zz_R Z).slots := ⟨by omega, by omega⟩
  refine hx_pop C dJ9_append_5 rfl ?_
  refine hx_aload_n C dJ9_append_6 0 rfl rfl ?_
  exact cx_aret C hQ (by omega) (by omega) (Or.inl ⟨_, rfl⟩) hw dJ9_append_7
-- ('java/lang/AbstractStringBuilder', 'inflateIfNeededFor', '(Ljava/lang/String;)V')
def wc_J8_inflateIfNeededFor_21 (X : cX) (Q : CM → Prop) (μ : CM) : Prop := Q μ
set_option maxHeartbeats 4000000 in
theorem sc_J8_inflateIfNeededFor_21 {Z : zz} {X : cX} {μ0 : CM} {Q : CM → Prop} (C : gC Z cJ8_inflateIfNeededFor 2 RJ8 none 1 20) (hK : cCt Z X μ0) (hQ : zz_q Z = MQ (zz_b Z) (cQv X μ0 (zz_s Z).heap.size Q) (zz_a Z) (zz_s Z) (zz_R Z).cells (zz_R Z).slots (cA X μ0 (zz_s Z).heap.size))  : ∀ μ, wc_J8_inflateIfNeededFor_21 X Q μ → hG Z 2 (cI Z X μ0 μ) 0 0 21 [] [] := by
  intro μ hw
  unfold wc_J8_inflateIfNeededFor_21 at hw
  exact cx_vret C hQ (by omega) (by omega) hw dJ8_inflateIfNeededFor_21
def wc_J8_inflateIfNeededFor (X : cX) (l0 : Nat) (l1 : Option Nat) (μ : CM) (Q : CM → Prop) : Prop := (tg μ l0 = 12 ∧ ∃ a2, l1 = some a2 ∧ (tg μ a2 = 13 ∨ tg μ a2 = 14) ∧ wc_J0_coder X a2 μ (fun r4 μ5 => R32 (oI μ l0 1) ∧ R32 r4 ∧ (((oI μ l0 1) = r4 → wc_J8_inflateIfNeededFor_21 X   Q μ5) ∧ (¬ (oI μ l0 1) = r4 → False))))
set_option maxHeartbeats 4000000 in
theorem sc_J8_inflateIfNeededFor (l : Launch) (X : cX) (sz : Nat) (Q : CM → Prop) (l0 : Nat) (l1 : Option Nat) (μ : CM) (hw : wc_J8_inflateIfNeededFor X l0 l1 μ Q) : Met l yJ8_inflateIfNeededFor (ws_ yJ8_inflateIfNeededFor cJ8_inflateIfNeededFor 2 none) ({ frames := 1, cells := 0, slots := 0, locals := 20 }) (cPc X (([aR (some l0), aR l1] : List AV).map toV) μ sz) (cQv X μ sz Q) 0 (0) (cA X μ sz) := by
  refine cx_met2 (rm := ({ frames := 1, cells := 0, slots := 0, locals := 20 })) (As := [aR (some l0), aR l1]) (L0 := [(0, aR (some l0)), (1, aR l1)]) (by decide) rfl (Nat.le_of_ble_eq_true rfl) rfl ?_
  intro Z C hK hsz hR hl0 hin hQ
  subst hsz
  have C : gC Z cJ8_inflateIfNeededFor 2 RJ8 none 1 20 := C
  have hQ : zz_q Z = MQ (zz_b Z) (cQv X μ (zz_s Z).heap.size Q) (zz_a Z) (zz_s Z) (zz_R Z).cells (zz_R Z).slots (cA X μ (zz_s Z).heap.size) := by rw [hR]; exact hQ
  unfold wc_J8_inflateIfNeededFor at hw
  refine cx_compact C hK q882 dJ8_inflateIfNeededFor_0 ?_
  refine hx_if_eq (tgt := 21) C dJ8_inflateIfNeededFor_3 (by decide) (by decide) (fun h => ?_) (fun h => ?_)
  · exact absurd h (by decide)
  · skip
    refine hx_aload_n C dJ8_inflateIfNeededFor_6 0 rfl rfl ?_
    obtain ⟨ht1, hw⟩ := hw
    refine cx_get (μ := μ) (v := aI (oI μ l0 1)) C hK 11 1 rfl in_J9 (by decide) q891 rfl (cdE_11 ht1) rfl dJ8_inflateIfNeededFor_7 ?_
    refine hx_aload_n C dJ8_inflateIfNeededFor_10 1 rfl rfl ?_
    obtain ⟨a2, ha3, hw⟩ := hw
    rw [ha3]
    obtain ⟨ht6, hw⟩ := hw
    refine fun H locs hI ls hl => cx_ri (S := [aI (oI μ l0 1)]) hI hl (fun _ h => h) (cr_V (Cn := RJ0) (As := []) (rest := [toV (aI (oI μ l0 1))]) C hK hI hl 0 (cv_str hK hI ht6) (sc_J0_coder _ X H.size _ _ _ hw) (lw_V q1034 q274 q275 q88 q276) (by decide +kernel) ⟨rfl, rfl, Nat.le_of_ble_eq_true rfl, Nat.le_of_ble_eq_true rfl⟩ (av_W [aI (oI μ l0 1)] 8 (Nat.le_of_ble_eq_true rfl)) dJ8_inflateIfNeededFor_11 rfl rfl ⟨by omega, by omega⟩) (fun r4 μ5 hw => ?_)
    obtain ⟨hr7, hw⟩ := hw
    obtain ⟨hr8, hw⟩ := hw
    refine hx_icmp_eq (tgt := 21) C dJ8_inflateIfNeededFor_14 (by decide) hr7 hr8 (fun h => ?_) (fun h => ?_)
    · have hw := hw.1 h
      refine hx_L [] rfl ?_
      exact sc_J8_inflateIfNeededFor_21 C hK hQ  _ hw
    · have hw := hw.2 h
      exact hw.elim
-- ('java/lang/String', 'getBytes', '([BIB)V')
def wc_J0_getBytes (X : cX) (l0 : Nat) (l1 : Option Nat) (l2 : Int) (l3 : Int) (μ : CM) (Q : CM → Prop) : Prop := (tg μ l0 = 13 ∨ tg μ l0 = 14) ∧ wc_J0_coder X l0 μ (fun r1 μ2 => R32 r1 ∧ R32 l3 ∧ ((¬ r1 = l3 → False) ∧ (r1 = l3 → ((tg μ2 l0 = 13 ∨ tg μ2 l0 = 14) ∧ ∃ a7, (oR μ2 l0 0) = some a7 ∧ (tg μ2 a7 = 21 ∨ tg μ2 a7 = 26) ∧ ∃ a10, l1 = some a10 ∧ tg μ2 a10 = 21 ∧ ((0 ≤ (0 : Int) ∧ 0 ≤ (io_shl l2 l3) ∧ 0 ≤ ((ln μ2 a7) : Int)) ∧ ((0 : Int) + ((ln μ2 a7) : Int) ≤ ((ln μ2 a7) : Int) ∧ (io_shl l2 l3) + ((ln μ2 a7) : Int) ≤ ((ln μ2 a10) : Int)) ∧ (ln μ2 a7) < 2147483648 ∧ (ln μ2 a10) < 2147483648) ∧ (∀ i : Nat, (i : Int) < ((ln μ2 a7) : Int) → -128 ≤ (oI μ2 a7 (((0 : Int)).toNat + i)) ∧ (oI μ2 a7 (((0 : Int)).toNat + i)) < 128) ∧ Q (prI μ2 a10 (va_cpy (oI μ2 a7) (oI μ2 a10) ((0 : Int)).toNat ((io_shl l2 l3)).toNat (((ln μ2 a7) : Int)).toNat))))))
set_option maxHeartbeats 4000000 in
theorem sc_J0_getBytes (l : Launch) (X : cX) (sz : Nat) (Q : CM → Prop) (l0 : Nat) (l1 : Option Nat) (l2 : Int) (l3 : Int) (μ : CM) (hw : wc_J0_getBytes X l0 l1 l2 l3 μ Q) : Met l yJ0_getBytes (ws_ yJ0_getBytes cJ0_getBytes 4 none) ({ frames := 1, cells := 0, slots := 0, locals := 30 }) (cPc X (([aR (some l0), aR l1, aI l2, aI l3] : List AV).map toV) μ sz) (cQv X μ sz Q) 0 (0) (cA X μ sz) := by
  refine cx_met2 (rm := ({ frames := 1, cells := 0, slots := 0, locals := 30 })) (As := [aR (some l0), aR l1, aI l2, aI l3]) (L0 := [(0, aR (some l0)), (1, aR l1), (2, aI l2), (3, aI l3)]) (by decide) rfl (Nat.le_of_ble_eq_true rfl) rfl ?_
  intro Z C hK hsz hR hl0 hin hQ
  subst hsz
  have C : gC Z cJ0_getBytes 4 RJ0 none 1 30 := C
  have hQ : zz_q Z = MQ (zz_b Z) (cQv X μ (zz_s Z).heap.size Q) (zz_a Z) (zz_s Z) (zz_R Z).cells (zz_R Z).slots (cA X μ (zz_s Z).heap.size) := by rw [hR]; exact hQ
  unfold wc_J0_getBytes at hw
  refine hx_aload_n C dJ0_getBytes_0 0 rfl rfl ?_
  obtain ⟨ht3, hw⟩ := hw
  refine fun H locs hI ls hl => cx_ri (S := []) hI hl (fun _ h => h) (cr_V (Cn := RJ0) (As := []) (rest := []) C hK hI hl 0 (cv_str hK hI ht3) (sc_J0_coder _ X H.size _ _ _ hw) (lw_V q273 q274 q275 q88 q276) (by decide +kernel) ⟨rfl, rfl, Nat.le_of_ble_eq_true rfl, Nat.le_of_ble_eq_true rfl⟩ (av_W [] 8 (Nat.le_of_ble_eq_true rfl)) dJ0_getBytes_1 rfl rfl ⟨by omega, by omega⟩) (fun r1 μ2 hw => ?_)
  refine hx_iload_n C dJ0_getBytes_4 3 rfl rfl ?_
  obtain ⟨hr4, hw⟩ := hw
  obtain ⟨hr5, hw⟩ := hw
  refine hx_icmp_ne (tgt := 28) C dJ0_getBytes_5 (by decide) hr4 hr5 (fun h => ?_) (fun h => ?_)
  · have hw := hw.1 h
    exact hw.elim
  · have hw := hw.2 h
    refine hx_aload_n C dJ0_getBytes_8 0 rfl rfl ?_
    obtain ⟨ht6, hw⟩ := hw
    refine cx_getStr (v := aR (oR μ2 l0 0)) C hK 0 (by decide) q1107 ht6 rfl dJ0_getBytes_9 ?_
    refine hx_iconst C dJ0_getBytes_12 ?_
    refine hx_aload_n C dJ0_getBytes_13 1 rfl rfl ?_
    refine hx_iload_n C dJ0_getBytes_14 2 rfl rfl ?_
    refine hx_iload_n C dJ0_getBytes_15 3 rfl rfl ?_
    refine hx_ishl C dJ0_getBytes_16 ?_
    refine hx_aload_n C dJ0_getBytes_17 0 rfl rfl ?_
    refine cx_getStr (v := aR (oR μ2 l0 0)) C hK 0 (by decide) q1107 ht6 rfl dJ0_getBytes_18 ?_
    obtain ⟨a7, ha8, hw⟩ := hw
    rw [ha8]
    obtain ⟨ht9, hw⟩ := hw
    refine cx_alenK C hK ht9 dJ0_getBytes_21 ?_
    obtain ⟨a10, ha11, hw⟩ := hw
    rw [ha11]
    obtain ⟨ht12, hw⟩ := hw
    obtain ⟨hc13, hx14, hw⟩ := hw
    refine cx_copyB (S := []) C hK q1039 q485 q484 q98 ht9 ht12 hc13 hx14 (by omega) (by simp [toV_cat, avc, nativeFrameWords]; try omega) dJ0_getBytes_22 ?_
    refine hx_goto (tgt := 43) C dJ0_getBytes_25 (by decide) ?_
    exact cx_vret C hQ (by omega) (by omega) hw dJ0_getBytes_43
-- ('java/lang/AbstractStringBuilder', 'putStringAt', '(ILjava/lang/String;)V')
def wc_J8_putStringAt (X : cX) (l0 : Nat) (l1 : Int) (l2 : Option Nat) (μ : CM) (Q : CM → Prop) : Prop := tg μ l0 = 12 ∧ wc_J8_inflateIfNeededFor X l0 l2 μ (fun μ2 => (tg μ2 l0 = 12 ∧ ∃ a5, l2 = some a5 ∧ (tg μ2 a5 = 13 ∨ tg μ2 a5 = 14) ∧ wc_J0_getBytes X a5 (oR μ2 l0 0) l1 (oI μ2 l0 1) μ2 (fun μ8 => Q μ8)))
set_option maxHeartbeats 4000000 in
theorem sc_J8_putStringAt (l : Launch) (X : cX) (sz : Nat) (Q : CM → Prop) (l0 : Nat) (l1 : Int) (l2 : Option Nat) (μ : CM) (hw : wc_J8_putStringAt X l0 l1 l2 μ Q) : Met l yJ8_putStringAt (ws_ yJ8_putStringAt cJ8_putStringAt 3 none) ({ frames := 2, cells := 0, slots := 0, locals := 53 }) (cPc X (([aR (some l0), aI l1, aR l2] : List AV).map toV) μ sz) (cQv X μ sz Q) 0 (0) (cA X μ sz) := by
  refine cx_met2 (rm := ({ frames := 2, cells := 0, slots := 0, locals := 53 })) (As := [aR (some l0), aI l1, aR l2]) (L0 := [(0, aR (some l0)), (1, aI l1), (2, aR l2)]) (by decide) rfl (Nat.le_of_ble_eq_true rfl) rfl ?_
  intro Z C hK hsz hR hl0 hin hQ
  subst hsz
  have C : gC Z cJ8_putStringAt 3 RJ8 none 2 53 := C
  have hQ : zz_q Z = MQ (zz_b Z) (cQv X μ (zz_s Z).heap.size Q) (zz_a Z) (zz_s Z) (zz_R Z).cells (zz_R Z).slots (cA X μ (zz_s Z).heap.size) := by rw [hR]; exact hQ
  unfold wc_J8_putStringAt at hw
  refine hx_aload_n C dJ8_putStringAt_0 0 rfl rfl ?_
  refine hx_aload_n C dJ8_putStringAt_1 2 rfl rfl ?_
  obtain ⟨ht3, hw⟩ := hw
  refine fun H locs hI ls hl => cx_rv (S := []) hI hl (fun _ h => h) (cr_P (ci := 11) (As := [toV (aR l2)]) (rest := []) C hK hI hl 1 rfl (Or.inr (cdE_11 ht3)) (sc_J8_inflateIfNeededFor _ X H.size _ _ _ _ hw) q1030 q1818 (List.mem_of_getElem? (i := 10) rfl) q1032 q104 q1033 (by decide +kernel) ⟨rfl, rfl, Nat.le_of_ble_eq_true rfl, Nat.le_of_ble_eq_true rfl⟩ (av_W [] 8 (Nat.le_of_ble_eq_true rfl)) dJ8_putStringAt_2 rfl rfl ⟨by omega, by omega⟩) (fun μ2 hw => ?_)
  refine hx_aload_n C dJ8_putStringAt_5 2 rfl rfl ?_
  refine hx_aload_n C dJ8_putStringAt_6 0 rfl rfl ?_
  obtain ⟨ht4, hw⟩ := hw
  refine cx_get (μ := μ2) (v := aR (oR μ2 l0 0)) C hK 11 0 rfl in_J9 (by decide) q890 rfl (cdE_11 ht4) rfl dJ8_putStringAt_7 ?_
  refine hx_iload_n C dJ8_putStringAt_10 1 rfl rfl ?_
  refine hx_aload_n C dJ8_putStringAt_11 0 rfl rfl ?_
  refine cx_get (μ := μ2) (v := aI (oI μ2 l0 1)) C hK 11 1 rfl in_J9 (by decide) q891 rfl (cdE_11 ht4) rfl dJ8_putStringAt_12 ?_
  obtain ⟨a5, ha6, hw⟩ := hw
  rw [ha6]
  obtain ⟨ht9, hw⟩ := hw
  refine fun H locs hI ls hl => cx_rv (S := []) hI hl (fun _ h => h) (cr_V (Cn := RJ0) (As := [toV (aR (oR μ2 l0 0)), toV (aI l1), toV (aI (oI μ2 l0 1))]) (rest := []) C hK hI hl 3 (cv_str hK hI ht9) (sc_J0_getBytes _ X H.size _ _ _ _ _ _ hw) (lw_V q1035 q1036 q1037 q88 q1038) (by decide +kernel) ⟨rfl, rfl, Nat.le_of_ble_eq_true rfl, Nat.le_of_ble_eq_true rfl⟩ (av_W [] 8 (Nat.le_of_ble_eq_true rfl)) dJ8_putStringAt_15 rfl rfl ⟨by omega, by omega⟩) (fun μ8 hw => ?_)
  exact cx_vret C hQ (by omega) (by omega) hw dJ8_putStringAt_18
-- ('java/lang/AbstractStringBuilder', 'append', '(Ljava/lang/String;)Ljava/lang/AbstractStringBuilder;')
def wc_J8_append_2 (X : cX) (b : Nat) (l0 : Nat) (l1 : Option Nat) (μ : CM) (Q : Option Nat → CM → Prop) : Prop := ((¬ l1 = none → (∃ a1, l1 = some a1 ∧ (tg μ a1 = 13 ∨ tg μ a1 = 14) ∧ wc_J0_length X a1 μ (fun r3 μ4 => (tg μ4 l0 = 12 ∧ ∃ b7, b7 ≤ b ∧ wc_J8_ensureCapacityInternal X b7 l0 ((oI μ4 l0 3) + r3) μ4 (fun μ10 => tg μ10 l0 = 12 ∧ wc_J8_putStringAt X l0 (oI μ10 l0 3) (some a1) μ10 (fun μ13 => tg μ13 l0 = 12 ∧ Q (some l0) (poI μ13 l0 3 ((oI μ13 l0 3) + r3)))))))) ∧ (l1 = none → False))
set_option maxHeartbeats 4000000 in
theorem sc_J8_append_2 (l : Launch) (X : cX) (sz : Nat) (Q : Option Nat → CM → Prop) (b : Nat) (l0 : Nat) (l1 : Option Nat) (μ : CM) (hw : wc_J8_append_2 X b l0 l1 μ Q) : Met l yJ8_append_2 (ws_ yJ8_append_2 cJ8_append_2 3 (some (.object "java/lang/AbstractStringBuilder"))) ({ frames := 4, cells := b, slots := 5 * b, locals := 100 }) (cPc X (([aR (some l0), aR l1] : List AV).map toV) μ sz) (cQr X μ sz Q) b (5 * b) (cA X μ sz) := by
  refine cx_met2 (rm := ({ frames := 4, cells := b, slots := 5 * b, locals := 100 })) (As := [aR (some l0), aR l1]) (L0 := [(0, aR (some l0)), (1, aR l1)]) (by decide) rfl (Nat.le_of_ble_eq_true rfl) rfl ?_
  intro Z C hK hsz hR hl0 hin hQ
  subst hsz
  have C : gC Z cJ8_append_2 3 RJ8 (some (.object "java/lang/AbstractStringBuilder")) 4 100 := C
  have hQ : zz_q Z = MQ (zz_b Z) (cQr X μ (zz_s Z).heap.size Q) (zz_a Z) (zz_s Z) (zz_R Z).cells (zz_R Z).slots (cA X μ (zz_s Z).heap.size) := by rw [hR]; exact hQ
  have hb : 0 + b ≤ (zz_R Z).cells ∧ 0 + 5 * b ≤ (zz_R Z).slots := by rw [hR]; exact ⟨by dsimp only; omega, by dsimp only; omega⟩
  unfold wc_J8_append_2 at hw
  refine hx_aload_n C dJ8_append_2_0 1 rfl rfl ?_
  refine hx_ifnonnull (tgt := 9) C dJ8_append_2_1 (by decide) (fun h => ?_) (fun h => ?_)
  · have hw := hw.1 h
    refine hx_aload_n C dJ8_append_2_9 1 rfl rfl ?_
    obtain ⟨a1, ha2, hw⟩ := hw
    rw [ha2]
    obtain ⟨ht5, hw⟩ := hw
    refine fun H locs hI ls hl => cx_ri (S := []) hI hl (fun _ h => h) (cr_V (Cn := RJ0) (As := []) (rest := []) C hK hI hl 0 (cv_str hK hI ht5) (sc_J0_length _ X H.size _ _ _ hw) (lw_V q1025 q270 q271 q88 q272) (by decide +kernel) ⟨rfl, rfl, Nat.le_of_ble_eq_true rfl, Nat.le_of_ble_eq_true rfl⟩ (av_W [] 8 (Nat.le_of_ble_eq_true rfl)) dJ8_append_2_10 rfl rfl ⟨by omega, by omega⟩) (fun r3 μ4 hw => ?_)
    refine hx_istore_n (L' := [(2, aI r3), (0, aR (some l0)), (1, aR (some a1))]) C dJ8_append_2_13 rfl (by decide) rfl ?_
    refine hx_aload_n C dJ8_append_2_14 1 rfl rfl ?_
    refine hx_aload_n C dJ8_append_2_15 1 rfl rfl ?_
    obtain ⟨ht6, hw⟩ := hw
    refine cx_get (μ := μ4) (v := aI (oI μ4 l0 3)) C hK 11 3 rfl in_J9 (by decide) q893 rfl (cdE_11 ht6) rfl dJ8_append_2_16 ?_
    refine hx_iload_n C dJ8_append_2_19 0 rfl rfl ?_
    refine hx_iadd C dJ8_append_2_20 ?_
    obtain ⟨b7, hu8, hw⟩ := hw
    refine fun H locs hI ls hl => cx_rv (S := []) hI hl (fun _ h => h) (cr_P (ci := 11) (As := [toV (aI ((oI μ4 l0 3) + r3))]) (rest := []) C hK hI hl 1 rfl (Or.inr (cdE_11 ht6)) (sc_J8_ensureCapacityInternal _ X H.size _ b7 _ _ _ hw) q916 q1812 (List.mem_of_getElem? (i := 5) rfl) q918 q104 q919 (by decide +kernel) ⟨rfl, rfl, Nat.le_of_ble_eq_true rfl, Nat.le_of_ble_eq_true rfl⟩ (av_W [] 8 (Nat.le_of_ble_eq_true rfl)) dJ8_append_2_21 rfl rfl ⟨by omega, by omega⟩) (fun μ10 hw => ?_)
    obtain hb : (0 + b7) + (b - b7) ≤ (zz_R Z).cells ∧ (0 + 5 * b7) + 5 * (b - b7) ≤ (zz_R Z).slots := ⟨by omega, by omega⟩
    refine hx_aload_n C dJ8_append_2_24 1 rfl rfl ?_
    refine hx_aload_n C dJ8_append_2_25 1 rfl rfl ?_
    obtain ⟨ht11, hw⟩ := hw
    refine cx_get (μ := μ10) (v := aI (oI μ10 l0 3)) C hK 11 3 rfl in_J9 (by decide) q893 rfl (cdE_11 ht11) rfl dJ8_append_2_26 ?_
    refine hx_aload_n C dJ8_append_2_29 2 rfl rfl ?_
    refine fun H locs hI ls hl => cx_rv (S := []) hI hl (fun _ h => h) (cr_P (ci := 11) (As := [toV (aI (oI μ10 l0 3)), toV (aR (some a1))]) (rest := []) C hK hI hl 2 rfl (Or.inr (cdE_11 ht11)) (sc_J8_putStringAt _ X H.size _ _ _ _ _ hw) q1026 q1817 (List.mem_of_getElem? (i := 9) rfl) q1028 q104 q1029 (by decide +kernel) ⟨rfl, rfl, Nat.le_of_ble_eq_true rfl, Nat.le_of_ble_eq_true rfl⟩ (av_W [] 8 (Nat.le_of_ble_eq_true rfl)) dJ8_append_2_30 rfl rfl ⟨by omega, by omega⟩) (fun μ13 hw => ?_)
    refine hx_aload_n C dJ8_append_2_33 1 rfl rfl ?_
    refine hx_dup C dJ8_append_2_34 rfl ?_
    obtain ⟨ht14, hw⟩ := hw
    refine cx_get (μ := μ13) (v := aI (oI μ13 l0 3)) C hK 11 3 rfl in_J9 (by decide) q893 rfl (cdE_11 ht14) rfl dJ8_append_2_35 ?_
    refine hx_iload_n C dJ8_append_2_38 0 rfl rfl ?_
    refine hx_iadd C dJ8_append_2_39 ?_
    refine cx_put (μ := μ13) (μ' := (poI μ13 l0 3 ((oI μ13 l0 3) + r3))) C hK 11 3 rfl in_J9 tyJ9_ok nmJ9 (by decide) q893 rfl rfl (cdE_11 ht14) (Nat.le_of_ble_eq_true rfl) ⟨rfl, rfl⟩ (cset_11_3 μ13 l0 ((oI μ13 l0 3) + r3)) (cdE_11 ht14) rfl rfl rfl (fun _ hb => st_o hb) (fun _ _ => rfl) dJ8_append_2_40 ?_
    refine hx_aload_n C dJ8_append_2_43 1 rfl rfl ?_
    exact cx_aret C hQ (by omega) (by omega) (Or.inl ⟨_, rfl⟩) hw dJ8_append_2_44
  · have hw := hw.2 h
    exact hw.elim
