/-! walks of the component (printed by gen_comp) -/
set_option maxRecDepth 100000
-- isSame
def wd_isSame (X : cX) (rc : Nat → Option Nat → CM → (Int → CM → Prop) → Prop) : Nat → Option Nat → CM → (Int → CM → Prop) → Prop := fun a l1 μ Q => (tg μ a = 6 ∧ wc_X7_isSame X a l1 μ Q) ∨ (tg μ a = 7 ∧ wc_X8_isSame X a l1 μ Q) ∨ (tg μ a = 8 ∧ wc_X9_isSame X rc a l1 μ Q) ∨ (tg μ a = 5 ∧ wc_X6_isSame X rc a l1 μ Q)
def wr_V_isSame (X : cX) : Nat → Nat → Option Nat → CM → (Int → CM → Prop) → Prop
  | 0 => fun _ _ _ _ => False
  | d + 1 => wd_isSame X (wr_V_isSame X d)
set_option maxHeartbeats 4000000 in
theorem rr_V_isSame (l : Launch) (X : cX) : ∀ d, rmet_V_isSame l X (3 + 1 * d) (74 + 22 * d) (wr_V_isSame X d) := by
  intro d
  induction d with
  | zero => intro a l1 μ sz Q h; exact h.elim
  | succ d ih =>
    intro a l1 μ sz Q h
    rcases h with ⟨ht, hw⟩ | ⟨ht, hw⟩ | ⟨ht, hw⟩ | ⟨ht, hw⟩
    · exact Or.inl (⟨ht, _, ⟨rfl, rfl, by first | omega | (dsimp only; omega), by first | omega | (dsimp only; omega)⟩, sc_X7_isSame l X sz Q _ _ _ hw⟩)
    · exact Or.inr (Or.inl (⟨ht, _, ⟨rfl, rfl, by first | omega | (dsimp only; omega), by first | omega | (dsimp only; omega)⟩, sc_X8_isSame l X sz Q _ _ _ hw⟩))
    · exact Or.inr (Or.inr (Or.inl (⟨ht, _, ⟨rfl, rfl, by first | omega | (dsimp only; omega), by first | omega | (dsimp only; omega)⟩, sc_X9_isSame l X sz Q (by omega) (by omega) ih _ _ _ hw⟩)))
    · exact Or.inr (Or.inr (Or.inr (⟨ht, _, ⟨rfl, rfl, by first | omega | (dsimp only; omega), by first | omega | (dsimp only; omega)⟩, sc_X6_isSame l X sz Q (by omega) (by omega) ih _ _ _ hw⟩)))
-- ('java/lang/AbstractStringBuilder', '<init>', '(I)V')
def wc_J8_init (X : cX) (b : Nat) (l0 : Nat) (l1 : Int) (μ : CM) (Q : CM → Prop) : Prop := ((0 ≤ l1 ∧ l1 ≤ 100000000) ∧ ∃ u2 : Nat, (1 ≤ u2 ∧ (l1).toNat ≤ 5 * u2 ∧ u2 ≤ b) ∧ ∀ a4, tg μ a4 = 0 → tg (alc μ a4 21 (l1).toNat) l0 = 12 ∧ Q (poI (poR (alc μ a4 21 (l1).toNat) l0 0 (some a4)) l0 1 0))
set_option maxHeartbeats 4000000 in
theorem sc_J8_init (l : Launch) (X : cX) (sz : Nat) (Q : CM → Prop) (b : Nat) (l0 : Nat) (l1 : Int) (μ : CM) (hw : wc_J8_init X b l0 l1 μ Q) : Met l yJ8_init (ws_ yJ8_init cJ8_init 2 none) ({ frames := 1, cells := b, slots := 5 * b, locals := 30 }) (cPc X (([aR (some l0), aI l1] : List AV).map toV) μ sz) (cQv X μ sz Q) b (5 * b) (cA X μ sz) := by
  refine cx_met2 (rm := ({ frames := 1, cells := b, slots := 5 * b, locals := 30 })) (As := [aR (some l0), aI l1]) (L0 := [(0, aR (some l0)), (1, aI l1)]) (by decide) rfl (Nat.le_of_ble_eq_true rfl) rfl ?_
  intro Z C hK hsz hR hl0 hin hQ
  subst hsz
  have C : gC Z cJ8_init 2 RJ8 none 1 30 := C
  have hQ : zz_q Z = MQ (zz_b Z) (cQv X μ (zz_s Z).heap.size Q) (zz_a Z) (zz_s Z) (zz_R Z).cells (zz_R Z).slots (cA X μ (zz_s Z).heap.size) := by rw [hR]; exact hQ
  have hb : 0 + b ≤ (zz_R Z).cells ∧ 0 + 5 * b ≤ (zz_R Z).slots := by rw [hR]; exact ⟨by dsimp only; omega, by dsimp only; omega⟩
  unfold wc_J8_init at hw
  refine hx_aload_n C dJ8_init_0 0 rfl rfl ?_
  refine cx_objInit C q881 q116 q117 (by omega) (by simp [toV_cat, avc]; try omega) dJ8_init_1 ?_
  refine cx_compact C hK q882 dJ8_init_4 ?_
  refine hx_if_eq (tgt := 25) C dJ8_init_7 (by decide) (by decide) (fun h => ?_) (fun h => ?_)
  · exact absurd h (by decide)
  · skip
    refine hx_aload_n C dJ8_init_10 0 rfl rfl ?_
    refine hx_iload_n C dJ8_init_11 1 rfl rfl ?_
    obtain ⟨hm1, u2, hu3, hw⟩ := hw
    refine cx_newB C hK q200 hm1.1 hm1.2 (by omega) (by omega) dJ8_init_12 (fun a4 hf5 => ?_)
    have hw := hw a4 hf5
    obtain hb : (0 + 1) + (b - u2) ≤ (zz_R Z).cells ∧ (0 + (l1).toNat) + 5 * (b - u2) ≤ (zz_R Z).slots := ⟨by omega, by omega⟩
    have ht6 : tg (alc μ a4 21 (l1).toNat) a4 = 21 := alc_t
    obtain ⟨ht7, hw⟩ := hw
    refine cx_put (μ := (alc μ a4 21 (l1).toNat)) (μ' := (poR (alc μ a4 21 (l1).toNat) l0 0 (some a4))) C hK 11 0 rfl in_J9 tyJ9_ok nmJ9 (by decide) q890 rfl rfl (cdE_11 ht7) (Nat.le_of_ble_eq_true rfl) (cz_r (ty := tyJ9 0) rfl (some a4)) (cset_11_0 (alc μ a4 21 (l1).toNat) l0 (some a4)) (cdE_11 ht7) rfl rfl rfl (fun _ _ => rfl) (fun _ hb => stq_o hb) dJ8_init_14 ?_
    refine hx_aload_n C dJ8_init_17 0 rfl rfl ?_
    refine hx_iconst C dJ8_init_18 ?_
    refine cx_put (μ := (poR (alc μ a4 21 (l1).toNat) l0 0 (some a4))) (μ' := (poI (poR (alc μ a4 21 (l1).toNat) l0 0 (some a4)) l0 1 0)) C hK 11 1 rfl in_J9 tyJ9_ok nmJ9 (by decide) q891 rfl rfl (cdE_11 ht7) (Nat.le_of_ble_eq_true rfl) ⟨mz_b (by decide), mz_fb (by decide)⟩ (cset_11_1 (poR (alc μ a4 21 (l1).toNat) l0 0 (some a4)) l0 0) (cdE_11 ht7) rfl rfl rfl (fun _ hb => st_o hb) (fun _ _ => rfl) dJ8_init_19 ?_
    refine hx_goto (tgt := 38) C dJ8_init_22 (by decide) ?_
    exact cx_vret C hQ (by omega) (by omega) hw dJ8_init_38
-- ('java/lang/StringBuilder', '<init>', '()V')
def wc_J9_init (X : cX) (b : Nat) (l0 : Nat) (μ : CM) (Q : CM → Prop) : Prop := (∃ b1, b1 ≤ b ∧ wc_J8_init X b1 l0 16 μ (fun μ4 => Q μ4))
set_option maxHeartbeats 4000000 in
theorem sc_J9_init (l : Launch) (X : cX) (sz : Nat) (Q : CM → Prop) (b : Nat) (l0 : Nat) (μ : CM) (hw : wc_J9_init X b l0 μ Q) : Met l yJ9_init (ws_ yJ9_init cJ9_init 1 none) ({ frames := 2, cells := b, slots := 5 * b, locals := 51 }) (cPc X (([aR (some l0)] : List AV).map toV) μ sz) (cQv X μ sz Q) b (5 * b) (cA X μ sz) := by
  refine cx_met2 (rm := ({ frames := 2, cells := b, slots := 5 * b, locals := 51 })) (As := [aR (some l0)]) (L0 := [(0, aR (some l0))]) (by decide) rfl (Nat.le_of_ble_eq_true rfl) rfl ?_
  intro Z C hK hsz hR hl0 hin hQ
  subst hsz
  have C : gC Z cJ9_init 1 RJ9 none 2 51 := C
  have hQ : zz_q Z = MQ (zz_b Z) (cQv X μ (zz_s Z).heap.size Q) (zz_a Z) (zz_s Z) (zz_R Z).cells (zz_R Z).slots (cA X μ (zz_s Z).heap.size) := by rw [hR]; exact hQ
  have hb : 0 + b ≤ (zz_R Z).cells ∧ 0 + 5 * b ≤ (zz_R Z).slots := by rw [hR]; exact ⟨by dsimp only; omega, by dsimp only; omega⟩
  unfold wc_J9_init at hw
  refine hx_aload_n C dJ9_init_0 0 rfl rfl ?_
  refine hx_bipush C dJ9_init_1 (by decide) ?_
  obtain ⟨b1, hu2, hw⟩ := hw
  refine fun H locs hI ls hl => cx_rv (S := []) hI hl (fun _ h => h) (cr_I (a := l0) (As := [toV (aI 16)]) (rest := []) C hK hI hl 1 (sc_J8_init _ X H.size _ b1 _ _ _ hw) q878 q879 q104 q880 rfl (by decide +kernel) ⟨rfl, rfl, Nat.le_of_ble_eq_true rfl, Nat.le_of_ble_eq_true rfl⟩ (av_W [] 8 (Nat.le_of_ble_eq_true rfl)) dJ9_init_3 rfl rfl ⟨by omega, by omega⟩) (fun μ4 hw => ?_)
  obtain hb : (0 + b1) + (b - b1) ≤ (zz_R Z).cells ∧ (0 + 5 * b1) + 5 * (b - b1) ≤ (zz_R Z).slots := ⟨by omega, by omega⟩
  exact cx_vret C hQ (by omega) (by omega) hw dJ9_init_6
-- ('jdk/internal/util/ArraysSupport', 'newLength', '(III)I')
def wc_J7_newLength_21 (X : cX) (Q : Int → CM → Prop) (l0 : Int) (μ : CM) : Prop := False
set_option maxHeartbeats 4000000 in
theorem sc_J7_newLength_21 {Z : zz} {X : cX} {μ0 : CM} {Q : Int → CM → Prop} (C : gC Z cJ7_newLength 4 RJ7 (some .int) 1 30) (hK : cCt Z X μ0) (hQ : zz_q Z = MQ (zz_b Z) (cQi X μ0 (zz_s Z).heap.size Q) (zz_a Z) (zz_s Z) (zz_R Z).cells (zz_R Z).slots (cA X μ0 (zz_s Z).heap.size))  : ∀ l0 μ, wc_J7_newLength_21 X Q l0 μ → hG Z 4 (cI Z X μ0 μ) 0 0 21 [(0, aI l0)] [] := by
  intro l0 μ hw
  unfold wc_J7_newLength_21 at hw
  exact hw.elim
def wc_J7_newLength (X : cX) (l0 : Int) (l1 : Int) (l2 : Int) (μ : CM) (Q : Int → CM → Prop) : Prop := R32 l1 ∧ R32 l2 ∧ R32 (l0 + (if l1 < l2 then l2 else l1)) ∧ (((l0 + (if l1 < l2 then l2 else l1)) ≤ 0 → False) ∧ (0 < (l0 + (if l1 < l2 then l2 else l1)) → R32 (l0 + (if l1 < l2 then l2 else l1)) ∧ ((2147483639 < (l0 + (if l1 < l2 then l2 else l1)) → False) ∧ ((l0 + (if l1 < l2 then l2 else l1)) ≤ 2147483639 → Q (l0 + (if l1 < l2 then l2 else l1)) μ))))
set_option maxHeartbeats 4000000 in
theorem sc_J7_newLength (l : Launch) (X : cX) (sz : Nat) (Q : Int → CM → Prop) (l0 : Int) (l1 : Int) (l2 : Int) (μ : CM) (hw : wc_J7_newLength X l0 l1 l2 μ Q) : Met l yJ7_newLength (ws_ yJ7_newLength cJ7_newLength 4 (some .int)) ({ frames := 1, cells := 0, slots := 0, locals := 30 }) (cPc X (([aI l0, aI l1, aI l2] : List AV).map toV) μ sz) (cQi X μ sz Q) 0 (0) (cA X μ sz) := by
  refine cx_met2 (rm := ({ frames := 1, cells := 0, slots := 0, locals := 30 })) (As := [aI l0, aI l1, aI l2]) (L0 := [(0, aI l0), (1, aI l1), (2, aI l2)]) (by decide) rfl (Nat.le_of_ble_eq_true rfl) rfl ?_
  intro Z C hK hsz hR hl0 hin hQ
  subst hsz
  have C : gC Z cJ7_newLength 4 RJ7 (some .int) 1 30 := C
  have hQ : zz_q Z = MQ (zz_b Z) (cQi X μ (zz_s Z).heap.size Q) (zz_a Z) (zz_s Z) (zz_R Z).cells (zz_R Z).slots (cA X μ (zz_s Z).heap.size) := by rw [hR]; exact hQ
  unfold wc_J7_newLength at hw
  refine hx_iload_n C dJ7_newLength_0 0 rfl rfl ?_
  refine hx_iload_n C dJ7_newLength_1 1 rfl rfl ?_
  refine hx_iload_n C dJ7_newLength_2 2 rfl rfl ?_
  obtain ⟨hr1, hw⟩ := hw
  obtain ⟨hr2, hw⟩ := hw
  refine cx_mmax (S := [aI l0]) C q927 q928 q97 q929 (by omega) (by simp [toV_cat, avc]; try omega) (by omega) (by omega) hr1 hr2 dJ7_newLength_3 ?_
  refine hx_iadd C dJ7_newLength_6 ?_
  refine hx_istore_n (L' := [(3, aI (l0 + (if l1 < l2 then l2 else l1))), (0, aI l0), (1, aI l1), (2, aI l2)]) C dJ7_newLength_7 rfl (by decide) rfl ?_
  refine hx_iconst C dJ7_newLength_8 ?_
  refine hx_iload_n C dJ7_newLength_9 0 rfl rfl ?_
  obtain ⟨hr3, hw⟩ := hw
  refine hx_icmp_ge (tgt := 21) C dJ7_newLength_10 (by decide) (by decide) hr3 (fun h => ?_) (fun h => ?_)
  · have hw := hw.1 h
    exact hw.elim
  · have hw := hw.2 h
    refine hx_iload_n C dJ7_newLength_13 0 rfl rfl ?_
    refine hx_ldc C 2147483639 q930 (by decide) dJ7_newLength_14 ?_
    obtain ⟨hr4, hw⟩ := hw
    refine hx_icmp_gt (tgt := 21) C dJ7_newLength_16 (by decide) hr4 (by decide) (fun h => ?_) (fun h => ?_)
    · have hw := hw.1 h
      exact hw.elim
    · have hw := hw.2 h
      refine hx_iload_n C dJ7_newLength_19 0 rfl rfl ?_
      exact cx_iret C hQ (by omega) (by omega) rfl hw dJ7_newLength_20
-- ('java/lang/AbstractStringBuilder', 'newCapacity', '(I)I')
def wc_J8_newCapacity (X : cX) (l0 : Nat) (l1 : Int) (μ : CM) (Q : Int → CM → Prop) : Prop := (tg μ l0 = 12 ∧ ∃ a2, (oR μ l0 0) = some a2 ∧ (tg μ a2 = 21 ∨ tg μ a2 = 26) ∧ wc_J7_newLength X ((ln μ a2) : Int) ((io_shl l1 (oI μ l0 1)) - ((ln μ a2) : Int)) (((ln μ a2) : Int) + (io_shl 2 (oI μ l0 1))) μ (fun r5 μ6 => R32 r5 ∧ ((¬ r5 = 2147483647 → tg μ6 l0 = 12 ∧ Q (io_shr r5 (oI μ6 l0 1)) μ6) ∧ (r5 = 2147483647 → False))))
set_option maxHeartbeats 4000000 in
theorem sc_J8_newCapacity (l : Launch) (X : cX) (sz : Nat) (Q : Int → CM → Prop) (l0 : Nat) (l1 : Int) (μ : CM) (hw : wc_J8_newCapacity X l0 l1 μ Q) : Met l yJ8_newCapacity (ws_ yJ8_newCapacity cJ8_newCapacity 6 (some .int)) ({ frames := 2, cells := 0, slots := 0, locals := 53 }) (cPc X (([aR (some l0), aI l1] : List AV).map toV) μ sz) (cQi X μ sz Q) 0 (0) (cA X μ sz) := by
  refine cx_met2 (rm := ({ frames := 2, cells := 0, slots := 0, locals := 53 })) (As := [aR (some l0), aI l1]) (L0 := [(0, aR (some l0)), (1, aI l1)]) (by decide) rfl (Nat.le_of_ble_eq_true rfl) rfl ?_
  intro Z C hK hsz hR hl0 hin hQ
  subst hsz
  have C : gC Z cJ8_newCapacity 6 RJ8 (some .int) 2 53 := C
  have hQ : zz_q Z = MQ (zz_b Z) (cQi X μ (zz_s Z).heap.size Q) (zz_a Z) (zz_s Z) (zz_R Z).cells (zz_R Z).slots (cA X μ (zz_s Z).heap.size) := by rw [hR]; exact hQ
  unfold wc_J8_newCapacity at hw
  refine hx_aload_n C dJ8_newCapacity_0 0 rfl rfl ?_
  obtain ⟨ht1, hw⟩ := hw
  refine cx_get (μ := μ) (v := aR (oR μ l0 0)) C hK 11 0 rfl in_J9 (by decide) q890 rfl (cdE_11 ht1) rfl dJ8_newCapacity_1 ?_
  obtain ⟨a2, ha3, hw⟩ := hw
  rw [ha3]
  obtain ⟨ht4, hw⟩ := hw
  refine cx_alenK C hK ht4 dJ8_newCapacity_4 ?_
  refine hx_istore_n (L' := [(2, aI ((ln μ a2) : Int)), (0, aR (some l0)), (1, aI l1)]) C dJ8_newCapacity_5 rfl (by decide) rfl ?_
  refine hx_iload_n C dJ8_newCapacity_6 2 rfl rfl ?_
  refine hx_aload_n C dJ8_newCapacity_7 1 rfl rfl ?_
  refine cx_get (μ := μ) (v := aI (oI μ l0 1)) C hK 11 1 rfl in_J9 (by decide) q891 rfl (cdE_11 ht1) rfl dJ8_newCapacity_8 ?_
  refine hx_ishl C dJ8_newCapacity_11 ?_
  refine hx_istore_n (L' := [(3, aI (io_shl l1 (oI μ l0 1))), (2, aI ((ln μ a2) : Int)), (0, aR (some l0)), (1, aI l1)]) C dJ8_newCapacity_12 rfl (by decide) rfl ?_
  refine hx_iload_n C dJ8_newCapacity_13 0 rfl rfl ?_
  refine hx_iload_n C dJ8_newCapacity_14 1 rfl rfl ?_
  refine hx_isub C dJ8_newCapacity_15 ?_
  refine hx_istore (L' := [(4, aI ((io_shl l1 (oI μ l0 1)) - ((ln μ a2) : Int))), (3, aI (io_shl l1 (oI μ l0 1))), (2, aI ((ln μ a2) : Int)), (0, aR (some l0)), (1, aI l1)]) C dJ8_newCapacity_16 (by decide) rfl ?_
  refine hx_iload_n C dJ8_newCapacity_18 2 rfl rfl ?_
  refine hx_iload C dJ8_newCapacity_19 0 rfl ?_
  refine hx_iload_n C dJ8_newCapacity_21 2 rfl rfl ?_
  refine hx_iconst C dJ8_newCapacity_22 ?_
  refine hx_aload_n C dJ8_newCapacity_23 3 rfl rfl ?_
  refine cx_get (μ := μ) (v := aI (oI μ l0 1)) C hK 11 1 rfl in_J9 (by decide) q891 rfl (cdE_11 ht1) rfl dJ8_newCapacity_24 ?_
  refine hx_ishl C dJ8_newCapacity_27 ?_
  refine hx_iadd C dJ8_newCapacity_28 ?_
  refine fun H locs hI ls hl => cx_ri (S := []) hI hl (fun _ h => h) (cr_S (As := [toV (aI ((ln μ a2) : Int)), toV (aI ((io_shl l1 (oI μ l0 1)) - ((ln μ a2) : Int))), toV (aI (((ln μ a2) : Int) + (io_shl 2 (oI μ l0 1))))]) (rest := []) C hK hI hl 3 (sc_J7_newLength _ X H.size _ _ _ _ _ hw) (lw_S q924 q925 q103 q926) (by decide +kernel) ⟨rfl, rfl, Nat.le_of_ble_eq_true rfl, Nat.le_of_ble_eq_true rfl⟩ (av_W [] 8 (Nat.le_of_ble_eq_true rfl)) dJ8_newCapacity_29 rfl rfl ⟨by omega, by omega⟩) (fun r5 μ6 hw => ?_)
  refine hx_istore (L' := [(5, aI r5), (4, aI ((io_shl l1 (oI μ l0 1)) - ((ln μ a2) : Int))), (3, aI (io_shl l1 (oI μ l0 1))), (2, aI ((ln μ a2) : Int)), (0, aR (some l0)), (1, aI l1)]) C dJ8_newCapacity_32 (by decide) rfl ?_
  refine hx_iload C dJ8_newCapacity_34 0 rfl ?_
  refine hx_ldc C 2147483647 q934 (by decide) dJ8_newCapacity_36 ?_
  obtain ⟨hr7, hw⟩ := hw
  refine hx_icmp_ne (tgt := 51) C dJ8_newCapacity_38 (by decide) hr7 (by decide) (fun h => ?_) (fun h => ?_)
  · have hw := hw.1 h
    refine hx_iload C dJ8_newCapacity_51 0 rfl ?_
    refine hx_aload_n C dJ8_newCapacity_53 4 rfl rfl ?_
    obtain ⟨ht8, hw⟩ := hw
    refine cx_get (μ := μ6) (v := aI (oI μ6 l0 1)) C hK 11 1 rfl in_J9 (by decide) q891 rfl (cdE_11 ht8) rfl dJ8_newCapacity_54 ?_
    refine hx_ishr C dJ8_newCapacity_57 ?_
    exact cx_iret C hQ (by omega) (by omega) rfl hw dJ8_newCapacity_58
  · have hw := hw.2 h
    exact hw.elim
-- ('java/util/Arrays', 'copyOf', '([BI)[B')
def wc_J10_copyOf (X : cX) (b : Nat) (l0 : Option Nat) (l1 : Int) (μ : CM) (Q : Option Nat → CM → Prop) : Prop := (∃ a1, l0 = some a1 ∧ (tg μ a1 = 21 ∨ tg μ a1 = 26) ∧ R32 l1 ∧ R32 ((ln μ a1) : Int) ∧ ((¬ l1 = ((ln μ a1) : Int) → ((0 ≤ l1 ∧ l1 ≤ 100000000) ∧ ∃ u7 : Nat, (1 ≤ u7 ∧ (l1).toNat ≤ 5 * u7 ∧ u7 ≤ b) ∧ ∀ a9, tg μ a9 = 0 → R32 ((ln (alc μ a9 21 (l1).toNat) a1) : Int) ∧ R32 l1 ∧ ((0 ≤ (0 : Int) ∧ 0 ≤ (0 : Int) ∧ 0 ≤ (if l1 < ((ln (alc μ a9 21 (l1).toNat) a1) : Int) then l1 else ((ln (alc μ a9 21 (l1).toNat) a1) : Int))) ∧ ((0 : Int) + (if l1 < ((ln (alc μ a9 21 (l1).toNat) a1) : Int) then l1 else ((ln (alc μ a9 21 (l1).toNat) a1) : Int)) ≤ ((ln (alc μ a9 21 (l1).toNat) a1) : Int) ∧ (0 : Int) + (if l1 < ((ln (alc μ a9 21 (l1).toNat) a1) : Int) then l1 else ((ln (alc μ a9 21 (l1).toNat) a1) : Int)) ≤ ((ln (alc μ a9 21 (l1).toNat) a9) : Int)) ∧ (ln (alc μ a9 21 (l1).toNat) a1) < 2147483648 ∧ (ln (alc μ a9 21 (l1).toNat) a9) < 2147483648) ∧ (∀ i : Nat, (i : Int) < (if l1 < ((ln (alc μ a9 21 (l1).toNat) a1) : Int) then l1 else ((ln (alc μ a9 21 (l1).toNat) a1) : Int)) → -128 ≤ (oI (alc μ a9 21 (l1).toNat) a1 (((0 : Int)).toNat + i)) ∧ (oI (alc μ a9 21 (l1).toNat) a1 (((0 : Int)).toNat + i)) < 128) ∧ Q (some a9) (prI (alc μ a9 21 (l1).toNat) a9 (va_cpy (oI (alc μ a9 21 (l1).toNat) a1) (oI (alc μ a9 21 (l1).toNat) a9) ((0 : Int)).toNat ((0 : Int)).toNat ((if l1 < ((ln (alc μ a9 21 (l1).toNat) a1) : Int) then l1 else ((ln (alc μ a9 21 (l1).toNat) a1) : Int))).toNat)))) ∧ (l1 = ((ln μ a1) : Int) → False)))
set_option maxHeartbeats 4000000 in
theorem sc_J10_copyOf (l : Launch) (X : cX) (sz : Nat) (Q : Option Nat → CM → Prop) (b : Nat) (l0 : Option Nat) (l1 : Int) (μ : CM) (hw : wc_J10_copyOf X b l0 l1 μ Q) : Met l yJ10_copyOf (ws_ yJ10_copyOf cJ10_copyOf 3 (some (.array .byte))) ({ frames := 1, cells := b, slots := 5 * b, locals := 30 }) (cPc X (([aR l0, aI l1] : List AV).map toV) μ sz) (cQr X μ sz Q) b (5 * b) (cA X μ sz) := by
  refine cx_met2 (rm := ({ frames := 1, cells := b, slots := 5 * b, locals := 30 })) (As := [aR l0, aI l1]) (L0 := [(0, aR l0), (1, aI l1)]) (by decide) rfl (Nat.le_of_ble_eq_true rfl) rfl ?_
  intro Z C hK hsz hR hl0 hin hQ
  subst hsz
  have C : gC Z cJ10_copyOf 3 RJ10 (some (.array .byte)) 1 30 := C
  have hQ : zz_q Z = MQ (zz_b Z) (cQr X μ (zz_s Z).heap.size Q) (zz_a Z) (zz_s Z) (zz_R Z).cells (zz_R Z).slots (cA X μ (zz_s Z).heap.size) := by rw [hR]; exact hQ
  have hb : 0 + b ≤ (zz_R Z).cells ∧ 0 + 5 * b ≤ (zz_R Z).slots := by rw [hR]; exact ⟨by dsimp only; omega, by dsimp only; omega⟩
  unfold wc_J10_copyOf at hw
  refine hx_iload_n C dJ10_copyOf_0 1 rfl rfl ?_
  refine hx_aload_n C dJ10_copyOf_1 0 rfl rfl ?_
  obtain ⟨a1, ha2, hw⟩ := hw
  rw [ha2]
  obtain ⟨ht3, hw⟩ := hw
  refine cx_alenK C hK ht3 dJ10_copyOf_2 ?_
  obtain ⟨hr4, hw⟩ := hw
  obtain ⟨hr5, hw⟩ := hw
  refine hx_icmp_ne (tgt := 14) C dJ10_copyOf_3 (by decide) hr4 hr5 (fun h => ?_) (fun h => ?_)
  · have hw := hw.1 h
    refine hx_iload_n C dJ10_copyOf_14 1 rfl rfl ?_
    obtain ⟨hm6, u7, hu8, hw⟩ := hw
    refine cx_newB C hK q200 hm6.1 hm6.2 (by omega) (by omega) dJ10_copyOf_15 (fun a9 hf10 => ?_)
    have hw := hw a9 hf10
    obtain hb : (0 + 1) + (b - u7) ≤ (zz_R Z).cells ∧ (0 + (l1).toNat) + 5 * (b - u7) ≤ (zz_R Z).slots := ⟨by omega, by omega⟩
    have ht11 := alc_kp2 (t := 21) (m := (l1).toNat) hf10 ht3 (by decide) (by decide)
    have ht12 : tg (alc μ a9 21 (l1).toNat) a9 = 21 := alc_t
    refine hx_astore_n (L' := [(2, aR (some a9)), (0, aR (some a1)), (1, aI l1)]) C dJ10_copyOf_17 rfl (by decide) rfl ?_
    refine hx_aload_n C dJ10_copyOf_18 1 rfl rfl ?_
    refine hx_iconst C dJ10_copyOf_19 ?_
    refine hx_aload_n C dJ10_copyOf_20 0 rfl rfl ?_
    refine hx_iconst C dJ10_copyOf_21 ?_
    refine hx_aload_n C dJ10_copyOf_22 1 rfl rfl ?_
    refine cx_alenK C hK ht11 dJ10_copyOf_23 ?_
    refine hx_iload_n C dJ10_copyOf_24 2 rfl rfl ?_
    obtain ⟨hr13, hw⟩ := hw
    obtain ⟨hr14, hw⟩ := hw
    refine cx_mmin (S := [aI 0, aR (some a9), aI 0, aR (some a1)]) C q945 q441 q97 q442 (by omega) (by simp [toV_cat, avc]; try omega) (by omega) (by omega) hr13 hr14 dJ10_copyOf_25 ?_
    obtain ⟨hc15, hx16, hw⟩ := hw
    refine cx_copyB (S := []) C hK q946 q485 q484 q98 ht11 ht12 hc15 hx16 (by omega) (by simp [toV_cat, avc, nativeFrameWords]; try omega) dJ10_copyOf_28 ?_
    refine hx_aload_n C dJ10_copyOf_31 0 rfl rfl ?_
    exact cx_aret C hQ (by omega) (by omega) (Or.inr ⟨_, rfl⟩) hw dJ10_copyOf_32
  · have hw := hw.2 h
    exact hw.elim
-- ('java/lang/AbstractStringBuilder', 'ensureCapacityInternal', '(I)V')
def wc_J8_ensureCapacityInternal_38 (X : cX) (Q : CM → Prop) (b : Nat) (μ : CM) : Prop := Q μ
set_option maxHeartbeats 4000000 in
theorem sc_J8_ensureCapacityInternal_38 {Z : zz} {X : cX} {μ0 : CM} {Q : CM → Prop} (C : gC Z cJ8_ensureCapacityInternal 3 RJ8 none 3 78) (hK : cCt Z X μ0) (hQ : zz_q Z = MQ (zz_b Z) (cQv X μ0 (zz_s Z).heap.size Q) (zz_a Z) (zz_s Z) (zz_R Z).cells (zz_R Z).slots (cA X μ0 (zz_s Z).heap.size))  : ∀ b μ, wc_J8_ensureCapacityInternal_38 X Q b μ → ∀ kk nn, (kk + b ≤ (zz_R Z).cells ∧ nn + 5 * b ≤ (zz_R Z).slots) → hG Z 3 (cI Z X μ0 μ) kk nn 38 [] [] := by
  intro b μ hw kk nn hb
  unfold wc_J8_ensureCapacityInternal_38 at hw
  exact cx_vret C hQ (by omega) (by omega) hw dJ8_ensureCapacityInternal_38
def wc_J8_ensureCapacityInternal (X : cX) (b : Nat) (l0 : Nat) (l1 : Int) (μ : CM) (Q : CM → Prop) : Prop := (tg μ l0 = 12 ∧ ∃ a2, (oR μ l0 0) = some a2 ∧ (tg μ a2 = 21 ∨ tg μ a2 = 26) ∧ R32 (l1 - (io_shr ((ln μ a2) : Int) (oI μ l0 1))) ∧ (((l1 - (io_shr ((ln μ a2) : Int) (oI μ l0 1))) ≤ 0 → wc_J8_ensureCapacityInternal_38 X   Q b μ) ∧ (0 < (l1 - (io_shr ((ln μ a2) : Int) (oI μ l0 1))) → wc_J8_newCapacity X l0 l1 μ (fun r6 μ7 => (tg μ7 l0 = 12 ∧ ∃ b9, b9 ≤ b ∧ wc_J10_copyOf X b9 (oR μ l0 0) (io_shl r6 (oI μ7 l0 1)) μ7 (fun r11 μ12 => tg μ12 l0 = 12 ∧ wc_J8_ensureCapacityInternal_38 X   Q (b - b9) (poR μ12 l0 0 r11)))))))
set_option maxHeartbeats 4000000 in
theorem sc_J8_ensureCapacityInternal (l : Launch) (X : cX) (sz : Nat) (Q : CM → Prop) (b : Nat) (l0 : Nat) (l1 : Int) (μ : CM) (hw : wc_J8_ensureCapacityInternal X b l0 l1 μ Q) : Met l yJ8_ensureCapacityInternal (ws_ yJ8_ensureCapacityInternal cJ8_ensureCapacityInternal 3 none) ({ frames := 3, cells := b, slots := 5 * b, locals := 78 }) (cPc X (([aR (some l0), aI l1] : List AV).map toV) μ sz) (cQv X μ sz Q) b (5 * b) (cA X μ sz) := by
  refine cx_met2 (rm := ({ frames := 3, cells := b, slots := 5 * b, locals := 78 })) (As := [aR (some l0), aI l1]) (L0 := [(0, aR (some l0)), (1, aI l1)]) (by decide) rfl (Nat.le_of_ble_eq_true rfl) rfl ?_
  intro Z C hK hsz hR hl0 hin hQ
  subst hsz
  have C : gC Z cJ8_ensureCapacityInternal 3 RJ8 none 3 78 := C
  have hQ : zz_q Z = MQ (zz_b Z) (cQv X μ (zz_s Z).heap.size Q) (zz_a Z) (zz_s Z) (zz_R Z).cells (zz_R Z).slots (cA X μ (zz_s Z).heap.size) := by rw [hR]; exact hQ
  have hb : 0 + b ≤ (zz_R Z).cells ∧ 0 + 5 * b ≤ (zz_R Z).slots := by rw [hR]; exact ⟨by dsimp only; omega, by dsimp only; omega⟩
  unfold wc_J8_ensureCapacityInternal at hw
  refine hx_aload_n C dJ8_ensureCapacityInternal_0 0 rfl rfl ?_
  obtain ⟨ht1, hw⟩ := hw
  refine cx_get (μ := μ) (v := aR (oR μ l0 0)) C hK 11 0 rfl in_J9 (by decide) q890 rfl (cdE_11 ht1) rfl dJ8_ensureCapacityInternal_1 ?_
  obtain ⟨a2, ha3, hw⟩ := hw
  rw [ha3]
  obtain ⟨ht4, hw⟩ := hw
  refine cx_alenK C hK ht4 dJ8_ensureCapacityInternal_4 ?_
  refine hx_aload_n C dJ8_ensureCapacityInternal_5 0 rfl rfl ?_
  refine cx_get (μ := μ) (v := aI (oI μ l0 1)) C hK 11 1 rfl in_J9 (by decide) q891 rfl (cdE_11 ht1) rfl dJ8_ensureCapacityInternal_6 ?_
  refine hx_ishr C dJ8_ensureCapacityInternal_9 ?_
  refine hx_istore_n (L' := [(2, aI (io_shr ((ln μ a2) : Int) (oI μ l0 1))), (0, aR (some l0)), (1, aI l1)]) C dJ8_ensureCapacityInternal_10 rfl (by decide) rfl ?_
  refine hx_iload_n C dJ8_ensureCapacityInternal_11 2 rfl rfl ?_
  refine hx_iload_n C dJ8_ensureCapacityInternal_12 0 rfl rfl ?_
  refine hx_isub C dJ8_ensureCapacityInternal_13 ?_
  obtain ⟨hr5, hw⟩ := hw
  refine hx_if_le (tgt := 38) C dJ8_ensureCapacityInternal_14 (by decide) hr5 (fun h => ?_) (fun h => ?_)
  · have hw := hw.1 h
    refine hx_L [] rfl ?_
    exact sc_J8_ensureCapacityInternal_38 C hK hQ  _ _ hw _ _ hb
  · have hw := hw.2 h
    refine hx_aload_n C dJ8_ensureCapacityInternal_17 1 rfl rfl ?_
    refine hx_aload_n C dJ8_ensureCapacityInternal_18 1 rfl rfl ?_
    refine cx_get (μ := μ) (v := aR (oR μ l0 0)) C hK 11 0 rfl in_J9 (by decide) q890 rfl (cdE_11 ht1) rfl dJ8_ensureCapacityInternal_19 ?_
    refine hx_aload_n C dJ8_ensureCapacityInternal_22 1 rfl rfl ?_
    refine hx_iload_n C dJ8_ensureCapacityInternal_23 2 rfl rfl ?_
    refine fun H locs hI ls hl => cx_ri (S := [aR (oR μ l0 0), aR (some l0)]) hI hl (fun _ h => h) (cr_P (ci := 11) (As := [toV (aI l1)]) (rest := [toV (aR (oR μ l0 0)), toV (aR (some l0))]) C hK hI hl 1 rfl (Or.inr (cdE_11 ht1)) (sc_J8_newCapacity _ X H.size _ _ _ _ hw) q920 q1813 (List.mem_of_getElem? (i := 6) rfl) q922 q104 q923 (by decide +kernel) ⟨rfl, rfl, Nat.le_of_ble_eq_true rfl, Nat.le_of_ble_eq_true rfl⟩ (av_W [aR (oR μ l0 0), aR (some l0)] 8 (Nat.le_of_ble_eq_true rfl)) dJ8_ensureCapacityInternal_24 rfl rfl ⟨by omega, by omega⟩) (fun r6 μ7 hw => ?_)
    refine hx_aload_n C dJ8_ensureCapacityInternal_27 1 rfl rfl ?_
    obtain ⟨ht8, hw⟩ := hw
    refine cx_get (μ := μ7) (v := aI (oI μ7 l0 1)) C hK 11 1 rfl in_J9 (by decide) q891 rfl (cdE_11 ht8) rfl dJ8_ensureCapacityInternal_28 ?_
    refine hx_ishl C dJ8_ensureCapacityInternal_31 ?_
    obtain ⟨b9, hu10, hw⟩ := hw
    refine fun H locs hI ls hl => cx_rr (S := [aR (some l0)]) hI hl (fun _ h => h) (cr_S (As := [toV (aR (oR μ l0 0)), toV (aI (io_shl r6 (oI μ7 l0 1)))]) (rest := [toV (aR (some l0))]) C hK hI hl 2 (sc_J10_copyOf _ X H.size _ b9 _ _ _ hw) (lw_S q935 q936 q106 q937) (by decide +kernel) ⟨rfl, rfl, Nat.le_of_ble_eq_true rfl, Nat.le_of_ble_eq_true rfl⟩ (av_W [aR (some l0)] 8 (Nat.le_of_ble_eq_true rfl)) dJ8_ensureCapacityInternal_32 rfl rfl ⟨by omega, by omega⟩) (fun r11 μ12 hw => ?_)
    obtain hb : (0 + b9) + (b - b9) ≤ (zz_R Z).cells ∧ (0 + 5 * b9) + 5 * (b - b9) ≤ (zz_R Z).slots := ⟨by omega, by omega⟩
    obtain ⟨ht13, hw⟩ := hw
    refine cx_put (μ := μ12) (μ' := (poR μ12 l0 0 r11)) C hK 11 0 rfl in_J9 tyJ9_ok nmJ9 (by decide) q890 rfl rfl (cdE_11 ht13) (Nat.le_of_ble_eq_true rfl) (cz_r (ty := tyJ9 0) rfl r11) (cset_11_0 μ12 l0 r11) (cdE_11 ht13) rfl rfl rfl (fun _ _ => rfl) (fun _ hb => stq_o hb) dJ8_ensureCapacityInternal_35 ?_
    refine hx_L [] rfl ?_
    exact sc_J8_ensureCapacityInternal_38 C hK hQ  _ _ hw _ _ hb
