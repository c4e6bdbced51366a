/-! walks of the component (printed by gen_comp) -/
set_option maxRecDepth 100000
-- ('BinderPress$Work', 'down', '(II)I')
def wc_X1_down_9b (X : cX) (P9 : Int → Int → Int → CM → Prop) (Q : Int → CM → Prop) (l2 : Int) (l3 : Int) (l4 : Int) (μ : CM) : Prop := R32 l4 ∧ R32 l2 ∧ ((l2 ≤ l4 → Q l3 μ) ∧ (l4 < l2 → (0 ≤ l3 ∧ l3 < 62000) ∧ wc_X1_self X (kI μ 21 (l3).toNat) μ (fun r4 μ5 => P9 l2 r4 (l4 + 1) μ5)))
set_option maxHeartbeats 4000000 in
theorem sc_X1_down_9b {Z : zz} {X : cX} {μ0 : CM} {Q : Int → CM → Prop} (C : gC Z cX1_down 5 RX1 (some .int) 1 22) (hK : cCt Z X μ0) (hQ : zz_q Z = MQ (zz_b Z) (cQi X μ0 (zz_s Z).heap.size Q) (zz_a Z) (zz_s Z) (zz_R Z).cells (zz_R Z).slots (cA X μ0 (zz_s Z).heap.size)) {P9 : Int → Int → Int → CM → Prop} (hP9 : ∀ l2 l3 l4 μ, P9 l2 l3 l4 μ → hG Z 5 (cI Z X μ0 μ) 0 0 9 [(0, aR (some (cX_a X 0))), (2, aI l2), (3, aI l3), (4, aI l4)] [])  : ∀ l2 l3 l4 μ, wc_X1_down_9b X P9 Q l2 l3 l4 μ → hG Z 5 (cI Z X μ0 μ) 0 0 9 [(0, aR (some (cX_a X 0))), (2, aI l2), (3, aI l3), (4, aI l4)] [] := by
  intro l2 l3 l4 μ hw
  unfold wc_X1_down_9b at hw
  refine hx_iload C dX1_down_9 3 rfl ?_
  refine hx_iload_n C dX1_down_11 1 rfl rfl ?_
  obtain ⟨hr1, hw⟩ := hw
  obtain ⟨hr2, hw⟩ := hw
  refine hx_icmp_ge (tgt := 32) C dX1_down_12 (by decide) hr1 hr2 (fun h => ?_) (fun h => ?_)
  · have hw := hw.1 h
    refine hx_iload_n C dX1_down_32 2 rfl rfl ?_
    exact cx_iret C hQ (by omega) (by omega) rfl hw dX1_down_33
  · have hw := hw.2 h
    refine hx_aload_n C dX1_down_15 0 rfl rfl ?_
    refine hx_aload_n C dX1_down_16 0 rfl rfl ?_
    refine cx_getS (μ := μ) (v := aR (some (cX_a X 21))) C hK 1 1 rfl in_X1 (by decide) q126 rfl rfl rfl dX1_down_17 ?_
    refine hx_iload_n C dX1_down_20 2 rfl rfl ?_
    obtain ⟨hx3, hw⟩ := hw
    refine cx_iald (μ := μ) (f := kI μ 21) C hK (Or.inl ⟨9, rfl⟩) hx3.1 hx3.2 (by decide) dX1_down_21 ?_
    refine fun H locs hI ls hl => cx_ri (S := []) hI hl (fun _ h => h) (cr_V (Cn := RX1) (As := [toV (aI (kI μ 21 (l3).toNat))]) (rest := []) C hK hI hl 1 (cv_dyn hK hI (ci := 1) rfl (Or.inl ⟨1, rfl⟩)) (sc_X1_self _ X H.size _ _ _ hw) (lw_V q704 q706 qs15 q85 q707) (by decide +kernel) ⟨rfl, rfl, Nat.le_of_ble_eq_true rfl, Nat.le_of_ble_eq_true rfl⟩ (av_W [] 8 (Nat.le_of_ble_eq_true rfl)) dX1_down_22 rfl rfl ⟨by omega, by omega⟩) (fun r4 μ5 hw => ?_)
    refine hx_istore_n (L' := [(3, aI r4), (0, aR (some (cX_a X 0))), (2, aI l2), (4, aI l4)]) C dX1_down_25 rfl (by decide) rfl ?_
    refine hx_iinc (L' := [(4, aI (l4 + 1)), (3, aI r4), (0, aR (some (cX_a X 0))), (2, aI l2)]) C dX1_down_26 3 rfl (by decide) rfl ?_
    refine hx_goto (tgt := 9) C dX1_down_29 (by decide) ?_
    refine hx_L [2, 3, 1, 0] rfl ?_
    exact hP9 _ _ _ _ hw
def wc_X1_down_9 (X : cX) (Q : Int → CM → Prop) (l2 : Int) (l3 : Int) (l4 : Int) (μ : CM) : Prop := ∀ P9 : Int → Int → Int → CM → Prop, (∀ l2 l3 l4 μ, wc_X1_down_9b X P9 Q l2 l3 l4 μ → P9 l2 l3 l4 μ) → P9 l2 l3 l4 μ
set_option maxHeartbeats 4000000 in
theorem sc_X1_down_9 {Z : zz} {X : cX} {μ0 : CM} {Q : Int → CM → Prop} (C : gC Z cX1_down 5 RX1 (some .int) 1 22) (hK : cCt Z X μ0) (hQ : zz_q Z = MQ (zz_b Z) (cQi X μ0 (zz_s Z).heap.size Q) (zz_a Z) (zz_s Z) (zz_R Z).cells (zz_R Z).slots (cA X μ0 (zz_s Z).heap.size))  : ∀ l2 l3 l4 μ, wc_X1_down_9 X Q l2 l3 l4 μ → hG Z 5 (cI Z X μ0 μ) 0 0 9 [(0, aR (some (cX_a X 0))), (2, aI l2), (3, aI l3), (4, aI l4)] [] := by
  intro l2 l3 l4 μ hw
  exact hw (fun l2 l3 l4 μ => hG Z 5 (cI Z X μ0 μ) 0 0 9 [(0, aR (some (cX_a X 0))), (2, aI l2), (3, aI l3), (4, aI l4)] []) (fun l2 l3 l4 μ hw => sc_X1_down_9b C hK hQ (fun _ _ _ _ h => h) l2 l3 l4 μ hw)
def wc_X1_down (X : cX) (l1 : Int) (l2 : Int) (μ : CM) (Q : Int → CM → Prop) : Prop := wc_X1_self X l1 μ (fun r1 μ2 => wc_X1_down_9 X   Q l2 r1 0 μ2)
set_option maxHeartbeats 4000000 in
theorem sc_X1_down (l : Launch) (X : cX) (sz : Nat) (Q : Int → CM → Prop) (l1 : Int) (l2 : Int) (μ : CM) (hw : wc_X1_down X l1 l2 μ Q) : Met l yX1_down (ws_ yX1_down cX1_down 5 (some .int)) ({ frames := 1, cells := 0, slots := 0, locals := 22 }) (cPc X (([aR (some (cX_a X 0)), aI l1, aI l2] : List AV).map toV) μ sz) (cQi X μ sz Q) 0 (0) (cA X μ sz) := by
  refine cx_met2 (rm := ({ frames := 1, cells := 0, slots := 0, locals := 22 })) (As := [aR (some (cX_a X 0)), aI l1, aI l2]) (L0 := [(0, aR (some (cX_a X 0))), (1, aI l1), (2, aI l2)]) (by decide) rfl (Nat.le_of_ble_eq_true rfl) rfl ?_
  intro Z C hK hsz hR hl0 hin hQ
  subst hsz
  have C : gC Z cX1_down 5 RX1 (some .int) 1 22 := C
  have hQ : zz_q Z = MQ (zz_b Z) (cQi X μ (zz_s Z).heap.size Q) (zz_a Z) (zz_s Z) (zz_R Z).cells (zz_R Z).slots (cA X μ (zz_s Z).heap.size) := by rw [hR]; exact hQ
  unfold wc_X1_down at hw
  refine hx_aload_n C dX1_down_0 0 rfl rfl ?_
  refine hx_iload_n C dX1_down_1 1 rfl rfl ?_
  refine fun H locs hI ls hl => cx_ri (S := []) hI hl (fun _ h => h) (cr_V (Cn := RX1) (As := [toV (aI l1)]) (rest := []) C hK hI hl 1 (cv_dyn hK hI (ci := 1) rfl (Or.inl ⟨1, rfl⟩)) (sc_X1_self _ X H.size _ _ _ hw) (lw_V q704 q706 qs15 q85 q707) (by decide +kernel) ⟨rfl, rfl, Nat.le_of_ble_eq_true rfl, Nat.le_of_ble_eq_true rfl⟩ (av_W [] 8 (Nat.le_of_ble_eq_true rfl)) dX1_down_2 rfl rfl ⟨by omega, by omega⟩) (fun r1 μ2 hw => ?_)
  refine hx_istore_n (L' := [(3, aI r1), (0, aR (some (cX_a X 0))), (1, aI l1), (2, aI l2)]) C dX1_down_5 rfl (by decide) rfl ?_
  refine hx_iconst C dX1_down_6 ?_
  refine hx_istore (L' := [(4, aI 0), (3, aI r1), (0, aR (some (cX_a X 0))), (1, aI l1), (2, aI l2)]) C dX1_down_7 (by decide) rfl ?_
  refine hx_L [2, 4, 1, 0] rfl ?_
  exact sc_X1_down_9 C hK hQ  _ _ _ _ hw
-- ('BinderPress$Work', 'wants', '(Ljava/lang/String;)I')
def wc_X1_wants_83 (X : cX) (Q : Int → CM → Prop) (l2 : Int) (μ : CM) : Prop := R32 l2 ∧ ((l2 = 0 → Q 1 μ) ∧ (l2 = 1 → Q 2 μ) ∧ (l2 = 2 → Q 300 μ) ∧ ((l2 < 0 ∨ 2 < l2) → Q 3 μ))
set_option maxHeartbeats 4000000 in
theorem sc_X1_wants_83 {Z : zz} {X : cX} {μ0 : CM} {Q : Int → CM → Prop} (C : gC Z cX1_wants 3 RX1 (some .int) 2 52) (hK : cCt Z X μ0) (hQ : zz_q Z = MQ (zz_b Z) (cQi X μ0 (zz_s Z).heap.size Q) (zz_a Z) (zz_s Z) (zz_R Z).cells (zz_R Z).slots (cA X μ0 (zz_s Z).heap.size))  : ∀ l2 μ, wc_X1_wants_83 X Q l2 μ → hG Z 3 (cI Z X μ0 μ) 0 0 83 [(2, aI l2)] [] := by
  intro l2 μ hw
  unfold wc_X1_wants_83 at hw
  refine hx_iload_n C dX1_wants_83 0 rfl rfl ?_
  obtain ⟨hr1, hw⟩ := hw
  rcases (show l2 = 0 ∨ l2 = 1 ∨ l2 = 2 ∨ (l2 < 0 ∨ 2 < l2) by omega) with h | h | h | h
  · have hw := hw.1 h
    refine hx_tableIn (tgt := 112) (off := 28) C 0 dX1_wants_84 h (by decide) (by decide) (by decide) rfl (by decide) ?_
    refine hx_iconst C dX1_wants_112 ?_
    exact cx_iret C hQ (by omega) (by omega) rfl hw dX1_wants_113
  · have hw := hw.2.1 h
    refine hx_tableIn (tgt := 114) (off := 30) C 1 dX1_wants_84 h (by decide) (by decide) (by decide) rfl (by decide) ?_
    refine hx_iconst C dX1_wants_114 ?_
    exact cx_iret C hQ (by omega) (by omega) rfl hw dX1_wants_115
  · have hw := hw.2.2.1 h
    refine hx_tableIn (tgt := 116) (off := 32) C 2 dX1_wants_84 h (by decide) (by decide) (by decide) rfl (by decide) ?_
    refine hx_sipush C dX1_wants_116 (by decide) ?_
    exact cx_iret C hQ (by omega) (by omega) rfl hw dX1_wants_119
  · have hw := hw.2.2.2 h
    refine hx_tableOut (tgt := 120) C dX1_wants_84 hr1 h (by decide) ?_
    refine hx_iconst C dX1_wants_120 ?_
    exact cx_iret C hQ (by omega) (by omega) rfl hw dX1_wants_121
def wc_X1_wants (X : cX) (l0 : Option Nat) (μ : CM) (Q : Int → CM → Prop) : Prop := (∃ a1, l0 = some a1 ∧ (tg μ a1 = 13 ∨ tg μ a1 = 14) ∧ wc_J0_hashCode X a1 μ (fun r3 μ4 => R32 r3 ∧ ((r3 = 0 → (tg μ4 a1 = 13 ∨ tg μ4 a1 = 14) ∧ wc_J0_equals X a1 (some (cX_s X 5)) μ4 (fun r7 μ8 => R32 r7 ∧ ((r7 = 0 → wc_X1_wants_83 X   Q (-1) μ8) ∧ (¬ r7 = 0 → wc_X1_wants_83 X   Q 2 μ8)))) ∧ (r3 = 73 → (tg μ4 a1 = 13 ∨ tg μ4 a1 = 14) ∧ wc_J0_equals X a1 (some (cX_s X 0)) μ4 (fun r11 μ12 => R32 r11 ∧ ((r11 = 0 → wc_X1_wants_83 X   Q (-1) μ12) ∧ (¬ r11 = 0 → wc_X1_wants_83 X   Q 0 μ12)))) ∧ (r3 = 75 → (tg μ4 a1 = 13 ∨ tg μ4 a1 = 14) ∧ wc_J0_equals X a1 (some (cX_s X 1)) μ4 (fun r15 μ16 => R32 r15 ∧ ((r15 = 0 → wc_X1_wants_83 X   Q (-1) μ16) ∧ (¬ r15 = 0 → wc_X1_wants_83 X   Q 1 μ16)))) ∧ ((¬ r3 = 0 ∧ ¬ r3 = 73 ∧ ¬ r3 = 75) → wc_X1_wants_83 X   Q (-1) μ4))))
set_option maxHeartbeats 4000000 in
theorem sc_X1_wants (l : Launch) (X : cX) (sz : Nat) (Q : Int → CM → Prop) (l0 : Option Nat) (μ : CM) (hw : wc_X1_wants X l0 μ Q) : Met l yX1_wants (ws_ yX1_wants cX1_wants 3 (some .int)) ({ frames := 2, cells := 0, slots := 0, locals := 52 }) (cPc X (([aR l0] : List AV).map toV) μ sz) (cQi X μ sz Q) 0 (0) (cA X μ sz) := by
  refine cx_met2 (rm := ({ frames := 2, cells := 0, slots := 0, locals := 52 })) (As := [aR l0]) (L0 := [(0, aR l0)]) (by decide) rfl (Nat.le_of_ble_eq_true rfl) rfl ?_
  intro Z C hK hsz hR hl0 hin hQ
  subst hsz
  have C : gC Z cX1_wants 3 RX1 (some .int) 2 52 := C
  have hQ : zz_q Z = MQ (zz_b Z) (cQi X μ (zz_s Z).heap.size Q) (zz_a Z) (zz_s Z) (zz_R Z).cells (zz_R Z).slots (cA X μ (zz_s Z).heap.size) := by rw [hR]; exact hQ
  unfold wc_X1_wants at hw
  refine hx_aload_n C dX1_wants_0 0 rfl rfl ?_
  refine hx_astore_n (L' := [(1, aR l0), (0, aR l0)]) C dX1_wants_1 rfl (by decide) rfl ?_
  refine hx_iconst C dX1_wants_2 ?_
  refine hx_istore_n (L' := [(2, aI (-1)), (1, aR l0), (0, aR l0)]) C dX1_wants_3 rfl (by decide) rfl ?_
  refine hx_aload_n C dX1_wants_4 1 rfl rfl ?_
  obtain ⟨a1, ha2, hw⟩ := hw
  rw [ha2]
  obtain ⟨ht5, hw⟩ := hw
  refine fun H locs hI ls hl => cx_ri (S := []) hI hl (fun _ h => h) (cr_V (Cn := RJ0) (As := []) (rest := []) C hK hI hl 0 (cv_str hK hI ht5) (sc_J0_hashCode _ X H.size _ _ _ hw) (lw_V q716 q717 q718 q88 q719) (by decide +kernel) ⟨rfl, rfl, Nat.le_of_ble_eq_true rfl, Nat.le_of_ble_eq_true rfl⟩ (av_W [] 8 (Nat.le_of_ble_eq_true rfl)) dX1_wants_5 rfl rfl ⟨by omega, by omega⟩) (fun r3 μ4 hw => ?_)
  obtain ⟨hr6, hw⟩ := hw
  rcases (show r3 = 0 ∨ r3 = 73 ∨ r3 = 75 ∨ (¬ r3 = 0 ∧ ¬ r3 = 73 ∧ ¬ r3 = 75) by omega) with h | h | h | h
  · have hw := hw.1 h
    refine hx_lookup (tgt := 72) (off := 64) C dX1_wants_8 hr6 rfl (by rw [h]; rfl) (by decide) ?_
    refine hx_aload_n C dX1_wants_72 1 rfl rfl ?_
    refine cx_ldcS (num := 5) (tx := "") C hK (List.mem_of_getElem? (i := 10) rfl) dX1_wants_73 ?_
    obtain ⟨ht9, hw⟩ := hw
    refine fun H locs hI ls hl => cx_ri (S := []) hI hl (fun _ h => h) (cr_V (Cn := RJ0) (As := [toV (aR (some (cX_s X 5)))]) (rest := []) C hK hI hl 1 (cv_str hK hI ht9) (sc_J0_equals _ X H.size _ _ _ _ hw) (lw_V q766 q767 q768 q88 q769) (by decide +kernel) ⟨rfl, rfl, Nat.le_of_ble_eq_true rfl, Nat.le_of_ble_eq_true rfl⟩ (av_W [] 8 (Nat.le_of_ble_eq_true rfl)) dX1_wants_75 rfl rfl ⟨by omega, by omega⟩) (fun r7 μ8 hw => ?_)
    obtain ⟨hr10, hw⟩ := hw
    refine hx_if_eq (tgt := 83) C dX1_wants_78 (by decide) hr10 (fun h => ?_) (fun h => ?_)
    · have hw := hw.1 h
      refine hx_L [0] rfl ?_
      exact sc_X1_wants_83 C hK hQ  _ _ hw
    · have hw := hw.2 h
      refine hx_iconst C dX1_wants_81 ?_
      refine hx_istore_n (L' := [(2, aI 2), (1, aR (some a1)), (0, aR (some a1))]) C dX1_wants_82 rfl (by decide) rfl ?_
      refine hx_L [0] rfl ?_
      exact sc_X1_wants_83 C hK hQ  _ _ hw
  · have hw := hw.2.1 h
    refine hx_lookup (tgt := 44) (off := 36) C dX1_wants_8 hr6 rfl (by rw [h]; rfl) (by decide) ?_
    refine hx_aload_n C dX1_wants_44 1 rfl rfl ?_
    refine cx_ldcS (num := 0) (tx := "I") C hK (List.mem_of_getElem? (i := 8) rfl) dX1_wants_45 ?_
    obtain ⟨ht13, hw⟩ := hw
    refine fun H locs hI ls hl => cx_ri (S := []) hI hl (fun _ h => h) (cr_V (Cn := RJ0) (As := [toV (aR (some (cX_s X 0)))]) (rest := []) C hK hI hl 1 (cv_str hK hI ht13) (sc_J0_equals _ X H.size _ _ _ _ hw) (lw_V q766 q767 q768 q88 q769) (by decide +kernel) ⟨rfl, rfl, Nat.le_of_ble_eq_true rfl, Nat.le_of_ble_eq_true rfl⟩ (av_W [] 8 (Nat.le_of_ble_eq_true rfl)) dX1_wants_47 rfl rfl ⟨by omega, by omega⟩) (fun r11 μ12 hw => ?_)
    obtain ⟨hr14, hw⟩ := hw
    refine hx_if_eq (tgt := 83) C dX1_wants_50 (by decide) hr14 (fun h => ?_) (fun h => ?_)
    · have hw := hw.1 h
      refine hx_L [0] rfl ?_
      exact sc_X1_wants_83 C hK hQ  _ _ hw
    · have hw := hw.2 h
      refine hx_iconst C dX1_wants_53 ?_
      refine hx_istore_n (L' := [(2, aI 0), (1, aR (some a1)), (0, aR (some a1))]) C dX1_wants_54 rfl (by decide) rfl ?_
      refine hx_goto (tgt := 83) C dX1_wants_55 (by decide) ?_
      refine hx_L [0] rfl ?_
      exact sc_X1_wants_83 C hK hQ  _ _ hw
  · have hw := hw.2.2.1 h
    refine hx_lookup (tgt := 58) (off := 50) C dX1_wants_8 hr6 rfl (by rw [h]; rfl) (by decide) ?_
    refine hx_aload_n C dX1_wants_58 1 rfl rfl ?_
    refine cx_ldcS (num := 1) (tx := "K") C hK (List.mem_of_getElem? (i := 9) rfl) dX1_wants_59 ?_
    obtain ⟨ht17, hw⟩ := hw
    refine fun H locs hI ls hl => cx_ri (S := []) hI hl (fun _ h => h) (cr_V (Cn := RJ0) (As := [toV (aR (some (cX_s X 1)))]) (rest := []) C hK hI hl 1 (cv_str hK hI ht17) (sc_J0_equals _ X H.size _ _ _ _ hw) (lw_V q766 q767 q768 q88 q769) (by decide +kernel) ⟨rfl, rfl, Nat.le_of_ble_eq_true rfl, Nat.le_of_ble_eq_true rfl⟩ (av_W [] 8 (Nat.le_of_ble_eq_true rfl)) dX1_wants_61 rfl rfl ⟨by omega, by omega⟩) (fun r15 μ16 hw => ?_)
    obtain ⟨hr18, hw⟩ := hw
    refine hx_if_eq (tgt := 83) C dX1_wants_64 (by decide) hr18 (fun h => ?_) (fun h => ?_)
    · have hw := hw.1 h
      refine hx_L [0] rfl ?_
      exact sc_X1_wants_83 C hK hQ  _ _ hw
    · have hw := hw.2 h
      refine hx_iconst C dX1_wants_67 ?_
      refine hx_istore_n (L' := [(2, aI 1), (1, aR (some a1)), (0, aR (some a1))]) C dX1_wants_68 rfl (by decide) rfl ?_
      refine hx_goto (tgt := 83) C dX1_wants_69 (by decide) ?_
      refine hx_L [0] rfl ?_
      exact sc_X1_wants_83 C hK hQ  _ _ hw
  · have hw := hw.2.2.2 h
    refine hx_lookup (tgt := 83) (off := 75) C dX1_wants_8 hr6 rfl (by simp only [Op.lookupswitch.offset, List.toList_toArray]; repeat (rw [if_neg (by omega)])) (by decide) ?_
    refine hx_L [0] rfl ?_
    exact sc_X1_wants_83 C hK hQ  _ _ hw
-- ('BinderPress$Work', 'copy', '(I)I')
def rmet_X1_copy (l : Launch) (X : cX) (fr lo : Nat) (rc : Int → CM → (Int → CM → Prop) → Prop) : Prop := ∀ (l1 : Int) (μ : CM) (sz : Nat) (Q : Int → CM → Prop), rc l1 μ Q → ∃ rm, crm rm 0 (0) fr lo 4 ∧ Met l yX1_copy (ws_ yX1_copy cX1_copy 4 (some .int)) rm (cPc X (([aR (some (cX_a X 0)), aI l1] : List AV).map toV) μ sz) (cQi X μ sz Q) 0 (0) (cA X μ sz)
def wc_X1_copy (X : cX) (rc : Int → CM → (Int → CM → Prop) → Prop) (l1 : Int) (μ : CM) (Q : Int → CM → Prop) : Prop := wc_X1_self X l1 μ (fun r1 μ2 => (0 ≤ r1 ∧ r1 < 62000) ∧ R32 (kI μ2 20 (r1).toNat) ∧ (((kI μ2 20 (r1).toNat) = 0 → (0 ≤ r1 ∧ r1 < 62000) ∧ rc (kI μ2 21 (r1).toNat) μ2 (fun r6 μ7 => (0 ≤ r1 ∧ r1 < 62000) ∧ rc (kI μ7 22 (r1).toNat) μ7 (fun r9 μ10 => wc_X1_cell X 0 r6 r9 μ10 (fun r11 μ12 => Q r11 μ12)))) ∧ (¬ (kI μ2 20 (r1).toNat) = 0 → Q r1 μ2)))
set_option maxHeartbeats 4000000 in
theorem sc_X1_copy (l : Launch) (X : cX) (sz : Nat) (Q : Int → CM → Prop) {rc : Int → CM → (Int → CM → Prop) → Prop} {fr lo : Nat} (hA : 1 ≤ fr) (hB : 23 ≤ lo) (hrc : rmet_X1_copy l X fr lo rc) (l1 : Int) (μ : CM) (hw : wc_X1_copy X rc l1 μ Q) : Met l yX1_copy (ws_ yX1_copy cX1_copy 4 (some .int)) ({ frames := (fr + 0), cells := 0, slots := 0, locals := (lo + 0) }) (cPc X (([aR (some (cX_a X 0)), aI l1] : List AV).map toV) μ sz) (cQi X μ sz Q) 0 (0) (cA X μ sz) := by
  refine cx_met2 (rm := ({ frames := (fr + 0), cells := 0, slots := 0, locals := (lo + 0) })) (As := [aR (some (cX_a X 0)), aI l1]) (L0 := [(0, aR (some (cX_a X 0))), (1, aI l1)]) (by decide) rfl (Nat.le_of_ble_eq_true rfl) rfl ?_
  intro Z C hK hsz hR hl0 hin hQ
  subst hsz
  have C : gC Z cX1_copy 4 RX1 (some .int) (fr + 0) (lo + 0) := C
  rw [← hl0] at hrc
  have hQ : zz_q Z = MQ (zz_b Z) (cQi X μ (zz_s Z).heap.size Q) (zz_a Z) (zz_s Z) (zz_R Z).cells (zz_R Z).slots (cA X μ (zz_s Z).heap.size) := by rw [hR]; exact hQ
  unfold wc_X1_copy at hw
  refine hx_aload_n C dX1_copy_0 0 rfl rfl ?_
  refine hx_iload_n C dX1_copy_1 1 rfl rfl ?_
  refine fun H locs hI ls hl => cx_ri (S := []) hI hl (fun _ h => h) (cr_V (Cn := RX1) (As := [toV (aI l1)]) (rest := []) C hK hI hl 1 (cv_dyn hK hI (ci := 1) rfl (Or.inl ⟨1, rfl⟩)) (sc_X1_self _ X H.size _ _ _ hw) (lw_V q704 q706 qs15 q85 q707) (by decide +kernel) ⟨rfl, rfl, by (dsimp only; omega), by (dsimp only; omega)⟩ (av_W [] 8 (Nat.le_of_ble_eq_true rfl)) dX1_copy_2 rfl rfl ⟨by omega, by omega⟩) (fun r1 μ2 hw => ?_)
  refine hx_istore_n (L' := [(2, aI r1), (0, aR (some (cX_a X 0))), (1, aI l1)]) C dX1_copy_5 rfl (by decide) rfl ?_
  refine hx_aload_n C dX1_copy_6 1 rfl rfl ?_
  refine cx_getS (μ := μ2) (v := aR (some (cX_a X 20))) C hK 1 0 rfl in_X1 (by decide) q125 rfl rfl rfl dX1_copy_7 ?_
  refine hx_iload_n C dX1_copy_10 0 rfl rfl ?_
  obtain ⟨hx3, hw⟩ := hw
  refine cx_iald (μ := μ2) (f := kI μ2 20) C hK (Or.inl ⟨8, rfl⟩) hx3.1 hx3.2 (by decide) dX1_copy_11 ?_
  obtain ⟨hr4, hw⟩ := hw
  refine hx_if_eq (tgt := 17) C dX1_copy_12 (by decide) hr4 (fun h => ?_) (fun h => ?_)
  · have hw := hw.1 h
    refine hx_aload_n C dX1_copy_17 1 rfl rfl ?_
    refine hx_aload_n C dX1_copy_18 1 rfl rfl ?_
    refine cx_getS (μ := μ2) (v := aR (some (cX_a X 21))) C hK 1 1 rfl in_X1 (by decide) q126 rfl rfl rfl dX1_copy_19 ?_
    refine hx_iload_n C dX1_copy_22 0 rfl rfl ?_
    obtain ⟨hx5, hw⟩ := hw
    refine cx_iald (μ := μ2) (f := kI μ2 21) C hK (Or.inl ⟨9, rfl⟩) hx5.1 hx5.2 (by decide) dX1_copy_23 ?_
    refine fun H locs hI ls hl => cx_ri (S := []) hI hl (fun _ h => h) (dr_V (Cn := RX1) (As := [toV (aI (kI μ2 21 (r1).toNat))]) (rest := []) C hK hI hl 1 (cv_dyn hK hI (ci := 1) rfl (Or.inl ⟨1, rfl⟩)) (hrc _ _ H.size _ hw) (by omega) (by omega) (lw_V q782 q784 qs18 q85 q785) (by decide +kernel) (av_W [] 8 (Nat.le_of_ble_eq_true rfl)) dX1_copy_24 rfl rfl ⟨by omega, by omega⟩) (fun r6 μ7 hw => ?_)
    refine hx_istore_n (L' := [(3, aI r6), (2, aI r1), (0, aR (some (cX_a X 0))), (1, aI l1)]) C dX1_copy_27 rfl (by decide) rfl ?_
    refine hx_aload_n C dX1_copy_28 2 rfl rfl ?_
    refine hx_iconst C dX1_copy_29 ?_
    refine hx_iload_n C dX1_copy_30 0 rfl rfl ?_
    refine hx_aload_n C dX1_copy_31 2 rfl rfl ?_
    refine hx_aload_n C dX1_copy_32 2 rfl rfl ?_
    refine cx_getS (μ := μ7) (v := aR (some (cX_a X 22))) C hK 1 2 rfl in_X1 (by decide) q127 rfl rfl rfl dX1_copy_33 ?_
    refine hx_iload_n C dX1_copy_36 1 rfl rfl ?_
    obtain ⟨hx8, hw⟩ := hw
    refine cx_iald (μ := μ7) (f := kI μ7 22) C hK (Or.inl ⟨10, rfl⟩) hx8.1 hx8.2 (by decide) dX1_copy_37 ?_
    refine fun H locs hI ls hl => cx_ri (S := [aI r6, aI 0, aR (some (cX_a X 0))]) hI hl (fun _ h => h) (dr_V (Cn := RX1) (As := [toV (aI (kI μ7 22 (r1).toNat))]) (rest := [toV (aI r6), toV (aI 0), toV (aR (some (cX_a X 0)))]) C hK hI hl 1 (cv_dyn hK hI (ci := 1) rfl (Or.inl ⟨1, rfl⟩)) (hrc _ _ H.size _ hw) (by omega) (by omega) (lw_V q782 q784 qs18 q85 q785) (by decide +kernel) (av_W [aI r6, aI 0, aR (some (cX_a X 0))] 8 (Nat.le_of_ble_eq_true rfl)) dX1_copy_38 rfl rfl ⟨by omega, by omega⟩) (fun r9 μ10 hw => ?_)
    refine fun H locs hI ls hl => cx_ri (S := []) hI hl (fun _ h => h) (cr_V (Cn := RX1) (As := [toV (aI 0), toV (aI r6), toV (aI r9)]) (rest := []) C hK hI hl 3 (cv_dyn hK hI (ci := 1) rfl (Or.inl ⟨1, rfl⟩)) (sc_X1_cell _ X H.size _ _ _ _ _ hw) (lw_V q648 q650 qs12 q85 q651) (by decide +kernel) ⟨rfl, rfl, by (dsimp only; omega), by (dsimp only; omega)⟩ (av_W [] 8 (Nat.le_of_ble_eq_true rfl)) dX1_copy_41 rfl rfl ⟨by omega, by omega⟩) (fun r11 μ12 hw => ?_)
    exact cx_iret C hQ (by omega) (by omega) rfl hw dX1_copy_44
  · have hw := hw.2 h
    refine hx_iload_n C dX1_copy_15 0 rfl rfl ?_
    exact cx_iret C hQ (by omega) (by omega) rfl hw dX1_copy_16
def wr_X1_copy (X : cX) : Nat → Int → CM → (Int → CM → Prop) → Prop
  | 0 => fun _ _ _ => False
  | d + 1 => wc_X1_copy X (wr_X1_copy X d)
set_option maxHeartbeats 4000000 in
theorem rr_X1_copy (l : Launch) (X : cX) : ∀ d, rmet_X1_copy l X (1 + 1 * d) (23 + 23 * d) (wr_X1_copy X d) := by
  intro d
  induction d with
  | zero => intro l1 μ sz Q h; exact h.elim
  | succ d ih =>
    intro l1 μ sz Q h
    exact ⟨_, ⟨rfl, rfl, by first | omega | (dsimp only; omega), by first | omega | (dsimp only; omega)⟩, sc_X1_copy l X sz Q (by omega) (by omega) ih l1 μ h⟩
-- ('BinderPress$Work', 'take', '(ILjava/lang/String;II)V')
def wc_X1_take_269 (X : cX) (Q : CM → Prop) (μ : CM) : Prop := Q μ
set_option maxHeartbeats 4000000 in
theorem sc_X1_take_269 {Z : zz} {X : cX} {μ0 : CM} {Q : CM → Prop} (C : gC Z cX1_take 8 RX1 none 312 7176) (hK : cCt Z X μ0) (hQ : zz_q Z = MQ (zz_b Z) (cQv X μ0 (zz_s Z).heap.size Q) (zz_a Z) (zz_s Z) (zz_R Z).cells (zz_R Z).slots (cA X μ0 (zz_s Z).heap.size))  : ∀ μ, wc_X1_take_269 X Q μ → hG Z 8 (cI Z X μ0 μ) 0 0 269 [] [] := by
  intro μ hw
  unfold wc_X1_take_269 at hw
  exact cx_vret C hQ (by omega) (by omega) hw dX1_take_269
def wc_X1_take_215 (X : cX) (Q : CM → Prop) (s0 : Option Nat) (s1 : Int) (s3 : Int) (s4 : Int) (s5 : Int) (μ : CM) : Prop := wc_X1_cell X s3 s4 s5 μ (fun r1 μ2 => (∃ a3, s0 = some a3 ∧ tg μ2 a3 = 20 ∧ (0 ≤ s1 ∧ s1 < ((ln μ2 a3) : Int)) ∧ (ln μ2 a3) < 2147483648 ∧ wc_X1_take_269 X   Q (poI μ2 a3 (s1).toNat r1)))
set_option maxHeartbeats 4000000 in
theorem sc_X1_take_215 {Z : zz} {X : cX} {μ0 : CM} {Q : CM → Prop} (C : gC Z cX1_take 8 RX1 none 312 7176) (hK : cCt Z X μ0) (hQ : zz_q Z = MQ (zz_b Z) (cQv X μ0 (zz_s Z).heap.size Q) (zz_a Z) (zz_s Z) (zz_R Z).cells (zz_R Z).slots (cA X μ0 (zz_s Z).heap.size))  : ∀ s0 s1 s3 s4 s5 μ, wc_X1_take_215 X Q s0 s1 s3 s4 s5 μ → hG Z 8 (cI Z X μ0 μ) 0 0 215 [] [aI s5, aI s4, aI s3, aR (some (cX_a X 0)), aI s1, aR s0] := by
  intro s0 s1 s3 s4 s5 μ hw
  unfold wc_X1_take_215 at hw
  refine fun H locs hI ls hl => cx_ri (S := [aI s1, aR s0]) hI hl (fun _ h => h) (cr_V (Cn := RX1) (As := [toV (aI s3), toV (aI s4), toV (aI s5)]) (rest := [toV (aI s1), toV (aR s0)]) C hK hI hl 3 (cv_dyn hK hI (ci := 1) rfl (Or.inl ⟨1, rfl⟩)) (sc_X1_cell _ X H.size _ _ _ _ _ hw) (lw_V q648 q650 qs12 q85 q651) (by decide +kernel) ⟨rfl, rfl, Nat.le_of_ble_eq_true rfl, Nat.le_of_ble_eq_true rfl⟩ (av_W [aI s1, aR s0] 8 (Nat.le_of_ble_eq_true rfl)) dX1_take_215 rfl rfl ⟨by omega, by omega⟩) (fun r1 μ2 hw => ?_)
  obtain ⟨a3, ha4, hw⟩ := hw
  rw [ha4]
  obtain ⟨ht5, hw⟩ := hw
  obtain ⟨hx6, hw⟩ := hw
  obtain ⟨hl7, hw⟩ := hw
  refine cx_iast (μ := μ2) (μ' := (poI μ2 a3 (s1).toNat r1)) (len := (ln μ2 a3)) C hK (cu_oI ht5) hx6.1 hx6.2 hl7 dX1_take_218 ?_
  refine hx_goto (tgt := 269) C dX1_take_219 (by decide) ?_
  refine hx_L [] rfl ?_
  exact sc_X1_take_269 C hK hQ  _ hw
def wc_X1_take_121 (X : cX) (Q : CM → Prop) (l1 : Int) (l3 : Int) (l4 : Int) (l5 : Int) (l7 : Int) (μ : CM) : Prop := R32 l7 ∧ ((l7 = 0 → (0 ≤ l1 ∧ l1 < 62000) ∧ wc_X1_take_269 X   Q (pkI μ 23 (l1).toNat l5)) ∧ (l7 = 1 → (0 ≤ l1 ∧ l1 < 62000) ∧ wc_X1_take_269 X   Q (pkI μ 23 (l1).toNat l4)) ∧ (l7 = 2 → wc_X1_cell X 0 l3 l5 μ (fun r4 μ5 => (0 ≤ l1 ∧ l1 < 62000) ∧ R32 (kI μ5 26 0) ∧ (((kI μ5 26 0) = 0 → wr_X1_copy X 310 l5 (pkI μ5 21 (l1).toNat r4) (fun r8 μ9 => wc_X1_take_215 X   Q (some (cX_a X 22)) l1 0 l4 r8 μ9)) ∧ (¬ (kI μ5 26 0) = 0 → wc_X1_take_215 X   Q (some (cX_a X 22)) l1 0 l4 l5 (pkI μ5 21 (l1).toNat r4))))) ∧ (l7 = 3 → (0 ≤ l1 ∧ l1 < 62000) ∧ wc_X1_cell X 0 l4 l5 (pkI μ 21 (l1).toNat l3) (fun r11 μ12 => (0 ≤ l1 ∧ l1 < 62000) ∧ wc_X1_take_269 X   Q (pkI μ12 22 (l1).toNat r11))) ∧ ((l7 < 0 ∨ 3 < l7) → wc_X1_cell X 0 l3 l5 μ (fun r14 μ15 => (0 ≤ l1 ∧ l1 < 62000) ∧ (0 ≤ l1 ∧ l1 < 62000) ∧ wc_X1_take_269 X   Q (pkI (pkI μ15 21 (l1).toNat r14) 22 (l1).toNat l4))))
set_option maxHeartbeats 4000000 in
theorem sc_X1_take_121 {Z : zz} {X : cX} {μ0 : CM} {Q : CM → Prop} (C : gC Z cX1_take 8 RX1 none 312 7176) (hK : cCt Z X μ0) (hQ : zz_q Z = MQ (zz_b Z) (cQv X μ0 (zz_s Z).heap.size Q) (zz_a Z) (zz_s Z) (zz_R Z).cells (zz_R Z).slots (cA X μ0 (zz_s Z).heap.size))  : ∀ l1 l3 l4 l5 l7 μ, wc_X1_take_121 X Q l1 l3 l4 l5 l7 μ → hG Z 8 (cI Z X μ0 μ) 0 0 121 [(0, aR (some (cX_a X 0))), (1, aI l1), (3, aI l3), (4, aI l4), (5, aI l5), (7, aI l7)] [] := by
  intro l1 l3 l4 l5 l7 μ hw
  unfold wc_X1_take_121 at hw
  refine hx_iload C dX1_take_121 5 rfl ?_
  obtain ⟨hr1, hw⟩ := hw
  rcases (show l7 = 0 ∨ l7 = 1 ∨ l7 = 2 ∨ l7 = 3 ∨ (l7 < 0 ∨ 3 < l7) by omega) with h | h | h | h | h
  · have hw := hw.1 h
    refine hx_tableIn (tgt := 152) (off := 29) C 0 dX1_take_123 h (by decide) (by decide) (by decide) rfl (by decide) ?_
    refine hx_aload_n C dX1_take_152 0 rfl rfl ?_
    refine cx_getS (μ := μ) (v := aR (some (cX_a X 23))) C hK 1 3 rfl in_X1 (by decide) q128 rfl rfl rfl dX1_take_153 ?_
    refine hx_iload_n C dX1_take_156 1 rfl rfl ?_
    refine hx_iload C dX1_take_157 4 rfl ?_
    obtain ⟨hx2, hw⟩ := hw
    refine cx_iast (μ := μ) (μ' := (pkI μ 23 (l1).toNat l5)) C hK (cu_S 11 rfl (csb_23 X _ _ _) rfl rfl rfl rfl) hx2.1 hx2.2 (by decide) dX1_take_159 ?_
    refine hx_goto (tgt := 269) C dX1_take_160 (by decide) ?_
    refine hx_L [] rfl ?_
    exact sc_X1_take_269 C hK hQ  _ hw
  · have hw := hw.2.1 h
    refine hx_tableIn (tgt := 163) (off := 40) C 1 dX1_take_123 h (by decide) (by decide) (by decide) rfl (by decide) ?_
    refine hx_aload_n C dX1_take_163 0 rfl rfl ?_
    refine cx_getS (μ := μ) (v := aR (some (cX_a X 23))) C hK 1 3 rfl in_X1 (by decide) q128 rfl rfl rfl dX1_take_164 ?_
    refine hx_iload_n C dX1_take_167 1 rfl rfl ?_
    refine hx_iload C dX1_take_168 3 rfl ?_
    obtain ⟨hx3, hw⟩ := hw
    refine cx_iast (μ := μ) (μ' := (pkI μ 23 (l1).toNat l4)) C hK (cu_S 11 rfl (csb_23 X _ _ _) rfl rfl rfl rfl) hx3.1 hx3.2 (by decide) dX1_take_170 ?_
    refine hx_goto (tgt := 269) C dX1_take_171 (by decide) ?_
    refine hx_L [] rfl ?_
    exact sc_X1_take_269 C hK hQ  _ hw
  · have hw := hw.2.2.1 h
    refine hx_tableIn (tgt := 174) (off := 51) C 2 dX1_take_123 h (by decide) (by decide) (by decide) rfl (by decide) ?_
    refine hx_aload_n C dX1_take_174 0 rfl rfl ?_
    refine cx_getS (μ := μ) (v := aR (some (cX_a X 21))) C hK 1 1 rfl in_X1 (by decide) q126 rfl rfl rfl dX1_take_175 ?_
    refine hx_iload_n C dX1_take_178 1 rfl rfl ?_
    refine hx_aload_n C dX1_take_179 0 rfl rfl ?_
    refine hx_iconst C dX1_take_180 ?_
    refine hx_iload_n C dX1_take_181 2 rfl rfl ?_
    refine hx_iload C dX1_take_182 4 rfl ?_
    refine fun H locs hI ls hl => cx_ri (S := [aI l1, aR (some (cX_a X 21))]) hI hl (fun _ h => h) (cr_V (Cn := RX1) (As := [toV (aI 0), toV (aI l3), toV (aI l5)]) (rest := [toV (aI l1), toV (aR (some (cX_a X 21)))]) C hK hI hl 3 (cv_dyn hK hI (ci := 1) rfl (Or.inl ⟨1, rfl⟩)) (sc_X1_cell _ X H.size _ _ _ _ _ hw) (lw_V q648 q650 qs12 q85 q651) (by decide +kernel) ⟨rfl, rfl, Nat.le_of_ble_eq_true rfl, Nat.le_of_ble_eq_true rfl⟩ (av_W [aI l1, aR (some (cX_a X 21))] 8 (Nat.le_of_ble_eq_true rfl)) dX1_take_184 rfl rfl ⟨by omega, by omega⟩) (fun r4 μ5 hw => ?_)
    obtain ⟨hx6, hw⟩ := hw
    refine cx_iast (μ := μ5) (μ' := (pkI μ5 21 (l1).toNat r4)) C hK (cu_S 9 rfl (csb_21 X _ _ _) rfl rfl rfl rfl) hx6.1 hx6.2 (by decide) dX1_take_187 ?_
    refine hx_aload_n C dX1_take_188 0 rfl rfl ?_
    refine cx_getS (μ := (pkI μ5 21 (l1).toNat r4)) (v := aR (some (cX_a X 22))) C hK 1 2 rfl in_X1 (by decide) q127 rfl rfl rfl dX1_take_189 ?_
    refine hx_iload_n C dX1_take_192 1 rfl rfl ?_
    refine hx_aload_n C dX1_take_193 0 rfl rfl ?_
    refine hx_iconst C dX1_take_194 ?_
    refine hx_iload C dX1_take_195 3 rfl ?_
    refine hx_aload_n C dX1_take_197 0 rfl rfl ?_
    refine cx_getS (μ := (pkI μ5 21 (l1).toNat r4)) (v := aI (kI μ5 26 0)) C hK 1 6 rfl in_X1 (by decide) q131 rfl rfl rfl dX1_take_198 ?_
    obtain ⟨hr7, hw⟩ := hw
    refine hx_if_eq (tgt := 209) C dX1_take_201 (by decide) hr7 (fun h => ?_) (fun h => ?_)
    · have hw := hw.1 h
      refine hx_aload_n C dX1_take_209 0 rfl rfl ?_
      refine hx_iload C dX1_take_210 4 rfl ?_
      refine fun H locs hI ls hl => cx_ri (S := [aI l4, aI 0, aR (some (cX_a X 0)), aI l1, aR (some (cX_a X 22))]) hI hl (fun _ h => h) (dr_V (Cn := RX1) (As := [toV (aI l5)]) (rest := [toV (aI l4), toV (aI 0), toV (aR (some (cX_a X 0))), toV (aI l1), toV (aR (some (cX_a X 22)))]) C hK hI hl 1 (cv_dyn hK hI (ci := 1) rfl (Or.inl ⟨1, rfl⟩)) ((rr_X1_copy _ X 310) _ _ H.size _ hw) (by omega) (by omega) (lw_V q782 q784 qs18 q85 q785) (by decide +kernel) (av_W [aI l4, aI 0, aR (some (cX_a X 0)), aI l1, aR (some (cX_a X 22))] 8 (Nat.le_of_ble_eq_true rfl)) dX1_take_212 rfl rfl ⟨by omega, by omega⟩) (fun r8 μ9 hw => ?_)
      refine hx_L [] rfl ?_
      exact sc_X1_take_215 C hK hQ  _ _ _ _ _ _ hw
    · have hw := hw.2 h
      refine hx_iload C dX1_take_204 4 rfl ?_
      refine hx_goto (tgt := 215) C dX1_take_206 (by decide) ?_
      refine hx_L [] rfl ?_
      exact sc_X1_take_215 C hK hQ  _ _ _ _ _ _ hw
  · have hw := hw.2.2.2.1 h
    refine hx_tableIn (tgt := 222) (off := 99) C 3 dX1_take_123 h (by decide) (by decide) (by decide) rfl (by decide) ?_
    refine hx_aload_n C dX1_take_222 0 rfl rfl ?_
    refine cx_getS (μ := μ) (v := aR (some (cX_a X 21))) C hK 1 1 rfl in_X1 (by decide) q126 rfl rfl rfl dX1_take_223 ?_
    refine hx_iload_n C dX1_take_226 1 rfl rfl ?_
    refine hx_iload_n C dX1_take_227 2 rfl rfl ?_
    obtain ⟨hx10, hw⟩ := hw
    refine cx_iast (μ := μ) (μ' := (pkI μ 21 (l1).toNat l3)) C hK (cu_S 9 rfl (csb_21 X _ _ _) rfl rfl rfl rfl) hx10.1 hx10.2 (by decide) dX1_take_228 ?_
    refine hx_aload_n C dX1_take_229 0 rfl rfl ?_
    refine cx_getS (μ := (pkI μ 21 (l1).toNat l3)) (v := aR (some (cX_a X 22))) C hK 1 2 rfl in_X1 (by decide) q127 rfl rfl rfl dX1_take_230 ?_
    refine hx_iload_n C dX1_take_233 1 rfl rfl ?_
    refine hx_aload_n C dX1_take_234 0 rfl rfl ?_
    refine hx_iconst C dX1_take_235 ?_
    refine hx_iload C dX1_take_236 3 rfl ?_
    refine hx_iload C dX1_take_238 4 rfl ?_
    refine fun H locs hI ls hl => cx_ri (S := [aI l1, aR (some (cX_a X 22))]) hI hl (fun _ h => h) (cr_V (Cn := RX1) (As := [toV (aI 0), toV (aI l4), toV (aI l5)]) (rest := [toV (aI l1), toV (aR (some (cX_a X 22)))]) C hK hI hl 3 (cv_dyn hK hI (ci := 1) rfl (Or.inl ⟨1, rfl⟩)) (sc_X1_cell _ X H.size _ _ _ _ _ hw) (lw_V q648 q650 qs12 q85 q651) (by decide +kernel) ⟨rfl, rfl, Nat.le_of_ble_eq_true rfl, Nat.le_of_ble_eq_true rfl⟩ (av_W [aI l1, aR (some (cX_a X 22))] 8 (Nat.le_of_ble_eq_true rfl)) dX1_take_240 rfl rfl ⟨by omega, by omega⟩) (fun r11 μ12 hw => ?_)
    obtain ⟨hx13, hw⟩ := hw
    refine cx_iast (μ := μ12) (μ' := (pkI μ12 22 (l1).toNat r11)) C hK (cu_S 10 rfl (csb_22 X _ _ _) rfl rfl rfl rfl) hx13.1 hx13.2 (by decide) dX1_take_243 ?_
    refine hx_goto (tgt := 269) C dX1_take_244 (by decide) ?_
    refine hx_L [] rfl ?_
    exact sc_X1_take_269 C hK hQ  _ hw
  · have hw := hw.2.2.2.2 h
    refine hx_tableOut (tgt := 247) C dX1_take_123 hr1 h (by decide) ?_
    refine hx_aload_n C dX1_take_247 0 rfl rfl ?_
    refine cx_getS (μ := μ) (v := aR (some (cX_a X 21))) C hK 1 1 rfl in_X1 (by decide) q126 rfl rfl rfl dX1_take_248 ?_
    refine hx_iload_n C dX1_take_251 1 rfl rfl ?_
    refine hx_aload_n C dX1_take_252 0 rfl rfl ?_
    refine hx_iconst C dX1_take_253 ?_
    refine hx_iload_n C dX1_take_254 2 rfl rfl ?_
    refine hx_iload C dX1_take_255 4 rfl ?_
    refine fun H locs hI ls hl => cx_ri (S := [aI l1, aR (some (cX_a X 21))]) hI hl (fun _ h => h) (cr_V (Cn := RX1) (As := [toV (aI 0), toV (aI l3), toV (aI l5)]) (rest := [toV (aI l1), toV (aR (some (cX_a X 21)))]) C hK hI hl 3 (cv_dyn hK hI (ci := 1) rfl (Or.inl ⟨1, rfl⟩)) (sc_X1_cell _ X H.size _ _ _ _ _ hw) (lw_V q648 q650 qs12 q85 q651) (by decide +kernel) ⟨rfl, rfl, Nat.le_of_ble_eq_true rfl, Nat.le_of_ble_eq_true rfl⟩ (av_W [aI l1, aR (some (cX_a X 21))] 8 (Nat.le_of_ble_eq_true rfl)) dX1_take_257 rfl rfl ⟨by omega, by omega⟩) (fun r14 μ15 hw => ?_)
    obtain ⟨hx16, hw⟩ := hw
    refine cx_iast (μ := μ15) (μ' := (pkI μ15 21 (l1).toNat r14)) C hK (cu_S 9 rfl (csb_21 X _ _ _) rfl rfl rfl rfl) hx16.1 hx16.2 (by decide) dX1_take_260 ?_
    refine hx_aload_n C dX1_take_261 0 rfl rfl ?_
    refine cx_getS (μ := (pkI μ15 21 (l1).toNat r14)) (v := aR (some (cX_a X 22))) C hK 1 2 rfl in_X1 (by decide) q127 rfl rfl rfl dX1_take_262 ?_
    refine hx_iload_n C dX1_take_265 1 rfl rfl ?_
    refine hx_iload C dX1_take_266 3 rfl ?_
    obtain ⟨hx17, hw⟩ := hw
    refine cx_iast (μ := (pkI μ15 21 (l1).toNat r14)) (μ' := (pkI (pkI μ15 21 (l1).toNat r14) 22 (l1).toNat l4)) C hK (cu_S 10 rfl (csb_22 X _ _ _) rfl rfl rfl rfl) hx17.1 hx17.2 (by decide) dX1_take_268 ?_
    refine hx_L [] rfl ?_
    exact sc_X1_take_269 C hK hQ  _ hw
def wc_X1_take (X : cX) (l1 : Int) (l2 : Option Nat) (l3 : Int) (l4 : Int) (μ : CM) (Q : CM → Prop) : Prop := ((0 ≤ l1 ∧ l1 < 62000) ∧ ∃ a2, l2 = some a2 ∧ (tg μ a2 = 13 ∨ tg μ a2 = 14) ∧ wc_J0_hashCode X a2 μ (fun r4 μ5 => R32 r4 ∧ ((r4 = 66 → (tg μ5 a2 = 13 ∨ tg μ5 a2 = 14) ∧ wc_J0_equals X a2 (some (cX_s X 3)) μ5 (fun r8 μ9 => R32 r8 ∧ ((r8 = 0 → wc_X1_take_121 X   Q l1 l3 l4 (kI μ 22 (l1).toNat) (-1) μ9) ∧ (¬ r8 = 0 → wc_X1_take_121 X   Q l1 l3 l4 (kI μ 22 (l1).toNat) 3 μ9)))) ∧ (r4 = 73 → (tg μ5 a2 = 13 ∨ tg μ5 a2 = 14) ∧ wc_J0_equals X a2 (some (cX_s X 0)) μ5 (fun r12 μ13 => R32 r12 ∧ ((r12 = 0 → wc_X1_take_121 X   Q l1 l3 l4 (kI μ 22 (l1).toNat) (-1) μ13) ∧ (¬ r12 = 0 → wc_X1_take_121 X   Q l1 l3 l4 (kI μ 22 (l1).toNat) 0 μ13)))) ∧ (r4 = 75 → (tg μ5 a2 = 13 ∨ tg μ5 a2 = 14) ∧ wc_J0_equals X a2 (some (cX_s X 1)) μ5 (fun r16 μ17 => R32 r16 ∧ ((r16 = 0 → wc_X1_take_121 X   Q l1 l3 l4 (kI μ 22 (l1).toNat) (-1) μ17) ∧ (¬ r16 = 0 → wc_X1_take_121 X   Q l1 l3 l4 (kI μ 22 (l1).toNat) 1 μ17)))) ∧ (r4 = 83 → (tg μ5 a2 = 13 ∨ tg μ5 a2 = 14) ∧ wc_J0_equals X a2 (some (cX_s X 2)) μ5 (fun r20 μ21 => R32 r20 ∧ ((r20 = 0 → wc_X1_take_121 X   Q l1 l3 l4 (kI μ 22 (l1).toNat) (-1) μ21) ∧ (¬ r20 = 0 → wc_X1_take_121 X   Q l1 l3 l4 (kI μ 22 (l1).toNat) 2 μ21)))) ∧ ((¬ r4 = 66 ∧ ¬ r4 = 73 ∧ ¬ r4 = 75 ∧ ¬ r4 = 83) → wc_X1_take_121 X   Q l1 l3 l4 (kI μ 22 (l1).toNat) (-1) μ5))))
set_option maxHeartbeats 4000000 in
theorem sc_X1_take (l : Launch) (X : cX) (sz : Nat) (Q : CM → Prop) (l1 : Int) (l2 : Option Nat) (l3 : Int) (l4 : Int) (μ : CM) (hw : wc_X1_take X l1 l2 l3 l4 μ Q) : Met l yX1_take (ws_ yX1_take cX1_take 8 none) ({ frames := 312, cells := 0, slots := 0, locals := 7176 }) (cPc X (([aR (some (cX_a X 0)), aI l1, aR l2, aI l3, aI l4] : List AV).map toV) μ sz) (cQv X μ sz Q) 0 (0) (cA X μ sz) := by
  refine cx_met2 (rm := ({ frames := 312, cells := 0, slots := 0, locals := 7176 })) (As := [aR (some (cX_a X 0)), aI l1, aR l2, aI l3, aI l4]) (L0 := [(0, aR (some (cX_a X 0))), (1, aI l1), (2, aR l2), (3, aI l3), (4, aI l4)]) (by decide) rfl (Nat.le_of_ble_eq_true rfl) rfl ?_
  intro Z C hK hsz hR hl0 hin hQ
  subst hsz
  have C : gC Z cX1_take 8 RX1 none 312 7176 := C
  have hQ : zz_q Z = MQ (zz_b Z) (cQv X μ (zz_s Z).heap.size Q) (zz_a Z) (zz_s Z) (zz_R Z).cells (zz_R Z).slots (cA X μ (zz_s Z).heap.size) := by rw [hR]; exact hQ
  unfold wc_X1_take at hw
  refine hx_aload_n C dX1_take_0 0 rfl rfl ?_
  refine cx_getS (μ := μ) (v := aR (some (cX_a X 22))) C hK 1 2 rfl in_X1 (by decide) q127 rfl rfl rfl dX1_take_1 ?_
  refine hx_iload_n C dX1_take_4 1 rfl rfl ?_
  obtain ⟨hx1, hw⟩ := hw
  refine cx_iald (μ := μ) (f := kI μ 22) C hK (Or.inl ⟨10, rfl⟩) hx1.1 hx1.2 (by decide) dX1_take_5 ?_
  refine hx_istore (L' := [(5, aI (kI μ 22 (l1).toNat)), (0, aR (some (cX_a X 0))), (1, aI l1), (2, aR l2), (3, aI l3), (4, aI l4)]) C dX1_take_6 (by decide) rfl ?_
  refine hx_aload_n C dX1_take_8 3 rfl rfl ?_
  refine hx_astore (L' := [(6, aR l2), (5, aI (kI μ 22 (l1).toNat)), (0, aR (some (cX_a X 0))), (1, aI l1), (2, aR l2), (3, aI l3), (4, aI l4)]) C dX1_take_9 (by decide) rfl ?_
  refine hx_iconst C dX1_take_11 ?_
  refine hx_istore (L' := [(7, aI (-1)), (6, aR l2), (5, aI (kI μ 22 (l1).toNat)), (0, aR (some (cX_a X 0))), (1, aI l1), (2, aR l2), (3, aI l3), (4, aI l4)]) C dX1_take_12 (by decide) rfl ?_
  refine hx_aload C dX1_take_14 1 rfl ?_
  obtain ⟨a2, ha3, hw⟩ := hw
  rw [ha3]
  obtain ⟨ht6, hw⟩ := hw
  refine fun H locs hI ls hl => cx_ri (S := []) hI hl (fun _ h => h) (cr_V (Cn := RJ0) (As := []) (rest := []) C hK hI hl 0 (cv_str hK hI ht6) (sc_J0_hashCode _ X H.size _ _ _ hw) (lw_V q716 q717 q718 q88 q719) (by decide +kernel) ⟨rfl, rfl, Nat.le_of_ble_eq_true rfl, Nat.le_of_ble_eq_true rfl⟩ (av_W [] 8 (Nat.le_of_ble_eq_true rfl)) dX1_take_16 rfl rfl ⟨by omega, by omega⟩) (fun r4 μ5 hw => ?_)
  obtain ⟨hr7, hw⟩ := hw
  rcases (show r4 = 66 ∨ r4 = 73 ∨ r4 = 75 ∨ r4 = 83 ∨ (¬ r4 = 66 ∧ ¬ r4 = 73 ∧ ¬ r4 = 75 ∧ ¬ r4 = 83) by omega) with h | h | h | h | h
  · have hw := hw.1 h
    refine hx_lookup (tgt := 108) (off := 89) C dX1_take_19 hr7 rfl (by rw [h]; rfl) (by decide) ?_
    refine hx_aload C dX1_take_108 1 rfl ?_
    refine cx_ldcS (num := 3) (tx := "B") C hK (List.mem_of_getElem? (i := 12) rfl) dX1_take_110 ?_
    obtain ⟨ht10, hw⟩ := hw
    refine fun H locs hI ls hl => cx_ri (S := []) hI hl (fun _ h => h) (cr_V (Cn := RJ0) (As := [toV (aR (some (cX_s X 3)))]) (rest := []) C hK hI hl 1 (cv_str hK hI ht10) (sc_J0_equals _ X H.size _ _ _ _ hw) (lw_V q766 q767 q768 q88 q769) (by decide +kernel) ⟨rfl, rfl, Nat.le_of_ble_eq_true rfl, Nat.le_of_ble_eq_true rfl⟩ (av_W [] 8 (Nat.le_of_ble_eq_true rfl)) dX1_take_112 rfl rfl ⟨by omega, by omega⟩) (fun r8 μ9 hw => ?_)
    obtain ⟨hr11, hw⟩ := hw
    refine hx_if_eq (tgt := 121) C dX1_take_115 (by decide) hr11 (fun h => ?_) (fun h => ?_)
    · have hw := hw.1 h
      refine hx_L [3, 4, 6, 7, 2, 0] rfl ?_
      exact sc_X1_take_121 C hK hQ  _ _ _ _ _ _ hw
    · have hw := hw.2 h
      refine hx_iconst C dX1_take_118 ?_
      refine hx_istore (L' := [(7, aI 3), (6, aR (some a2)), (5, aI (kI μ 22 (l1).toNat)), (0, aR (some (cX_a X 0))), (1, aI l1), (2, aR (some a2)), (3, aI l3), (4, aI l4)]) C dX1_take_119 (by decide) rfl ?_
      refine hx_L [3, 4, 6, 7, 2, 0] rfl ?_
      exact sc_X1_take_121 C hK hQ  _ _ _ _ _ _ hw
  · have hw := hw.2.1 h
    refine hx_lookup (tgt := 60) (off := 41) C dX1_take_19 hr7 rfl (by rw [h]; rfl) (by decide) ?_
    refine hx_aload C dX1_take_60 1 rfl ?_
    refine cx_ldcS (num := 0) (tx := "I") C hK (List.mem_of_getElem? (i := 8) rfl) dX1_take_62 ?_
    obtain ⟨ht14, hw⟩ := hw
    refine fun H locs hI ls hl => cx_ri (S := []) hI hl (fun _ h => h) (cr_V (Cn := RJ0) (As := [toV (aR (some (cX_s X 0)))]) (rest := []) C hK hI hl 1 (cv_str hK hI ht14) (sc_J0_equals _ X H.size _ _ _ _ hw) (lw_V q766 q767 q768 q88 q769) (by decide +kernel) ⟨rfl, rfl, Nat.le_of_ble_eq_true rfl, Nat.le_of_ble_eq_true rfl⟩ (av_W [] 8 (Nat.le_of_ble_eq_true rfl)) dX1_take_64 rfl rfl ⟨by omega, by omega⟩) (fun r12 μ13 hw => ?_)
    obtain ⟨hr15, hw⟩ := hw
    refine hx_if_eq (tgt := 121) C dX1_take_67 (by decide) hr15 (fun h => ?_) (fun h => ?_)
    · have hw := hw.1 h
      refine hx_L [3, 4, 6, 7, 2, 0] rfl ?_
      exact sc_X1_take_121 C hK hQ  _ _ _ _ _ _ hw
    · have hw := hw.2 h
      refine hx_iconst C dX1_take_70 ?_
      refine hx_istore (L' := [(7, aI 0), (6, aR (some a2)), (5, aI (kI μ 22 (l1).toNat)), (0, aR (some (cX_a X 0))), (1, aI l1), (2, aR (some a2)), (3, aI l3), (4, aI l4)]) C dX1_take_71 (by decide) rfl ?_
      refine hx_goto (tgt := 121) C dX1_take_73 (by decide) ?_
      refine hx_L [3, 4, 6, 7, 2, 0] rfl ?_
      exact sc_X1_take_121 C hK hQ  _ _ _ _ _ _ hw
  · have hw := hw.2.2.1 h
    refine hx_lookup (tgt := 76) (off := 57) C dX1_take_19 hr7 rfl (by rw [h]; rfl) (by decide) ?_
    refine hx_aload C dX1_take_76 1 rfl ?_
    refine cx_ldcS (num := 1) (tx := "K") C hK (List.mem_of_getElem? (i := 9) rfl) dX1_take_78 ?_
    obtain ⟨ht18, hw⟩ := hw
    refine fun H locs hI ls hl => cx_ri (S := []) hI hl (fun _ h => h) (cr_V (Cn := RJ0) (As := [toV (aR (some (cX_s X 1)))]) (rest := []) C hK hI hl 1 (cv_str hK hI ht18) (sc_J0_equals _ X H.size _ _ _ _ hw) (lw_V q766 q767 q768 q88 q769) (by decide +kernel) ⟨rfl, rfl, Nat.le_of_ble_eq_true rfl, Nat.le_of_ble_eq_true rfl⟩ (av_W [] 8 (Nat.le_of_ble_eq_true rfl)) dX1_take_80 rfl rfl ⟨by omega, by omega⟩) (fun r16 μ17 hw => ?_)
    obtain ⟨hr19, hw⟩ := hw
    refine hx_if_eq (tgt := 121) C dX1_take_83 (by decide) hr19 (fun h => ?_) (fun h => ?_)
    · have hw := hw.1 h
      refine hx_L [3, 4, 6, 7, 2, 0] rfl ?_
      exact sc_X1_take_121 C hK hQ  _ _ _ _ _ _ hw
    · have hw := hw.2 h
      refine hx_iconst C dX1_take_86 ?_
      refine hx_istore (L' := [(7, aI 1), (6, aR (some a2)), (5, aI (kI μ 22 (l1).toNat)), (0, aR (some (cX_a X 0))), (1, aI l1), (2, aR (some a2)), (3, aI l3), (4, aI l4)]) C dX1_take_87 (by decide) rfl ?_
      refine hx_goto (tgt := 121) C dX1_take_89 (by decide) ?_
      refine hx_L [3, 4, 6, 7, 2, 0] rfl ?_
      exact sc_X1_take_121 C hK hQ  _ _ _ _ _ _ hw
  · have hw := hw.2.2.2.1 h
    refine hx_lookup (tgt := 92) (off := 73) C dX1_take_19 hr7 rfl (by rw [h]; rfl) (by decide) ?_
    refine hx_aload C dX1_take_92 1 rfl ?_
    refine cx_ldcS (num := 2) (tx := "S") C hK (List.mem_of_getElem? (i := 11) rfl) dX1_take_94 ?_
    obtain ⟨ht22, hw⟩ := hw
    refine fun H locs hI ls hl => cx_ri (S := []) hI hl (fun _ h => h) (cr_V (Cn := RJ0) (As := [toV (aR (some (cX_s X 2)))]) (rest := []) C hK hI hl 1 (cv_str hK hI ht22) (sc_J0_equals _ X H.size _ _ _ _ hw) (lw_V q766 q767 q768 q88 q769) (by decide +kernel) ⟨rfl, rfl, Nat.le_of_ble_eq_true rfl, Nat.le_of_ble_eq_true rfl⟩ (av_W [] 8 (Nat.le_of_ble_eq_true rfl)) dX1_take_96 rfl rfl ⟨by omega, by omega⟩) (fun r20 μ21 hw => ?_)
    obtain ⟨hr23, hw⟩ := hw
    refine hx_if_eq (tgt := 121) C dX1_take_99 (by decide) hr23 (fun h => ?_) (fun h => ?_)
    · have hw := hw.1 h
      refine hx_L [3, 4, 6, 7, 2, 0] rfl ?_
      exact sc_X1_take_121 C hK hQ  _ _ _ _ _ _ hw
    · have hw := hw.2 h
      refine hx_iconst C dX1_take_102 ?_
      refine hx_istore (L' := [(7, aI 2), (6, aR (some a2)), (5, aI (kI μ 22 (l1).toNat)), (0, aR (some (cX_a X 0))), (1, aI l1), (2, aR (some a2)), (3, aI l3), (4, aI l4)]) C dX1_take_103 (by decide) rfl ?_
      refine hx_goto (tgt := 121) C dX1_take_105 (by decide) ?_
      refine hx_L [3, 4, 6, 7, 2, 0] rfl ?_
      exact sc_X1_take_121 C hK hQ  _ _ _ _ _ _ hw
  · have hw := hw.2.2.2.2 h
    refine hx_lookup (tgt := 121) (off := 102) C dX1_take_19 hr7 rfl (by simp only [Op.lookupswitch.offset, List.toList_toArray]; repeat (rw [if_neg (by omega)])) (by decide) ?_
    refine hx_L [3, 4, 6, 7, 2, 0] rfl ?_
    exact sc_X1_take_121 C hK hQ  _ _ _ _ _ _ hw
