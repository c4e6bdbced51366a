/-! walks of the component (printed by gen_comp) -/
set_option maxRecDepth 100000
-- ('BinderPress', 'of', '(II)I')
def wc_X0_of_84 (X : cX) (Q : Int → CM → Prop) (s0 : Int) (b : Nat) (μ : CM) : Prop := Q s0 μ
set_option maxHeartbeats 4000000 in
theorem sc_X0_of_84 {Z : zz} {X : cX} {μ0 : CM} {Q : Int → CM → Prop} (C : gC Z cX0_of 3 RX0 (some .int) 1068 24827) (hK : cCt Z X μ0) (hQ : zz_q Z = MQ (zz_b Z) (cQi X μ0 (zz_s Z).heap.size Q) (zz_a Z) (zz_s Z) (zz_R Z).cells (zz_R Z).slots (cA X μ0 (zz_s Z).heap.size))  : ∀ s0 b μ, wc_X0_of_84 X Q s0 b μ → ∀ kk nn, (kk + b ≤ (zz_R Z).cells ∧ nn + 5 * b ≤ (zz_R Z).slots) → hG Z 3 (cI Z X μ0 μ) kk nn 84 [] [aI s0] := by
  intro s0 b μ hw kk nn hb
  unfold wc_X0_of_84 at hw
  exact cx_iret C hQ (by omega) (by omega) rfl hw dX0_of_84
def wc_X0_of (X : cX) (b : Nat) (l1 : Int) (l2 : Int) (μ : CM) (Q : Int → CM → Prop) : Prop := wc_X0_isShelf X l1 μ (fun r1 μ2 => R32 r1 ∧ ((¬ r1 = 0 → wc_X0_isIn X l2 0 11 μ2 (fun r4 μ5 => R32 r4 ∧ ((¬ r4 = 0 → (0 ≤ l1 ∧ l1 < 4) ∧ ((¬ (kR μ5 1 (l1).toNat) = none → R32 l2 ∧ ((10 ≤ l2 → R32 l2 ∧ ((¬ l2 = 11 → (∃ b10, b10 ≤ b ∧ wc_X0_kindAt X b10 l1 μ5 (fun r12 μ13 => (∃ a14, r12 = some a14 ∧ (tg μ13 a14 = 13 ∨ tg μ13 a14 = 14) ∧ wc_J0_length X a14 μ13 (fun r16 μ17 => R32 r16 ∧ ((r16 ≤ 0 → wc_X0_of_84 X   Q 0 (b - b10) μ17) ∧ (0 < r16 → wc_X0_of_84 X   Q 1 (b - b10) μ17))))))) ∧ (l2 = 11 → (∃ b20, b20 ≤ b ∧ wc_X0_kindLength X b20 l1 μ5 (fun r22 μ23 => wc_X0_of_84 X   Q r22 (b - b20) μ23))))) ∧ (l2 < 10 → ((0 ≤ l1 ∧ l1 < 4) ∧ ∃ b25, b25 ≤ b ∧ wc_X0_toldOf X b25 (kR μ5 1 (l1).toNat) l2 μ5 (fun r27 μ28 => wc_X0_of_84 X   Q r27 (b - b25) μ28))))) ∧ ((kR μ5 1 (l1).toNat) = none → Q (-1000000003) μ5))) ∧ (r4 = 0 → Q (-1000000002) μ5)))) ∧ (r1 = 0 → Q (-1000000001) μ2)))
set_option maxHeartbeats 4000000 in
theorem sc_X0_of (l : Launch) (X : cX) (sz : Nat) (Q : Int → CM → Prop) (b : Nat) (l1 : Int) (l2 : Int) (μ : CM) (hw : wc_X0_of X b l1 l2 μ Q) : Met l yX0_of (ws_ yX0_of cX0_of 3 (some .int)) ({ frames := 1068, cells := b, slots := 5 * b, locals := 24827 }) (cPc X (([aR (some (cX_h X)), aI l1, aI l2] : List AV).map toV) μ sz) (cQi X μ sz Q) b (5 * b) (cA X μ sz) := by
  refine cx_met2 (rm := ({ frames := 1068, cells := b, slots := 5 * b, locals := 24827 })) (As := [aR (some (cX_h X)), aI l1, aI l2]) (L0 := [(0, aR (some (cX_h X))), (1, aI l1), (2, aI l2)]) (by decide) rfl (Nat.le_of_ble_eq_true rfl) rfl ?_
  intro Z C hK hsz hR hl0 hin hQ
  subst hsz
  have C : gC Z cX0_of 3 RX0 (some .int) 1068 24827 := C
  have hQ : zz_q Z = MQ (zz_b Z) (cQi X μ (zz_s Z).heap.size Q) (zz_a Z) (zz_s Z) (zz_R Z).cells (zz_R Z).slots (cA X μ (zz_s Z).heap.size) := by rw [hR]; exact hQ
  have hb : 0 + b ≤ (zz_R Z).cells ∧ 0 + 5 * b ≤ (zz_R Z).slots := by rw [hR]; exact ⟨by dsimp only; omega, by dsimp only; omega⟩
  unfold wc_X0_of at hw
  refine hx_iload_n C dX0_of_0 1 rfl rfl ?_
  refine fun H locs hI ls hl => cx_ri (S := []) hI hl (fun _ h => h) (cr_S (As := [toV (aI l1)]) (rest := []) C hK hI hl 1 (sc_X0_isShelf _ X H.size _ _ _ hw) (lw_S q215 q216 q84 q217) (by decide +kernel) ⟨rfl, rfl, Nat.le_of_ble_eq_true rfl, Nat.le_of_ble_eq_true rfl⟩ (av_W [] 8 (Nat.le_of_ble_eq_true rfl)) dX0_of_1 rfl rfl ⟨by omega, by omega⟩) (fun r1 μ2 hw => ?_)
  obtain ⟨hr3, hw⟩ := hw
  refine hx_if_ne (tgt := 10) C dX0_of_4 (by decide) hr3 (fun h => ?_) (fun h => ?_)
  · have hw := hw.1 h
    refine hx_iload_n C dX0_of_10 2 rfl rfl ?_
    refine hx_iconst C dX0_of_11 ?_
    refine hx_bipush C dX0_of_12 (by decide) ?_
    refine fun H locs hI ls hl => cx_ri (S := []) hI hl (fun _ h => h) (cr_S (As := [toV (aI l2), toV (aI 0), toV (aI 11)]) (rest := []) C hK hI hl 3 (sc_X0_isIn _ X H.size _ _ _ _ _ hw) (lw_S q205 q206 q84 q207) (by decide +kernel) ⟨rfl, rfl, Nat.le_of_ble_eq_true rfl, Nat.le_of_ble_eq_true rfl⟩ (av_W [] 8 (Nat.le_of_ble_eq_true rfl)) dX0_of_14 rfl rfl ⟨by omega, by omega⟩) (fun r4 μ5 hw => ?_)
    obtain ⟨hr6, hw⟩ := hw
    refine hx_if_ne (tgt := 23) C dX0_of_17 (by decide) hr6 (fun h => ?_) (fun h => ?_)
    · have hw := hw.1 h
      refine hx_aload_n C dX0_of_23 0 rfl rfl ?_
      refine cx_getS (μ := μ5) (v := aR (some (cX_a X 1))) C hK 0 1 rfl in_X0 (by decide) q167 rfl rfl rfl dX0_of_24 ?_
      refine hx_iload_n C dX0_of_27 1 rfl rfl ?_
      obtain ⟨hx7, hw⟩ := hw
      refine cx_aald (μ := μ5) (f := kR μ5 1) C hK 2 rfl (Or.inl ⟨2, rfl⟩) hx7.1 hx7.2 (by decide) dX0_of_28 ?_
      refine hx_ifnonnull (tgt := 35) C dX0_of_29 (by decide) (fun h => ?_) (fun h => ?_)
      · have hw := hw.1 h
        refine hx_iload_n C dX0_of_35 2 rfl rfl ?_
        refine hx_bipush C dX0_of_36 (by decide) ?_
        obtain ⟨hr8, hw⟩ := hw
        refine hx_icmp_ge (tgt := 54) C dX0_of_38 (by decide) hr8 (by decide) (fun h => ?_) (fun h => ?_)
        · have hw := hw.1 h
          refine hx_iload_n C dX0_of_54 2 rfl rfl ?_
          refine hx_bipush C dX0_of_55 (by decide) ?_
          obtain ⟨hr9, hw⟩ := hw
          refine hx_icmp_ne (tgt := 68) C dX0_of_57 (by decide) hr9 (by decide) (fun h => ?_) (fun h => ?_)
          · have hw := hw.1 h
            refine hx_aload_n C dX0_of_68 0 rfl rfl ?_
            refine hx_iload_n C dX0_of_69 1 rfl rfl ?_
            obtain ⟨b10, hu11, hw⟩ := hw
            refine fun H locs hI ls hl => cx_rr (S := []) hI hl (fun _ h => h) (cr_VW (Cn := RX0) (As := [toV (aI l1)]) (rest := []) C hK hI hl 1 (cv_dyn hK hI (ci := 0) rfl (Or.inl ⟨0, rfl⟩)) (sc_X0_kindAt _ X H.size _ b10 _ _ hw) (lw_VW q1146 q1148 qs26 q84 q1149) (by decide +kernel) ⟨rfl, rfl, Nat.le_of_ble_eq_true rfl, Nat.le_of_ble_eq_true rfl⟩ (av_W [] 8 (Nat.le_of_ble_eq_true rfl)) dX0_of_70 rfl rfl ⟨by omega, by omega⟩) (fun r12 μ13 hw => ?_)
            obtain hb : (0 + b10) + (b - b10) ≤ (zz_R Z).cells ∧ (0 + 5 * b10) + 5 * (b - b10) ≤ (zz_R Z).slots := ⟨by omega, by omega⟩
            obtain ⟨a14, ha15, hw⟩ := hw
            rw [ha15]
            obtain ⟨ht18, hw⟩ := hw
            refine fun H locs hI ls hl => cx_ri (S := []) hI hl (fun _ h => h) (cr_V (Cn := RJ0) (As := []) (rest := []) C hK hI hl 0 (cv_str hK hI ht18) (sc_J0_length _ X H.size _ _ _ hw) (lw_V q822 q270 q271 q88 q272) (by decide +kernel) ⟨rfl, rfl, Nat.le_of_ble_eq_true rfl, Nat.le_of_ble_eq_true rfl⟩ (av_W [] 8 (Nat.le_of_ble_eq_true rfl)) dX0_of_73 rfl rfl ⟨by omega, by omega⟩) (fun r16 μ17 hw => ?_)
            obtain ⟨hr19, hw⟩ := hw
            refine hx_if_le (tgt := 83) C dX0_of_76 (by decide) hr19 (fun h => ?_) (fun h => ?_)
            · have hw := hw.1 h
              refine hx_iconst C dX0_of_83 ?_
              refine hx_L [] rfl ?_
              exact sc_X0_of_84 C hK hQ  _ _ _ hw _ _ hb
            · have hw := hw.2 h
              refine hx_iconst C dX0_of_79 ?_
              refine hx_goto (tgt := 84) C dX0_of_80 (by decide) ?_
              refine hx_L [] rfl ?_
              exact sc_X0_of_84 C hK hQ  _ _ _ hw _ _ hb
          · have hw := hw.2 h
            refine hx_aload_n C dX0_of_60 0 rfl rfl ?_
            refine hx_iload_n C dX0_of_61 1 rfl rfl ?_
            obtain ⟨b20, hu21, hw⟩ := hw
            refine fun H locs hI ls hl => cx_ri (S := []) hI hl (fun _ h => h) (cr_V (Cn := RX0) (As := [toV (aI l1)]) (rest := []) C hK hI hl 1 (cv_dyn hK hI (ci := 0) rfl (Or.inl ⟨0, rfl⟩)) (sc_X0_kindLength _ X H.size _ b20 _ _ hw) (lw_V q1138 q1140 qs24 q84 q1141) (by decide +kernel) ⟨rfl, rfl, Nat.le_of_ble_eq_true rfl, Nat.le_of_ble_eq_true rfl⟩ (av_W [] 8 (Nat.le_of_ble_eq_true rfl)) dX0_of_62 rfl rfl ⟨by omega, by omega⟩) (fun r22 μ23 hw => ?_)
            obtain hb : (0 + b20) + (b - b20) ≤ (zz_R Z).cells ∧ (0 + 5 * b20) + 5 * (b - b20) ≤ (zz_R Z).slots := ⟨by omega, by omega⟩
            refine hx_goto (tgt := 84) C dX0_of_65 (by decide) ?_
            refine hx_L [] rfl ?_
            exact sc_X0_of_84 C hK hQ  _ _ _ hw _ _ hb
        · have hw := hw.2 h
          refine hx_aload_n C dX0_of_41 0 rfl rfl ?_
          refine cx_getS (μ := μ5) (v := aR (some (cX_a X 1))) C hK 0 1 rfl in_X0 (by decide) q167 rfl rfl rfl dX0_of_42 ?_
          refine hx_iload_n C dX0_of_45 1 rfl rfl ?_
          obtain ⟨hx24, hw⟩ := hw
          refine cx_aald (μ := μ5) (f := kR μ5 1) C hK 2 rfl (Or.inl ⟨2, rfl⟩) hx24.1 hx24.2 (by decide) dX0_of_46 ?_
          refine hx_iload_n C dX0_of_47 2 rfl rfl ?_
          obtain ⟨b25, hu26, hw⟩ := hw
          refine fun H locs hI ls hl => cx_ri (S := []) hI hl (fun _ h => h) (cr_S (As := [toV (aR (kR μ5 1 (l1).toNat)), toV (aI l2)]) (rest := []) C hK hI hl 2 (sc_X0_toldOf _ X H.size _ b25 _ _ _ hw) (lw_S q847 q848 q84 q849) (by decide +kernel) ⟨rfl, rfl, Nat.le_of_ble_eq_true rfl, Nat.le_of_ble_eq_true rfl⟩ (av_W [] 8 (Nat.le_of_ble_eq_true rfl)) dX0_of_48 rfl rfl ⟨by omega, by omega⟩) (fun r27 μ28 hw => ?_)
          obtain hb : (0 + b25) + (b - b25) ≤ (zz_R Z).cells ∧ (0 + 5 * b25) + 5 * (b - b25) ≤ (zz_R Z).slots := ⟨by omega, by omega⟩
          refine hx_goto (tgt := 84) C dX0_of_51 (by decide) ?_
          refine hx_L [] rfl ?_
          exact sc_X0_of_84 C hK hQ  _ _ _ hw _ _ hb
      · have hw := hw.2 h
        refine hx_ldc C (-1000000003) q494 (by decide) dX0_of_32 ?_
        exact cx_iret C hQ (by omega) (by omega) rfl hw dX0_of_34
    · have hw := hw.2 h
      refine hx_ldc C (-1000000002) q208 (by decide) dX0_of_20 ?_
      exact cx_iret C hQ (by omega) (by omega) rfl hw dX0_of_22
  · have hw := hw.2 h
    refine hx_ldc C (-1000000001) q218 (by decide) dX0_of_7 ?_
    exact cx_iret C hQ (by omega) (by omega) rfl hw dX0_of_9
-- ('BinderPress', 'kind', '(II)I')
def wc_X0_kind_51 (X : cX) (Q : Int → CM → Prop) (s0 : Int) (b : Nat) (μ : CM) : Prop := Q s0 μ
set_option maxHeartbeats 4000000 in
theorem sc_X0_kind_51 {Z : zz} {X : cX} {μ0 : CM} {Q : Int → CM → Prop} (C : gC Z cX0_kind 3 RX0 (some .int) 1067 24806) (hK : cCt Z X μ0) (hQ : zz_q Z = MQ (zz_b Z) (cQi X μ0 (zz_s Z).heap.size Q) (zz_a Z) (zz_s Z) (zz_R Z).cells (zz_R Z).slots (cA X μ0 (zz_s Z).heap.size))  : ∀ s0 b μ, wc_X0_kind_51 X Q s0 b μ → ∀ kk nn, (kk + b ≤ (zz_R Z).cells ∧ nn + 5 * b ≤ (zz_R Z).slots) → hG Z 3 (cI Z X μ0 μ) kk nn 51 [] [aI s0] := by
  intro s0 b μ hw kk nn hb
  unfold wc_X0_kind_51 at hw
  exact cx_iret C hQ (by omega) (by omega) rfl hw dX0_kind_51
def wc_X0_kind (X : cX) (b : Nat) (l1 : Int) (l2 : Int) (μ : CM) (Q : Int → CM → Prop) : Prop := wc_X0_isShelf X l1 μ (fun r1 μ2 => R32 r1 ∧ ((¬ r1 = 0 → R32 l2 ∧ ((0 ≤ l2 → (0 ≤ l1 ∧ l1 < 4) ∧ ((¬ (kR μ2 1 (l1).toNat) = none → (∃ b6, b6 ≤ b ∧ wc_X0_isTooLong X b6 l1 μ2 (fun r8 μ9 => R32 r8 ∧ ((r8 = 0 → (∃ b11, b11 ≤ (b - b6) ∧ wc_X0_kindAt X b11 l1 μ9 (fun r13 μ14 => wc_X0_at X r13 l2 μ14 (fun r15 μ16 => wc_X0_kind_51 X   Q r15 ((b - b6) - b11) μ16)))) ∧ (¬ r8 = 0 → wc_X0_kind_51 X   Q (-1000000004) (b - b6) μ9))))) ∧ ((kR μ2 1 (l1).toNat) = none → Q (-1000000003) μ2))) ∧ (l2 < 0 → Q (-1000000002) μ2))) ∧ (r1 = 0 → Q (-1000000001) μ2)))
set_option maxHeartbeats 4000000 in
theorem sc_X0_kind (l : Launch) (X : cX) (sz : Nat) (Q : Int → CM → Prop) (b : Nat) (l1 : Int) (l2 : Int) (μ : CM) (hw : wc_X0_kind X b l1 l2 μ Q) : Met l yX0_kind (ws_ yX0_kind cX0_kind 3 (some .int)) ({ frames := 1067, cells := b, slots := 5 * b, locals := 24806 }) (cPc X (([aR (some (cX_h X)), aI l1, aI l2] : List AV).map toV) μ sz) (cQi X μ sz Q) b (5 * b) (cA X μ sz) := by
  refine cx_met2 (rm := ({ frames := 1067, cells := b, slots := 5 * b, locals := 24806 })) (As := [aR (some (cX_h X)), aI l1, aI l2]) (L0 := [(0, aR (some (cX_h X))), (1, aI l1), (2, aI l2)]) (by decide) rfl (Nat.le_of_ble_eq_true rfl) rfl ?_
  intro Z C hK hsz hR hl0 hin hQ
  subst hsz
  have C : gC Z cX0_kind 3 RX0 (some .int) 1067 24806 := C
  have hQ : zz_q Z = MQ (zz_b Z) (cQi X μ (zz_s Z).heap.size Q) (zz_a Z) (zz_s Z) (zz_R Z).cells (zz_R Z).slots (cA X μ (zz_s Z).heap.size) := by rw [hR]; exact hQ
  have hb : 0 + b ≤ (zz_R Z).cells ∧ 0 + 5 * b ≤ (zz_R Z).slots := by rw [hR]; exact ⟨by dsimp only; omega, by dsimp only; omega⟩
  unfold wc_X0_kind at hw
  refine hx_iload_n C dX0_kind_0 1 rfl rfl ?_
  refine fun H locs hI ls hl => cx_ri (S := []) hI hl (fun _ h => h) (cr_S (As := [toV (aI l1)]) (rest := []) C hK hI hl 1 (sc_X0_isShelf _ X H.size _ _ _ hw) (lw_S q215 q216 q84 q217) (by decide +kernel) ⟨rfl, rfl, Nat.le_of_ble_eq_true rfl, Nat.le_of_ble_eq_true rfl⟩ (av_W [] 8 (Nat.le_of_ble_eq_true rfl)) dX0_kind_1 rfl rfl ⟨by omega, by omega⟩) (fun r1 μ2 hw => ?_)
  obtain ⟨hr3, hw⟩ := hw
  refine hx_if_ne (tgt := 10) C dX0_kind_4 (by decide) hr3 (fun h => ?_) (fun h => ?_)
  · have hw := hw.1 h
    refine hx_iload_n C dX0_kind_10 2 rfl rfl ?_
    obtain ⟨hr4, hw⟩ := hw
    refine hx_if_ge (tgt := 17) C dX0_kind_11 (by decide) hr4 (fun h => ?_) (fun h => ?_)
    · have hw := hw.1 h
      refine hx_aload_n C dX0_kind_17 0 rfl rfl ?_
      refine cx_getS (μ := μ2) (v := aR (some (cX_a X 1))) C hK 0 1 rfl in_X0 (by decide) q167 rfl rfl rfl dX0_kind_18 ?_
      refine hx_iload_n C dX0_kind_21 1 rfl rfl ?_
      obtain ⟨hx5, hw⟩ := hw
      refine cx_aald (μ := μ2) (f := kR μ2 1) C hK 2 rfl (Or.inl ⟨2, rfl⟩) hx5.1 hx5.2 (by decide) dX0_kind_22 ?_
      refine hx_ifnonnull (tgt := 29) C dX0_kind_23 (by decide) (fun h => ?_) (fun h => ?_)
      · have hw := hw.1 h
        refine hx_aload_n C dX0_kind_29 0 rfl rfl ?_
        refine hx_iload_n C dX0_kind_30 1 rfl rfl ?_
        obtain ⟨b6, hu7, hw⟩ := hw
        refine fun H locs hI ls hl => cx_ri (S := []) hI hl (fun _ h => h) (cr_V (Cn := RX0) (As := [toV (aI l1)]) (rest := []) C hK hI hl 1 (cv_dyn hK hI (ci := 0) rfl (Or.inl ⟨0, rfl⟩)) (sc_X0_isTooLong _ X H.size _ b6 _ _ hw) (lw_V q1142 q1144 qs25 q84 q1145) (by decide +kernel) ⟨rfl, rfl, Nat.le_of_ble_eq_true rfl, Nat.le_of_ble_eq_true rfl⟩ (av_W [] 8 (Nat.le_of_ble_eq_true rfl)) dX0_kind_31 rfl rfl ⟨by omega, by omega⟩) (fun r8 μ9 hw => ?_)
        obtain hb : (0 + b6) + (b - b6) ≤ (zz_R Z).cells ∧ (0 + 5 * b6) + 5 * (b - b6) ≤ (zz_R Z).slots := ⟨by omega, by omega⟩
        obtain ⟨hr10, hw⟩ := hw
        refine hx_if_eq (tgt := 42) C dX0_kind_34 (by decide) hr10 (fun h => ?_) (fun h => ?_)
        · have hw := hw.1 h
          refine hx_aload_n C dX0_kind_42 0 rfl rfl ?_
          refine hx_iload_n C dX0_kind_43 1 rfl rfl ?_
          obtain ⟨b11, hu12, hw⟩ := hw
          refine fun H locs hI ls hl => cx_rr (S := []) hI hl (fun _ h => h) (cr_VW (Cn := RX0) (As := [toV (aI l1)]) (rest := []) C hK hI hl 1 (cv_dyn hK hI (ci := 0) rfl (Or.inl ⟨0, rfl⟩)) (sc_X0_kindAt _ X H.size _ b11 _ _ hw) (lw_VW q1146 q1148 qs26 q84 q1149) (by decide +kernel) ⟨rfl, rfl, Nat.le_of_ble_eq_true rfl, Nat.le_of_ble_eq_true rfl⟩ (av_W [] 8 (Nat.le_of_ble_eq_true rfl)) dX0_kind_44 rfl rfl ⟨by omega, by omega⟩) (fun r13 μ14 hw => ?_)
          obtain hb : ((0 + b6) + b11) + ((b - b6) - b11) ≤ (zz_R Z).cells ∧ ((0 + 5 * b6) + 5 * b11) + 5 * ((b - b6) - b11) ≤ (zz_R Z).slots := ⟨by omega, by omega⟩
          refine hx_iload_n C dX0_kind_47 2 rfl rfl ?_
          refine fun H locs hI ls hl => cx_ri (S := []) hI hl (fun _ h => h) (cr_S (As := [toV (aR r13), toV (aI l2)]) (rest := []) C hK hI hl 2 (sc_X0_at _ X H.size _ _ _ _ hw) (lw_S q1286 q1287 q84 q1288) (by decide +kernel) ⟨rfl, rfl, Nat.le_of_ble_eq_true rfl, Nat.le_of_ble_eq_true rfl⟩ (av_W [] 8 (Nat.le_of_ble_eq_true rfl)) dX0_kind_48 rfl rfl ⟨by omega, by omega⟩) (fun r15 μ16 hw => ?_)
          refine hx_L [] rfl ?_
          exact sc_X0_kind_51 C hK hQ  _ _ _ hw _ _ hb
        · have hw := hw.2 h
          refine hx_ldc C (-1000000004) q209 (by decide) dX0_kind_37 ?_
          refine hx_goto (tgt := 51) C dX0_kind_39 (by decide) ?_
          refine hx_L [] rfl ?_
          exact sc_X0_kind_51 C hK hQ  _ _ _ hw _ _ hb
      · have hw := hw.2 h
        refine hx_ldc C (-1000000003) q494 (by decide) dX0_kind_26 ?_
        exact cx_iret C hQ (by omega) (by omega) rfl hw dX0_kind_28
    · have hw := hw.2 h
      refine hx_ldc C (-1000000002) q208 (by decide) dX0_kind_14 ?_
      exact cx_iret C hQ (by omega) (by omega) rfl hw dX0_kind_16
  · have hw := hw.2 h
    refine hx_ldc C (-1000000001) q218 (by decide) dX0_kind_7 ?_
    exact cx_iret C hQ (by omega) (by omega) rfl hw dX0_kind_9
-- ('BinderPress', 'sameKind', '(II)I')
def wc_X0_sameKind_14 (X : cX) (Q : Int → CM → Prop) (b : Nat) (μ : CM) : Prop := Q (-1000000001) μ
set_option maxHeartbeats 4000000 in
theorem sc_X0_sameKind_14 {Z : zz} {X : cX} {μ0 : CM} {Q : Int → CM → Prop} (C : gC Z cX0_sameKind 3 RX0 (some .int) 1067 24806) (hK : cCt Z X μ0) (hQ : zz_q Z = MQ (zz_b Z) (cQi X μ0 (zz_s Z).heap.size Q) (zz_a Z) (zz_s Z) (zz_R Z).cells (zz_R Z).slots (cA X μ0 (zz_s Z).heap.size))  : ∀ b μ, wc_X0_sameKind_14 X Q b μ → ∀ kk nn, (kk + b ≤ (zz_R Z).cells ∧ nn + 5 * b ≤ (zz_R Z).slots) → hG Z 3 (cI Z X μ0 μ) kk nn 14 [] [] := by
  intro b μ hw kk nn hb
  unfold wc_X0_sameKind_14 at hw
  refine hx_ldc C (-1000000001) q218 (by decide) dX0_sameKind_14 ?_
  exact cx_iret C hQ (by omega) (by omega) rfl hw dX0_sameKind_16
def wc_X0_sameKind_35 (X : cX) (Q : Int → CM → Prop) (b : Nat) (μ : CM) : Prop := Q (-1000000003) μ
set_option maxHeartbeats 4000000 in
theorem sc_X0_sameKind_35 {Z : zz} {X : cX} {μ0 : CM} {Q : Int → CM → Prop} (C : gC Z cX0_sameKind 3 RX0 (some .int) 1067 24806) (hK : cCt Z X μ0) (hQ : zz_q Z = MQ (zz_b Z) (cQi X μ0 (zz_s Z).heap.size Q) (zz_a Z) (zz_s Z) (zz_R Z).cells (zz_R Z).slots (cA X μ0 (zz_s Z).heap.size))  : ∀ b μ, wc_X0_sameKind_35 X Q b μ → ∀ kk nn, (kk + b ≤ (zz_R Z).cells ∧ nn + 5 * b ≤ (zz_R Z).slots) → hG Z 3 (cI Z X μ0 μ) kk nn 35 [] [] := by
  intro b μ hw kk nn hb
  unfold wc_X0_sameKind_35 at hw
  refine hx_ldc C (-1000000003) q494 (by decide) dX0_sameKind_35 ?_
  exact cx_iret C hQ (by omega) (by omega) rfl hw dX0_sameKind_37
def wc_X0_sameKind_80 (X : cX) (Q : Int → CM → Prop) (s0 : Int) (b : Nat) (μ : CM) : Prop := Q s0 μ
set_option maxHeartbeats 4000000 in
theorem sc_X0_sameKind_80 {Z : zz} {X : cX} {μ0 : CM} {Q : Int → CM → Prop} (C : gC Z cX0_sameKind 3 RX0 (some .int) 1067 24806) (hK : cCt Z X μ0) (hQ : zz_q Z = MQ (zz_b Z) (cQi X μ0 (zz_s Z).heap.size Q) (zz_a Z) (zz_s Z) (zz_R Z).cells (zz_R Z).slots (cA X μ0 (zz_s Z).heap.size))  : ∀ s0 b μ, wc_X0_sameKind_80 X Q s0 b μ → ∀ kk nn, (kk + b ≤ (zz_R Z).cells ∧ nn + 5 * b ≤ (zz_R Z).slots) → hG Z 3 (cI Z X μ0 μ) kk nn 80 [] [aI s0] := by
  intro s0 b μ hw kk nn hb
  unfold wc_X0_sameKind_80 at hw
  exact cx_iret C hQ (by omega) (by omega) rfl hw dX0_sameKind_80
def wc_X0_sameKind_54 (X : cX) (Q : Int → CM → Prop) (b : Nat) (μ : CM) : Prop := wc_X0_sameKind_80 X   Q (-1000000004) b μ
set_option maxHeartbeats 4000000 in
theorem sc_X0_sameKind_54 {Z : zz} {X : cX} {μ0 : CM} {Q : Int → CM → Prop} (C : gC Z cX0_sameKind 3 RX0 (some .int) 1067 24806) (hK : cCt Z X μ0) (hQ : zz_q Z = MQ (zz_b Z) (cQi X μ0 (zz_s Z).heap.size Q) (zz_a Z) (zz_s Z) (zz_R Z).cells (zz_R Z).slots (cA X μ0 (zz_s Z).heap.size))  : ∀ b μ, wc_X0_sameKind_54 X Q b μ → ∀ kk nn, (kk + b ≤ (zz_R Z).cells ∧ nn + 5 * b ≤ (zz_R Z).slots) → hG Z 3 (cI Z X μ0 μ) kk nn 54 [] [] := by
  intro b μ hw kk nn hb
  unfold wc_X0_sameKind_54 at hw
  refine hx_ldc C (-1000000004) q209 (by decide) dX0_sameKind_54 ?_
  refine hx_goto (tgt := 80) C dX0_sameKind_56 (by decide) ?_
  refine hx_L [] rfl ?_
  exact sc_X0_sameKind_80 C hK hQ  _ _ _ hw _ _ hb
def wc_X0_sameKind (X : cX) (b : Nat) (l1 : Int) (l2 : Int) (μ : CM) (Q : Int → CM → Prop) : Prop := wc_X0_isShelf X l1 μ (fun r1 μ2 => R32 r1 ∧ ((r1 = 0 → wc_X0_sameKind_14 X   Q b μ2) ∧ (¬ r1 = 0 → wc_X0_isShelf X l2 μ2 (fun r4 μ5 => R32 r4 ∧ ((¬ r4 = 0 → (0 ≤ l1 ∧ l1 < 4) ∧ (((kR μ5 1 (l1).toNat) = none → wc_X0_sameKind_35 X   Q b μ5) ∧ (¬ (kR μ5 1 (l1).toNat) = none → (0 ≤ l2 ∧ l2 < 4) ∧ ((¬ (kR μ5 1 (l2).toNat) = none → (∃ b9, b9 ≤ b ∧ wc_X0_isTooLong X b9 l1 μ5 (fun r11 μ12 => R32 r11 ∧ ((¬ r11 = 0 → wc_X0_sameKind_54 X   Q (b - b9) μ12) ∧ (r11 = 0 → (∃ b14, b14 ≤ (b - b9) ∧ wc_X0_isTooLong X b14 l2 μ12 (fun r16 μ17 => R32 r16 ∧ ((r16 = 0 → (∃ b19, b19 ≤ ((b - b9) - b14) ∧ wc_X0_kindAt X b19 l1 μ17 (fun r21 μ22 => (∃ b23, b23 ≤ (((b - b9) - b14) - b19) ∧ wc_X0_kindAt X b23 l2 μ22 (fun r25 μ26 => (∃ a27, r21 = some a27 ∧ (tg μ26 a27 = 13 ∨ tg μ26 a27 = 14) ∧ wc_J0_equals X a27 r25 μ26 (fun r29 μ30 => R32 r29 ∧ ((r29 = 0 → wc_X0_sameKind_80 X   Q 0 ((((b - b9) - b14) - b19) - b23) μ30) ∧ (¬ r29 = 0 → wc_X0_sameKind_80 X   Q 1 ((((b - b9) - b14) - b19) - b23) μ30))))))))) ∧ (¬ r16 = 0 → wc_X0_sameKind_54 X   Q ((b - b9) - b14) μ17))))))))) ∧ ((kR μ5 1 (l2).toNat) = none → wc_X0_sameKind_35 X   Q b μ5))))) ∧ (r4 = 0 → wc_X0_sameKind_14 X   Q b μ5))))))
set_option maxHeartbeats 4000000 in
theorem sc_X0_sameKind (l : Launch) (X : cX) (sz : Nat) (Q : Int → CM → Prop) (b : Nat) (l1 : Int) (l2 : Int) (μ : CM) (hw : wc_X0_sameKind X b l1 l2 μ Q) : Met l yX0_sameKind (ws_ yX0_sameKind cX0_sameKind 3 (some .int)) ({ frames := 1067, cells := b, slots := 5 * b, locals := 24806 }) (cPc X (([aR (some (cX_h X)), aI l1, aI l2] : List AV).map toV) μ sz) (cQi X μ sz Q) b (5 * b) (cA X μ sz) := by
  refine cx_met2 (rm := ({ frames := 1067, cells := b, slots := 5 * b, locals := 24806 })) (As := [aR (some (cX_h X)), aI l1, aI l2]) (L0 := [(0, aR (some (cX_h X))), (1, aI l1), (2, aI l2)]) (by decide) rfl (Nat.le_of_ble_eq_true rfl) rfl ?_
  intro Z C hK hsz hR hl0 hin hQ
  subst hsz
  have C : gC Z cX0_sameKind 3 RX0 (some .int) 1067 24806 := C
  have hQ : zz_q Z = MQ (zz_b Z) (cQi X μ (zz_s Z).heap.size Q) (zz_a Z) (zz_s Z) (zz_R Z).cells (zz_R Z).slots (cA X μ (zz_s Z).heap.size) := by rw [hR]; exact hQ
  have hb : 0 + b ≤ (zz_R Z).cells ∧ 0 + 5 * b ≤ (zz_R Z).slots := by rw [hR]; exact ⟨by dsimp only; omega, by dsimp only; omega⟩
  unfold wc_X0_sameKind at hw
  refine hx_iload_n C dX0_sameKind_0 1 rfl rfl ?_
  refine fun H locs hI ls hl => cx_ri (S := []) hI hl (fun _ h => h) (cr_S (As := [toV (aI l1)]) (rest := []) C hK hI hl 1 (sc_X0_isShelf _ X H.size _ _ _ hw) (lw_S q215 q216 q84 q217) (by decide +kernel) ⟨rfl, rfl, Nat.le_of_ble_eq_true rfl, Nat.le_of_ble_eq_true rfl⟩ (av_W [] 8 (Nat.le_of_ble_eq_true rfl)) dX0_sameKind_1 rfl rfl ⟨by omega, by omega⟩) (fun r1 μ2 hw => ?_)
  obtain ⟨hr3, hw⟩ := hw
  refine hx_if_eq (tgt := 14) C dX0_sameKind_4 (by decide) hr3 (fun h => ?_) (fun h => ?_)
  · have hw := hw.1 h
    refine hx_L [] rfl ?_
    exact sc_X0_sameKind_14 C hK hQ  _ _ hw _ _ hb
  · have hw := hw.2 h
    refine hx_iload_n C dX0_sameKind_7 2 rfl rfl ?_
    refine fun H locs hI ls hl => cx_ri (S := []) hI hl (fun _ h => h) (cr_S (As := [toV (aI l2)]) (rest := []) C hK hI hl 1 (sc_X0_isShelf _ X H.size _ _ _ hw) (lw_S q215 q216 q84 q217) (by decide +kernel) ⟨rfl, rfl, Nat.le_of_ble_eq_true rfl, Nat.le_of_ble_eq_true rfl⟩ (av_W [] 8 (Nat.le_of_ble_eq_true rfl)) dX0_sameKind_8 rfl rfl ⟨by omega, by omega⟩) (fun r4 μ5 hw => ?_)
    obtain ⟨hr6, hw⟩ := hw
    refine hx_if_ne (tgt := 17) C dX0_sameKind_11 (by decide) hr6 (fun h => ?_) (fun h => ?_)
    · have hw := hw.1 h
      refine hx_aload_n C dX0_sameKind_17 0 rfl rfl ?_
      refine cx_getS (μ := μ5) (v := aR (some (cX_a X 1))) C hK 0 1 rfl in_X0 (by decide) q167 rfl rfl rfl dX0_sameKind_18 ?_
      refine hx_iload_n C dX0_sameKind_21 1 rfl rfl ?_
      obtain ⟨hx7, hw⟩ := hw
      refine cx_aald (μ := μ5) (f := kR μ5 1) C hK 2 rfl (Or.inl ⟨2, rfl⟩) hx7.1 hx7.2 (by decide) dX0_sameKind_22 ?_
      refine hx_ifnull (tgt := 35) C dX0_sameKind_23 (by decide) (fun h => ?_) (fun h => ?_)
      · have hw := hw.1 h
        refine hx_L [] rfl ?_
        exact sc_X0_sameKind_35 C hK hQ  _ _ hw _ _ hb
      · have hw := hw.2 h
        refine hx_aload_n C dX0_sameKind_26 0 rfl rfl ?_
        refine cx_getS (μ := μ5) (v := aR (some (cX_a X 1))) C hK 0 1 rfl in_X0 (by decide) q167 rfl rfl rfl dX0_sameKind_27 ?_
        refine hx_iload_n C dX0_sameKind_30 2 rfl rfl ?_
        obtain ⟨hx8, hw⟩ := hw
        refine cx_aald (μ := μ5) (f := kR μ5 1) C hK 2 rfl (Or.inl ⟨2, rfl⟩) hx8.1 hx8.2 (by decide) dX0_sameKind_31 ?_
        refine hx_ifnonnull (tgt := 38) C dX0_sameKind_32 (by decide) (fun h => ?_) (fun h => ?_)
        · have hw := hw.1 h
          refine hx_aload_n C dX0_sameKind_38 0 rfl rfl ?_
          refine hx_iload_n C dX0_sameKind_39 1 rfl rfl ?_
          obtain ⟨b9, hu10, hw⟩ := hw
          refine fun H locs hI ls hl => cx_ri (S := []) hI hl (fun _ h => h) (cr_V (Cn := RX0) (As := [toV (aI l1)]) (rest := []) C hK hI hl 1 (cv_dyn hK hI (ci := 0) rfl (Or.inl ⟨0, rfl⟩)) (sc_X0_isTooLong _ X H.size _ b9 _ _ hw) (lw_V q1142 q1144 qs25 q84 q1145) (by decide +kernel) ⟨rfl, rfl, Nat.le_of_ble_eq_true rfl, Nat.le_of_ble_eq_true rfl⟩ (av_W [] 8 (Nat.le_of_ble_eq_true rfl)) dX0_sameKind_40 rfl rfl ⟨by omega, by omega⟩) (fun r11 μ12 hw => ?_)
          obtain hb : (0 + b9) + (b - b9) ≤ (zz_R Z).cells ∧ (0 + 5 * b9) + 5 * (b - b9) ≤ (zz_R Z).slots := ⟨by omega, by omega⟩
          obtain ⟨hr13, hw⟩ := hw
          refine hx_if_ne (tgt := 54) C dX0_sameKind_43 (by decide) hr13 (fun h => ?_) (fun h => ?_)
          · have hw := hw.1 h
            refine hx_L [] rfl ?_
            exact sc_X0_sameKind_54 C hK hQ  _ _ hw _ _ hb
          · have hw := hw.2 h
            refine hx_aload_n C dX0_sameKind_46 0 rfl rfl ?_
            refine hx_iload_n C dX0_sameKind_47 2 rfl rfl ?_
            obtain ⟨b14, hu15, hw⟩ := hw
            refine fun H locs hI ls hl => cx_ri (S := []) hI hl (fun _ h => h) (cr_V (Cn := RX0) (As := [toV (aI l2)]) (rest := []) C hK hI hl 1 (cv_dyn hK hI (ci := 0) rfl (Or.inl ⟨0, rfl⟩)) (sc_X0_isTooLong _ X H.size _ b14 _ _ hw) (lw_V q1142 q1144 qs25 q84 q1145) (by decide +kernel) ⟨rfl, rfl, Nat.le_of_ble_eq_true rfl, Nat.le_of_ble_eq_true rfl⟩ (av_W [] 8 (Nat.le_of_ble_eq_true rfl)) dX0_sameKind_48 rfl rfl ⟨by omega, by omega⟩) (fun r16 μ17 hw => ?_)
            obtain hb : ((0 + b9) + b14) + ((b - b9) - b14) ≤ (zz_R Z).cells ∧ ((0 + 5 * b9) + 5 * b14) + 5 * ((b - b9) - b14) ≤ (zz_R Z).slots := ⟨by omega, by omega⟩
            obtain ⟨hr18, hw⟩ := hw
            refine hx_if_eq (tgt := 59) C dX0_sameKind_51 (by decide) hr18 (fun h => ?_) (fun h => ?_)
            · have hw := hw.1 h
              refine hx_aload_n C dX0_sameKind_59 0 rfl rfl ?_
              refine hx_iload_n C dX0_sameKind_60 1 rfl rfl ?_
              obtain ⟨b19, hu20, hw⟩ := hw
              refine fun H locs hI ls hl => cx_rr (S := []) hI hl (fun _ h => h) (cr_VW (Cn := RX0) (As := [toV (aI l1)]) (rest := []) C hK hI hl 1 (cv_dyn hK hI (ci := 0) rfl (Or.inl ⟨0, rfl⟩)) (sc_X0_kindAt _ X H.size _ b19 _ _ hw) (lw_VW q1146 q1148 qs26 q84 q1149) (by decide +kernel) ⟨rfl, rfl, Nat.le_of_ble_eq_true rfl, Nat.le_of_ble_eq_true rfl⟩ (av_W [] 8 (Nat.le_of_ble_eq_true rfl)) dX0_sameKind_61 rfl rfl ⟨by omega, by omega⟩) (fun r21 μ22 hw => ?_)
              obtain hb : (((0 + b9) + b14) + b19) + (((b - b9) - b14) - b19) ≤ (zz_R Z).cells ∧ (((0 + 5 * b9) + 5 * b14) + 5 * b19) + 5 * (((b - b9) - b14) - b19) ≤ (zz_R Z).slots := ⟨by omega, by omega⟩
              refine hx_aload_n C dX0_sameKind_64 0 rfl rfl ?_
              refine hx_iload_n C dX0_sameKind_65 2 rfl rfl ?_
              obtain ⟨b23, hu24, hw⟩ := hw
              refine fun H locs hI ls hl => cx_rr (S := [aR r21]) hI hl (fun _ h => h) (cr_VW (Cn := RX0) (As := [toV (aI l2)]) (rest := [toV (aR r21)]) C hK hI hl 1 (cv_dyn hK hI (ci := 0) rfl (Or.inl ⟨0, rfl⟩)) (sc_X0_kindAt _ X H.size _ b23 _ _ hw) (lw_VW q1146 q1148 qs26 q84 q1149) (by decide +kernel) ⟨rfl, rfl, Nat.le_of_ble_eq_true rfl, Nat.le_of_ble_eq_true rfl⟩ (av_W [aR r21] 8 (Nat.le_of_ble_eq_true rfl)) dX0_sameKind_66 rfl rfl ⟨by omega, by omega⟩) (fun r25 μ26 hw => ?_)
              obtain hb : ((((0 + b9) + b14) + b19) + b23) + ((((b - b9) - b14) - b19) - b23) ≤ (zz_R Z).cells ∧ ((((0 + 5 * b9) + 5 * b14) + 5 * b19) + 5 * b23) + 5 * ((((b - b9) - b14) - b19) - b23) ≤ (zz_R Z).slots := ⟨by omega, by omega⟩
              obtain ⟨a27, ha28, hw⟩ := hw
              rw [ha28]
              obtain ⟨ht31, hw⟩ := hw
              refine fun H locs hI ls hl => cx_ri (S := []) hI hl (fun _ h => h) (cr_V (Cn := RJ0) (As := [toV (aR r25)]) (rest := []) C hK hI hl 1 (cv_str hK hI ht31) (sc_J0_equals _ X H.size _ _ _ _ hw) (lw_V q1281 q767 q768 q88 q769) (by decide +kernel) ⟨rfl, rfl, Nat.le_of_ble_eq_true rfl, Nat.le_of_ble_eq_true rfl⟩ (av_W [] 8 (Nat.le_of_ble_eq_true rfl)) dX0_sameKind_69 rfl rfl ⟨by omega, by omega⟩) (fun r29 μ30 hw => ?_)
              obtain ⟨hr32, hw⟩ := hw
              refine hx_if_eq (tgt := 79) C dX0_sameKind_72 (by decide) hr32 (fun h => ?_) (fun h => ?_)
              · have hw := hw.1 h
                refine hx_iconst C dX0_sameKind_79 ?_
                refine hx_L [] rfl ?_
                exact sc_X0_sameKind_80 C hK hQ  _ _ _ hw _ _ hb
              · have hw := hw.2 h
                refine hx_iconst C dX0_sameKind_75 ?_
                refine hx_goto (tgt := 80) C dX0_sameKind_76 (by decide) ?_
                refine hx_L [] rfl ?_
                exact sc_X0_sameKind_80 C hK hQ  _ _ _ hw _ _ hb
            · have hw := hw.2 h
              refine hx_L [] rfl ?_
              exact sc_X0_sameKind_54 C hK hQ  _ _ hw _ _ hb
        · have hw := hw.2 h
          refine hx_L [] rfl ?_
          exact sc_X0_sameKind_35 C hK hQ  _ _ hw _ _ hb
    · have hw := hw.2 h
      refine hx_L [] rfl ?_
      exact sc_X0_sameKind_14 C hK hQ  _ _ hw _ _ hb
