/-! walks of the component (printed by gen_comp) -/
set_option maxRecDepth 100000
-- ('BinderPress', 'same', '(II)I')
def wc_X0_same_14 (X : cX) (Q : Int → CM → Prop) (μ : CM) : Prop := Q (-1000000001) μ
set_option maxHeartbeats 4000000 in
theorem sc_X0_same_14 {Z : zz} {X : cX} {μ0 : CM} {Q : Int → CM → Prop} (C : gC Z cX0_same 3 RX0 (some .int) 133 2934) (hK : cCt Z X μ0) (hQ : zz_q Z = MQ (zz_b Z) (cQi X μ0 (zz_s Z).heap.size Q) (zz_a Z) (zz_s Z) (zz_R Z).cells (zz_R Z).slots (cA X μ0 (zz_s Z).heap.size))  : ∀ μ, wc_X0_same_14 X Q μ → hG Z 3 (cI Z X μ0 μ) 0 0 14 [] [] := by
  intro μ hw
  unfold wc_X0_same_14 at hw
  refine hx_ldc C (-1000000001) q218 (by decide) dX0_same_14 ?_
  exact cx_iret C hQ (by omega) (by omega) rfl hw dX0_same_16
def wc_X0_same_35 (X : cX) (Q : Int → CM → Prop) (μ : CM) : Prop := Q (-1000000003) μ
set_option maxHeartbeats 4000000 in
theorem sc_X0_same_35 {Z : zz} {X : cX} {μ0 : CM} {Q : Int → CM → Prop} (C : gC Z cX0_same 3 RX0 (some .int) 133 2934) (hK : cCt Z X μ0) (hQ : zz_q Z = MQ (zz_b Z) (cQi X μ0 (zz_s Z).heap.size Q) (zz_a Z) (zz_s Z) (zz_R Z).cells (zz_R Z).slots (cA X μ0 (zz_s Z).heap.size))  : ∀ μ, wc_X0_same_35 X Q μ → hG Z 3 (cI Z X μ0 μ) 0 0 35 [] [] := by
  intro μ hw
  unfold wc_X0_same_35 at hw
  refine hx_ldc C (-1000000003) q494 (by decide) dX0_same_35 ?_
  exact cx_iret C hQ (by omega) (by omega) rfl hw dX0_same_37
def wc_X0_same_61 (X : cX) (Q : Int → CM → Prop) (s0 : Int) (μ : CM) : Prop := Q s0 μ
set_option maxHeartbeats 4000000 in
theorem sc_X0_same_61 {Z : zz} {X : cX} {μ0 : CM} {Q : Int → CM → Prop} (C : gC Z cX0_same 3 RX0 (some .int) 133 2934) (hK : cCt Z X μ0) (hQ : zz_q Z = MQ (zz_b Z) (cQi X μ0 (zz_s Z).heap.size Q) (zz_a Z) (zz_s Z) (zz_R Z).cells (zz_R Z).slots (cA X μ0 (zz_s Z).heap.size))  : ∀ s0 μ, wc_X0_same_61 X Q s0 μ → hG Z 3 (cI Z X μ0 μ) 0 0 61 [] [aI s0] := by
  intro s0 μ hw
  unfold wc_X0_same_61 at hw
  exact cx_iret C hQ (by omega) (by omega) rfl hw dX0_same_61
def wc_X0_same (X : cX) (l1 : Int) (l2 : Int) (μ : CM) (Q : Int → CM → Prop) : Prop := wc_X0_isShelf X l1 μ (fun r1 μ2 => R32 r1 ∧ ((r1 = 0 → wc_X0_same_14 X   Q μ2) ∧ (¬ r1 = 0 → wc_X0_isShelf X l2 μ2 (fun r4 μ5 => R32 r4 ∧ ((¬ r4 = 0 → (0 ≤ l1 ∧ l1 < 4) ∧ (((kR μ5 1 (l1).toNat) = none → wc_X0_same_35 X   Q μ5) ∧ (¬ (kR μ5 1 (l1).toNat) = none → (0 ≤ l2 ∧ l2 < 4) ∧ ((¬ (kR μ5 1 (l2).toNat) = none → ((0 ≤ l1 ∧ l1 < 4) ∧ (0 ≤ l2 ∧ l2 < 4) ∧ ∃ a11, (kR μ5 1 (l1).toNat) = some a11 ∧ wr_V_isSame X 130 a11 (kR μ5 1 (l2).toNat) μ5 (fun r13 μ14 => R32 r13 ∧ ((r13 = 0 → wc_X0_same_61 X   Q 0 μ14) ∧ (¬ r13 = 0 → wc_X0_same_61 X   Q 1 μ14))))) ∧ ((kR μ5 1 (l2).toNat) = none → wc_X0_same_35 X   Q μ5))))) ∧ (r4 = 0 → wc_X0_same_14 X   Q μ5))))))
set_option maxHeartbeats 4000000 in
theorem sc_X0_same (l : Launch) (X : cX) (sz : Nat) (Q : Int → CM → Prop) (l1 : Int) (l2 : Int) (μ : CM) (hw : wc_X0_same X l1 l2 μ Q) : Met l yX0_same (ws_ yX0_same cX0_same 3 (some .int)) ({ frames := 133, cells := 0, slots := 0, locals := 2934 }) (cPc X (([aR (some (cX_h X)), aI l1, aI l2] : List AV).map toV) μ sz) (cQi X μ sz Q) 0 (0) (cA X μ sz) := by
  refine cx_met2 (rm := ({ frames := 133, cells := 0, slots := 0, locals := 2934 })) (As := [aR (some (cX_h X)), aI l1, aI l2]) (L0 := [(0, aR (some (cX_h X))), (1, aI l1), (2, aI l2)]) (by decide) rfl (Nat.le_of_ble_eq_true rfl) rfl ?_
  intro Z C hK hsz hR hl0 hin hQ
  subst hsz
  have C : gC Z cX0_same 3 RX0 (some .int) 133 2934 := C
  have hQ : zz_q Z = MQ (zz_b Z) (cQi X μ (zz_s Z).heap.size Q) (zz_a Z) (zz_s Z) (zz_R Z).cells (zz_R Z).slots (cA X μ (zz_s Z).heap.size) := by rw [hR]; exact hQ
  unfold wc_X0_same at hw
  refine hx_iload_n C dX0_same_0 1 rfl rfl ?_
  refine fun H locs hI ls hl => cx_ri (S := []) hI hl (fun _ h => h) (cr_S (As := [toV (aI l1)]) (rest := []) C hK hI hl 1 (sc_X0_isShelf _ X H.size _ _ _ hw) (lw_S q215 q216 q84 q217) (by decide +kernel) ⟨rfl, rfl, Nat.le_of_ble_eq_true rfl, Nat.le_of_ble_eq_true rfl⟩ (av_W [] 8 (Nat.le_of_ble_eq_true rfl)) dX0_same_1 rfl rfl ⟨by omega, by omega⟩) (fun r1 μ2 hw => ?_)
  obtain ⟨hr3, hw⟩ := hw
  refine hx_if_eq (tgt := 14) C dX0_same_4 (by decide) hr3 (fun h => ?_) (fun h => ?_)
  · have hw := hw.1 h
    refine hx_L [] rfl ?_
    exact sc_X0_same_14 C hK hQ  _ hw
  · have hw := hw.2 h
    refine hx_iload_n C dX0_same_7 2 rfl rfl ?_
    refine fun H locs hI ls hl => cx_ri (S := []) hI hl (fun _ h => h) (cr_S (As := [toV (aI l2)]) (rest := []) C hK hI hl 1 (sc_X0_isShelf _ X H.size _ _ _ hw) (lw_S q215 q216 q84 q217) (by decide +kernel) ⟨rfl, rfl, Nat.le_of_ble_eq_true rfl, Nat.le_of_ble_eq_true rfl⟩ (av_W [] 8 (Nat.le_of_ble_eq_true rfl)) dX0_same_8 rfl rfl ⟨by omega, by omega⟩) (fun r4 μ5 hw => ?_)
    obtain ⟨hr6, hw⟩ := hw
    refine hx_if_ne (tgt := 17) C dX0_same_11 (by decide) hr6 (fun h => ?_) (fun h => ?_)
    · have hw := hw.1 h
      refine hx_aload_n C dX0_same_17 0 rfl rfl ?_
      refine cx_getS (μ := μ5) (v := aR (some (cX_a X 1))) C hK 0 1 rfl in_X0 (by decide) q167 rfl rfl rfl dX0_same_18 ?_
      refine hx_iload_n C dX0_same_21 1 rfl rfl ?_
      obtain ⟨hx7, hw⟩ := hw
      refine cx_aald (μ := μ5) (f := kR μ5 1) C hK 2 rfl (Or.inl ⟨2, rfl⟩) hx7.1 hx7.2 (by decide) dX0_same_22 ?_
      refine hx_ifnull (tgt := 35) C dX0_same_23 (by decide) (fun h => ?_) (fun h => ?_)
      · have hw := hw.1 h
        refine hx_L [] rfl ?_
        exact sc_X0_same_35 C hK hQ  _ hw
      · have hw := hw.2 h
        refine hx_aload_n C dX0_same_26 0 rfl rfl ?_
        refine cx_getS (μ := μ5) (v := aR (some (cX_a X 1))) C hK 0 1 rfl in_X0 (by decide) q167 rfl rfl rfl dX0_same_27 ?_
        refine hx_iload_n C dX0_same_30 2 rfl rfl ?_
        obtain ⟨hx8, hw⟩ := hw
        refine cx_aald (μ := μ5) (f := kR μ5 1) C hK 2 rfl (Or.inl ⟨2, rfl⟩) hx8.1 hx8.2 (by decide) dX0_same_31 ?_
        refine hx_ifnonnull (tgt := 38) C dX0_same_32 (by decide) (fun h => ?_) (fun h => ?_)
        · have hw := hw.1 h
          refine hx_aload_n C dX0_same_38 0 rfl rfl ?_
          refine cx_getS (μ := μ5) (v := aR (some (cX_a X 1))) C hK 0 1 rfl in_X0 (by decide) q167 rfl rfl rfl dX0_same_39 ?_
          refine hx_iload_n C dX0_same_42 1 rfl rfl ?_
          obtain ⟨hx9, hw⟩ := hw
          refine cx_aald (μ := μ5) (f := kR μ5 1) C hK 2 rfl (Or.inl ⟨2, rfl⟩) hx9.1 hx9.2 (by decide) dX0_same_43 ?_
          refine hx_aload_n C dX0_same_44 0 rfl rfl ?_
          refine cx_getS (μ := μ5) (v := aR (some (cX_a X 1))) C hK 0 1 rfl in_X0 (by decide) q167 rfl rfl rfl dX0_same_45 ?_
          refine hx_iload_n C dX0_same_48 2 rfl rfl ?_
          obtain ⟨hx10, hw⟩ := hw
          refine cx_aald (μ := μ5) (f := kR μ5 1) C hK 2 rfl (Or.inl ⟨2, rfl⟩) hx10.1 hx10.2 (by decide) dX0_same_49 ?_
          obtain ⟨a11, ha12, hw⟩ := hw
          rw [ha12]
          refine fun H locs hI ls hl => cx_ri (S := []) hI hl (fun _ h => h) (dv_isSame (rest := []) C hK hI hl (rr_V_isSame _ X 130) hw (by omega) (by omega) (C.w _ q1331) (av_W [] 8 (Nat.le_of_ble_eq_true rfl)) dX0_same_50 rfl rfl ⟨by omega, by omega⟩) (fun r13 μ14 hw => ?_)
          obtain ⟨hr15, hw⟩ := hw
          refine hx_if_eq (tgt := 60) C dX0_same_53 (by decide) hr15 (fun h => ?_) (fun h => ?_)
          · have hw := hw.1 h
            refine hx_iconst C dX0_same_60 ?_
            refine hx_L [] rfl ?_
            exact sc_X0_same_61 C hK hQ  _ _ hw
          · have hw := hw.2 h
            refine hx_iconst C dX0_same_56 ?_
            refine hx_goto (tgt := 61) C dX0_same_57 (by decide) ?_
            refine hx_L [] rfl ?_
            exact sc_X0_same_61 C hK hQ  _ _ hw
        · have hw := hw.2 h
          refine hx_L [] rfl ?_
          exact sc_X0_same_35 C hK hQ  _ hw
    · have hw := hw.2 h
      refine hx_L [] rfl ?_
      exact sc_X0_same_14 C hK hQ  _ hw
-- ('BinderPress', 'keep', '(I)I')
def wc_X0_keep (X : cX) (b : Nat) (l1 : Int) (μ : CM) (Q : Int → CM → Prop) : Prop := wc_X0_isIn X l1 0 1 μ (fun r1 μ2 => R32 r1 ∧ ((¬ r1 = 0 → (1 ≤ b ∧ ∀ a5, tg μ2 a5 = 0 → (0 ≤ l1 ∧ l1 < 2) ∧ (0 ≤ l1 ∧ l1 < 2) ∧ ∃ a10, (kR (pkR (alc μ2 a5 22 4) 10 (l1).toNat (some a5)) 10 (l1).toNat) = some a10 ∧ tg (alc μ2 a5 22 4) a10 = 22 ∧ ((0 ≤ (0 : Int) ∧ 0 ≤ (0 : Int) ∧ 0 ≤ (4 : Int)) ∧ ((0 : Int) + (4 : Int) ≤ (4 : Nat) ∧ (0 : Int) + (4 : Int) ≤ ((ln (alc μ2 a5 22 4) a10) : Nat)) ∧ (4 : Nat) < 2147483648 ∧ ((ln (alc μ2 a5 22 4) a10) : Nat) < 2147483648) ∧ (∀ i : Nat, (i : Int) < (4 : Int) → ∀ v, (kR (pkR (alc μ2 a5 22 4) 10 (l1).toNat (some a5)) 1) (((0 : Int)).toNat + i) = some v → 5 ≤ tg (alc μ2 a5 22 4) v ∧ tg (alc μ2 a5 22 4) v ≤ 8) ∧ Q 1 (pkI (prR (pkR (alc μ2 a5 22 4) 10 (l1).toNat (some a5)) a10 (va_cpy (kR (pkR (alc μ2 a5 22 4) 10 (l1).toNat (some a5)) 1) (oR (pkR (alc μ2 a5 22 4) 10 (l1).toNat (some a5)) a10) ((0 : Int)).toNat ((0 : Int)).toNat ((4 : Int)).toNat)) 5 0 0))) ∧ (r1 = 0 → Q (-1000000001) μ2)))
set_option maxHeartbeats 4000000 in
theorem sc_X0_keep (l : Launch) (X : cX) (sz : Nat) (Q : Int → CM → Prop) (b : Nat) (l1 : Int) (μ : CM) (hw : wc_X0_keep X b l1 μ Q) : Met l yX0_keep (ws_ yX0_keep cX0_keep 2 (some .int)) ({ frames := 1, cells := b, slots := 5 * b, locals := 30 }) (cPc X (([aR (some (cX_h X)), aI l1] : List AV).map toV) μ sz) (cQi X μ sz Q) b (5 * b) (cA X μ sz) := by
  refine cx_met2 (rm := ({ frames := 1, cells := b, slots := 5 * b, locals := 30 })) (As := [aR (some (cX_h X)), aI l1]) (L0 := [(0, aR (some (cX_h X))), (1, aI l1)]) (by decide) rfl (Nat.le_of_ble_eq_true rfl) rfl ?_
  intro Z C hK hsz hR hl0 hin hQ
  subst hsz
  have C : gC Z cX0_keep 2 RX0 (some .int) 1 30 := C
  have hQ : zz_q Z = MQ (zz_b Z) (cQi X μ (zz_s Z).heap.size Q) (zz_a Z) (zz_s Z) (zz_R Z).cells (zz_R Z).slots (cA X μ (zz_s Z).heap.size) := by rw [hR]; exact hQ
  have hb : 0 + b ≤ (zz_R Z).cells ∧ 0 + 5 * b ≤ (zz_R Z).slots := by rw [hR]; exact ⟨by dsimp only; omega, by dsimp only; omega⟩
  unfold wc_X0_keep at hw
  refine hx_iload_n C dX0_keep_0 1 rfl rfl ?_
  refine hx_iconst C dX0_keep_1 ?_
  refine hx_iconst C dX0_keep_2 ?_
  refine fun H locs hI ls hl => cx_ri (S := []) hI hl (fun _ h => h) (cr_S (As := [toV (aI l1), toV (aI 0), toV (aI 1)]) (rest := []) C hK hI hl 3 (sc_X0_isIn _ X H.size _ _ _ _ _ hw) (lw_S q205 q206 q84 q207) (by decide +kernel) ⟨rfl, rfl, Nat.le_of_ble_eq_true rfl, Nat.le_of_ble_eq_true rfl⟩ (av_W [] 8 (Nat.le_of_ble_eq_true rfl)) dX0_keep_3 rfl rfl ⟨by omega, by omega⟩) (fun r1 μ2 hw => ?_)
  obtain ⟨hr3, hw⟩ := hw
  refine hx_if_ne (tgt := 12) C dX0_keep_6 (by decide) hr3 (fun h => ?_) (fun h => ?_)
  · have hw := hw.1 h
    refine hx_aload_n C dX0_keep_12 0 rfl rfl ?_
    refine cx_getS (μ := μ2) (v := aR (some (cX_a X 10))) C hK 0 10 rfl in_X0 (by decide) q176 rfl rfl rfl dX0_keep_13 ?_
    refine hx_iload_n C dX0_keep_16 1 rfl rfl ?_
    refine hx_iconst C dX0_keep_17 ?_
    obtain ⟨hu4, hw⟩ := hw
    refine cx_newQL C hK 2 22 4 rfl rfl rfl (by decide) q160 (by decide) (fun ν a h => cdA_2 h) (by decide) (by decide) (by omega) (by omega) dX0_keep_18 (fun a5 hf6 => ?_)
    have hw := hw a5 hf6
    obtain hb : (0 + 1) + (b - 1) ≤ (zz_R Z).cells ∧ (0 + 4) + 5 * (b - 1) ≤ (zz_R Z).slots := ⟨by omega, by omega⟩
    have ht7 : tg (alc μ2 a5 22 4) a5 = 22 := alc_t
    obtain ⟨hx8, hw⟩ := hw
    refine cx_aastA (μ := (alc μ2 a5 22 4)) (μ' := (pkR (alc μ2 a5 22 4) 10 (l1).toNat (some a5))) C hK (cu_S 7 rfl (csb_10 X _ _ _) rfl rfl rfl rfl) ht7 hx8.1 hx8.2 (by decide) dX0_keep_21 ?_
    refine hx_aload_n C dX0_keep_22 0 rfl rfl ?_
    refine cx_getS (μ := (pkR (alc μ2 a5 22 4) 10 (l1).toNat (some a5))) (v := aR (some (cX_a X 1))) C hK 0 1 rfl in_X0 (by decide) q167 rfl rfl rfl dX0_keep_23 ?_
    refine hx_iconst C dX0_keep_26 ?_
    refine hx_aload_n C dX0_keep_27 0 rfl rfl ?_
    refine cx_getS (μ := (pkR (alc μ2 a5 22 4) 10 (l1).toNat (some a5))) (v := aR (some (cX_a X 10))) C hK 0 10 rfl in_X0 (by decide) q176 rfl rfl rfl dX0_keep_28 ?_
    refine hx_iload_n C dX0_keep_31 1 rfl rfl ?_
    obtain ⟨hx9, hw⟩ := hw
    refine cx_aaldA (μ := (pkR (alc μ2 a5 22 4) 10 (l1).toNat (some a5))) (f := kR (pkR (alc μ2 a5 22 4) 10 (l1).toNat (some a5)) 10) C hK (Or.inl ⟨7, rfl⟩) hx9.1 hx9.2 (by decide) dX0_keep_32 ?_
    refine hx_iconst C dX0_keep_33 ?_
    refine hx_iconst C dX0_keep_34 ?_
    obtain ⟨a10, ha11, hw⟩ := hw
    rw [ha11]
    obtain ⟨ht12, hw⟩ := hw
    obtain ⟨hc13, hw⟩ := hw
    obtain ⟨hx14, hw⟩ := hw
    refine cx_copyT (S := []) (μ := (pkR (alc μ2 a5 22 4) 10 (l1).toNat (some a5))) (μ' := (prR (pkR (alc μ2 a5 22 4) 10 (l1).toNat (some a5)) a10 (va_cpy (kR (pkR (alc μ2 a5 22 4) 10 (l1).toNat (some a5)) 1) (oR (pkR (alc μ2 a5 22 4) 10 (l1).toNat (some a5)) a10) ((0 : Int)).toNat ((0 : Int)).toNat ((4 : Int)).toNat))) (f := (kR (pkR (alc μ2 a5 22 4) 10 (l1).toNat (some a5)) 1)) (g := (oR (pkR (alc μ2 a5 22 4) 10 (l1).toNat (some a5)) a10)) C hK q483 q485 q484 q98 (Or.inl ⟨2, rfl⟩) (cu_rT ht12) hc13 hx14 (by omega) (by simp [toV_cat, avc, nativeFrameWords]; try omega) dX0_keep_35 ?_
    refine hx_aload_n C dX0_keep_38 0 rfl rfl ?_
    refine hx_iconst C dX0_keep_39 ?_
    refine cx_putS C hK 0 5 (by decide) rfl in_X0 tyX0_ok nmX0 (by decide) q171 rfl rfl rfl (Nat.le_of_ble_eq_true rfl) ⟨rfl, rfl⟩ (csb_5 X _ _) rfl rfl rfl rfl dX0_keep_40 ?_
    refine hx_iconst C dX0_keep_43 ?_
    exact cx_iret C hQ (by omega) (by omega) rfl hw dX0_keep_44
  · have hw := hw.2 h
    refine hx_ldc C (-1000000001) q218 (by decide) dX0_keep_9 ?_
    exact cx_iret C hQ (by omega) (by omega) rfl hw dX0_keep_11
-- ('BinderPress', 'goBack', '(I)I')
def wc_X0_goBack_42b (X : cX) (P42 : Int → CM → Prop) (Q : Int → CM → Prop) (l2 : Int) (μ : CM) : Prop := R32 l2 ∧ ((4 ≤ l2 → Q 1 (pkI μ 5 0 0)) ∧ (l2 < 4 → (0 ≤ l2 ∧ l2 < 4) ∧ (∀ v, none = some v → tg μ v = 13 ∨ tg μ v = 14) ∧ P42 (l2 + 1) (pkR μ 2 (l2).toNat none)))
set_option maxHeartbeats 4000000 in
theorem sc_X0_goBack_42b {Z : zz} {X : cX} {μ0 : CM} {Q : Int → CM → Prop} (C : gC Z cX0_goBack 3 RX0 (some .int) 1 30) (hK : cCt Z X μ0) (hQ : zz_q Z = MQ (zz_b Z) (cQi X μ0 (zz_s Z).heap.size Q) (zz_a Z) (zz_s Z) (zz_R Z).cells (zz_R Z).slots (cA X μ0 (zz_s Z).heap.size)) {P42 : Int → CM → Prop} (hP42 : ∀ l2 μ, P42 l2 μ → hG Z 3 (cI Z X μ0 μ) 0 0 42 [(0, aR (some (cX_h X))), (2, aI l2)] [])  : ∀ l2 μ, wc_X0_goBack_42b X P42 Q l2 μ → hG Z 3 (cI Z X μ0 μ) 0 0 42 [(0, aR (some (cX_h X))), (2, aI l2)] [] := by
  intro l2 μ hw
  unfold wc_X0_goBack_42b at hw
  refine hx_iload_n C dX0_goBack_42 1 rfl rfl ?_
  refine hx_iconst C dX0_goBack_43 ?_
  obtain ⟨hr1, hw⟩ := hw
  refine hx_icmp_ge (tgt := 60) C dX0_goBack_44 (by decide) hr1 (by decide) (fun h => ?_) (fun h => ?_)
  · have hw := hw.1 h
    refine hx_aload_n C dX0_goBack_60 0 rfl rfl ?_
    refine hx_iconst C dX0_goBack_61 ?_
    refine cx_putS C hK 0 5 (by decide) rfl in_X0 tyX0_ok nmX0 (by decide) q171 rfl rfl rfl (Nat.le_of_ble_eq_true rfl) ⟨rfl, rfl⟩ (csb_5 X _ _) rfl rfl rfl rfl dX0_goBack_62 ?_
    refine hx_iconst C dX0_goBack_65 ?_
    exact cx_iret C hQ (by omega) (by omega) rfl hw dX0_goBack_66
  · have hw := hw.2 h
    refine hx_aload_n C dX0_goBack_47 0 rfl rfl ?_
    refine cx_getS (μ := μ) (v := aR (some (cX_a X 2))) C hK 0 2 rfl in_X0 (by decide) q168 rfl rfl rfl dX0_goBack_48 ?_
    refine hx_iload_n C dX0_goBack_51 1 rfl rfl ?_
    refine hx_null C dX0_goBack_52 ?_
    obtain ⟨hx2, hw⟩ := hw
    obtain ⟨hy3, hw⟩ := hw
    refine cx_aastS (μ := μ) (μ' := (pkR μ 2 (l2).toNat none)) C hK (cu_S 3 rfl (csb_2 X _ _ _) rfl rfl rfl rfl) hy3 hx2.1 hx2.2 (by decide) dX0_goBack_53 ?_
    refine hx_iinc (L' := [(2, aI (l2 + 1)), (0, aR (some (cX_h X)))]) C dX0_goBack_54 1 rfl (by decide) rfl ?_
    refine hx_goto (tgt := 42) C dX0_goBack_57 (by decide) ?_
    refine hx_L [1, 0] rfl ?_
    exact hP42 _ _ hw
def wc_X0_goBack_42 (X : cX) (Q : Int → CM → Prop) (l2 : Int) (μ : CM) : Prop := ∀ P42 : Int → CM → Prop, (∀ l2 μ, wc_X0_goBack_42b X P42 Q l2 μ → P42 l2 μ) → P42 l2 μ
set_option maxHeartbeats 4000000 in
theorem sc_X0_goBack_42 {Z : zz} {X : cX} {μ0 : CM} {Q : Int → CM → Prop} (C : gC Z cX0_goBack 3 RX0 (some .int) 1 30) (hK : cCt Z X μ0) (hQ : zz_q Z = MQ (zz_b Z) (cQi X μ0 (zz_s Z).heap.size Q) (zz_a Z) (zz_s Z) (zz_R Z).cells (zz_R Z).slots (cA X μ0 (zz_s Z).heap.size))  : ∀ l2 μ, wc_X0_goBack_42 X Q l2 μ → hG Z 3 (cI Z X μ0 μ) 0 0 42 [(0, aR (some (cX_h X))), (2, aI l2)] [] := by
  intro l2 μ hw
  exact hw (fun l2 μ => hG Z 3 (cI Z X μ0 μ) 0 0 42 [(0, aR (some (cX_h X))), (2, aI l2)] []) (fun l2 μ hw => sc_X0_goBack_42b C hK hQ (fun _ _ h => h) l2 μ hw)
def wc_X0_goBack (X : cX) (l1 : Int) (μ : CM) (Q : Int → CM → Prop) : Prop := wc_X0_isIn X l1 0 1 μ (fun r1 μ2 => R32 r1 ∧ ((¬ r1 = 0 → (0 ≤ l1 ∧ l1 < 2) ∧ ((¬ (kR μ2 10 (l1).toNat) = none → ((0 ≤ l1 ∧ l1 < 2) ∧ ∃ a6, (kR μ2 10 (l1).toNat) = some a6 ∧ tg μ2 a6 = 22 ∧ ((0 ≤ (0 : Int) ∧ 0 ≤ (0 : Int) ∧ 0 ≤ (4 : Int)) ∧ ((0 : Int) + (4 : Int) ≤ ((ln μ2 a6) : Nat) ∧ (0 : Int) + (4 : Int) ≤ (4 : Nat)) ∧ ((ln μ2 a6) : Nat) < 2147483648 ∧ (4 : Nat) < 2147483648) ∧ (∀ i : Nat, (i : Int) < (4 : Int) → ∀ v, (oR μ2 a6) (((0 : Int)).toNat + i) = some v → 5 ≤ tg μ2 v ∧ tg μ2 v ≤ 8) ∧ wc_X0_goBack_42 X   Q 0 (pkrR μ2 1 (va_cpy (oR μ2 a6) (kR μ2 1) ((0 : Int)).toNat ((0 : Int)).toNat ((4 : Int)).toNat)))) ∧ ((kR μ2 10 (l1).toNat) = none → Q (-1000000003) μ2))) ∧ (r1 = 0 → Q (-1000000001) μ2)))
set_option maxHeartbeats 4000000 in
theorem sc_X0_goBack (l : Launch) (X : cX) (sz : Nat) (Q : Int → CM → Prop) (l1 : Int) (μ : CM) (hw : wc_X0_goBack X l1 μ Q) : Met l yX0_goBack (ws_ yX0_goBack cX0_goBack 3 (some .int)) ({ frames := 1, cells := 0, slots := 0, locals := 30 }) (cPc X (([aR (some (cX_h X)), aI l1] : List AV).map toV) μ sz) (cQi X μ sz Q) 0 (0) (cA X μ sz) := by
  refine cx_met2 (rm := ({ frames := 1, cells := 0, slots := 0, locals := 30 })) (As := [aR (some (cX_h X)), aI l1]) (L0 := [(0, aR (some (cX_h X))), (1, aI l1)]) (by decide) rfl (Nat.le_of_ble_eq_true rfl) rfl ?_
  intro Z C hK hsz hR hl0 hin hQ
  subst hsz
  have C : gC Z cX0_goBack 3 RX0 (some .int) 1 30 := C
  have hQ : zz_q Z = MQ (zz_b Z) (cQi X μ (zz_s Z).heap.size Q) (zz_a Z) (zz_s Z) (zz_R Z).cells (zz_R Z).slots (cA X μ (zz_s Z).heap.size) := by rw [hR]; exact hQ
  unfold wc_X0_goBack at hw
  refine hx_iload_n C dX0_goBack_0 1 rfl rfl ?_
  refine hx_iconst C dX0_goBack_1 ?_
  refine hx_iconst C dX0_goBack_2 ?_
  refine fun H locs hI ls hl => cx_ri (S := []) hI hl (fun _ h => h) (cr_S (As := [toV (aI l1), toV (aI 0), toV (aI 1)]) (rest := []) C hK hI hl 3 (sc_X0_isIn _ X H.size _ _ _ _ _ hw) (lw_S q205 q206 q84 q207) (by decide +kernel) ⟨rfl, rfl, Nat.le_of_ble_eq_true rfl, Nat.le_of_ble_eq_true rfl⟩ (av_W [] 8 (Nat.le_of_ble_eq_true rfl)) dX0_goBack_3 rfl rfl ⟨by omega, by omega⟩) (fun r1 μ2 hw => ?_)
  obtain ⟨hr3, hw⟩ := hw
  refine hx_if_ne (tgt := 12) C dX0_goBack_6 (by decide) hr3 (fun h => ?_) (fun h => ?_)
  · have hw := hw.1 h
    refine hx_aload_n C dX0_goBack_12 0 rfl rfl ?_
    refine cx_getS (μ := μ2) (v := aR (some (cX_a X 10))) C hK 0 10 rfl in_X0 (by decide) q176 rfl rfl rfl dX0_goBack_13 ?_
    refine hx_iload_n C dX0_goBack_16 1 rfl rfl ?_
    obtain ⟨hx4, hw⟩ := hw
    refine cx_aaldA (μ := μ2) (f := kR μ2 10) C hK (Or.inl ⟨7, rfl⟩) hx4.1 hx4.2 (by decide) dX0_goBack_17 ?_
    refine hx_ifnonnull (tgt := 24) C dX0_goBack_18 (by decide) (fun h => ?_) (fun h => ?_)
    · have hw := hw.1 h
      refine hx_aload_n C dX0_goBack_24 0 rfl rfl ?_
      refine cx_getS (μ := μ2) (v := aR (some (cX_a X 10))) C hK 0 10 rfl in_X0 (by decide) q176 rfl rfl rfl dX0_goBack_25 ?_
      refine hx_iload_n C dX0_goBack_28 1 rfl rfl ?_
      obtain ⟨hx5, hw⟩ := hw
      refine cx_aaldA (μ := μ2) (f := kR μ2 10) C hK (Or.inl ⟨7, rfl⟩) hx5.1 hx5.2 (by decide) dX0_goBack_29 ?_
      refine hx_iconst C dX0_goBack_30 ?_
      refine hx_aload_n C dX0_goBack_31 0 rfl rfl ?_
      refine cx_getS (μ := μ2) (v := aR (some (cX_a X 1))) C hK 0 1 rfl in_X0 (by decide) q167 rfl rfl rfl dX0_goBack_32 ?_
      refine hx_iconst C dX0_goBack_35 ?_
      refine hx_iconst C dX0_goBack_36 ?_
      obtain ⟨a6, ha7, hw⟩ := hw
      rw [ha7]
      obtain ⟨ht8, hw⟩ := hw
      obtain ⟨hc9, hw⟩ := hw
      obtain ⟨hx10, hw⟩ := hw
      refine cx_copyT (S := []) (μ := μ2) (μ' := (pkrR μ2 1 (va_cpy (oR μ2 a6) (kR μ2 1) ((0 : Int)).toNat ((0 : Int)).toNat ((4 : Int)).toNat))) (f := (oR μ2 a6)) (g := (kR μ2 1)) C hK q483 q485 q484 q98 (Or.inr (cdA_2 ht8)) (cu_S 2 rfl (csr_1 X _ _) rfl rfl rfl rfl) hc9 hx10 (by omega) (by simp [toV_cat, avc, nativeFrameWords]; try omega) dX0_goBack_37 ?_
      refine hx_iconst C dX0_goBack_40 ?_
      refine hx_istore_n (L' := [(2, aI 0), (0, aR (some (cX_h X))), (1, aI l1)]) C dX0_goBack_41 rfl (by decide) rfl ?_
      refine hx_L [1, 0] rfl ?_
      exact sc_X0_goBack_42 C hK hQ  _ _ hw
    · have hw := hw.2 h
      refine hx_ldc C (-1000000003) q494 (by decide) dX0_goBack_21 ?_
      exact cx_iret C hQ (by omega) (by omega) rfl hw dX0_goBack_23
  · have hw := hw.2 h
    refine hx_ldc C (-1000000001) q218 (by decide) dX0_goBack_9 ?_
    exact cx_iret C hQ (by omega) (by omega) rfl hw dX0_goBack_11
-- ('BinderPress$Reader', '<init>', '([BI)V')
def wc_X3_init (X : cX) (l0 : Nat) (l1 : Option Nat) (l2 : Int) (μ : CM) (Q : CM → Prop) : Prop := tg μ l0 = 3 ∧ Q (poI (poR μ l0 0 l1) l0 1 l2)
set_option maxHeartbeats 4000000 in
theorem sc_X3_init (l : Launch) (X : cX) (sz : Nat) (Q : CM → Prop) (l0 : Nat) (l1 : Option Nat) (l2 : Int) (μ : CM) (hw : wc_X3_init X l0 l1 l2 μ Q) : Met l yX3_init (ws_ yX3_init cX3_init 3 none) ({ frames := 1, cells := 0, slots := 0, locals := 30 }) (cPc X (([aR (some l0), aR l1, aI l2] : List AV).map toV) μ sz) (cQv X μ sz Q) 0 (0) (cA X μ sz) := by
  refine cx_met2 (rm := ({ frames := 1, cells := 0, slots := 0, locals := 30 })) (As := [aR (some l0), aR l1, aI l2]) (L0 := [(0, aR (some l0)), (1, aR l1), (2, aI l2)]) (by decide) rfl (Nat.le_of_ble_eq_true rfl) rfl ?_
  intro Z C hK hsz hR hl0 hin hQ
  subst hsz
  have C : gC Z cX3_init 3 RX3 none 1 30 := C
  have hQ : zz_q Z = MQ (zz_b Z) (cQv X μ (zz_s Z).heap.size Q) (zz_a Z) (zz_s Z) (zz_R Z).cells (zz_R Z).slots (cA X μ (zz_s Z).heap.size) := by rw [hR]; exact hQ
  unfold wc_X3_init at hw
  refine hx_aload_n C dX3_init_0 0 rfl rfl ?_
  refine cx_objInit C q224 q116 q117 (by omega) (by simp [toV_cat, avc]; try omega) dX3_init_1 ?_
  refine hx_aload_n C dX3_init_4 0 rfl rfl ?_
  refine hx_aload_n C dX3_init_5 1 rfl rfl ?_
  obtain ⟨ht1, hw⟩ := hw
  refine cx_putF (μ := μ) (μ' := (poR μ l0 0 l1)) C hK hin 2 0 rfl in_X3 tyX3_ok nmX3 (by decide) q225 rfl rfl rfl (cdE_2 ht1) (Nat.le_of_ble_eq_true rfl) (cz_r (ty := tyX3 0) rfl l1) (cset_2_0 μ l0 l1) (cdE_2 ht1) rfl rfl rfl (fun _ _ => rfl) (fun _ hb => stq_o hb) dX3_init_6 ?_
  refine hx_aload_n C dX3_init_9 0 rfl rfl ?_
  refine hx_iload_n C dX3_init_10 2 rfl rfl ?_
  refine cx_putF (μ := (poR μ l0 0 l1)) (μ' := (poI (poR μ l0 0 l1) l0 1 l2)) C hK hin 2 1 rfl in_X3 tyX3_ok nmX3 (by decide) q226 rfl rfl rfl (cdE_2 ht1) (Nat.le_of_ble_eq_true rfl) ⟨rfl, rfl⟩ (cset_2_1 (poR μ l0 0 l1) l0 l2) (cdE_2 ht1) rfl rfl rfl (fun _ hb => st_o hb) (fun _ _ => rfl) dX3_init_11 ?_
  exact cx_vret C hQ (by omega) (by omega) hw dX3_init_14
-- ('BinderPress$Reader', 'here', '()I')
def wc_X3_here_66 (X : cX) (Q : Int → CM → Prop) (s0 : Int) (μ : CM) : Prop := Q s0 μ
set_option maxHeartbeats 4000000 in
theorem sc_X3_here_66 {Z : zz} {X : cX} {μ0 : CM} {Q : Int → CM → Prop} (C : gC Z cX3_here 1 RX3 (some .int) 0 0) (hK : cCt Z X μ0) (hQ : zz_q Z = MQ (zz_b Z) (cQi X μ0 (zz_s Z).heap.size Q) (zz_a Z) (zz_s Z) (zz_R Z).cells (zz_R Z).slots (cA X μ0 (zz_s Z).heap.size))  : ∀ s0 μ, wc_X3_here_66 X Q s0 μ → hG Z 1 (cI Z X μ0 μ) 0 0 66 [] [aI s0] := by
  intro s0 μ hw
  unfold wc_X3_here_66 at hw
  exact cx_iret C hQ (by omega) (by omega) rfl hw dX3_here_66
def wc_X3_here_38 (X : cX) (Q : Int → CM → Prop) (l0 : Nat) (μ : CM) : Prop := tg μ l0 = 3 ∧ R32 (oI μ l0 2) ∧ R32 (oI μ l0 1) ∧ (((oI μ l0 1) ≤ (oI μ l0 2) → wc_X3_here_66 X   Q (-1) μ) ∧ ((oI μ l0 2) < (oI μ l0 1) → (oR μ l0 0) = some (cX_a X 6) ∧ (0 ≤ (oI μ l0 2) ∧ (oI μ l0 2) < 240) ∧ wc_X3_here_66 X   Q (io_and (kI μ 6 ((oI μ l0 2)).toNat) 255) μ))
set_option maxHeartbeats 4000000 in
theorem sc_X3_here_38 {Z : zz} {X : cX} {μ0 : CM} {Q : Int → CM → Prop} (C : gC Z cX3_here 1 RX3 (some .int) 0 0) (hK : cCt Z X μ0) (hQ : zz_q Z = MQ (zz_b Z) (cQi X μ0 (zz_s Z).heap.size Q) (zz_a Z) (zz_s Z) (zz_R Z).cells (zz_R Z).slots (cA X μ0 (zz_s Z).heap.size))  : ∀ l0 μ, wc_X3_here_38 X Q l0 μ → hG Z 1 (cI Z X μ0 μ) 0 0 38 [(0, aR (some l0))] [] := by
  intro l0 μ hw
  unfold wc_X3_here_38 at hw
  refine hx_aload_n C dX3_here_38 0 rfl rfl ?_
  obtain ⟨ht1, hw⟩ := hw
  refine cx_get (μ := μ) (v := aI (oI μ l0 2)) C hK 2 2 rfl in_X3 (by decide) q227 rfl (cdE_2 ht1) rfl dX3_here_39 ?_
  refine hx_aload_n C dX3_here_42 0 rfl rfl ?_
  refine cx_get (μ := μ) (v := aI (oI μ l0 1)) C hK 2 1 rfl in_X3 (by decide) q226 rfl (cdE_2 ht1) rfl dX3_here_43 ?_
  obtain ⟨hr2, hw⟩ := hw
  obtain ⟨hr3, hw⟩ := hw
  refine hx_icmp_ge (tgt := 65) C dX3_here_46 (by decide) hr2 hr3 (fun h => ?_) (fun h => ?_)
  · have hw := hw.1 h
    refine hx_iconst C dX3_here_65 ?_
    refine hx_L [] rfl ?_
    exact sc_X3_here_66 C hK hQ  _ _ hw
  · have hw := hw.2 h
    refine hx_aload_n C dX3_here_49 0 rfl rfl ?_
    refine cx_get (μ := μ) (v := aR (oR μ l0 0)) C hK 2 0 rfl in_X3 (by decide) q225 rfl (cdE_2 ht1) rfl dX3_here_50 ?_
    obtain ⟨hg4, hw⟩ := hw
    rw [hg4]
    refine hx_aload_n C dX3_here_53 0 rfl rfl ?_
    refine cx_get (μ := μ) (v := aI (oI μ l0 2)) C hK 2 2 rfl in_X3 (by decide) q227 rfl (cdE_2 ht1) rfl dX3_here_54 ?_
    obtain ⟨hx5, hw⟩ := hw
    refine cx_bald (μ := μ) (f := kI μ 6) C hK (Or.inl ⟨6, rfl⟩) hx5.1 hx5.2 (by decide) dX3_here_57 ?_
    refine hx_sipush C dX3_here_58 (by decide) ?_
    refine hx_iand C dX3_here_61 ?_
    refine hx_goto (tgt := 66) C dX3_here_62 (by decide) ?_
    refine hx_L [] rfl ?_
    exact sc_X3_here_66 C hK hQ  _ _ hw
def wc_X3_here_0b (X : cX) (P0 : Nat → CM → Prop) (Q : Int → CM → Prop) (l0 : Nat) (μ : CM) : Prop := tg μ l0 = 3 ∧ R32 (oI μ l0 2) ∧ R32 (oI μ l0 1) ∧ (((oI μ l0 1) ≤ (oI μ l0 2) → wc_X3_here_38 X   Q l0 μ) ∧ ((oI μ l0 2) < (oI μ l0 1) → (oR μ l0 0) = some (cX_a X 6) ∧ (0 ≤ (oI μ l0 2) ∧ (oI μ l0 2) < 240) ∧ R32 (kI μ 6 ((oI μ l0 2)).toNat) ∧ ((¬ (kI μ 6 ((oI μ l0 2)).toNat) = 32 → wc_X3_here_38 X   Q l0 μ) ∧ ((kI μ 6 ((oI μ l0 2)).toNat) = 32 → P0 l0 (poI μ l0 2 ((oI μ l0 2) + 1))))))
set_option maxHeartbeats 4000000 in
theorem sc_X3_here_0b {Z : zz} {X : cX} {μ0 : CM} {Q : Int → CM → Prop} (C : gC Z cX3_here 1 RX3 (some .int) 0 0) (hK : cCt Z X μ0) (hQ : zz_q Z = MQ (zz_b Z) (cQi X μ0 (zz_s Z).heap.size Q) (zz_a Z) (zz_s Z) (zz_R Z).cells (zz_R Z).slots (cA X μ0 (zz_s Z).heap.size)) {P0 : Nat → CM → Prop} (hP0 : ∀ l0 μ, P0 l0 μ → hG Z 1 (cI Z X μ0 μ) 0 0 0 [(0, aR (some l0))] [])  : ∀ l0 μ, wc_X3_here_0b X P0 Q l0 μ → hG Z 1 (cI Z X μ0 μ) 0 0 0 [(0, aR (some l0))] [] := by
  intro l0 μ hw
  unfold wc_X3_here_0b at hw
  refine hx_aload_n C dX3_here_0 0 rfl rfl ?_
  obtain ⟨ht1, hw⟩ := hw
  refine cx_get (μ := μ) (v := aI (oI μ l0 2)) C hK 2 2 rfl in_X3 (by decide) q227 rfl (cdE_2 ht1) rfl dX3_here_1 ?_
  refine hx_aload_n C dX3_here_4 0 rfl rfl ?_
  refine cx_get (μ := μ) (v := aI (oI μ l0 1)) C hK 2 1 rfl in_X3 (by decide) q226 rfl (cdE_2 ht1) rfl dX3_here_5 ?_
  obtain ⟨hr2, hw⟩ := hw
  obtain ⟨hr3, hw⟩ := hw
  refine hx_icmp_ge (tgt := 38) C dX3_here_8 (by decide) hr2 hr3 (fun h => ?_) (fun h => ?_)
  · have hw := hw.1 h
    refine hx_L [0] rfl ?_
    exact sc_X3_here_38 C hK hQ  _ _ hw
  · have hw := hw.2 h
    refine hx_aload_n C dX3_here_11 0 rfl rfl ?_
    refine cx_get (μ := μ) (v := aR (oR μ l0 0)) C hK 2 0 rfl in_X3 (by decide) q225 rfl (cdE_2 ht1) rfl dX3_here_12 ?_
    obtain ⟨hg4, hw⟩ := hw
    rw [hg4]
    refine hx_aload_n C dX3_here_15 0 rfl rfl ?_
    refine cx_get (μ := μ) (v := aI (oI μ l0 2)) C hK 2 2 rfl in_X3 (by decide) q227 rfl (cdE_2 ht1) rfl dX3_here_16 ?_
    obtain ⟨hx5, hw⟩ := hw
    refine cx_bald (μ := μ) (f := kI μ 6) C hK (Or.inl ⟨6, rfl⟩) hx5.1 hx5.2 (by decide) dX3_here_19 ?_
    refine hx_bipush C dX3_here_20 (by decide) ?_
    obtain ⟨hr6, hw⟩ := hw
    refine hx_icmp_ne (tgt := 38) C dX3_here_22 (by decide) hr6 (by decide) (fun h => ?_) (fun h => ?_)
    · have hw := hw.1 h
      refine hx_L [0] rfl ?_
      exact sc_X3_here_38 C hK hQ  _ _ hw
    · have hw := hw.2 h
      refine hx_aload_n C dX3_here_25 0 rfl rfl ?_
      refine hx_dup C dX3_here_26 rfl ?_
      refine cx_get (μ := μ) (v := aI (oI μ l0 2)) C hK 2 2 rfl in_X3 (by decide) q227 rfl (cdE_2 ht1) rfl dX3_here_27 ?_
      refine hx_iconst C dX3_here_30 ?_
      refine hx_iadd C dX3_here_31 ?_
      refine cx_put (μ := μ) (μ' := (poI μ l0 2 ((oI μ l0 2) + 1))) C hK 2 2 rfl in_X3 tyX3_ok nmX3 (by decide) q227 rfl rfl (cdE_2 ht1) (Nat.le_of_ble_eq_true rfl) ⟨rfl, rfl⟩ (cset_2_2 μ l0 ((oI μ l0 2) + 1)) (cdE_2 ht1) rfl rfl rfl (fun _ hb => st_o hb) (fun _ _ => rfl) dX3_here_32 ?_
      refine hx_goto (tgt := 0) C dX3_here_35 (by decide) ?_
      refine hx_L [0] rfl ?_
      exact hP0 _ _ hw
def wc_X3_here_0 (X : cX) (Q : Int → CM → Prop) (l0 : Nat) (μ : CM) : Prop := ∀ P0 : Nat → CM → Prop, (∀ l0 μ, wc_X3_here_0b X P0 Q l0 μ → P0 l0 μ) → P0 l0 μ
set_option maxHeartbeats 4000000 in
theorem sc_X3_here_0 {Z : zz} {X : cX} {μ0 : CM} {Q : Int → CM → Prop} (C : gC Z cX3_here 1 RX3 (some .int) 0 0) (hK : cCt Z X μ0) (hQ : zz_q Z = MQ (zz_b Z) (cQi X μ0 (zz_s Z).heap.size Q) (zz_a Z) (zz_s Z) (zz_R Z).cells (zz_R Z).slots (cA X μ0 (zz_s Z).heap.size))  : ∀ l0 μ, wc_X3_here_0 X Q l0 μ → hG Z 1 (cI Z X μ0 μ) 0 0 0 [(0, aR (some l0))] [] := by
  intro l0 μ hw
  exact hw (fun l0 μ => hG Z 1 (cI Z X μ0 μ) 0 0 0 [(0, aR (some l0))] []) (fun l0 μ hw => sc_X3_here_0b C hK hQ (fun _ _ h => h) l0 μ hw)
def wc_X3_here (X : cX) (l0 : Nat) (μ : CM) (Q : Int → CM → Prop) : Prop := wc_X3_here_0 X   Q l0 μ
set_option maxHeartbeats 4000000 in
theorem sc_X3_here (l : Launch) (X : cX) (sz : Nat) (Q : Int → CM → Prop) (l0 : Nat) (μ : CM) (hw : wc_X3_here X l0 μ Q) : Met l yX3_here (ws_ yX3_here cX3_here 1 (some .int)) ({ frames := 0, cells := 0, slots := 0, locals := 0 }) (cPc X (([aR (some l0)] : List AV).map toV) μ sz) (cQi X μ sz Q) 0 (0) (cA X μ sz) := by
  refine cx_met2 (rm := ({ frames := 0, cells := 0, slots := 0, locals := 0 })) (As := [aR (some l0)]) (L0 := [(0, aR (some l0))]) (by decide) rfl (Nat.le_of_ble_eq_true rfl) rfl ?_
  intro Z C hK hsz hR hl0 hin hQ
  subst hsz
  have C : gC Z cX3_here 1 RX3 (some .int) 0 0 := C
  have hQ : zz_q Z = MQ (zz_b Z) (cQi X μ (zz_s Z).heap.size Q) (zz_a Z) (zz_s Z) (zz_R Z).cells (zz_R Z).slots (cA X μ (zz_s Z).heap.size) := by rw [hR]; exact hQ
  unfold wc_X3_here at hw
  refine hx_L [0] rfl ?_
  exact sc_X3_here_0 C hK hQ  _ _ hw
