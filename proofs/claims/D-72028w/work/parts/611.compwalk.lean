/-! walks of the component (printed by gen_comp) -/
set_option maxRecDepth 100000
-- ('BinderPress', 'isName', '(I)Z')
def wc_X0_isName (X : cX) (l0 : Int) (μ : CM) (Q : Int → CM → Prop) : Prop := wc_X0_isIn X l0 97 122 μ (fun r1 μ2 => (r1 = 0 ∨ r1 = 1) ∧ Q r1 μ2)
set_option maxHeartbeats 4000000 in
theorem sc_X0_isName (l : Launch) (X : cX) (sz : Nat) (Q : Int → CM → Prop) (l0 : Int) (μ : CM) (hw : wc_X0_isName X l0 μ Q) : Met l yX0_isName (ws_ yX0_isName cX0_isName 1 (some .boolean)) ({ frames := 1, cells := 0, slots := 0, locals := 30 }) (cPc X (([aI l0] : List AV).map toV) μ sz) (cQi X μ sz Q) 0 (0) (cA X μ sz) := by
  refine cx_met2 (rm := ({ frames := 1, cells := 0, slots := 0, locals := 30 })) (As := [aI l0]) (L0 := [(0, aI l0)]) (by decide) rfl (Nat.le_of_ble_eq_true rfl) rfl ?_
  intro Z C hK hsz hR hl0 hin hQ
  subst hsz
  have C : gC Z cX0_isName 1 RX0 (some .boolean) 1 30 := C
  have hQ : zz_q Z = MQ (zz_b Z) (cQi X μ (zz_s Z).heap.size Q) (zz_a Z) (zz_s Z) (zz_R Z).cells (zz_R Z).slots (cA X μ (zz_s Z).heap.size) := by rw [hR]; exact hQ
  unfold wc_X0_isName at hw
  refine hx_iload_n C dX0_isName_0 0 rfl rfl ?_
  refine hx_bipush C dX0_isName_1 (by decide) ?_
  refine hx_bipush C dX0_isName_3 (by decide) ?_
  refine fun H locs hI ls hl => cx_ri (S := []) hI hl (fun _ h => h) (cr_S (As := [toV (aI l0), toV (aI 97), toV (aI 122)]) (rest := []) C hK hI hl 3 (sc_X0_isIn _ X H.size _ _ _ _ _ hw) (lw_S q205 q206 q84 q207) (by decide +kernel) ⟨rfl, rfl, Nat.le_of_ble_eq_true rfl, Nat.le_of_ble_eq_true rfl⟩ (av_W [] 8 (Nat.le_of_ble_eq_true rfl)) dX0_isName_5 rfl rfl ⟨by omega, by omega⟩) (fun r1 μ2 hw => ?_)
  obtain ⟨hz, hw⟩ := hw
  exact cx_iret C hQ (by omega) (by omega) (mz_n hz) hw dX0_isName_8
-- ('BinderPress', 'takeOut', '(II)I')
def wc_X0_takeOut_66 (X : cX) (Q : Int → CM → Prop) (s0 : Int) (b : Nat) (μ : CM) : Prop := Q s0 μ
set_option maxHeartbeats 4000000 in
theorem sc_X0_takeOut_66 {Z : zz} {X : cX} {μ0 : CM} {Q : Int → CM → Prop} (C : gC Z cX0_takeOut 4 RX0 (some .int) 3263 68264) (hK : cCt Z X μ0) (hQ : zz_q Z = MQ (zz_b Z) (cQi X μ0 (zz_s Z).heap.size Q) (zz_a Z) (zz_s Z) (zz_R Z).cells (zz_R Z).slots (cA X μ0 (zz_s Z).heap.size))  : ∀ s0 b μ, wc_X0_takeOut_66 X Q s0 b μ → ∀ kk nn, (kk + b ≤ (zz_R Z).cells ∧ nn + 5 * b ≤ (zz_R Z).slots) → hG Z 4 (cI Z X μ0 μ) kk nn 66 [] [aI s0] := by
  intro s0 b μ hw kk nn hb
  unfold wc_X0_takeOut_66 at hw
  exact cx_iret C hQ (by omega) (by omega) rfl hw dX0_takeOut_66
def wc_X0_takeOut (X : cX) (b : Nat) (l1 : Int) (l2 : Int) (μ : CM) (Q : Int → CM → Prop) : Prop := wc_X0_isShelf X l1 μ (fun r1 μ2 => R32 r1 ∧ ((¬ r1 = 0 → wc_X0_isName X l2 μ2 (fun r4 μ5 => R32 r4 ∧ ((¬ r4 = 0 → (0 ≤ l1 ∧ l1 < 4) ∧ ((¬ (kR μ5 1 (l1).toNat) = none → ((0 ≤ l1 ∧ l1 < 4) ∧ ∃ a9, (kR μ5 1 (l1).toNat) = some a9 ∧ ∃ b11, b11 ≤ b ∧ wr_V_compiled X 130 b11 a9 μ5 (fun r13 μ14 => (∃ a15, r13 = some a15 ∧ wr_V_size X 130 a15 μ14 (fun r17 μ18 => R32 r17 ∧ ((r17 ≤ 122 → (∃ b20, b20 ≤ (b - b11) ∧ wr_V_out X 3000 b20 a15 l2 μ18 (fun r22 μ23 => wc_X0_layIfSmall X l1 r22 μ23 (fun r24 μ25 => wc_X0_takeOut_66 X   Q r24 ((b - b11) - b20) μ25)))) ∧ (122 < r17 → wc_X0_takeOut_66 X   Q (-1000000004) (b - b11) μ18))))))) ∧ ((kR μ5 1 (l1).toNat) = none → Q (-1000000003) μ5))) ∧ (r4 = 0 → Q (-1000000002) μ5)))) ∧ (r1 = 0 → Q (-1000000001) μ2)))
set_option maxHeartbeats 4000000 in
theorem sc_X0_takeOut (l : Launch) (X : cX) (sz : Nat) (Q : Int → CM → Prop) (b : Nat) (l1 : Int) (l2 : Int) (μ : CM) (hw : wc_X0_takeOut X b l1 l2 μ Q) : Met l yX0_takeOut (ws_ yX0_takeOut cX0_takeOut 4 (some .int)) ({ frames := 3263, cells := b, slots := 5 * b, locals := 68264 }) (cPc X (([aR (some (cX_h X)), aI l1, aI l2] : List AV).map toV) μ sz) (cQi X μ sz Q) b (5 * b) (cA X μ sz) := by
  refine cx_met2 (rm := ({ frames := 3263, cells := b, slots := 5 * b, locals := 68264 })) (As := [aR (some (cX_h X)), aI l1, aI l2]) (L0 := [(0, aR (some (cX_h X))), (1, aI l1), (2, aI l2)]) (by decide) rfl (Nat.le_of_ble_eq_true rfl) rfl ?_
  intro Z C hK hsz hR hl0 hin hQ
  subst hsz
  have C : gC Z cX0_takeOut 4 RX0 (some .int) 3263 68264 := C
  have hQ : zz_q Z = MQ (zz_b Z) (cQi X μ (zz_s Z).heap.size Q) (zz_a Z) (zz_s Z) (zz_R Z).cells (zz_R Z).slots (cA X μ (zz_s Z).heap.size) := by rw [hR]; exact hQ
  have hb : 0 + b ≤ (zz_R Z).cells ∧ 0 + 5 * b ≤ (zz_R Z).slots := by rw [hR]; exact ⟨by dsimp only; omega, by dsimp only; omega⟩
  unfold wc_X0_takeOut at hw
  refine hx_iload_n C dX0_takeOut_0 1 rfl rfl ?_
  refine fun H locs hI ls hl => cx_ri (S := []) hI hl (fun _ h => h) (cr_S (As := [toV (aI l1)]) (rest := []) C hK hI hl 1 (sc_X0_isShelf _ X H.size _ _ _ hw) (lw_S q215 q216 q84 q217) (by decide +kernel) ⟨rfl, rfl, Nat.le_of_ble_eq_true rfl, Nat.le_of_ble_eq_true rfl⟩ (av_W [] 8 (Nat.le_of_ble_eq_true rfl)) dX0_takeOut_1 rfl rfl ⟨by omega, by omega⟩) (fun r1 μ2 hw => ?_)
  obtain ⟨hr3, hw⟩ := hw
  refine hx_if_ne (tgt := 10) C dX0_takeOut_4 (by decide) hr3 (fun h => ?_) (fun h => ?_)
  · have hw := hw.1 h
    refine hx_iload_n C dX0_takeOut_10 2 rfl rfl ?_
    refine fun H locs hI ls hl => cx_ri (S := []) hI hl (fun _ h => h) (cr_S (As := [toV (aI l2)]) (rest := []) C hK hI hl 1 (sc_X0_isName _ X H.size _ _ _ hw) (lw_S q604 q258 q84 q259) (by decide +kernel) ⟨rfl, rfl, Nat.le_of_ble_eq_true rfl, Nat.le_of_ble_eq_true rfl⟩ (av_W [] 8 (Nat.le_of_ble_eq_true rfl)) dX0_takeOut_11 rfl rfl ⟨by omega, by omega⟩) (fun r4 μ5 hw => ?_)
    obtain ⟨hr6, hw⟩ := hw
    refine hx_if_ne (tgt := 20) C dX0_takeOut_14 (by decide) hr6 (fun h => ?_) (fun h => ?_)
    · have hw := hw.1 h
      refine hx_aload_n C dX0_takeOut_20 0 rfl rfl ?_
      refine cx_getS (μ := μ5) (v := aR (some (cX_a X 1))) C hK 0 1 rfl in_X0 (by decide) q167 rfl rfl rfl dX0_takeOut_21 ?_
      refine hx_iload_n C dX0_takeOut_24 1 rfl rfl ?_
      obtain ⟨hx7, hw⟩ := hw
      refine cx_aald (μ := μ5) (f := kR μ5 1) C hK 2 rfl (Or.inl ⟨2, rfl⟩) hx7.1 hx7.2 (by decide) dX0_takeOut_25 ?_
      refine hx_ifnonnull (tgt := 32) C dX0_takeOut_26 (by decide) (fun h => ?_) (fun h => ?_)
      · have hw := hw.1 h
        refine hx_aload_n C dX0_takeOut_32 0 rfl rfl ?_
        refine cx_getS (μ := μ5) (v := aR (some (cX_a X 1))) C hK 0 1 rfl in_X0 (by decide) q167 rfl rfl rfl dX0_takeOut_33 ?_
        refine hx_iload_n C dX0_takeOut_36 1 rfl rfl ?_
        obtain ⟨hx8, hw⟩ := hw
        refine cx_aald (μ := μ5) (f := kR μ5 1) C hK 2 rfl (Or.inl ⟨2, rfl⟩) hx8.1 hx8.2 (by decide) dX0_takeOut_37 ?_
        obtain ⟨a9, ha10, hw⟩ := hw
        rw [ha10]
        obtain ⟨b11, hu12, hw⟩ := hw
        refine fun H locs hI ls hl => cx_rr (S := []) hI hl (fun _ h => h) (dv_compiled (rest := []) C hK hI hl (rr_V_compiled _ X 130) hw (by omega) (by omega) (C.w _ q495) (av_W [] 8 (Nat.le_of_ble_eq_true rfl)) dX0_takeOut_38 rfl rfl ⟨by omega, by omega⟩) (fun r13 μ14 hw => ?_)
        obtain hb : (0 + b11) + (b - b11) ≤ (zz_R Z).cells ∧ (0 + 5 * b11) + 5 * (b - b11) ≤ (zz_R Z).slots := ⟨by omega, by omega⟩
        refine hx_astore_n (L' := [(3, aR r13), (0, aR (some (cX_h X))), (1, aI l1), (2, aI l2)]) C dX0_takeOut_41 rfl (by decide) rfl ?_
        refine hx_aload_n C dX0_takeOut_42 0 rfl rfl ?_
        obtain ⟨a15, ha16, hw⟩ := hw
        rw [ha16]
        refine fun H locs hI ls hl => cx_ri (S := []) hI hl (fun _ h => h) (dv_size (rest := []) C hK hI hl (rr_V_size _ X 130) hw (by omega) (by omega) (va_Nw.use rfl (hK.1.2.2.1 _ (List.mem_of_getElem? (i := 72) rfl))) (av_W [] 8 (Nat.le_of_ble_eq_true rfl)) dX0_takeOut_43 rfl rfl ⟨by omega, by omega⟩) (fun r17 μ18 hw => ?_)
        refine hx_bipush C dX0_takeOut_46 (by decide) ?_
        obtain ⟨hr19, hw⟩ := hw
        refine hx_icmp_le (tgt := 56) C dX0_takeOut_48 (by decide) hr19 (by decide) (fun h => ?_) (fun h => ?_)
        · have hw := hw.1 h
          refine hx_aload_n C dX0_takeOut_56 1 rfl rfl ?_
          refine hx_iload_n C dX0_takeOut_57 2 rfl rfl ?_
          refine hx_aload_n C dX0_takeOut_58 0 rfl rfl ?_
          refine hx_iload_n C dX0_takeOut_59 3 rfl rfl ?_
          obtain ⟨b20, hu21, hw⟩ := hw
          refine fun H locs hI ls hl => cx_rr (S := [aI l1, aR (some (cX_h X))]) hI hl (fun _ h => h) (dv_out (rest := [toV (aI l1), toV (aR (some (cX_h X)))]) C hK hI hl (rr_V_out _ X 3000) hw (by omega) (by omega) (C.w _ q605) (av_W [aI l1, aR (some (cX_h X))] 8 (Nat.le_of_ble_eq_true rfl)) dX0_takeOut_60 rfl rfl ⟨by omega, by omega⟩) (fun r22 μ23 hw => ?_)
          obtain hb : ((0 + b11) + b20) + ((b - b11) - b20) ≤ (zz_R Z).cells ∧ ((0 + 5 * b11) + 5 * b20) + 5 * ((b - b11) - b20) ≤ (zz_R Z).slots := ⟨by omega, by omega⟩
          refine fun H locs hI ls hl => cx_ri (S := []) hI hl (fun _ h => h) (cr_V (Cn := RX0) (As := [toV (aI l1), toV (aR r22)]) (rest := []) C hK hI hl 2 (cv_dyn hK hI (ci := 0) rfl (Or.inl ⟨0, rfl⟩)) (sc_X0_layIfSmall _ X H.size _ _ _ _ hw) (lw_V q570 q572 qs9 q84 q573) (by decide +kernel) ⟨rfl, rfl, Nat.le_of_ble_eq_true rfl, Nat.le_of_ble_eq_true rfl⟩ (av_W [] 8 (Nat.le_of_ble_eq_true rfl)) dX0_takeOut_63 rfl rfl ⟨by omega, by omega⟩) (fun r24 μ25 hw => ?_)
          refine hx_L [] rfl ?_
          exact sc_X0_takeOut_66 C hK hQ  _ _ _ hw _ _ hb
        · have hw := hw.2 h
          refine hx_ldc C (-1000000004) q209 (by decide) dX0_takeOut_51 ?_
          refine hx_goto (tgt := 66) C dX0_takeOut_53 (by decide) ?_
          refine hx_L [] rfl ?_
          exact sc_X0_takeOut_66 C hK hQ  _ _ _ hw _ _ hb
      · have hw := hw.2 h
        refine hx_ldc C (-1000000003) q494 (by decide) dX0_takeOut_29 ?_
        exact cx_iret C hQ (by omega) (by omega) rfl hw dX0_takeOut_31
    · have hw := hw.2 h
      refine hx_ldc C (-1000000002) q208 (by decide) dX0_takeOut_17 ?_
      exact cx_iret C hQ (by omega) (by omega) rfl hw dX0_takeOut_19
  · have hw := hw.2 h
    refine hx_ldc C (-1000000001) q218 (by decide) dX0_takeOut_7 ?_
    exact cx_iret C hQ (by omega) (by omega) rfl hw dX0_takeOut_9
-- ('BinderPress', 'put', '(III)I')
def wc_X0_put_21 (X : cX) (Q : Int → CM → Prop) (b : Nat) (μ : CM) : Prop := Q (-1000000001) μ
set_option maxHeartbeats 4000000 in
theorem sc_X0_put_21 {Z : zz} {X : cX} {μ0 : CM} {Q : Int → CM → Prop} (C : gC Z cX0_put 4 RX0 (some .int) 133 2664) (hK : cCt Z X μ0) (hQ : zz_q Z = MQ (zz_b Z) (cQi X μ0 (zz_s Z).heap.size Q) (zz_a Z) (zz_s Z) (zz_R Z).cells (zz_R Z).slots (cA X μ0 (zz_s Z).heap.size))  : ∀ b μ, wc_X0_put_21 X Q b μ → ∀ kk nn, (kk + b ≤ (zz_R Z).cells ∧ nn + 5 * b ≤ (zz_R Z).slots) → hG Z 4 (cI Z X μ0 μ) kk nn 21 [] [] := by
  intro b μ hw kk nn hb
  unfold wc_X0_put_21 at hw
  refine hx_ldc C (-1000000001) q218 (by decide) dX0_put_21 ?_
  exact cx_iret C hQ (by omega) (by omega) rfl hw dX0_put_23
def wc_X0_put_71 (X : cX) (Q : Int → CM → Prop) (s0 : Int) (b : Nat) (μ : CM) : Prop := Q s0 μ
set_option maxHeartbeats 4000000 in
theorem sc_X0_put_71 {Z : zz} {X : cX} {μ0 : CM} {Q : Int → CM → Prop} (C : gC Z cX0_put 4 RX0 (some .int) 133 2664) (hK : cCt Z X μ0) (hQ : zz_q Z = MQ (zz_b Z) (cQi X μ0 (zz_s Z).heap.size Q) (zz_a Z) (zz_s Z) (zz_R Z).cells (zz_R Z).slots (cA X μ0 (zz_s Z).heap.size))  : ∀ s0 b μ, wc_X0_put_71 X Q s0 b μ → ∀ kk nn, (kk + b ≤ (zz_R Z).cells ∧ nn + 5 * b ≤ (zz_R Z).slots) → hG Z 4 (cI Z X μ0 μ) kk nn 71 [] [aI s0] := by
  intro s0 b μ hw kk nn hb
  unfold wc_X0_put_71 at hw
  exact cx_iret C hQ (by omega) (by omega) rfl hw dX0_put_71
def wc_X0_put_42 (X : cX) (Q : Int → CM → Prop) (b : Nat) (μ : CM) : Prop := wc_X0_put_71 X   Q (-1000000003) b μ
set_option maxHeartbeats 4000000 in
theorem sc_X0_put_42 {Z : zz} {X : cX} {μ0 : CM} {Q : Int → CM → Prop} (C : gC Z cX0_put 4 RX0 (some .int) 133 2664) (hK : cCt Z X μ0) (hQ : zz_q Z = MQ (zz_b Z) (cQi X μ0 (zz_s Z).heap.size Q) (zz_a Z) (zz_s Z) (zz_R Z).cells (zz_R Z).slots (cA X μ0 (zz_s Z).heap.size))  : ∀ b μ, wc_X0_put_42 X Q b μ → ∀ kk nn, (kk + b ≤ (zz_R Z).cells ∧ nn + 5 * b ≤ (zz_R Z).slots) → hG Z 4 (cI Z X μ0 μ) kk nn 42 [] [] := by
  intro b μ hw kk nn hb
  unfold wc_X0_put_42 at hw
  refine hx_ldc C (-1000000003) q494 (by decide) dX0_put_42 ?_
  refine hx_goto (tgt := 71) C dX0_put_44 (by decide) ?_
  refine hx_L [] rfl ?_
  exact sc_X0_put_71 C hK hQ  _ _ _ hw _ _ hb
def wc_X0_put (X : cX) (b : Nat) (l1 : Int) (l2 : Int) (l3 : Int) (μ : CM) (Q : Int → CM → Prop) : Prop := wc_X0_isShelf X l1 μ (fun r1 μ2 => R32 r1 ∧ ((r1 = 0 → wc_X0_put_21 X   Q b μ2) ∧ (¬ r1 = 0 → wc_X0_isShelf X l2 μ2 (fun r4 μ5 => R32 r4 ∧ ((r4 = 0 → wc_X0_put_21 X   Q b μ5) ∧ (¬ r4 = 0 → wc_X0_isShelf X l3 μ5 (fun r7 μ8 => R32 r7 ∧ ((¬ r7 = 0 → (0 ≤ l2 ∧ l2 < 4) ∧ (((kR μ8 1 (l2).toNat) = none → wc_X0_put_42 X   Q b μ8) ∧ (¬ (kR μ8 1 (l2).toNat) = none → (0 ≤ l3 ∧ l3 < 4) ∧ ((¬ (kR μ8 1 (l3).toNat) = none → 1 ≤ b ∧ ∀ a13, tg μ8 a13 = 0 → (0 ≤ l2 ∧ l2 < 4) ∧ (0 ≤ l3 ∧ l3 < 4) ∧ wc_X9_init X a13 (kR μ8 1 (l2).toNat) (kR μ8 1 (l3).toNat) (alc μ8 a13 8 0) (fun μ19 => wc_X0_layIfSmall X l1 (some a13) μ19 (fun r20 μ21 => wc_X0_put_71 X   Q r20 (b - 1) μ21))) ∧ ((kR μ8 1 (l3).toNat) = none → wc_X0_put_42 X   Q b μ8))))) ∧ (r7 = 0 → wc_X0_put_21 X   Q b μ8)))))))))
set_option maxHeartbeats 4000000 in
theorem sc_X0_put (l : Launch) (X : cX) (sz : Nat) (Q : Int → CM → Prop) (b : Nat) (l1 : Int) (l2 : Int) (l3 : Int) (μ : CM) (hw : wc_X0_put X b l1 l2 l3 μ Q) : Met l yX0_put (ws_ yX0_put cX0_put 4 (some .int)) ({ frames := 133, cells := b, slots := 5 * b, locals := 2664 }) (cPc X (([aR (some (cX_h X)), aI l1, aI l2, aI l3] : List AV).map toV) μ sz) (cQi X μ sz Q) b (5 * b) (cA X μ sz) := by
  refine cx_met2 (rm := ({ frames := 133, cells := b, slots := 5 * b, locals := 2664 })) (As := [aR (some (cX_h X)), aI l1, aI l2, aI l3]) (L0 := [(0, aR (some (cX_h X))), (1, aI l1), (2, aI l2), (3, aI l3)]) (by decide) rfl (Nat.le_of_ble_eq_true rfl) rfl ?_
  intro Z C hK hsz hR hl0 hin hQ
  subst hsz
  have C : gC Z cX0_put 4 RX0 (some .int) 133 2664 := C
  have hQ : zz_q Z = MQ (zz_b Z) (cQi X μ (zz_s Z).heap.size Q) (zz_a Z) (zz_s Z) (zz_R Z).cells (zz_R Z).slots (cA X μ (zz_s Z).heap.size) := by rw [hR]; exact hQ
  have hb : 0 + b ≤ (zz_R Z).cells ∧ 0 + 5 * b ≤ (zz_R Z).slots := by rw [hR]; exact ⟨by dsimp only; omega, by dsimp only; omega⟩
  unfold wc_X0_put at hw
  refine hx_iload_n C dX0_put_0 1 rfl rfl ?_
  refine fun H locs hI ls hl => cx_ri (S := []) hI hl (fun _ h => h) (cr_S (As := [toV (aI l1)]) (rest := []) C hK hI hl 1 (sc_X0_isShelf _ X H.size _ _ _ hw) (lw_S q215 q216 q84 q217) (by decide +kernel) ⟨rfl, rfl, Nat.le_of_ble_eq_true rfl, Nat.le_of_ble_eq_true rfl⟩ (av_W [] 8 (Nat.le_of_ble_eq_true rfl)) dX0_put_1 rfl rfl ⟨by omega, by omega⟩) (fun r1 μ2 hw => ?_)
  obtain ⟨hr3, hw⟩ := hw
  refine hx_if_eq (tgt := 21) C dX0_put_4 (by decide) hr3 (fun h => ?_) (fun h => ?_)
  · have hw := hw.1 h
    refine hx_L [] rfl ?_
    exact sc_X0_put_21 C hK hQ  _ _ hw _ _ hb
  · have hw := hw.2 h
    refine hx_iload_n C dX0_put_7 2 rfl rfl ?_
    refine fun H locs hI ls hl => cx_ri (S := []) hI hl (fun _ h => h) (cr_S (As := [toV (aI l2)]) (rest := []) C hK hI hl 1 (sc_X0_isShelf _ X H.size _ _ _ hw) (lw_S q215 q216 q84 q217) (by decide +kernel) ⟨rfl, rfl, Nat.le_of_ble_eq_true rfl, Nat.le_of_ble_eq_true rfl⟩ (av_W [] 8 (Nat.le_of_ble_eq_true rfl)) dX0_put_8 rfl rfl ⟨by omega, by omega⟩) (fun r4 μ5 hw => ?_)
    obtain ⟨hr6, hw⟩ := hw
    refine hx_if_eq (tgt := 21) C dX0_put_11 (by decide) hr6 (fun h => ?_) (fun h => ?_)
    · have hw := hw.1 h
      refine hx_L [] rfl ?_
      exact sc_X0_put_21 C hK hQ  _ _ hw _ _ hb
    · have hw := hw.2 h
      refine hx_iload_n C dX0_put_14 3 rfl rfl ?_
      refine fun H locs hI ls hl => cx_ri (S := []) hI hl (fun _ h => h) (cr_S (As := [toV (aI l3)]) (rest := []) C hK hI hl 1 (sc_X0_isShelf _ X H.size _ _ _ hw) (lw_S q215 q216 q84 q217) (by decide +kernel) ⟨rfl, rfl, Nat.le_of_ble_eq_true rfl, Nat.le_of_ble_eq_true rfl⟩ (av_W [] 8 (Nat.le_of_ble_eq_true rfl)) dX0_put_15 rfl rfl ⟨by omega, by omega⟩) (fun r7 μ8 hw => ?_)
      obtain ⟨hr9, hw⟩ := hw
      refine hx_if_ne (tgt := 24) C dX0_put_18 (by decide) hr9 (fun h => ?_) (fun h => ?_)
      · have hw := hw.1 h
        refine hx_aload_n C dX0_put_24 0 rfl rfl ?_
        refine cx_getS (μ := μ8) (v := aR (some (cX_a X 1))) C hK 0 1 rfl in_X0 (by decide) q167 rfl rfl rfl dX0_put_25 ?_
        refine hx_iload_n C dX0_put_28 2 rfl rfl ?_
        obtain ⟨hx10, hw⟩ := hw
        refine cx_aald (μ := μ8) (f := kR μ8 1) C hK 2 rfl (Or.inl ⟨2, rfl⟩) hx10.1 hx10.2 (by decide) dX0_put_29 ?_
        refine hx_ifnull (tgt := 42) C dX0_put_30 (by decide) (fun h => ?_) (fun h => ?_)
        · have hw := hw.1 h
          refine hx_L [] rfl ?_
          exact sc_X0_put_42 C hK hQ  _ _ hw _ _ hb
        · have hw := hw.2 h
          refine hx_aload_n C dX0_put_33 0 rfl rfl ?_
          refine cx_getS (μ := μ8) (v := aR (some (cX_a X 1))) C hK 0 1 rfl in_X0 (by decide) q167 rfl rfl rfl dX0_put_34 ?_
          refine hx_iload_n C dX0_put_37 3 rfl rfl ?_
          obtain ⟨hx11, hw⟩ := hw
          refine cx_aald (μ := μ8) (f := kR μ8 1) C hK 2 rfl (Or.inl ⟨2, rfl⟩) hx11.1 hx11.2 (by decide) dX0_put_38 ?_
          refine hx_ifnonnull (tgt := 47) C dX0_put_39 (by decide) (fun h => ?_) (fun h => ?_)
          · have hw := hw.1 h
            refine hx_aload_n C dX0_put_47 0 rfl rfl ?_
            refine hx_iload_n C dX0_put_48 1 rfl rfl ?_
            obtain ⟨hu12, hw⟩ := hw
            refine cx_new (fs := fun a => coF_7 (alc μ8 a 8 0) a) C hK 7 8 rfl in_X9 tyX9_ok q562 q420 q96 (by decide) (fun a => cdE_7 alc_t) (cxd_7 _) (by omega) (by omega) dX0_put_49 (fun a13 hf14 => ?_)
            have hw := hw a13 hf14
            obtain hb : (0 + 1) + (b - 1) ≤ (zz_R Z).cells ∧ (0 + 5) + 5 * (b - 1) ≤ (zz_R Z).slots := ⟨by omega, by omega⟩
            have ht15 : tg (alc μ8 a13 8 0) a13 = 8 := alc_t
            refine hx_dup C dX0_put_52 rfl ?_
            refine hx_aload_n C dX0_put_53 0 rfl rfl ?_
            refine cx_getS (μ := (alc μ8 a13 8 0)) (v := aR (some (cX_a X 1))) C hK 0 1 rfl in_X0 (by decide) q167 rfl rfl rfl dX0_put_54 ?_
            refine hx_iload_n C dX0_put_57 2 rfl rfl ?_
            obtain ⟨hx16, hw⟩ := hw
            refine cx_aald (μ := (alc μ8 a13 8 0)) (f := kR μ8 1) C hK 2 rfl (Or.inl ⟨2, rfl⟩) hx16.1 hx16.2 (by decide) dX0_put_58 ?_
            refine hx_aload_n C dX0_put_59 0 rfl rfl ?_
            refine cx_getS (μ := (alc μ8 a13 8 0)) (v := aR (some (cX_a X 1))) C hK 0 1 rfl in_X0 (by decide) q167 rfl rfl rfl dX0_put_60 ?_
            refine hx_iload_n C dX0_put_63 3 rfl rfl ?_
            obtain ⟨hx17, hw⟩ := hw
            refine cx_aald (μ := (alc μ8 a13 8 0)) (f := kR μ8 1) C hK 2 rfl (Or.inl ⟨2, rfl⟩) hx17.1 hx17.2 (by decide) dX0_put_64 ?_
            refine fun H locs hI ls hl => cx_rv (S := [aR (some a13), aI l1, aR (some (cX_h X))]) hI hl (fun _ h => h) (cr_I (a := a13) (As := [toV (aR (kR μ8 1 (l2).toNat)), toV (aR (kR μ8 1 (l3).toNat))]) (rest := [toV (aR (some a13)), toV (aI l1), toV (aR (some (cX_h X)))]) C hK hI hl 2 (sc_X9_init _ X H.size _ _ _ _ _ hw) q563 q422 q96 q423 rfl (by decide +kernel) ⟨rfl, rfl, Nat.le_of_ble_eq_true rfl, Nat.le_of_ble_eq_true rfl⟩ (av_W [aR (some a13), aI l1, aR (some (cX_h X))] 8 (Nat.le_of_ble_eq_true rfl)) dX0_put_65 rfl rfl ⟨by omega, by omega⟩) (fun μ19 hw => ?_)
            refine fun H locs hI ls hl => cx_ri (S := []) hI hl (fun _ h => h) (cr_V (Cn := RX0) (As := [toV (aI l1), toV (aR (some a13))]) (rest := []) C hK hI hl 2 (cv_dyn hK hI (ci := 0) rfl (Or.inl ⟨0, rfl⟩)) (sc_X0_layIfSmall _ X H.size _ _ _ _ hw) (lw_V q570 q572 qs9 q84 q573) (by decide +kernel) ⟨rfl, rfl, Nat.le_of_ble_eq_true rfl, Nat.le_of_ble_eq_true rfl⟩ (av_W [] 8 (Nat.le_of_ble_eq_true rfl)) dX0_put_68 rfl rfl ⟨by omega, by omega⟩) (fun r20 μ21 hw => ?_)
            refine hx_L [] rfl ?_
            exact sc_X0_put_71 C hK hQ  _ _ _ hw _ _ hb
          · have hw := hw.2 h
            refine hx_L [] rfl ?_
            exact sc_X0_put_42 C hK hQ  _ _ hw _ _ hb
      · have hw := hw.2 h
        refine hx_L [] rfl ?_
        exact sc_X0_put_21 C hK hQ  _ _ hw _ _ hb
-- ('BinderPress', 'isPlain', '(I)Z')
def wc_X0_isPlain_26 (X : cX) (Q : Int → CM → Prop) (s0 : Int) (μ : CM) : Prop := (s0 = 0 ∨ s0 = 1) ∧ Q s0 μ
set_option maxHeartbeats 4000000 in
theorem sc_X0_isPlain_26 {Z : zz} {X : cX} {μ0 : CM} {Q : Int → CM → Prop} (C : gC Z cX0_isPlain 2 RX0 (some .boolean) 131 2620) (hK : cCt Z X μ0) (hQ : zz_q Z = MQ (zz_b Z) (cQi X μ0 (zz_s Z).heap.size Q) (zz_a Z) (zz_s Z) (zz_R Z).cells (zz_R Z).slots (cA X μ0 (zz_s Z).heap.size))  : ∀ s0 μ, wc_X0_isPlain_26 X Q s0 μ → hG Z 2 (cI Z X μ0 μ) 0 0 26 [] [aI s0] := by
  intro s0 μ hw
  unfold wc_X0_isPlain_26 at hw
  obtain ⟨hz, hw⟩ := hw
  exact cx_iret C hQ (by omega) (by omega) (mz_n hz) hw dX0_isPlain_26
def wc_X0_isPlain_25 (X : cX) (Q : Int → CM → Prop) (μ : CM) : Prop := wc_X0_isPlain_26 X   Q 0 μ
set_option maxHeartbeats 4000000 in
theorem sc_X0_isPlain_25 {Z : zz} {X : cX} {μ0 : CM} {Q : Int → CM → Prop} (C : gC Z cX0_isPlain 2 RX0 (some .boolean) 131 2620) (hK : cCt Z X μ0) (hQ : zz_q Z = MQ (zz_b Z) (cQi X μ0 (zz_s Z).heap.size Q) (zz_a Z) (zz_s Z) (zz_R Z).cells (zz_R Z).slots (cA X μ0 (zz_s Z).heap.size))  : ∀ μ, wc_X0_isPlain_25 X Q μ → hG Z 2 (cI Z X μ0 μ) 0 0 25 [] [] := by
  intro μ hw
  unfold wc_X0_isPlain_25 at hw
  refine hx_iconst C dX0_isPlain_25 ?_
  refine hx_L [] rfl ?_
  exact sc_X0_isPlain_26 C hK hQ  _ _ hw
def wc_X0_isPlain (X : cX) (l1 : Int) (μ : CM) (Q : Int → CM → Prop) : Prop := (0 ≤ l1 ∧ l1 < 4) ∧ (((kR μ 1 (l1).toNat) = none → wc_X0_isPlain_25 X   Q μ) ∧ (¬ (kR μ 1 (l1).toNat) = none → ((0 ≤ l1 ∧ l1 < 4) ∧ ∃ a3, (kR μ 1 (l1).toNat) = some a3 ∧ wr_V_binders X 130 a3 μ (fun r5 μ6 => R32 r5 ∧ ((¬ r5 = 0 → wc_X0_isPlain_25 X   Q μ6) ∧ (r5 = 0 → wc_X0_isPlain_26 X   Q 1 μ6))))))
set_option maxHeartbeats 4000000 in
theorem sc_X0_isPlain (l : Launch) (X : cX) (sz : Nat) (Q : Int → CM → Prop) (l1 : Int) (μ : CM) (hw : wc_X0_isPlain X l1 μ Q) : Met l yX0_isPlain (ws_ yX0_isPlain cX0_isPlain 2 (some .boolean)) ({ frames := 131, cells := 0, slots := 0, locals := 2620 }) (cPc X (([aR (some (cX_h X)), aI l1] : List AV).map toV) μ sz) (cQi X μ sz Q) 0 (0) (cA X μ sz) := by
  refine cx_met2 (rm := ({ frames := 131, cells := 0, slots := 0, locals := 2620 })) (As := [aR (some (cX_h X)), aI l1]) (L0 := [(0, aR (some (cX_h X))), (1, aI l1)]) (by decide) rfl (Nat.le_of_ble_eq_true rfl) rfl ?_
  intro Z C hK hsz hR hl0 hin hQ
  subst hsz
  have C : gC Z cX0_isPlain 2 RX0 (some .boolean) 131 2620 := C
  have hQ : zz_q Z = MQ (zz_b Z) (cQi X μ (zz_s Z).heap.size Q) (zz_a Z) (zz_s Z) (zz_R Z).cells (zz_R Z).slots (cA X μ (zz_s Z).heap.size) := by rw [hR]; exact hQ
  unfold wc_X0_isPlain at hw
  refine hx_aload_n C dX0_isPlain_0 0 rfl rfl ?_
  refine cx_getS (μ := μ) (v := aR (some (cX_a X 1))) C hK 0 1 rfl in_X0 (by decide) q167 rfl rfl rfl dX0_isPlain_1 ?_
  refine hx_iload_n C dX0_isPlain_4 1 rfl rfl ?_
  obtain ⟨hx1, hw⟩ := hw
  refine cx_aald (μ := μ) (f := kR μ 1) C hK 2 rfl (Or.inl ⟨2, rfl⟩) hx1.1 hx1.2 (by decide) dX0_isPlain_5 ?_
  refine hx_ifnull (tgt := 25) C dX0_isPlain_6 (by decide) (fun h => ?_) (fun h => ?_)
  · have hw := hw.1 h
    refine hx_L [] rfl ?_
    exact sc_X0_isPlain_25 C hK hQ  _ hw
  · have hw := hw.2 h
    refine hx_aload_n C dX0_isPlain_9 0 rfl rfl ?_
    refine cx_getS (μ := μ) (v := aR (some (cX_a X 1))) C hK 0 1 rfl in_X0 (by decide) q167 rfl rfl rfl dX0_isPlain_10 ?_
    refine hx_iload_n C dX0_isPlain_13 1 rfl rfl ?_
    obtain ⟨hx2, hw⟩ := hw
    refine cx_aald (μ := μ) (f := kR μ 1) C hK 2 rfl (Or.inl ⟨2, rfl⟩) hx2.1 hx2.2 (by decide) dX0_isPlain_14 ?_
    obtain ⟨a3, ha4, hw⟩ := hw
    rw [ha4]
    refine fun H locs hI ls hl => cx_ri (S := []) hI hl (fun _ h => h) (dv_binders (rest := []) C hK hI hl (rr_V_binders _ X 130) hw (by omega) (by omega) (C.w _ q618) (av_W [] 8 (Nat.le_of_ble_eq_true rfl)) dX0_isPlain_15 rfl rfl ⟨by omega, by omega⟩) (fun r5 μ6 hw => ?_)
    obtain ⟨hr7, hw⟩ := hw
    refine hx_if_ne (tgt := 25) C dX0_isPlain_18 (by decide) hr7 (fun h => ?_) (fun h => ?_)
    · have hw := hw.1 h
      refine hx_L [] rfl ?_
      exact sc_X0_isPlain_25 C hK hQ  _ hw
    · have hw := hw.2 h
      refine hx_iconst C dX0_isPlain_21 ?_
      refine hx_goto (tgt := 26) C dX0_isPlain_22 (by decide) ?_
      refine hx_L [] rfl ?_
      exact sc_X0_isPlain_26 C hK hQ  _ _ hw
-- ('BinderPress', 'putIn', '(III)I')
def wc_X0_putIn_14 (X : cX) (Q : Int → CM → Prop) (b : Nat) (μ : CM) : Prop := Q (-1000000001) μ
set_option maxHeartbeats 4000000 in
theorem sc_X0_putIn_14 {Z : zz} {X : cX} {μ0 : CM} {Q : Int → CM → Prop} (C : gC Z cX0_putIn 4 RX0 (some .int) 262 5502) (hK : cCt Z X μ0) (hQ : zz_q Z = MQ (zz_b Z) (cQi X μ0 (zz_s Z).heap.size Q) (zz_a Z) (zz_s Z) (zz_R Z).cells (zz_R Z).slots (cA X μ0 (zz_s Z).heap.size))  : ∀ b μ, wc_X0_putIn_14 X Q b μ → ∀ kk nn, (kk + b ≤ (zz_R Z).cells ∧ nn + 5 * b ≤ (zz_R Z).slots) → hG Z 4 (cI Z X μ0 μ) kk nn 14 [] [] := by
  intro b μ hw kk nn hb
  unfold wc_X0_putIn_14 at hw
  refine hx_ldc C (-1000000001) q218 (by decide) dX0_putIn_14 ?_
  exact cx_iret C hQ (by omega) (by omega) rfl hw dX0_putIn_16
def wc_X0_putIn_69 (X : cX) (Q : Int → CM → Prop) (s0 : Int) (b : Nat) (μ : CM) : Prop := Q s0 μ
set_option maxHeartbeats 4000000 in
theorem sc_X0_putIn_69 {Z : zz} {X : cX} {μ0 : CM} {Q : Int → CM → Prop} (C : gC Z cX0_putIn 4 RX0 (some .int) 262 5502) (hK : cCt Z X μ0) (hQ : zz_q Z = MQ (zz_b Z) (cQi X μ0 (zz_s Z).heap.size Q) (zz_a Z) (zz_s Z) (zz_R Z).cells (zz_R Z).slots (cA X μ0 (zz_s Z).heap.size))  : ∀ s0 b μ, wc_X0_putIn_69 X Q s0 b μ → ∀ kk nn, (kk + b ≤ (zz_R Z).cells ∧ nn + 5 * b ≤ (zz_R Z).slots) → hG Z 4 (cI Z X μ0 μ) kk nn 69 [] [aI s0] := by
  intro s0 b μ hw kk nn hb
  unfold wc_X0_putIn_69 at hw
  exact cx_iret C hQ (by omega) (by omega) rfl hw dX0_putIn_69
def wc_X0_putIn_67 (X : cX) (Q : Int → CM → Prop) (b : Nat) (μ : CM) : Prop := wc_X0_putIn_69 X   Q (-1000000003) b μ
set_option maxHeartbeats 4000000 in
theorem sc_X0_putIn_67 {Z : zz} {X : cX} {μ0 : CM} {Q : Int → CM → Prop} (C : gC Z cX0_putIn 4 RX0 (some .int) 262 5502) (hK : cCt Z X μ0) (hQ : zz_q Z = MQ (zz_b Z) (cQi X μ0 (zz_s Z).heap.size Q) (zz_a Z) (zz_s Z) (zz_R Z).cells (zz_R Z).slots (cA X μ0 (zz_s Z).heap.size))  : ∀ b μ, wc_X0_putIn_67 X Q b μ → ∀ kk nn, (kk + b ≤ (zz_R Z).cells ∧ nn + 5 * b ≤ (zz_R Z).slots) → hG Z 4 (cI Z X μ0 μ) kk nn 67 [] [] := by
  intro b μ hw kk nn hb
  unfold wc_X0_putIn_67 at hw
  refine hx_ldc C (-1000000003) q494 (by decide) dX0_putIn_67 ?_
  refine hx_L [] rfl ?_
  exact sc_X0_putIn_69 C hK hQ  _ _ _ hw _ _ hb
def wc_X0_putIn (X : cX) (b : Nat) (l1 : Int) (l2 : Int) (l3 : Int) (μ : CM) (Q : Int → CM → Prop) : Prop := wc_X0_isShelf X l1 μ (fun r1 μ2 => R32 r1 ∧ ((r1 = 0 → wc_X0_putIn_14 X   Q b μ2) ∧ (¬ r1 = 0 → wc_X0_isShelf X l3 μ2 (fun r4 μ5 => R32 r4 ∧ ((¬ r4 = 0 → wc_X0_isName X l2 μ5 (fun r7 μ8 => R32 r7 ∧ ((¬ r7 = 0 → wc_X0_isPlain X l1 μ8 (fun r10 μ11 => R32 r10 ∧ ((r10 = 0 → wc_X0_putIn_67 X   Q b μ11) ∧ (¬ r10 = 0 → wc_X0_isPlain X l3 μ11 (fun r13 μ14 => R32 r13 ∧ ((r13 = 0 → wc_X0_putIn_67 X   Q b μ14) ∧ (¬ r13 = 0 → ((0 ≤ l1 ∧ l1 < 4) ∧ (0 ≤ l3 ∧ l3 < 4) ∧ ∃ a18, (kR μ14 1 (l1).toNat) = some a18 ∧ ∃ b20, b20 ≤ b ∧ wr_V_putIn X 130 b20 a18 l2 (kR μ14 1 (l3).toNat) μ14 (fun r22 μ23 => wc_X0_layIfSmall X l1 r22 μ23 (fun r24 μ25 => wc_X0_putIn_69 X   Q r24 (b - b20) μ25)))))))))) ∧ (r7 = 0 → Q (-1000000002) μ8)))) ∧ (r4 = 0 → wc_X0_putIn_14 X   Q b μ5))))))
set_option maxHeartbeats 4000000 in
theorem sc_X0_putIn (l : Launch) (X : cX) (sz : Nat) (Q : Int → CM → Prop) (b : Nat) (l1 : Int) (l2 : Int) (l3 : Int) (μ : CM) (hw : wc_X0_putIn X b l1 l2 l3 μ Q) : Met l yX0_putIn (ws_ yX0_putIn cX0_putIn 4 (some .int)) ({ frames := 262, cells := b, slots := 5 * b, locals := 5502 }) (cPc X (([aR (some (cX_h X)), aI l1, aI l2, aI l3] : List AV).map toV) μ sz) (cQi X μ sz Q) b (5 * b) (cA X μ sz) := by
  refine cx_met2 (rm := ({ frames := 262, cells := b, slots := 5 * b, locals := 5502 })) (As := [aR (some (cX_h X)), aI l1, aI l2, aI l3]) (L0 := [(0, aR (some (cX_h X))), (1, aI l1), (2, aI l2), (3, aI l3)]) (by decide) rfl (Nat.le_of_ble_eq_true rfl) rfl ?_
  intro Z C hK hsz hR hl0 hin hQ
  subst hsz
  have C : gC Z cX0_putIn 4 RX0 (some .int) 262 5502 := C
  have hQ : zz_q Z = MQ (zz_b Z) (cQi X μ (zz_s Z).heap.size Q) (zz_a Z) (zz_s Z) (zz_R Z).cells (zz_R Z).slots (cA X μ (zz_s Z).heap.size) := by rw [hR]; exact hQ
  have hb : 0 + b ≤ (zz_R Z).cells ∧ 0 + 5 * b ≤ (zz_R Z).slots := by rw [hR]; exact ⟨by dsimp only; omega, by dsimp only; omega⟩
  unfold wc_X0_putIn at hw
  refine hx_iload_n C dX0_putIn_0 1 rfl rfl ?_
  refine fun H locs hI ls hl => cx_ri (S := []) hI hl (fun _ h => h) (cr_S (As := [toV (aI l1)]) (rest := []) C hK hI hl 1 (sc_X0_isShelf _ X H.size _ _ _ hw) (lw_S q215 q216 q84 q217) (by decide +kernel) ⟨rfl, rfl, Nat.le_of_ble_eq_true rfl, Nat.le_of_ble_eq_true rfl⟩ (av_W [] 8 (Nat.le_of_ble_eq_true rfl)) dX0_putIn_1 rfl rfl ⟨by omega, by omega⟩) (fun r1 μ2 hw => ?_)
  obtain ⟨hr3, hw⟩ := hw
  refine hx_if_eq (tgt := 14) C dX0_putIn_4 (by decide) hr3 (fun h => ?_) (fun h => ?_)
  · have hw := hw.1 h
    refine hx_L [] rfl ?_
    exact sc_X0_putIn_14 C hK hQ  _ _ hw _ _ hb
  · have hw := hw.2 h
    refine hx_iload_n C dX0_putIn_7 3 rfl rfl ?_
    refine fun H locs hI ls hl => cx_ri (S := []) hI hl (fun _ h => h) (cr_S (As := [toV (aI l3)]) (rest := []) C hK hI hl 1 (sc_X0_isShelf _ X H.size _ _ _ hw) (lw_S q215 q216 q84 q217) (by decide +kernel) ⟨rfl, rfl, Nat.le_of_ble_eq_true rfl, Nat.le_of_ble_eq_true rfl⟩ (av_W [] 8 (Nat.le_of_ble_eq_true rfl)) dX0_putIn_8 rfl rfl ⟨by omega, by omega⟩) (fun r4 μ5 hw => ?_)
    obtain ⟨hr6, hw⟩ := hw
    refine hx_if_ne (tgt := 17) C dX0_putIn_11 (by decide) hr6 (fun h => ?_) (fun h => ?_)
    · have hw := hw.1 h
      refine hx_iload_n C dX0_putIn_17 2 rfl rfl ?_
      refine fun H locs hI ls hl => cx_ri (S := []) hI hl (fun _ h => h) (cr_S (As := [toV (aI l2)]) (rest := []) C hK hI hl 1 (sc_X0_isName _ X H.size _ _ _ hw) (lw_S q604 q258 q84 q259) (by decide +kernel) ⟨rfl, rfl, Nat.le_of_ble_eq_true rfl, Nat.le_of_ble_eq_true rfl⟩ (av_W [] 8 (Nat.le_of_ble_eq_true rfl)) dX0_putIn_18 rfl rfl ⟨by omega, by omega⟩) (fun r7 μ8 hw => ?_)
      obtain ⟨hr9, hw⟩ := hw
      refine hx_if_ne (tgt := 27) C dX0_putIn_21 (by decide) hr9 (fun h => ?_) (fun h => ?_)
      · have hw := hw.1 h
        refine hx_aload_n C dX0_putIn_27 0 rfl rfl ?_
        refine hx_iload_n C dX0_putIn_28 1 rfl rfl ?_
        refine fun H locs hI ls hl => cx_ri (S := []) hI hl (fun _ h => h) (cr_V (Cn := RX0) (As := [toV (aI l1)]) (rest := []) C hK hI hl 1 (cv_dyn hK hI (ci := 0) rfl (Or.inl ⟨0, rfl⟩)) (sc_X0_isPlain _ X H.size _ _ _ hw) (lw_V q614 q616 qs10 q84 q617) (by decide +kernel) ⟨rfl, rfl, Nat.le_of_ble_eq_true rfl, Nat.le_of_ble_eq_true rfl⟩ (av_W [] 8 (Nat.le_of_ble_eq_true rfl)) dX0_putIn_29 rfl rfl ⟨by omega, by omega⟩) (fun r10 μ11 hw => ?_)
        obtain ⟨hr12, hw⟩ := hw
        refine hx_if_eq (tgt := 67) C dX0_putIn_32 (by decide) hr12 (fun h => ?_) (fun h => ?_)
        · have hw := hw.1 h
          refine hx_L [] rfl ?_
          exact sc_X0_putIn_67 C hK hQ  _ _ hw _ _ hb
        · have hw := hw.2 h
          refine hx_aload_n C dX0_putIn_35 0 rfl rfl ?_
          refine hx_iload_n C dX0_putIn_36 3 rfl rfl ?_
          refine fun H locs hI ls hl => cx_ri (S := []) hI hl (fun _ h => h) (cr_V (Cn := RX0) (As := [toV (aI l3)]) (rest := []) C hK hI hl 1 (cv_dyn hK hI (ci := 0) rfl (Or.inl ⟨0, rfl⟩)) (sc_X0_isPlain _ X H.size _ _ _ hw) (lw_V q614 q616 qs10 q84 q617) (by decide +kernel) ⟨rfl, rfl, Nat.le_of_ble_eq_true rfl, Nat.le_of_ble_eq_true rfl⟩ (av_W [] 8 (Nat.le_of_ble_eq_true rfl)) dX0_putIn_37 rfl rfl ⟨by omega, by omega⟩) (fun r13 μ14 hw => ?_)
          obtain ⟨hr15, hw⟩ := hw
          refine hx_if_eq (tgt := 67) C dX0_putIn_40 (by decide) hr15 (fun h => ?_) (fun h => ?_)
          · have hw := hw.1 h
            refine hx_L [] rfl ?_
            exact sc_X0_putIn_67 C hK hQ  _ _ hw _ _ hb
          · have hw := hw.2 h
            refine hx_aload_n C dX0_putIn_43 0 rfl rfl ?_
            refine hx_iload_n C dX0_putIn_44 1 rfl rfl ?_
            refine hx_aload_n C dX0_putIn_45 0 rfl rfl ?_
            refine cx_getS (μ := μ14) (v := aR (some (cX_a X 1))) C hK 0 1 rfl in_X0 (by decide) q167 rfl rfl rfl dX0_putIn_46 ?_
            refine hx_iload_n C dX0_putIn_49 1 rfl rfl ?_
            obtain ⟨hx16, hw⟩ := hw
            refine cx_aald (μ := μ14) (f := kR μ14 1) C hK 2 rfl (Or.inl ⟨2, rfl⟩) hx16.1 hx16.2 (by decide) dX0_putIn_50 ?_
            refine hx_iload_n C dX0_putIn_51 2 rfl rfl ?_
            refine hx_aload_n C dX0_putIn_52 0 rfl rfl ?_
            refine cx_getS (μ := μ14) (v := aR (some (cX_a X 1))) C hK 0 1 rfl in_X0 (by decide) q167 rfl rfl rfl dX0_putIn_53 ?_
            refine hx_iload_n C dX0_putIn_56 3 rfl rfl ?_
            obtain ⟨hx17, hw⟩ := hw
            refine cx_aald (μ := μ14) (f := kR μ14 1) C hK 2 rfl (Or.inl ⟨2, rfl⟩) hx17.1 hx17.2 (by decide) dX0_putIn_57 ?_
            obtain ⟨a18, ha19, hw⟩ := hw
            rw [ha19]
            obtain ⟨b20, hu21, hw⟩ := hw
            refine fun H locs hI ls hl => cx_rr (S := [aI l1, aR (some (cX_h X))]) hI hl (fun _ h => h) (dv_putIn (rest := [toV (aI l1), toV (aR (some (cX_h X)))]) C hK hI hl (rr_V_putIn _ X 130) hw (by omega) (by omega) (C.w _ q619) (av_W [aI l1, aR (some (cX_h X))] 8 (Nat.le_of_ble_eq_true rfl)) dX0_putIn_58 rfl rfl ⟨by omega, by omega⟩) (fun r22 μ23 hw => ?_)
            obtain hb : (0 + b20) + (b - b20) ≤ (zz_R Z).cells ∧ (0 + 5 * b20) + 5 * (b - b20) ≤ (zz_R Z).slots := ⟨by omega, by omega⟩
            refine fun H locs hI ls hl => cx_ri (S := []) hI hl (fun _ h => h) (cr_V (Cn := RX0) (As := [toV (aI l1), toV (aR r22)]) (rest := []) C hK hI hl 2 (cv_dyn hK hI (ci := 0) rfl (Or.inl ⟨0, rfl⟩)) (sc_X0_layIfSmall _ X H.size _ _ _ _ hw) (lw_V q570 q572 qs9 q84 q573) (by decide +kernel) ⟨rfl, rfl, Nat.le_of_ble_eq_true rfl, Nat.le_of_ble_eq_true rfl⟩ (av_W [] 8 (Nat.le_of_ble_eq_true rfl)) dX0_putIn_61 rfl rfl ⟨by omega, by omega⟩) (fun r24 μ25 hw => ?_)
            refine hx_goto (tgt := 69) C dX0_putIn_64 (by decide) ?_
            refine hx_L [] rfl ?_
            exact sc_X0_putIn_69 C hK hQ  _ _ _ hw _ _ hb
      · have hw := hw.2 h
        refine hx_ldc C (-1000000002) q208 (by decide) dX0_putIn_24 ?_
        exact cx_iret C hQ (by omega) (by omega) rfl hw dX0_putIn_26
    · have hw := hw.2 h
      refine hx_L [] rfl ?_
      exact sc_X0_putIn_14 C hK hQ  _ _ hw _ _ hb
