/-! walks of the component (printed by gen_comp) -/
set_option maxRecDepth 100000
-- ('BinderPress$Reader', 'canBegin', '(I)Z')
def wc_X3_canBegin_34 (X : cX) (Q : Int → CM → Prop) (s0 : Int) (μ : CM) : Prop := (s0 = 0 ∨ s0 = 1) ∧ Q s0 μ
set_option maxHeartbeats 4000000 in
theorem sc_X3_canBegin_34 {Z : zz} {X : cX} {μ0 : CM} {Q : Int → CM → Prop} (C : gC Z cX3_canBegin 1 RX3 (some .boolean) 2 50) (hK : cCt Z X μ0) (hQ : zz_q Z = MQ (zz_b Z) (cQi X μ0 (zz_s Z).heap.size Q) (zz_a Z) (zz_s Z) (zz_R Z).cells (zz_R Z).slots (cA X μ0 (zz_s Z).heap.size))  : ∀ s0 μ, wc_X3_canBegin_34 X Q s0 μ → hG Z 1 (cI Z X μ0 μ) 0 0 34 [] [aI s0] := by
  intro s0 μ hw
  unfold wc_X3_canBegin_34 at hw
  obtain ⟨hz, hw⟩ := hw
  exact cx_iret C hQ (by omega) (by omega) (mz_n hz) hw dX3_canBegin_34
def wc_X3_canBegin_29 (X : cX) (Q : Int → CM → Prop) (μ : CM) : Prop := wc_X3_canBegin_34 X   Q 1 μ
set_option maxHeartbeats 4000000 in
theorem sc_X3_canBegin_29 {Z : zz} {X : cX} {μ0 : CM} {Q : Int → CM → Prop} (C : gC Z cX3_canBegin 1 RX3 (some .boolean) 2 50) (hK : cCt Z X μ0) (hQ : zz_q Z = MQ (zz_b Z) (cQi X μ0 (zz_s Z).heap.size Q) (zz_a Z) (zz_s Z) (zz_R Z).cells (zz_R Z).slots (cA X μ0 (zz_s Z).heap.size))  : ∀ μ, wc_X3_canBegin_29 X Q μ → hG Z 1 (cI Z X μ0 μ) 0 0 29 [] [] := by
  intro μ hw
  unfold wc_X3_canBegin_29 at hw
  refine hx_iconst C dX3_canBegin_29 ?_
  refine hx_goto (tgt := 34) C dX3_canBegin_30 (by decide) ?_
  refine hx_L [] rfl ?_
  exact sc_X3_canBegin_34 C hK hQ  _ _ hw
def wc_X3_canBegin (X : cX) (l0 : Int) (μ : CM) (Q : Int → CM → Prop) : Prop := wc_X0_isName X l0 μ (fun r1 μ2 => R32 r1 ∧ ((¬ r1 = 0 → wc_X3_canBegin_29 X   Q μ2) ∧ (r1 = 0 → R32 l0 ∧ ((l0 = 40 → wc_X3_canBegin_29 X   Q μ2) ∧ (¬ l0 = 40 → R32 l0 ∧ ((l0 = 94 → wc_X3_canBegin_29 X   Q μ2) ∧ (¬ l0 = 94 → wc_X0_textOf X l0 μ2 (fun r6 μ7 => (∃ a8, r6 = some a8 ∧ (tg μ7 a8 = 13 ∨ tg μ7 a8 = 14) ∧ wc_J0_length X a8 μ7 (fun r10 μ11 => R32 r10 ∧ ((r10 ≤ 0 → wc_X3_canBegin_34 X   Q 0 μ11) ∧ (0 < r10 → wc_X3_canBegin_29 X   Q μ11))))))))))))
set_option maxHeartbeats 4000000 in
theorem sc_X3_canBegin (l : Launch) (X : cX) (sz : Nat) (Q : Int → CM → Prop) (l0 : Int) (μ : CM) (hw : wc_X3_canBegin X l0 μ Q) : Met l yX3_canBegin (ws_ yX3_canBegin cX3_canBegin 1 (some .boolean)) ({ frames := 2, cells := 0, slots := 0, locals := 50 }) (cPc X (([aI l0] : List AV).map toV) μ sz) (cQi X μ sz Q) 0 (0) (cA X μ sz) := by
  refine cx_met2 (rm := ({ frames := 2, cells := 0, slots := 0, locals := 50 })) (As := [aI l0]) (L0 := [(0, aI l0)]) (by decide) rfl (Nat.le_of_ble_eq_true rfl) rfl ?_
  intro Z C hK hsz hR hl0 hin hQ
  subst hsz
  have C : gC Z cX3_canBegin 1 RX3 (some .boolean) 2 50 := C
  have hQ : zz_q Z = MQ (zz_b Z) (cQi X μ (zz_s Z).heap.size Q) (zz_a Z) (zz_s Z) (zz_R Z).cells (zz_R Z).slots (cA X μ (zz_s Z).heap.size) := by rw [hR]; exact hQ
  unfold wc_X3_canBegin at hw
  refine hx_iload_n C dX3_canBegin_0 0 rfl rfl ?_
  refine fun H locs hI ls hl => cx_ri (S := []) hI hl (fun _ h => h) (cr_SN (As := [toV (aI l0)]) (rest := []) C hK hI hl 1 (sc_X0_isName _ X H.size _ _ _ hw) (List.mem_of_getElem? (i := 37) rfl) q258 q84 q259 (by decide +kernel) ⟨rfl, rfl, Nat.le_of_ble_eq_true rfl, Nat.le_of_ble_eq_true rfl⟩ (av_W [] 8 (Nat.le_of_ble_eq_true rfl)) dX3_canBegin_1 rfl rfl ⟨by omega, by omega⟩) (fun r1 μ2 hw => ?_)
  obtain ⟨hr3, hw⟩ := hw
  refine hx_if_ne (tgt := 29) C dX3_canBegin_4 (by decide) hr3 (fun h => ?_) (fun h => ?_)
  · have hw := hw.1 h
    refine hx_L [] rfl ?_
    exact sc_X3_canBegin_29 C hK hQ  _ hw
  · have hw := hw.2 h
    refine hx_iload_n C dX3_canBegin_7 0 rfl rfl ?_
    refine hx_bipush C dX3_canBegin_8 (by decide) ?_
    obtain ⟨hr4, hw⟩ := hw
    refine hx_icmp_eq (tgt := 29) C dX3_canBegin_10 (by decide) hr4 (by decide) (fun h => ?_) (fun h => ?_)
    · have hw := hw.1 h
      refine hx_L [] rfl ?_
      exact sc_X3_canBegin_29 C hK hQ  _ hw
    · have hw := hw.2 h
      refine hx_iload_n C dX3_canBegin_13 0 rfl rfl ?_
      refine hx_bipush C dX3_canBegin_14 (by decide) ?_
      obtain ⟨hr5, hw⟩ := hw
      refine hx_icmp_eq (tgt := 29) C dX3_canBegin_16 (by decide) hr5 (by decide) (fun h => ?_) (fun h => ?_)
      · have hw := hw.1 h
        refine hx_L [] rfl ?_
        exact sc_X3_canBegin_29 C hK hQ  _ hw
      · have hw := hw.2 h
        refine hx_iload_n C dX3_canBegin_19 0 rfl rfl ?_
        refine fun H locs hI ls hl => cx_rr (S := []) hI hl (fun _ h => h) (cr_SN (As := [toV (aI l0)]) (rest := []) C hK hI hl 1 (sc_X0_textOf _ X H.size _ _ _ hw) (List.mem_of_getElem? (i := 38) rfl) q261 q84 q262 (by decide +kernel) ⟨rfl, rfl, Nat.le_of_ble_eq_true rfl, Nat.le_of_ble_eq_true rfl⟩ (av_W [] 8 (Nat.le_of_ble_eq_true rfl)) dX3_canBegin_20 rfl rfl ⟨by omega, by omega⟩) (fun r6 μ7 hw => ?_)
        obtain ⟨a8, ha9, hw⟩ := hw
        rw [ha9]
        obtain ⟨ht12, hw⟩ := hw
        refine fun H locs hI ls hl => cx_ri (S := []) hI hl (fun _ h => h) (cr_V (Cn := RJ0) (As := []) (rest := []) C hK hI hl 0 (cv_str hK hI ht12) (sc_J0_length _ X H.size _ _ _ hw) (lw_V q269 q270 q271 q88 q272) (by decide +kernel) ⟨rfl, rfl, Nat.le_of_ble_eq_true rfl, Nat.le_of_ble_eq_true rfl⟩ (av_W [] 8 (Nat.le_of_ble_eq_true rfl)) dX3_canBegin_23 rfl rfl ⟨by omega, by omega⟩) (fun r10 μ11 hw => ?_)
        obtain ⟨hr13, hw⟩ := hw
        refine hx_if_le (tgt := 33) C dX3_canBegin_26 (by decide) hr13 (fun h => ?_) (fun h => ?_)
        · have hw := hw.1 h
          refine hx_iconst C dX3_canBegin_33 ?_
          refine hx_L [] rfl ?_
          exact sc_X3_canBegin_34 C hK hQ  _ _ hw
        · have hw := hw.2 h
          refine hx_L [] rfl ?_
          exact sc_X3_canBegin_29 C hK hQ  _ hw
-- ('java/lang/Throwable', '<init>', '(Ljava/lang/String;Ljava/lang/Throwable;ZZ)V')
def wc_J1_init_2_60 (X : cX) (Q : CM → Prop) (μ : CM) : Prop := Q μ
set_option maxHeartbeats 4000000 in
theorem sc_J1_init_2_60 {Z : zz} {X : cX} {μ0 : CM} {Q : CM → Prop} (C : gC Z cJ1_init_2 5 RJ1 none 1 30) (hK : cCt Z X μ0) (hin : (zz_t Z).name = "<init>") (hQ : zz_q Z = MQ (zz_b Z) (cQv X μ0 (zz_s Z).heap.size Q) (zz_a Z) (zz_s Z) (zz_R Z).cells (zz_R Z).slots (cA X μ0 (zz_s Z).heap.size))  : ∀ μ, wc_J1_init_2_60 X Q μ → hG Z 5 (cI Z X μ0 μ) 0 0 60 [] [] := by
  intro μ hw
  unfold wc_J1_init_2_60 at hw
  exact cx_vret C hQ (by omega) (by omega) hw dJ1_init_2_60
def wc_J1_init_2 (X : cX) (l0 : Nat) (l1 : Option Nat) (l2 : Option Nat) (l3 : Int) (l4 : Int) (μ : CM) (Q : CM → Prop) : Prop := (tg μ l0 = 4 ∨ tg μ l0 = 11) ∧ ∀ g2 : Option Nat, ∀ g3 : Option Nat, R32 l4 ∧ ((l4 = 0 → R32 l3 ∧ ((¬ l3 = 0 → wc_J1_init_2_60 X   Q (poR (poR (poR (poR (poR (poR μ l0 0 (some l0)) l0 1 g2) l0 2 g3) l0 1 none) l0 3 l1) l0 0 l2)) ∧ (l3 = 0 → wc_J1_init_2_60 X   Q (poR (poR (poR (poR (poR (poR (poR μ l0 0 (some l0)) l0 1 g2) l0 2 g3) l0 1 none) l0 3 l1) l0 0 l2) l0 2 none)))) ∧ (¬ l4 = 0 → False))
set_option maxHeartbeats 4000000 in
theorem sc_J1_init_2 (l : Launch) (X : cX) (sz : Nat) (Q : CM → Prop) (l0 : Nat) (l1 : Option Nat) (l2 : Option Nat) (l3 : Int) (l4 : Int) (μ : CM) (hw : wc_J1_init_2 X l0 l1 l2 l3 l4 μ Q) : Met l yJ1_init_2 (ws_ yJ1_init_2 cJ1_init_2 5 none) ({ frames := 1, cells := 0, slots := 0, locals := 30 }) (cPc X (([aR (some l0), aR l1, aR l2, aI l3, aI l4] : List AV).map toV) μ sz) (cQv X μ sz Q) 0 (0) (cA X μ sz) := by
  refine cx_met2 (rm := ({ frames := 1, cells := 0, slots := 0, locals := 30 })) (As := [aR (some l0), aR l1, aR l2, aI l3, aI l4]) (L0 := [(0, aR (some l0)), (1, aR l1), (2, aR l2), (3, aI l3), (4, aI l4)]) (by decide) rfl (Nat.le_of_ble_eq_true rfl) rfl ?_
  intro Z C hK hsz hR hl0 hin hQ
  subst hsz
  have C : gC Z cJ1_init_2 5 RJ1 none 1 30 := C
  have hQ : zz_q Z = MQ (zz_b Z) (cQv X μ (zz_s Z).heap.size Q) (zz_a Z) (zz_s Z) (zz_R Z).cells (zz_R Z).slots (cA X μ (zz_s Z).heap.size) := by rw [hR]; exact hQ
  unfold wc_J1_init_2 at hw
  refine hx_aload_n C dJ1_init_2_0 0 rfl rfl ?_
  refine cx_objInit C q305 q116 q117 (by omega) (by simp [toV_cat, avc]; try omega) dJ1_init_2_1 ?_
  refine hx_aload_n C dJ1_init_2_4 0 rfl rfl ?_
  refine hx_aload_n C dJ1_init_2_5 0 rfl rfl ?_
  obtain ⟨ht1, hw⟩ := hw
  refine cx_putTh_0 (μ := μ) C hK ht1 q335 dJ1_init_2_6 ?_
  refine hx_aload_n C dJ1_init_2_9 0 rfl rfl ?_
  refine cx_statq C hK.2.2.2.1 q306 dJ1_init_2_10 (fun g2 => ?_)
  have hw := hw g2
  refine cx_putTh_1 (μ := (poR μ l0 0 (some l0))) C hK ht1 q336 dJ1_init_2_13 ?_
  refine hx_aload_n C dJ1_init_2_16 0 rfl rfl ?_
  refine cx_statq C hK.2.2.2.2.1 q308 dJ1_init_2_17 (fun g3 => ?_)
  have hw := hw g3
  refine cx_putTh_2 (μ := (poR (poR μ l0 0 (some l0)) l0 1 g2)) C hK ht1 q337 dJ1_init_2_20 ?_
  refine hx_iload C dJ1_init_2_23 4 rfl ?_
  obtain ⟨hr4, hw⟩ := hw
  refine hx_if_eq (tgt := 36) C dJ1_init_2_25 (by decide) hr4 (fun h => ?_) (fun h => ?_)
  · have hw := hw.1 h
    refine hx_aload_n C dJ1_init_2_36 0 rfl rfl ?_
    refine hx_null C dJ1_init_2_37 ?_
    refine cx_putTh_1 (μ := (poR (poR (poR μ l0 0 (some l0)) l0 1 g2) l0 2 g3)) C hK ht1 q336 dJ1_init_2_38 ?_
    refine hx_aload_n C dJ1_init_2_41 0 rfl rfl ?_
    refine hx_aload_n C dJ1_init_2_42 1 rfl rfl ?_
    refine cx_putTh_3 (μ := (poR (poR (poR (poR μ l0 0 (some l0)) l0 1 g2) l0 2 g3) l0 1 none)) C hK ht1 q334 dJ1_init_2_43 ?_
    refine hx_aload_n C dJ1_init_2_46 0 rfl rfl ?_
    refine hx_aload_n C dJ1_init_2_47 2 rfl rfl ?_
    refine cx_putTh_0 (μ := (poR (poR (poR (poR (poR μ l0 0 (some l0)) l0 1 g2) l0 2 g3) l0 1 none) l0 3 l1)) C hK ht1 q335 dJ1_init_2_48 ?_
    refine hx_iload_n C dJ1_init_2_51 3 rfl rfl ?_
    obtain ⟨hr5, hw⟩ := hw
    refine hx_if_ne (tgt := 60) C dJ1_init_2_52 (by decide) hr5 (fun h => ?_) (fun h => ?_)
    · have hw := hw.1 h
      refine hx_L [] rfl ?_
      exact sc_J1_init_2_60 C hK hin hQ  _ hw
    · have hw := hw.2 h
      refine hx_aload_n C dJ1_init_2_55 0 rfl rfl ?_
      refine hx_null C dJ1_init_2_56 ?_
      refine cx_putTh_2 (μ := (poR (poR (poR (poR (poR (poR μ l0 0 (some l0)) l0 1 g2) l0 2 g3) l0 1 none) l0 3 l1) l0 0 l2)) C hK ht1 q337 dJ1_init_2_57 ?_
      refine hx_L [] rfl ?_
      exact sc_J1_init_2_60 C hK hin hQ  _ hw
  · have hw := hw.2 h
    exact hw.elim
-- ('java/lang/Exception', '<init>', '(Ljava/lang/String;Ljava/lang/Throwable;ZZ)V')
def wc_J2_init (X : cX) (l0 : Nat) (l1 : Option Nat) (l2 : Option Nat) (l3 : Int) (l4 : Int) (μ : CM) (Q : CM → Prop) : Prop := wc_J1_init_2 X l0 l1 l2 l3 l4 μ (fun μ2 => Q μ2)
set_option maxHeartbeats 4000000 in
theorem sc_J2_init (l : Launch) (X : cX) (sz : Nat) (Q : CM → Prop) (l0 : Nat) (l1 : Option Nat) (l2 : Option Nat) (l3 : Int) (l4 : Int) (μ : CM) (hw : wc_J2_init X l0 l1 l2 l3 l4 μ Q) : Met l yJ2_init (ws_ yJ2_init cJ2_init 5 none) ({ frames := 2, cells := 0, slots := 0, locals := 54 }) (cPc X (([aR (some l0), aR l1, aR l2, aI l3, aI l4] : List AV).map toV) μ sz) (cQv X μ sz Q) 0 (0) (cA X μ sz) := by
  refine cx_met2 (rm := ({ frames := 2, cells := 0, slots := 0, locals := 54 })) (As := [aR (some l0), aR l1, aR l2, aI l3, aI l4]) (L0 := [(0, aR (some l0)), (1, aR l1), (2, aR l2), (3, aI l3), (4, aI l4)]) (by decide) rfl (Nat.le_of_ble_eq_true rfl) rfl ?_
  intro Z C hK hsz hR hl0 hin hQ
  subst hsz
  have C : gC Z cJ2_init 5 RJ2 none 2 54 := C
  have hQ : zz_q Z = MQ (zz_b Z) (cQv X μ (zz_s Z).heap.size Q) (zz_a Z) (zz_s Z) (zz_R Z).cells (zz_R Z).slots (cA X μ (zz_s Z).heap.size) := by rw [hR]; exact hQ
  unfold wc_J2_init at hw
  refine hx_aload_n C dJ2_init_0 0 rfl rfl ?_
  refine hx_aload_n C dJ2_init_1 1 rfl rfl ?_
  refine hx_aload_n C dJ2_init_2 2 rfl rfl ?_
  refine hx_iload_n C dJ2_init_3 3 rfl rfl ?_
  refine hx_iload C dJ2_init_4 4 rfl ?_
  refine fun H locs hI ls hl => cx_rv (S := []) hI hl (fun _ h => h) (cr_I (a := l0) (As := [toV (aR l1), toV (aR l2), toV (aI l3), toV (aI l4)]) (rest := []) C hK hI hl 4 (sc_J1_init_2 _ X H.size _ _ _ _ _ _ _ hw) q326 q327 q89 q328 rfl (by decide +kernel) ⟨rfl, rfl, Nat.le_of_ble_eq_true rfl, Nat.le_of_ble_eq_true rfl⟩ (av_W [] 8 (Nat.le_of_ble_eq_true rfl)) dJ2_init_6 rfl rfl ⟨by omega, by omega⟩) (fun μ2 hw => ?_)
  exact cx_vret C hQ (by omega) (by omega) hw dJ2_init_9
-- ('BinderPress$Fault', '<init>', '(II)V')
def wc_X4_init (X : cX) (l0 : Nat) (l1 : Int) (l2 : Int) (μ : CM) (Q : CM → Prop) : Prop := wc_J2_init X l0 none none 0 0 μ (fun μ2 => tg μ2 l0 = 4 ∧ Q (poI (poI μ2 l0 6 l1) l0 7 l2))
set_option maxHeartbeats 4000000 in
theorem sc_X4_init (l : Launch) (X : cX) (sz : Nat) (Q : CM → Prop) (l0 : Nat) (l1 : Int) (l2 : Int) (μ : CM) (hw : wc_X4_init X l0 l1 l2 μ Q) : Met l yX4_init (ws_ yX4_init cX4_init 3 none) ({ frames := 3, cells := 0, slots := 0, locals := 78 }) (cPc X (([aR (some l0), aI l1, aI l2] : List AV).map toV) μ sz) (cQv X μ sz Q) 0 (0) (cA X μ sz) := by
  refine cx_met2 (rm := ({ frames := 3, cells := 0, slots := 0, locals := 78 })) (As := [aR (some l0), aI l1, aI l2]) (L0 := [(0, aR (some l0)), (1, aI l1), (2, aI l2)]) (by decide) rfl (Nat.le_of_ble_eq_true rfl) rfl ?_
  intro Z C hK hsz hR hl0 hin hQ
  subst hsz
  have C : gC Z cX4_init 3 RX4 none 3 78 := C
  have hQ : zz_q Z = MQ (zz_b Z) (cQv X μ (zz_s Z).heap.size Q) (zz_a Z) (zz_s Z) (zz_R Z).cells (zz_R Z).slots (cA X μ (zz_s Z).heap.size) := by rw [hR]; exact hQ
  unfold wc_X4_init at hw
  refine hx_aload_n C dX4_init_0 0 rfl rfl ?_
  refine hx_null C dX4_init_1 ?_
  refine hx_null C dX4_init_2 ?_
  refine hx_iconst C dX4_init_3 ?_
  refine hx_iconst C dX4_init_4 ?_
  refine fun H locs hI ls hl => cx_rv (S := []) hI hl (fun _ h => h) (cr_I (a := l0) (As := [toV (aR none), toV (aR none), toV (aI 0), toV (aI 0)]) (rest := []) C hK hI hl 4 (sc_J2_init _ X H.size _ _ _ _ _ _ _ hw) q323 q324 q90 q325 rfl (by decide +kernel) ⟨rfl, rfl, Nat.le_of_ble_eq_true rfl, Nat.le_of_ble_eq_true rfl⟩ (av_W [] 8 (Nat.le_of_ble_eq_true rfl)) dX4_init_5 rfl rfl ⟨by omega, by omega⟩) (fun μ2 hw => ?_)
  refine hx_aload_n C dX4_init_8 0 rfl rfl ?_
  refine hx_iload_n C dX4_init_9 1 rfl rfl ?_
  obtain ⟨ht3, hw⟩ := hw
  refine cx_putF (μ := μ2) (μ' := (poI μ2 l0 6 l1)) C hK hin 3 6 rfl in_X4 tyX4_ok nmX4 (by decide) q329 rfl rfl rfl (cdE_3 ht3) (Nat.le_of_ble_eq_true rfl) ⟨rfl, rfl⟩ (cset_3_6 μ2 l0 l1) (cdE_3 ht3) rfl rfl rfl (fun _ hb => st_o hb) (fun _ _ => rfl) dX4_init_10 ?_
  refine hx_aload_n C dX4_init_13 0 rfl rfl ?_
  refine hx_iload_n C dX4_init_14 2 rfl rfl ?_
  refine cx_putF (μ := (poI μ2 l0 6 l1)) (μ' := (poI (poI μ2 l0 6 l1) l0 7 l2)) C hK hin 3 7 rfl in_X4 tyX4_ok nmX4 (by decide) q331 rfl rfl rfl (cdE_3 ht3) (Nat.le_of_ble_eq_true rfl) ⟨rfl, rfl⟩ (cset_3_7 (poI μ2 l0 6 l1) l0 l2) (cdE_3 ht3) rfl rfl rfl (fun _ hb => st_o hb) (fun _ _ => rfl) dX4_init_15 ?_
  exact cx_vret C hQ (by omega) (by omega) hw dX4_init_18
-- ('BinderPress$Reader', 'want', '(ZII)V')
def wc_X3_want (X : cX) (b : Nat) (l0 : Int) (l1 : Int) (l2 : Int) (μ : CM) (Q : CM → Prop) (XQ : Nat → CM → Prop) : Prop := R32 l0 ∧ ((¬ l0 = 0 → Q μ) ∧ (l0 = 0 → 2 ≤ b ∧ ∀ a3, tg μ a3 = 0 → wc_X4_init X a3 l1 l2 (alc μ a3 4 0) (fun μ7 => tg μ7 a3 = 4 ∧ XQ a3 μ7)))
set_option maxHeartbeats 4000000 in
theorem sc_X3_want (l : Launch) (X : cX) (sz : Nat) (Q : CM → Prop) (XQ : Nat → CM → Prop) (b : Nat) (l0 : Int) (l1 : Int) (l2 : Int) (μ : CM) (hw : wc_X3_want X b l0 l1 l2 μ Q XQ) : vy_Met l yX3_want (ws_ yX3_want cX3_want 3 none) ({ frames := 4, cells := b, slots := 5 * b, locals := 100 }) (cPc X (([aI l0, aI l1, aI l2] : List AV).map toV) μ sz) (cQv X μ sz Q) (cXQ X μ sz "BinderPress$Fault" XQ) b (5 * b) (cA X μ sz) := by
  refine cy_met2 (rm := ({ frames := 4, cells := b, slots := 5 * b, locals := 100 })) (As := [aI l0, aI l1, aI l2]) (L0 := [(0, aI l0), (1, aI l1), (2, aI l2)]) (by decide) rfl (Nat.le_of_ble_eq_true rfl) rfl ?_
  intro Z C hK hsz hR hl0 hin hX hQ
  subst hsz
  have C : gC Z cX3_want 3 RX3 none 4 100 := C
  have hQ : zz_q Z = vy_MQ (zz_b Z) (cQv X μ (zz_s Z).heap.size Q) (cXQ X μ (zz_s Z).heap.size "BinderPress$Fault" XQ) (zz_a Z) (zz_s Z) (zz_R Z).cells (zz_R Z).slots (cA X μ (zz_s Z).heap.size) := by rw [hR]; exact hQ
  have hb : 0 + b ≤ (zz_R Z).cells ∧ 0 + 5 * b ≤ (zz_R Z).slots := by rw [hR]; exact ⟨by dsimp only; omega, by dsimp only; omega⟩
  unfold wc_X3_want at hw
  refine hx_iload_n C dX3_want_0 0 rfl rfl ?_
  obtain ⟨hr1, hw⟩ := hw
  refine hx_if_ne (tgt := 14) C dX3_want_1 (by decide) hr1 (fun h => ?_) (fun h => ?_)
  · have hw := hw.1 h
    exact cy_vret C hQ (by omega) (by omega) hw dX3_want_14
  · have hw := hw.2 h
    obtain ⟨hu2, hw⟩ := hw
    refine cx_new (fs := fun a => coF_3 (alc μ a 4 0) a) C hK 3 4 rfl in_X4 tyX4_ok q282 q283 q91 (by decide) (fun a => cdE_3 alc_t) (cxd_3 _) (by omega) (by omega) dX3_want_4 (fun a3 hf4 => ?_)
    have hw := hw a3 hf4
    obtain hb : (0 + 1) + (b - 2) ≤ (zz_R Z).cells ∧ (0 + 8) + 5 * (b - 2) ≤ (zz_R Z).slots := ⟨by omega, by omega⟩
    have ht5 : tg (alc μ a3 4 0) a3 = 4 := alc_t
    refine hx_dup C dX3_want_7 rfl ?_
    refine hx_iload_n C dX3_want_8 1 rfl rfl ?_
    refine hx_iload_n C dX3_want_9 2 rfl rfl ?_
    refine fun H locs hI ls hl => cx_rv (S := [aR (some a3)]) hI hl (fun _ h => h) (cr_I (a := a3) (As := [toV (aI l1), toV (aI l2)]) (rest := [toV (aR (some a3))]) C hK hI hl 2 (sc_X4_init _ X H.size _ _ _ _ _ hw) q320 q321 q91 q322 rfl (by decide +kernel) ⟨rfl, rfl, Nat.le_of_ble_eq_true rfl, Nat.le_of_ble_eq_true rfl⟩ (av_W [aR (some a3)] 8 (Nat.le_of_ble_eq_true rfl)) dX3_want_10 rfl rfl ⟨by omega, by omega⟩) (fun μ7 hw => ?_)
    obtain ⟨ht8, hw⟩ := hw
    exact cy_athrow C hK (ci := 3) rfl (cdE_3 ht8) dX3_want_13 (cy_out C hX hQ (by omega) (by omega) hw)
-- ('BinderPress$Reader', 'sign', '(I)V')
def wc_X3_sign_13 (X : cX) (Q : CM → Prop) (XQ : Nat → CM → Prop) (l0 : Nat) (s0 : Int) (b : Nat) (μ : CM) : Prop := (tg μ l0 = 3 ∧ ∃ b2, b2 ≤ b ∧ wc_X3_want X b2 s0 1 (oI μ l0 2) μ (fun μ5 => tg μ5 l0 = 3 ∧ Q (poI μ5 l0 2 ((oI μ5 l0 2) + 1))) XQ)
set_option maxHeartbeats 4000000 in
theorem sc_X3_sign_13 {Z : zz} {X : cX} {μ0 : CM} {Q : CM → Prop} {XQ : Nat → CM → Prop} (C : gC Z cX3_sign 2 RX3 none 5 122) (hK : cCt Z X μ0) (hX : ∀ x ∈ (zz_c Z).exceptionTable.toList, False) (hQ : zz_q Z = vy_MQ (zz_b Z) (cQv X μ0 (zz_s Z).heap.size Q) (cXQ X μ0 (zz_s Z).heap.size "BinderPress$Fault" XQ) (zz_a Z) (zz_s Z) (zz_R Z).cells (zz_R Z).slots (cA X μ0 (zz_s Z).heap.size))  : ∀ l0 s0 b μ, wc_X3_sign_13 X Q XQ l0 s0 b μ → ∀ kk nn, (kk + b ≤ (zz_R Z).cells ∧ nn + 5 * b ≤ (zz_R Z).slots) → hG Z 2 (cI Z X μ0 μ) kk nn 13 [(0, aR (some l0))] [aI s0] := by
  intro l0 s0 b μ hw kk nn hb
  unfold wc_X3_sign_13 at hw
  refine hx_iconst C dX3_sign_13 ?_
  refine hx_aload_n C dX3_sign_14 0 rfl rfl ?_
  obtain ⟨ht1, hw⟩ := hw
  refine cx_get (μ := μ) (v := aI (oI μ l0 2)) C hK 2 2 rfl in_X3 (by decide) q227 rfl (cdE_2 ht1) rfl dX3_sign_15 ?_
  obtain ⟨b2, hu3, hw⟩ := hw
  refine fun H locs hI ls hl => cy_rv (S := []) hI hl (fun _ h => h) (cy_S (As := [toV (aI s0), toV (aI 1), toV (aI (oI μ l0 2))]) (rest := []) C hK hI hl 3 (sc_X3_want _ X H.size _ _ b2 _ _ _ _ hw) (lw_S q279 q280 q87 q281) (by decide +kernel) ⟨rfl, rfl, Nat.le_of_ble_eq_true rfl, Nat.le_of_ble_eq_true rfl⟩ (av_W [] 8 (Nat.le_of_ble_eq_true rfl)) dX3_sign_18 rfl rfl ⟨by omega, by omega⟩) (fun q9 μ5x hx => cy_out C hX hQ (by omega) (by omega) hx) (fun μ5 hw => ?_)
  obtain hb : (kk + b2) + (b - b2) ≤ (zz_R Z).cells ∧ (nn + 5 * b2) + 5 * (b - b2) ≤ (zz_R Z).slots := ⟨by omega, by omega⟩
  refine hx_aload_n C dX3_sign_21 0 rfl rfl ?_
  refine hx_dup C dX3_sign_22 rfl ?_
  obtain ⟨ht6, hw⟩ := hw
  refine cx_get (μ := μ5) (v := aI (oI μ5 l0 2)) C hK 2 2 rfl in_X3 (by decide) q227 rfl (cdE_2 ht6) rfl dX3_sign_23 ?_
  refine hx_iconst C dX3_sign_26 ?_
  refine hx_iadd C dX3_sign_27 ?_
  refine cx_put (μ := μ5) (μ' := (poI μ5 l0 2 ((oI μ5 l0 2) + 1))) C hK 2 2 rfl in_X3 tyX3_ok nmX3 (by decide) q227 rfl rfl (cdE_2 ht6) (Nat.le_of_ble_eq_true rfl) ⟨rfl, rfl⟩ (cset_2_2 μ5 l0 ((oI μ5 l0 2) + 1)) (cdE_2 ht6) rfl rfl rfl (fun _ hb => st_o hb) (fun _ _ => rfl) dX3_sign_28 ?_
  exact cy_vret C hQ (by omega) (by omega) hw dX3_sign_31
def wc_X3_sign (X : cX) (b : Nat) (l0 : Nat) (l1 : Int) (μ : CM) (Q : CM → Prop) (XQ : Nat → CM → Prop) : Prop := tg μ l0 = 3 ∧ wc_X3_here X l0 μ (fun r1 μ2 => R32 r1 ∧ R32 l1 ∧ ((¬ r1 = l1 → wc_X3_sign_13 X   Q XQ l0 0 b μ2) ∧ (r1 = l1 → wc_X3_sign_13 X   Q XQ l0 1 b μ2)))
set_option maxHeartbeats 4000000 in
theorem sc_X3_sign (l : Launch) (X : cX) (sz : Nat) (Q : CM → Prop) (XQ : Nat → CM → Prop) (b : Nat) (l0 : Nat) (l1 : Int) (μ : CM) (hw : wc_X3_sign X b l0 l1 μ Q XQ) : vy_Met l yX3_sign (ws_ yX3_sign cX3_sign 2 none) ({ frames := 5, cells := b, slots := 5 * b, locals := 122 }) (cPc X (([aR (some l0), aI l1] : List AV).map toV) μ sz) (cQv X μ sz Q) (cXQ X μ sz "BinderPress$Fault" XQ) b (5 * b) (cA X μ sz) := by
  refine cy_met2 (rm := ({ frames := 5, cells := b, slots := 5 * b, locals := 122 })) (As := [aR (some l0), aI l1]) (L0 := [(0, aR (some l0)), (1, aI l1)]) (by decide) rfl (Nat.le_of_ble_eq_true rfl) rfl ?_
  intro Z C hK hsz hR hl0 hin hX hQ
  subst hsz
  have C : gC Z cX3_sign 2 RX3 none 5 122 := C
  have hQ : zz_q Z = vy_MQ (zz_b Z) (cQv X μ (zz_s Z).heap.size Q) (cXQ X μ (zz_s Z).heap.size "BinderPress$Fault" XQ) (zz_a Z) (zz_s Z) (zz_R Z).cells (zz_R Z).slots (cA X μ (zz_s Z).heap.size) := by rw [hR]; exact hQ
  have hb : 0 + b ≤ (zz_R Z).cells ∧ 0 + 5 * b ≤ (zz_R Z).slots := by rw [hR]; exact ⟨by dsimp only; omega, by dsimp only; omega⟩
  unfold wc_X3_sign at hw
  refine hx_aload_n C dX3_sign_0 0 rfl rfl ?_
  obtain ⟨ht3, hw⟩ := hw
  refine fun H locs hI ls hl => cx_ri (S := []) hI hl (fun _ h => h) (cr_V (Cn := RX3) (As := []) (rest := []) C hK hI hl 0 (cv_dyn hK hI (ci := 2) rfl (Or.inr (cdE_2 ht3))) (sc_X3_here _ X H.size _ _ _ hw) (lw_V q250 q252 qs1 q87 q253) (by decide +kernel) ⟨rfl, rfl, Nat.le_of_ble_eq_true rfl, Nat.le_of_ble_eq_true rfl⟩ (av_W [] 8 (Nat.le_of_ble_eq_true rfl)) dX3_sign_1 rfl rfl ⟨by omega, by omega⟩) (fun r1 μ2 hw => ?_)
  refine hx_iload_n C dX3_sign_4 1 rfl rfl ?_
  obtain ⟨hr4, hw⟩ := hw
  obtain ⟨hr5, hw⟩ := hw
  refine hx_icmp_ne (tgt := 12) C dX3_sign_5 (by decide) hr4 hr5 (fun h => ?_) (fun h => ?_)
  · have hw := hw.1 h
    refine hx_iconst C dX3_sign_12 ?_
    refine hx_L [0] rfl ?_
    exact sc_X3_sign_13 C hK hX hQ  _ _ _ _ hw _ _ hb
  · have hw := hw.2 h
    refine hx_iconst C dX3_sign_8 ?_
    refine hx_goto (tgt := 13) C dX3_sign_9 (by decide) ?_
    refine hx_L [0] rfl ?_
    exact sc_X3_sign_13 C hK hX hQ  _ _ _ _ hw _ _ hb
-- ('BinderPress$Reader', 'grow', '(I)V')
def wc_X3_grow_24 (X : cX) (Q : CM → Prop) (XQ : Nat → CM → Prop) (l1 : Int) (s0 : Int) (b : Nat) (μ : CM) : Prop := (∃ b1, b1 ≤ b ∧ wc_X3_want X b1 s0 2 l1 μ (fun μ4 => Q μ4) XQ)
set_option maxHeartbeats 4000000 in
theorem sc_X3_grow_24 {Z : zz} {X : cX} {μ0 : CM} {Q : CM → Prop} {XQ : Nat → CM → Prop} (C : gC Z cX3_grow 2 RX3 none 5 122) (hK : cCt Z X μ0) (hX : ∀ x ∈ (zz_c Z).exceptionTable.toList, False) (hQ : zz_q Z = vy_MQ (zz_b Z) (cQv X μ0 (zz_s Z).heap.size Q) (cXQ X μ0 (zz_s Z).heap.size "BinderPress$Fault" XQ) (zz_a Z) (zz_s Z) (zz_R Z).cells (zz_R Z).slots (cA X μ0 (zz_s Z).heap.size))  : ∀ l1 s0 b μ, wc_X3_grow_24 X Q XQ l1 s0 b μ → ∀ kk nn, (kk + b ≤ (zz_R Z).cells ∧ nn + 5 * b ≤ (zz_R Z).slots) → hG Z 2 (cI Z X μ0 μ) kk nn 24 [(1, aI l1)] [aI s0] := by
  intro l1 s0 b μ hw kk nn hb
  unfold wc_X3_grow_24 at hw
  refine hx_iconst C dX3_grow_24 ?_
  refine hx_iload_n C dX3_grow_25 0 rfl rfl ?_
  obtain ⟨b1, hu2, hw⟩ := hw
  refine fun H locs hI ls hl => cy_rv (S := []) hI hl (fun _ h => h) (cy_S (As := [toV (aI s0), toV (aI 2), toV (aI l1)]) (rest := []) C hK hI hl 3 (sc_X3_want _ X H.size _ _ b1 _ _ _ _ hw) (lw_S q279 q280 q87 q281) (by decide +kernel) ⟨rfl, rfl, Nat.le_of_ble_eq_true rfl, Nat.le_of_ble_eq_true rfl⟩ (av_W [] 8 (Nat.le_of_ble_eq_true rfl)) dX3_grow_26 rfl rfl ⟨by omega, by omega⟩) (fun q9 μ4x hx => cy_out C hX hQ (by omega) (by omega) hx) (fun μ4 hw => ?_)
  obtain hb : (kk + b1) + (b - b1) ≤ (zz_R Z).cells ∧ (nn + 5 * b1) + 5 * (b - b1) ≤ (zz_R Z).slots := ⟨by omega, by omega⟩
  exact cy_vret C hQ (by omega) (by omega) hw dX3_grow_29
def wc_X3_grow (X : cX) (b : Nat) (l0 : Nat) (l1 : Int) (μ : CM) (Q : CM → Prop) (XQ : Nat → CM → Prop) : Prop := tg μ l0 = 3 ∧ R32 (oI (poI μ l0 3 ((oI μ l0 3) + 1)) l0 3) ∧ ((120 < (oI (poI μ l0 3 ((oI μ l0 3) + 1)) l0 3) → wc_X3_grow_24 X   Q XQ l1 0 b (poI μ l0 3 ((oI μ l0 3) + 1))) ∧ ((oI (poI μ l0 3 ((oI μ l0 3) + 1)) l0 3) ≤ 120 → wc_X3_grow_24 X   Q XQ l1 1 b (poI μ l0 3 ((oI μ l0 3) + 1))))
set_option maxHeartbeats 4000000 in
theorem sc_X3_grow (l : Launch) (X : cX) (sz : Nat) (Q : CM → Prop) (XQ : Nat → CM → Prop) (b : Nat) (l0 : Nat) (l1 : Int) (μ : CM) (hw : wc_X3_grow X b l0 l1 μ Q XQ) : vy_Met l yX3_grow (ws_ yX3_grow cX3_grow 2 none) ({ frames := 5, cells := b, slots := 5 * b, locals := 122 }) (cPc X (([aR (some l0), aI l1] : List AV).map toV) μ sz) (cQv X μ sz Q) (cXQ X μ sz "BinderPress$Fault" XQ) b (5 * b) (cA X μ sz) := by
  refine cy_met2 (rm := ({ frames := 5, cells := b, slots := 5 * b, locals := 122 })) (As := [aR (some l0), aI l1]) (L0 := [(0, aR (some l0)), (1, aI l1)]) (by decide) rfl (Nat.le_of_ble_eq_true rfl) rfl ?_
  intro Z C hK hsz hR hl0 hin hX hQ
  subst hsz
  have C : gC Z cX3_grow 2 RX3 none 5 122 := C
  have hQ : zz_q Z = vy_MQ (zz_b Z) (cQv X μ (zz_s Z).heap.size Q) (cXQ X μ (zz_s Z).heap.size "BinderPress$Fault" XQ) (zz_a Z) (zz_s Z) (zz_R Z).cells (zz_R Z).slots (cA X μ (zz_s Z).heap.size) := by rw [hR]; exact hQ
  have hb : 0 + b ≤ (zz_R Z).cells ∧ 0 + 5 * b ≤ (zz_R Z).slots := by rw [hR]; exact ⟨by dsimp only; omega, by dsimp only; omega⟩
  unfold wc_X3_grow at hw
  refine hx_aload_n C dX3_grow_0 0 rfl rfl ?_
  refine hx_dup C dX3_grow_1 rfl ?_
  obtain ⟨ht1, hw⟩ := hw
  refine cx_get (μ := μ) (v := aI (oI μ l0 3)) C hK 2 3 rfl in_X3 (by decide) q228 rfl (cdE_2 ht1) rfl dX3_grow_2 ?_
  refine hx_iconst C dX3_grow_5 ?_
  refine hx_iadd C dX3_grow_6 ?_
  refine cx_put (μ := μ) (μ' := (poI μ l0 3 ((oI μ l0 3) + 1))) C hK 2 3 rfl in_X3 tyX3_ok nmX3 (by decide) q228 rfl rfl (cdE_2 ht1) (Nat.le_of_ble_eq_true rfl) ⟨rfl, rfl⟩ (cset_2_3 μ l0 ((oI μ l0 3) + 1)) (cdE_2 ht1) rfl rfl rfl (fun _ hb => st_o hb) (fun _ _ => rfl) dX3_grow_7 ?_
  refine hx_aload_n C dX3_grow_10 0 rfl rfl ?_
  refine cx_get (μ := (poI μ l0 3 ((oI μ l0 3) + 1))) (v := aI (oI (poI μ l0 3 ((oI μ l0 3) + 1)) l0 3)) C hK 2 3 rfl in_X3 (by decide) q228 rfl (cdE_2 ht1) rfl dX3_grow_11 ?_
  refine hx_bipush C dX3_grow_14 (by decide) ?_
  obtain ⟨hr2, hw⟩ := hw
  refine hx_icmp_gt (tgt := 23) C dX3_grow_16 (by decide) hr2 (by decide) (fun h => ?_) (fun h => ?_)
  · have hw := hw.1 h
    refine hx_iconst C dX3_grow_23 ?_
    refine hx_L [1] rfl ?_
    exact sc_X3_grow_24 C hK hX hQ  _ _ _ _ hw _ _ hb
  · have hw := hw.2 h
    refine hx_iconst C dX3_grow_19 ?_
    refine hx_goto (tgt := 24) C dX3_grow_20 (by decide) ?_
    refine hx_L [1] rfl ?_
    exact sc_X3_grow_24 C hK hX hQ  _ _ _ _ hw _ _ hb
-- ('BinderPress$Binder', '<init>', '(ILBinderPress$Term;)V')
def wc_X6_init (X : cX) (l0 : Nat) (l1 : Int) (l2 : Option Nat) (μ : CM) (Q : CM → Prop) : Prop := wc_X5_init X l0 μ (fun μ2 => tg μ2 l0 = 5 ∧ Q (poR (poI μ2 l0 0 l1) l0 1 l2))
set_option maxHeartbeats 4000000 in
theorem sc_X6_init (l : Launch) (X : cX) (sz : Nat) (Q : CM → Prop) (l0 : Nat) (l1 : Int) (l2 : Option Nat) (μ : CM) (hw : wc_X6_init X l0 l1 l2 μ Q) : Met l yX6_init (ws_ yX6_init cX6_init 3 none) ({ frames := 2, cells := 0, slots := 0, locals := 50 }) (cPc X (([aR (some l0), aI l1, aR l2] : List AV).map toV) μ sz) (cQv X μ sz Q) 0 (0) (cA X μ sz) := by
  refine cx_met2 (rm := ({ frames := 2, cells := 0, slots := 0, locals := 50 })) (As := [aR (some l0), aI l1, aR l2]) (L0 := [(0, aR (some l0)), (1, aI l1), (2, aR l2)]) (by decide) rfl (Nat.le_of_ble_eq_true rfl) rfl ?_
  intro Z C hK hsz hR hl0 hin hQ
  subst hsz
  have C : gC Z cX6_init 3 RX6 none 2 50 := C
  have hQ : zz_q Z = MQ (zz_b Z) (cQv X μ (zz_s Z).heap.size Q) (zz_a Z) (zz_s Z) (zz_R Z).cells (zz_R Z).slots (cA X μ (zz_s Z).heap.size) := by rw [hR]; exact hQ
  unfold wc_X6_init at hw
  refine hx_aload_n C dX6_init_0 0 rfl rfl ?_
  refine fun H locs hI ls hl => cx_rv (S := []) hI hl (fun _ h => h) (cr_IN (a := l0) (As := []) (rest := []) C hK hI hl 0 (sc_X5_init _ X H.size _ _ _ hw) (List.mem_of_getElem? (i := 51) rfl) q372 q92 q373 rfl (by decide +kernel) ⟨rfl, rfl, Nat.le_of_ble_eq_true rfl, Nat.le_of_ble_eq_true rfl⟩ (av_W [] 8 (Nat.le_of_ble_eq_true rfl)) dX6_init_1 rfl rfl ⟨by omega, by omega⟩) (fun μ2 hw => ?_)
  refine hx_aload_n C dX6_init_4 0 rfl rfl ?_
  refine hx_iload_n C dX6_init_5 1 rfl rfl ?_
  obtain ⟨ht3, hw⟩ := hw
  refine cx_putF (μ := μ2) (μ' := (poI μ2 l0 0 l1)) C hK hin 4 0 rfl in_X6 tyX6_ok nmX6 (by decide) q375 rfl rfl rfl (cdE_4 ht3) (Nat.le_of_ble_eq_true rfl) ⟨rfl, rfl⟩ (cset_4_0 μ2 l0 l1) (cdE_4 ht3) rfl rfl rfl (fun _ hb => st_o hb) (fun _ _ => rfl) dX6_init_6 ?_
  refine hx_aload_n C dX6_init_9 0 rfl rfl ?_
  refine hx_aload_n C dX6_init_10 2 rfl rfl ?_
  refine cx_putF (μ := (poI μ2 l0 0 l1)) (μ' := (poR (poI μ2 l0 0 l1) l0 1 l2)) C hK hin 4 1 rfl in_X6 tyX6_ok nmX6 (by decide) q377 rfl rfl rfl (cdE_4 ht3) (Nat.le_of_ble_eq_true rfl) (cz_r (ty := tyX6 1) rfl l2) (cset_4_1 (poI μ2 l0 0 l1) l0 l2) (cdE_4 ht3) rfl rfl rfl (fun _ _ => rfl) (fun _ hb => stq_o hb) dX6_init_11 ?_
  exact cx_vret C hQ (by omega) (by omega) hw dX6_init_14
