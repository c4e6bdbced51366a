/-! walks of the component (printed by gen_comp) -/
set_option maxRecDepth 100000
-- ('BinderPress$Work', 'term', '()LBinderPress$Term;')
def wc_X1_term (X : cX) (b : Nat) (μ : CM) (Q : Option Nat → CM → Prop) : Prop := (∃ b1, b1 ≤ b ∧ wr_X1_term_2 X 310 b1 (kI μ 25 0) μ (fun r3 μ4 => Q r3 μ4))
set_option maxHeartbeats 4000000 in
theorem sc_X1_term (l : Launch) (X : cX) (sz : Nat) (Q : Option Nat → CM → Prop) (b : Nat) (μ : CM) (hw : wc_X1_term X b μ Q) : Met l yX1_term (ws_ yX1_term cX1_term 1 (some (.object "BinderPress$Term"))) ({ frames := 443, cells := b, slots := 5 * b, locals := 9484 }) (cPc X (([aR (some (cX_a X 0))] : List AV).map toV) μ sz) (cQr X μ sz Q) b (5 * b) (cA X μ sz) := by
  refine cx_met2 (rm := ({ frames := 443, cells := b, slots := 5 * b, locals := 9484 })) (As := [aR (some (cX_a X 0))]) (L0 := [(0, aR (some (cX_a X 0)))]) (by decide) rfl (Nat.le_of_ble_eq_true rfl) rfl ?_
  intro Z C hK hsz hR hl0 hin hQ
  subst hsz
  have C : gC Z cX1_term 1 RX1 (some (.object "BinderPress$Term")) 443 9484 := C
  have hQ : zz_q Z = MQ (zz_b Z) (cQr X μ (zz_s Z).heap.size Q) (zz_a Z) (zz_s Z) (zz_R Z).cells (zz_R Z).slots (cA X μ (zz_s Z).heap.size) := by rw [hR]; exact hQ
  have hb : 0 + b ≤ (zz_R Z).cells ∧ 0 + 5 * b ≤ (zz_R Z).slots := by rw [hR]; exact ⟨by dsimp only; omega, by dsimp only; omega⟩
  unfold wc_X1_term at hw
  refine hx_aload_n C dX1_term_0 0 rfl rfl ?_
  refine hx_aload_n C dX1_term_1 0 rfl rfl ?_
  refine cx_getS (μ := μ) (v := aI (kI μ 25 0)) C hK 1 5 rfl in_X1 (by decide) q130 rfl rfl rfl dX1_term_2 ?_
  obtain ⟨b1, hu2, hw⟩ := hw
  refine fun H locs hI ls hl => cx_rr (S := []) hI hl (fun _ h => h) (dr_V (Cn := RX1) (As := [toV (aI (kI μ 25 0))]) (rest := []) C hK hI hl 1 (cv_dyn hK hI (ci := 1) rfl (Or.inl ⟨1, rfl⟩)) ((rr_X1_term_2 _ X 310) b1 _ _ H.size _ hw) (by omega) (by omega) (lw_V q804 q806 qs21 q85 q807) (by decide +kernel) (av_W [] 8 (Nat.le_of_ble_eq_true rfl)) dX1_term_5 rfl rfl ⟨by omega, by omega⟩) (fun r3 μ4 hw => ?_)
  obtain hb : (0 + b1) + (b - b1) ≤ (zz_R Z).cells ∧ (0 + 5 * b1) + 5 * (b - b1) ≤ (zz_R Z).slots := ⟨by omega, by omega⟩
  exact cx_aret C hQ (by omega) (by omega) (Or.inl ⟨_, rfl⟩) hw dX1_term_8
-- ('BinderPress', 'work', '(III)I')
def wc_X0_work_30 (X : cX) (Q : Int → CM → Prop) (b : Nat) (μ : CM) : Prop := Q (-1000000002) μ
set_option maxHeartbeats 4000000 in
theorem sc_X0_work_30 {Z : zz} {X : cX} {μ0 : CM} {Q : Int → CM → Prop} (C : gC Z cX0_work 5 RX0 (some .int) 625 15621) (hK : cCt Z X μ0) (hQ : zz_q Z = MQ (zz_b Z) (cQi X μ0 (zz_s Z).heap.size Q) (zz_a Z) (zz_s Z) (zz_R Z).cells (zz_R Z).slots (cA X μ0 (zz_s Z).heap.size))  : ∀ b μ, wc_X0_work_30 X Q b μ → ∀ kk nn, (kk + b ≤ (zz_R Z).cells ∧ nn + 5 * b ≤ (zz_R Z).slots) → hG Z 5 (cI Z X μ0 μ) kk nn 30 [] [] := by
  intro b μ hw kk nn hb
  unfold wc_X0_work_30 at hw
  refine hx_ldc C (-1000000002) q208 (by decide) dX0_work_30 ?_
  exact cx_iret C hQ (by omega) (by omega) rfl hw dX0_work_32
def wc_X0_work_98 (X : cX) (Q : Int → CM → Prop) (b : Nat) (μ : CM) : Prop := Q (-1000000004) μ
set_option maxHeartbeats 4000000 in
theorem sc_X0_work_98 {Z : zz} {X : cX} {μ0 : CM} {Q : Int → CM → Prop} (C : gC Z cX0_work 5 RX0 (some .int) 625 15621) (hK : cCt Z X μ0) (hQ : zz_q Z = MQ (zz_b Z) (cQi X μ0 (zz_s Z).heap.size Q) (zz_a Z) (zz_s Z) (zz_R Z).cells (zz_R Z).slots (cA X μ0 (zz_s Z).heap.size))  : ∀ b μ, wc_X0_work_98 X Q b μ → ∀ kk nn, (kk + b ≤ (zz_R Z).cells ∧ nn + 5 * b ≤ (zz_R Z).slots) → hG Z 5 (cI Z X μ0 μ) kk nn 98 [] [] := by
  intro b μ hw kk nn hb
  unfold wc_X0_work_98 at hw
  refine hx_ldc C (-1000000004) q209 (by decide) dX0_work_98 ?_
  exact cx_iret C hQ (by omega) (by omega) rfl hw dX0_work_100
def wc_X0_work_64 (X : cX) (Q : Int → CM → Prop) (l1 : Int) (l3 : Int) (s1 : Option Nat) (s2 : Int) (b : Nat) (μ : CM) : Prop := wc_X1_begin X s1 s2 μ (fun μ2 => wc_X1_go X l3 μ2 (fun μ4 => R32 (kI μ4 28 0) ∧ ((¬ (kI μ4 28 0) = 0 → wc_X0_work_98 X   Q b μ4) ∧ ((kI μ4 28 0) = 0 → wc_X1_size X μ4 (fun r6 μ7 => wc_X10_fits X r6 μ7 (fun r8 μ9 => R32 r8 ∧ ((¬ r8 = 0 → (∃ b11, b11 ≤ b ∧ wc_X1_term X b11 μ9 (fun r13 μ14 => wc_X0_lay X l1 r13 μ14 (fun r15 μ16 => Q (kI μ16 27 0) μ16)))) ∧ (r8 = 0 → wc_X0_work_98 X   Q b μ9))))))))
set_option maxHeartbeats 4000000 in
theorem sc_X0_work_64 {Z : zz} {X : cX} {μ0 : CM} {Q : Int → CM → Prop} (C : gC Z cX0_work 5 RX0 (some .int) 625 15621) (hK : cCt Z X μ0) (hQ : zz_q Z = MQ (zz_b Z) (cQi X μ0 (zz_s Z).heap.size Q) (zz_a Z) (zz_s Z) (zz_R Z).cells (zz_R Z).slots (cA X μ0 (zz_s Z).heap.size))  : ∀ l1 l3 s1 s2 b μ, wc_X0_work_64 X Q l1 l3 s1 s2 b μ → ∀ kk nn, (kk + b ≤ (zz_R Z).cells ∧ nn + 5 * b ≤ (zz_R Z).slots) → hG Z 5 (cI Z X μ0 μ) kk nn 64 [(0, aR (some (cX_h X))), (1, aI l1), (3, aI l3)] [aI s2, aR s1, aR (some (cX_a X 0))] := by
  intro l1 l3 s1 s2 b μ hw kk nn hb
  unfold wc_X0_work_64 at hw
  refine fun H locs hI ls hl => cx_rv (S := []) hI hl (fun _ h => h) (cr_V (Cn := RX1) (As := [toV (aR s1), toV (aI s2)]) (rest := []) C hK hI hl 2 (cv_dyn hK hI (ci := 1) rfl (Or.inl ⟨1, rfl⟩)) (sc_X1_begin _ X H.size _ _ _ _ hw) (lw_V q639 q640 q641 q85 q642) (by decide +kernel) ⟨rfl, rfl, Nat.le_of_ble_eq_true rfl, Nat.le_of_ble_eq_true rfl⟩ (av_W [] 8 (Nat.le_of_ble_eq_true rfl)) dX0_work_64 rfl rfl ⟨by omega, by omega⟩) (fun μ2 hw => ?_)
  refine hx_aload_n C dX0_work_67 0 rfl rfl ?_
  refine cx_getS (μ := μ2) (v := aR (some (cX_a X 0))) C hK 0 0 rfl in_X0 (by decide) q166 rfl rfl rfl dX0_work_68 ?_
  refine hx_iload_n C dX0_work_71 2 rfl rfl ?_
  refine fun H locs hI ls hl => cx_rv (S := []) hI hl (fun _ h => h) (cr_V (Cn := RX1) (As := [toV (aI l3)]) (rest := []) C hK hI hl 1 (cv_dyn hK hI (ci := 1) rfl (Or.inl ⟨1, rfl⟩)) (sc_X1_go _ X H.size _ _ _ hw) (lw_V q692 q693 q694 q85 q695) (by decide +kernel) ⟨rfl, rfl, Nat.le_of_ble_eq_true rfl, Nat.le_of_ble_eq_true rfl⟩ (av_W [] 8 (Nat.le_of_ble_eq_true rfl)) dX0_work_72 rfl rfl ⟨by omega, by omega⟩) (fun μ4 hw => ?_)
  refine hx_aload_n C dX0_work_75 0 rfl rfl ?_
  refine cx_getS (μ := μ4) (v := aR (some (cX_a X 0))) C hK 0 0 rfl in_X0 (by decide) q166 rfl rfl rfl dX0_work_76 ?_
  refine cx_getSN (μ := μ4) (v := aI (kI μ4 28 0)) C hK 1 8 rfl in_X1 (by decide) (List.mem_of_getElem? (i := 14) rfl) rfl rfl rfl dX0_work_79 ?_
  obtain ⟨hr5, hw⟩ := hw
  refine hx_if_ne (tgt := 98) C dX0_work_82 (by decide) hr5 (fun h => ?_) (fun h => ?_)
  · have hw := hw.1 h
    refine hx_L [] rfl ?_
    exact sc_X0_work_98 C hK hQ  _ _ hw _ _ hb
  · have hw := hw.2 h
    refine hx_aload_n C dX0_work_85 0 rfl rfl ?_
    refine cx_getS (μ := μ4) (v := aR (some (cX_a X 0))) C hK 0 0 rfl in_X0 (by decide) q166 rfl rfl rfl dX0_work_86 ?_
    refine fun H locs hI ls hl => cx_ri (S := []) hI hl (fun _ h => h) (cr_V (Cn := RX1) (As := []) (rest := []) C hK hI hl 0 (cv_dyn hK hI (ci := 1) rfl (Or.inl ⟨1, rfl⟩)) (sc_X1_size _ X H.size _ _ hw) (lw_V q798 q787 q788 q85 q789) (by decide +kernel) ⟨rfl, rfl, Nat.le_of_ble_eq_true rfl, Nat.le_of_ble_eq_true rfl⟩ (av_W [] 8 (Nat.le_of_ble_eq_true rfl)) dX0_work_89 rfl rfl ⟨by omega, by omega⟩) (fun r6 μ7 hw => ?_)
    refine fun H locs hI ls hl => cx_ri (S := []) hI hl (fun _ h => h) (cr_S (As := [toV (aI r6)]) (rest := []) C hK hI hl 1 (sc_X10_fits _ X H.size _ _ _ hw) (lw_S q799 q598 q99 q599) (by decide +kernel) ⟨rfl, rfl, Nat.le_of_ble_eq_true rfl, Nat.le_of_ble_eq_true rfl⟩ (av_W [] 8 (Nat.le_of_ble_eq_true rfl)) dX0_work_92 rfl rfl ⟨by omega, by omega⟩) (fun r8 μ9 hw => ?_)
    obtain ⟨hr10, hw⟩ := hw
    refine hx_if_ne (tgt := 101) C dX0_work_95 (by decide) hr10 (fun h => ?_) (fun h => ?_)
    · have hw := hw.1 h
      refine hx_aload_n C dX0_work_101 0 rfl rfl ?_
      refine hx_iload_n C dX0_work_102 1 rfl rfl ?_
      refine hx_aload_n C dX0_work_103 0 rfl rfl ?_
      refine cx_getS (μ := μ9) (v := aR (some (cX_a X 0))) C hK 0 0 rfl in_X0 (by decide) q166 rfl rfl rfl dX0_work_104 ?_
      obtain ⟨b11, hu12, hw⟩ := hw
      refine fun H locs hI ls hl => cx_rr (S := [aI l1, aR (some (cX_h X))]) hI hl (fun _ h => h) (cr_V (Cn := RX1) (As := []) (rest := [toV (aI l1), toV (aR (some (cX_h X)))]) C hK hI hl 0 (cv_dyn hK hI (ci := 1) rfl (Or.inl ⟨1, rfl⟩)) (sc_X1_term _ X H.size _ b11 _ hw) (lw_V q800 q801 q802 q85 q803) (by decide +kernel) ⟨rfl, rfl, Nat.le_of_ble_eq_true rfl, Nat.le_of_ble_eq_true rfl⟩ (av_W [aI l1, aR (some (cX_h X))] 8 (Nat.le_of_ble_eq_true rfl)) dX0_work_107 rfl rfl ⟨by omega, by omega⟩) (fun r13 μ14 hw => ?_)
      obtain hb : (kk + b11) + (b - b11) ≤ (zz_R Z).cells ∧ (nn + 5 * b11) + 5 * (b - b11) ≤ (zz_R Z).slots := ⟨by omega, by omega⟩
      refine fun H locs hI ls hl => cx_ri (S := []) hI hl (fun _ h => h) (cr_V (Cn := RX0) (As := [toV (aI l1), toV (aR r13)]) (rest := []) C hK hI hl 2 (cv_dyn hK hI (ci := 0) rfl (Or.inl ⟨0, rfl⟩)) (sc_X0_lay _ X H.size _ _ _ _ hw) (lw_V q479 q481 qs8 q84 q482) (by decide +kernel) ⟨rfl, rfl, Nat.le_of_ble_eq_true rfl, Nat.le_of_ble_eq_true rfl⟩ (av_W [] 8 (Nat.le_of_ble_eq_true rfl)) dX0_work_110 rfl rfl ⟨by omega, by omega⟩) (fun r15 μ16 hw => ?_)
      refine hx_istore (L' := [(4, aI r15), (0, aR (some (cX_h X))), (1, aI l1), (3, aI l3)]) C dX0_work_113 (by decide) rfl ?_
      refine hx_aload_n C dX0_work_115 1 rfl rfl ?_
      refine cx_getS (μ := μ16) (v := aR (some (cX_a X 0))) C hK 0 0 rfl in_X0 (by decide) q166 rfl rfl rfl dX0_work_116 ?_
      refine cx_getSN (μ := μ16) (v := aI (kI μ16 27 0)) C hK 1 7 rfl in_X1 (by decide) (List.mem_of_getElem? (i := 13) rfl) rfl rfl rfl dX0_work_119 ?_
      exact cx_iret C hQ (by omega) (by omega) rfl hw dX0_work_122
    · have hw := hw.2 h
      refine hx_L [] rfl ?_
      exact sc_X0_work_98 C hK hQ  _ _ hw _ _ hb
def wc_X0_work (X : cX) (b : Nat) (l1 : Int) (l2 : Int) (l3 : Int) (μ : CM) (Q : Int → CM → Prop) : Prop := wc_X0_isShelf X l1 μ (fun r1 μ2 => R32 r1 ∧ ((¬ r1 = 0 → wc_X0_isIn X l2 0 1 μ2 (fun r4 μ5 => R32 r4 ∧ ((r4 = 0 → wc_X0_work_30 X   Q b μ5) ∧ (¬ r4 = 0 → wc_X0_isIn X l3 0 200 μ5 (fun r7 μ8 => R32 r7 ∧ ((¬ r7 = 0 → wc_X0_isPlain X l1 μ8 (fun r10 μ11 => R32 r10 ∧ ((¬ r10 = 0 → (0 ≤ l1 ∧ l1 < 4) ∧ R32 l2 ∧ ((¬ l2 = 1 → wc_X0_work_64 X   Q l1 l3 (kR μ11 1 (l1).toNat) 0 b μ11) ∧ (l2 = 1 → wc_X0_work_64 X   Q l1 l3 (kR μ11 1 (l1).toNat) 1 b μ11))) ∧ (r10 = 0 → Q (-1000000003) μ11)))) ∧ (r7 = 0 → wc_X0_work_30 X   Q b μ8))))))) ∧ (r1 = 0 → Q (-1000000001) μ2)))
set_option maxHeartbeats 4000000 in
theorem sc_X0_work (l : Launch) (X : cX) (sz : Nat) (Q : Int → CM → Prop) (b : Nat) (l1 : Int) (l2 : Int) (l3 : Int) (μ : CM) (hw : wc_X0_work X b l1 l2 l3 μ Q) : Met l yX0_work (ws_ yX0_work cX0_work 5 (some .int)) ({ frames := 625, cells := b, slots := 5 * b, locals := 15621 }) (cPc X (([aR (some (cX_h X)), aI l1, aI l2, aI l3] : List AV).map toV) μ sz) (cQi X μ sz Q) b (5 * b) (cA X μ sz) := by
  refine cx_met2 (rm := ({ frames := 625, cells := b, slots := 5 * b, locals := 15621 })) (As := [aR (some (cX_h X)), aI l1, aI l2, aI l3]) (L0 := [(0, aR (some (cX_h X))), (1, aI l1), (2, aI l2), (3, aI l3)]) (by decide) rfl (Nat.le_of_ble_eq_true rfl) rfl ?_
  intro Z C hK hsz hR hl0 hin hQ
  subst hsz
  have C : gC Z cX0_work 5 RX0 (some .int) 625 15621 := C
  have hQ : zz_q Z = MQ (zz_b Z) (cQi X μ (zz_s Z).heap.size Q) (zz_a Z) (zz_s Z) (zz_R Z).cells (zz_R Z).slots (cA X μ (zz_s Z).heap.size) := by rw [hR]; exact hQ
  have hb : 0 + b ≤ (zz_R Z).cells ∧ 0 + 5 * b ≤ (zz_R Z).slots := by rw [hR]; exact ⟨by dsimp only; omega, by dsimp only; omega⟩
  unfold wc_X0_work at hw
  refine hx_iload_n C dX0_work_0 1 rfl rfl ?_
  refine fun H locs hI ls hl => cx_ri (S := []) hI hl (fun _ h => h) (cr_S (As := [toV (aI l1)]) (rest := []) C hK hI hl 1 (sc_X0_isShelf _ X H.size _ _ _ hw) (lw_S q215 q216 q84 q217) (by decide +kernel) ⟨rfl, rfl, Nat.le_of_ble_eq_true rfl, Nat.le_of_ble_eq_true rfl⟩ (av_W [] 8 (Nat.le_of_ble_eq_true rfl)) dX0_work_1 rfl rfl ⟨by omega, by omega⟩) (fun r1 μ2 hw => ?_)
  obtain ⟨hr3, hw⟩ := hw
  refine hx_if_ne (tgt := 10) C dX0_work_4 (by decide) hr3 (fun h => ?_) (fun h => ?_)
  · have hw := hw.1 h
    refine hx_iload_n C dX0_work_10 2 rfl rfl ?_
    refine hx_iconst C dX0_work_11 ?_
    refine hx_iconst C dX0_work_12 ?_
    refine fun H locs hI ls hl => cx_ri (S := []) hI hl (fun _ h => h) (cr_S (As := [toV (aI l2), toV (aI 0), toV (aI 1)]) (rest := []) C hK hI hl 3 (sc_X0_isIn _ X H.size _ _ _ _ _ hw) (lw_S q205 q206 q84 q207) (by decide +kernel) ⟨rfl, rfl, Nat.le_of_ble_eq_true rfl, Nat.le_of_ble_eq_true rfl⟩ (av_W [] 8 (Nat.le_of_ble_eq_true rfl)) dX0_work_13 rfl rfl ⟨by omega, by omega⟩) (fun r4 μ5 hw => ?_)
    obtain ⟨hr6, hw⟩ := hw
    refine hx_if_eq (tgt := 30) C dX0_work_16 (by decide) hr6 (fun h => ?_) (fun h => ?_)
    · have hw := hw.1 h
      refine hx_L [] rfl ?_
      exact sc_X0_work_30 C hK hQ  _ _ hw _ _ hb
    · have hw := hw.2 h
      refine hx_iload_n C dX0_work_19 3 rfl rfl ?_
      refine hx_iconst C dX0_work_20 ?_
      refine hx_sipush C dX0_work_21 (by decide) ?_
      refine fun H locs hI ls hl => cx_ri (S := []) hI hl (fun _ h => h) (cr_S (As := [toV (aI l3), toV (aI 0), toV (aI 200)]) (rest := []) C hK hI hl 3 (sc_X0_isIn _ X H.size _ _ _ _ _ hw) (lw_S q205 q206 q84 q207) (by decide +kernel) ⟨rfl, rfl, Nat.le_of_ble_eq_true rfl, Nat.le_of_ble_eq_true rfl⟩ (av_W [] 8 (Nat.le_of_ble_eq_true rfl)) dX0_work_24 rfl rfl ⟨by omega, by omega⟩) (fun r7 μ8 hw => ?_)
      obtain ⟨hr9, hw⟩ := hw
      refine hx_if_ne (tgt := 33) C dX0_work_27 (by decide) hr9 (fun h => ?_) (fun h => ?_)
      · have hw := hw.1 h
        refine hx_aload_n C dX0_work_33 0 rfl rfl ?_
        refine hx_iload_n C dX0_work_34 1 rfl rfl ?_
        refine fun H locs hI ls hl => cx_ri (S := []) hI hl (fun _ h => h) (cr_V (Cn := RX0) (As := [toV (aI l1)]) (rest := []) C hK hI hl 1 (cv_dyn hK hI (ci := 0) rfl (Or.inl ⟨0, rfl⟩)) (sc_X0_isPlain _ X H.size _ _ _ hw) (lw_V q614 q616 qs10 q84 q617) (by decide +kernel) ⟨rfl, rfl, Nat.le_of_ble_eq_true rfl, Nat.le_of_ble_eq_true rfl⟩ (av_W [] 8 (Nat.le_of_ble_eq_true rfl)) dX0_work_35 rfl rfl ⟨by omega, by omega⟩) (fun r10 μ11 hw => ?_)
        obtain ⟨hr12, hw⟩ := hw
        refine hx_if_ne (tgt := 44) C dX0_work_38 (by decide) hr12 (fun h => ?_) (fun h => ?_)
        · have hw := hw.1 h
          refine hx_aload_n C dX0_work_44 0 rfl rfl ?_
          refine cx_getS (μ := μ11) (v := aR (some (cX_a X 0))) C hK 0 0 rfl in_X0 (by decide) q166 rfl rfl rfl dX0_work_45 ?_
          refine hx_aload_n C dX0_work_48 0 rfl rfl ?_
          refine cx_getS (μ := μ11) (v := aR (some (cX_a X 1))) C hK 0 1 rfl in_X0 (by decide) q167 rfl rfl rfl dX0_work_49 ?_
          refine hx_iload_n C dX0_work_52 1 rfl rfl ?_
          obtain ⟨hx13, hw⟩ := hw
          refine cx_aald (μ := μ11) (f := kR μ11 1) C hK 2 rfl (Or.inl ⟨2, rfl⟩) hx13.1 hx13.2 (by decide) dX0_work_53 ?_
          refine hx_iload_n C dX0_work_54 2 rfl rfl ?_
          refine hx_iconst C dX0_work_55 ?_
          obtain ⟨hr14, hw⟩ := hw
          refine hx_icmp_ne (tgt := 63) C dX0_work_56 (by decide) hr14 (by decide) (fun h => ?_) (fun h => ?_)
          · have hw := hw.1 h
            refine hx_iconst C dX0_work_63 ?_
            refine hx_L [0, 1, 3] rfl ?_
            exact sc_X0_work_64 C hK hQ  _ _ _ _ _ _ hw _ _ hb
          · have hw := hw.2 h
            refine hx_iconst C dX0_work_59 ?_
            refine hx_goto (tgt := 64) C dX0_work_60 (by decide) ?_
            refine hx_L [0, 1, 3] rfl ?_
            exact sc_X0_work_64 C hK hQ  _ _ _ _ _ _ hw _ _ hb
        · have hw := hw.2 h
          refine hx_ldc C (-1000000003) q494 (by decide) dX0_work_41 ?_
          exact cx_iret C hQ (by omega) (by omega) rfl hw dX0_work_43
      · have hw := hw.2 h
        refine hx_L [] rfl ?_
        exact sc_X0_work_30 C hK hQ  _ _ hw _ _ hb
  · have hw := hw.2 h
    refine hx_ldc C (-1000000001) q218 (by decide) dX0_work_7 ?_
    exact cx_iret C hQ (by omega) (by omega) rfl hw dX0_work_9
-- ('BinderPress', 'drop', '(I)I')
def wc_X0_drop (X : cX) (l1 : Int) (μ : CM) (Q : Int → CM → Prop) : Prop := wc_X0_isShelf X l1 μ (fun r1 μ2 => R32 r1 ∧ ((¬ r1 = 0 → (0 ≤ l1 ∧ l1 < 4) ∧ ((¬ (kR μ2 1 (l1).toNat) = none → ((0 ≤ l1 ∧ l1 < 4) ∧ ∃ a6, (kR μ2 1 (l1).toNat) = some a6 ∧ wr_V_size X 130 a6 μ2 (fun r8 μ9 => wc_X0_lay X l1 none μ9 (fun r10 μ11 => Q (r8 + r10) μ11)))) ∧ ((kR μ2 1 (l1).toNat) = none → Q (-1000000003) μ2))) ∧ (r1 = 0 → Q (-1000000001) μ2)))
set_option maxHeartbeats 4000000 in
theorem sc_X0_drop (l : Launch) (X : cX) (sz : Nat) (Q : Int → CM → Prop) (l1 : Int) (μ : CM) (hw : wc_X0_drop X l1 μ Q) : Met l yX0_drop (ws_ yX0_drop cX0_drop 3 (some .int)) ({ frames := 132, cells := 0, slots := 0, locals := 2642 }) (cPc X (([aR (some (cX_h X)), aI l1] : List AV).map toV) μ sz) (cQi X μ sz Q) 0 (0) (cA X μ sz) := by
  refine cx_met2 (rm := ({ frames := 132, cells := 0, slots := 0, locals := 2642 })) (As := [aR (some (cX_h X)), aI l1]) (L0 := [(0, aR (some (cX_h X))), (1, aI l1)]) (by decide) rfl (Nat.le_of_ble_eq_true rfl) rfl ?_
  intro Z C hK hsz hR hl0 hin hQ
  subst hsz
  have C : gC Z cX0_drop 3 RX0 (some .int) 132 2642 := C
  have hQ : zz_q Z = MQ (zz_b Z) (cQi X μ (zz_s Z).heap.size Q) (zz_a Z) (zz_s Z) (zz_R Z).cells (zz_R Z).slots (cA X μ (zz_s Z).heap.size) := by rw [hR]; exact hQ
  unfold wc_X0_drop at hw
  refine hx_iload_n C dX0_drop_0 1 rfl rfl ?_
  refine fun H locs hI ls hl => cx_ri (S := []) hI hl (fun _ h => h) (cr_S (As := [toV (aI l1)]) (rest := []) C hK hI hl 1 (sc_X0_isShelf _ X H.size _ _ _ hw) (lw_S q215 q216 q84 q217) (by decide +kernel) ⟨rfl, rfl, Nat.le_of_ble_eq_true rfl, Nat.le_of_ble_eq_true rfl⟩ (av_W [] 8 (Nat.le_of_ble_eq_true rfl)) dX0_drop_1 rfl rfl ⟨by omega, by omega⟩) (fun r1 μ2 hw => ?_)
  obtain ⟨hr3, hw⟩ := hw
  refine hx_if_ne (tgt := 10) C dX0_drop_4 (by decide) hr3 (fun h => ?_) (fun h => ?_)
  · have hw := hw.1 h
    refine hx_aload_n C dX0_drop_10 0 rfl rfl ?_
    refine cx_getS (μ := μ2) (v := aR (some (cX_a X 1))) C hK 0 1 rfl in_X0 (by decide) q167 rfl rfl rfl dX0_drop_11 ?_
    refine hx_iload_n C dX0_drop_14 1 rfl rfl ?_
    obtain ⟨hx4, hw⟩ := hw
    refine cx_aald (μ := μ2) (f := kR μ2 1) C hK 2 rfl (Or.inl ⟨2, rfl⟩) hx4.1 hx4.2 (by decide) dX0_drop_15 ?_
    refine hx_ifnonnull (tgt := 22) C dX0_drop_16 (by decide) (fun h => ?_) (fun h => ?_)
    · have hw := hw.1 h
      refine hx_aload_n C dX0_drop_22 0 rfl rfl ?_
      refine cx_getS (μ := μ2) (v := aR (some (cX_a X 1))) C hK 0 1 rfl in_X0 (by decide) q167 rfl rfl rfl dX0_drop_23 ?_
      refine hx_iload_n C dX0_drop_26 1 rfl rfl ?_
      obtain ⟨hx5, hw⟩ := hw
      refine cx_aald (μ := μ2) (f := kR μ2 1) C hK 2 rfl (Or.inl ⟨2, rfl⟩) hx5.1 hx5.2 (by decide) dX0_drop_27 ?_
      obtain ⟨a6, ha7, hw⟩ := hw
      rw [ha7]
      refine fun H locs hI ls hl => cx_ri (S := []) hI hl (fun _ h => h) (dv_size (rest := []) C hK hI hl (rr_V_size _ X 130) hw (by omega) (by omega) (va_Nw.use rfl (hK.1.2.2.1 _ (List.mem_of_getElem? (i := 72) rfl))) (av_W [] 8 (Nat.le_of_ble_eq_true rfl)) dX0_drop_28 rfl rfl ⟨by omega, by omega⟩) (fun r8 μ9 hw => ?_)
      refine hx_istore_n (L' := [(2, aI r8), (0, aR (some (cX_h X))), (1, aI l1)]) C dX0_drop_31 rfl (by decide) rfl ?_
      refine hx_iload_n C dX0_drop_32 0 rfl rfl ?_
      refine hx_aload_n C dX0_drop_33 1 rfl rfl ?_
      refine hx_iload_n C dX0_drop_34 2 rfl rfl ?_
      refine hx_null C dX0_drop_35 ?_
      refine fun H locs hI ls hl => cx_ri (S := [aI r8]) hI hl (fun _ h => h) (cr_V (Cn := RX0) (As := [toV (aI l1), toV (aR none)]) (rest := [toV (aI r8)]) C hK hI hl 2 (cv_dyn hK hI (ci := 0) rfl (Or.inl ⟨0, rfl⟩)) (sc_X0_lay _ X H.size _ _ _ _ hw) (lw_V q479 q481 qs8 q84 q482) (by decide +kernel) ⟨rfl, rfl, Nat.le_of_ble_eq_true rfl, Nat.le_of_ble_eq_true rfl⟩ (av_W [aI r8] 8 (Nat.le_of_ble_eq_true rfl)) dX0_drop_36 rfl rfl ⟨by omega, by omega⟩) (fun r10 μ11 hw => ?_)
      refine hx_iadd C dX0_drop_39 ?_
      exact cx_iret C hQ (by omega) (by omega) rfl hw dX0_drop_40
    · have hw := hw.2 h
      refine hx_ldc C (-1000000003) q494 (by decide) dX0_drop_19 ?_
      exact cx_iret C hQ (by omega) (by omega) rfl hw dX0_drop_21
  · have hw := hw.2 h
    refine hx_ldc C (-1000000001) q218 (by decide) dX0_drop_7 ?_
    exact cx_iret C hQ (by omega) (by omega) rfl hw dX0_drop_9
-- ('BinderPress', 'nextLot', '(I)I')
def wc_X0_nextLot (X : cX) (l1 : Int) (μ : CM) (Q : Int → CM → Prop) : Prop := (0 ≤ ((kI μ 9 0) * 16807) ∧ ((kI μ 9 0) * 16807) ≤ 9223372036854775807) ∧ R32 l1 ∧ (0 ≤ (((kI μ 9 0) * 16807) % 2147483647) ∧ (((kI μ 9 0) * 16807) % 2147483647) ≤ 9223372036854775807) ∧ (0 < l1 ∧ l1 ≤ 9223372036854775807) ∧ R32 ((((kI μ 9 0) * 16807) % 2147483647) % l1) ∧ Q ((((kI μ 9 0) * 16807) % 2147483647) % l1) (pkI μ 9 0 (((kI μ 9 0) * 16807) % 2147483647))
set_option maxHeartbeats 4000000 in
theorem sc_X0_nextLot (l : Launch) (X : cX) (sz : Nat) (Q : Int → CM → Prop) (l1 : Int) (μ : CM) (hw : wc_X0_nextLot X l1 μ Q) : Met l yX0_nextLot (ws_ yX0_nextLot cX0_nextLot 2 (some .int)) ({ frames := 0, cells := 0, slots := 0, locals := 0 }) (cPc X (([aR (some (cX_h X)), aI l1] : List AV).map toV) μ sz) (cQi X μ sz Q) 0 (0) (cA X μ sz) := by
  refine cx_met2 (rm := ({ frames := 0, cells := 0, slots := 0, locals := 0 })) (As := [aR (some (cX_h X)), aI l1]) (L0 := [(0, aR (some (cX_h X))), (1, aI l1)]) (by decide) rfl (Nat.le_of_ble_eq_true rfl) rfl ?_
  intro Z C hK hsz hR hl0 hin hQ
  subst hsz
  have C : gC Z cX0_nextLot 2 RX0 (some .int) 0 0 := C
  have hQ : zz_q Z = MQ (zz_b Z) (cQi X μ (zz_s Z).heap.size Q) (zz_a Z) (zz_s Z) (zz_R Z).cells (zz_R Z).slots (cA X μ (zz_s Z).heap.size) := by rw [hR]; exact hQ
  unfold wc_X0_nextLot at hw
  refine hx_aload_n C dX0_nextLot_0 0 rfl rfl ?_
  refine hx_aload_n C dX0_nextLot_1 0 rfl rfl ?_
  refine cx_getS (μ := μ) (v := aL (kI μ 9 0)) C hK 0 9 rfl in_X0 (by decide) q175 rfl rfl rfl dX0_nextLot_2 ?_
  refine hx_ldc2 C 16807 q827 (by decide) dX0_nextLot_5 ?_
  refine hx_lmul C dX0_nextLot_8 ?_
  refine hx_ldc2 C 2147483647 q828 (by decide) dX0_nextLot_9 ?_
  obtain ⟨hd1, hw⟩ := hw
  refine hx_lrem C dX0_nextLot_12 hd1 (by decide) ?_
  refine cx_putS C hK 0 9 (by decide) rfl in_X0 tyX0_ok nmX0 (by decide) q175 rfl rfl rfl (Nat.le_of_ble_eq_true rfl) ⟨rfl, rfl⟩ (csb_9 X _ _) rfl rfl rfl rfl dX0_nextLot_13 ?_
  refine hx_aload_n C dX0_nextLot_16 0 rfl rfl ?_
  refine cx_getS (μ := (pkI μ 9 0 (((kI μ 9 0) * 16807) % 2147483647))) (v := aL (((kI μ 9 0) * 16807) % 2147483647)) C hK 0 9 rfl in_X0 (by decide) q175 rfl rfl rfl dX0_nextLot_17 ?_
  refine hx_iload_n C dX0_nextLot_20 1 rfl rfl ?_
  obtain ⟨hr2, hw⟩ := hw
  refine hx_i2l C dX0_nextLot_21 hr2 ?_
  obtain ⟨hd3, hw⟩ := hw
  obtain ⟨hd4, hw⟩ := hw
  refine hx_lrem C dX0_nextLot_22 hd3 hd4 ?_
  obtain ⟨hr5, hw⟩ := hw
  refine hx_l2i C dX0_nextLot_23 hr5 ?_
  exact cx_iret C hQ (by omega) (by omega) rfl hw dX0_nextLot_24
-- ('BinderPress', 'drift', '(III)I')
def wc_X0_drift_30 (X : cX) (Q : Int → CM → Prop) (b : Nat) (μ : CM) : Prop := Q (-1000000002) μ
set_option maxHeartbeats 4000000 in
theorem sc_X0_drift_30 {Z : zz} {X : cX} {μ0 : CM} {Q : Int → CM → Prop} (C : gC Z cX0_drift 8 RX0 (some .int) 132 2642) (hK : cCt Z X μ0) (hQ : zz_q Z = MQ (zz_b Z) (cQi X μ0 (zz_s Z).heap.size Q) (zz_a Z) (zz_s Z) (zz_R Z).cells (zz_R Z).slots (cA X μ0 (zz_s Z).heap.size))  : ∀ b μ, wc_X0_drift_30 X Q b μ → ∀ kk nn, (kk + b ≤ (zz_R Z).cells ∧ nn + 5 * b ≤ (zz_R Z).slots) → hG Z 8 (cI Z X μ0 μ) kk nn 30 [] [] := by
  intro b μ hw kk nn hb
  unfold wc_X0_drift_30 at hw
  refine hx_ldc C (-1000000002) q208 (by decide) dX0_drift_30 ?_
  exact cx_iret C hQ (by omega) (by omega) rfl hw dX0_drift_32
def wc_X0_drift_131 (X : cX) (P61 : Int → Int → Option Nat → Int → Nat → CM → Prop) (Q : Int → CM → Prop) (l1 : Int) (l2 : Int) (l5 : Int) (s0 : Option Nat) (b : Nat) (μ : CM) : Prop := P61 l1 l2 s0 (l5 + 1) b μ
set_option maxHeartbeats 4000000 in
theorem sc_X0_drift_131 {Z : zz} {X : cX} {μ0 : CM} {Q : Int → CM → Prop} (C : gC Z cX0_drift 8 RX0 (some .int) 132 2642) (hK : cCt Z X μ0) (hQ : zz_q Z = MQ (zz_b Z) (cQi X μ0 (zz_s Z).heap.size Q) (zz_a Z) (zz_s Z) (zz_R Z).cells (zz_R Z).slots (cA X μ0 (zz_s Z).heap.size)) {P61 : Int → Int → Option Nat → Int → Nat → CM → Prop} (hP61 : ∀ l1 l2 l4 l5 b μ, P61 l1 l2 l4 l5 b μ → ∀ kk nn, (kk + b ≤ (zz_R Z).cells ∧ nn + 5 * b ≤ (zz_R Z).slots) → hG Z 8 (cI Z X μ0 μ) kk nn 61 [(0, aR (some (cX_h X))), (1, aI l1), (2, aI l2), (4, aR l4), (5, aI l5)] [])  : ∀ l1 l2 l5 s0 b μ, wc_X0_drift_131 X P61 Q l1 l2 l5 s0 b μ → ∀ kk nn, (kk + b ≤ (zz_R Z).cells ∧ nn + 5 * b ≤ (zz_R Z).slots) → hG Z 8 (cI Z X μ0 μ) kk nn 131 [(0, aR (some (cX_h X))), (1, aI l1), (2, aI l2), (5, aI l5)] [aR s0] := by
  intro l1 l2 l5 s0 b μ hw kk nn hb
  unfold wc_X0_drift_131 at hw
  refine hx_astore (L' := [(4, aR s0), (0, aR (some (cX_h X))), (1, aI l1), (2, aI l2), (5, aI l5)]) C dX0_drift_131 (by decide) rfl ?_
  refine hx_iinc (L' := [(5, aI (l5 + 1)), (4, aR s0), (0, aR (some (cX_h X))), (1, aI l1), (2, aI l2)]) C dX0_drift_133 4 rfl (by decide) rfl ?_
  refine hx_goto (tgt := 61) C dX0_drift_136 (by decide) ?_
  refine hx_L [2, 3, 4, 1, 0] rfl ?_
  exact hP61 _ _ _ _ _ _ hw _ _ hb
def wc_X0_drift_80 (X : cX) (P61 : Int → Int → Option Nat → Int → Nat → CM → Prop) (Q : Int → CM → Prop) (l1 : Int) (l2 : Int) (l4 : Option Nat) (l5 : Int) (s0 : Int) (b : Nat) (μ : CM) : Prop := (tg μ (cX_s X 6) = 13 ∨ tg μ (cX_s X 6) = 14) ∧ wc_J0_length X (cX_s X 6) μ (fun r1 μ2 => wc_X0_nextLot X r1 μ2 (fun r4 μ5 => (tg μ5 (cX_s X 6) = 13 ∨ tg μ5 (cX_s X 6) = 14) ∧ wc_J0_charAt X (cX_s X 6) r4 μ5 (fun r6 μ7 => (∃ b9, b9 ≤ b ∧ wc_X0_signOf X b9 r6 μ7 (fun r11 μ12 => R32 s0 ∧ ((s0 = 0 → 1 ≤ (b - b9) ∧ ∀ a15, tg μ12 a15 = 0 → wc_X9_init X a15 r11 l4 (alc μ12 a15 8 0) (fun μ19 => wc_X0_drift_131 X  P61 Q l1 l2 l5 (some a15) ((b - b9) - 1) μ19)) ∧ (¬ s0 = 0 → 1 ≤ (b - b9) ∧ ∀ a21, tg μ12 a21 = 0 → wc_X9_init X a21 l4 r11 (alc μ12 a21 8 0) (fun μ25 => wc_X0_drift_131 X  P61 Q l1 l2 l5 (some a21) ((b - b9) - 1) μ25))))))))
set_option maxHeartbeats 4000000 in
theorem sc_X0_drift_80 {Z : zz} {X : cX} {μ0 : CM} {Q : Int → CM → Prop} (C : gC Z cX0_drift 8 RX0 (some .int) 132 2642) (hK : cCt Z X μ0) (hQ : zz_q Z = MQ (zz_b Z) (cQi X μ0 (zz_s Z).heap.size Q) (zz_a Z) (zz_s Z) (zz_R Z).cells (zz_R Z).slots (cA X μ0 (zz_s Z).heap.size)) {P61 : Int → Int → Option Nat → Int → Nat → CM → Prop} (hP61 : ∀ l1 l2 l4 l5 b μ, P61 l1 l2 l4 l5 b μ → ∀ kk nn, (kk + b ≤ (zz_R Z).cells ∧ nn + 5 * b ≤ (zz_R Z).slots) → hG Z 8 (cI Z X μ0 μ) kk nn 61 [(0, aR (some (cX_h X))), (1, aI l1), (2, aI l2), (4, aR l4), (5, aI l5)] [])  : ∀ l1 l2 l4 l5 s0 b μ, wc_X0_drift_80 X P61 Q l1 l2 l4 l5 s0 b μ → ∀ kk nn, (kk + b ≤ (zz_R Z).cells ∧ nn + 5 * b ≤ (zz_R Z).slots) → hG Z 8 (cI Z X μ0 μ) kk nn 80 [(0, aR (some (cX_h X))), (1, aI l1), (2, aI l2), (4, aR l4), (5, aI l5)] [aI s0] := by
  intro l1 l2 l4 l5 s0 b μ hw kk nn hb
  unfold wc_X0_drift_80 at hw
  refine hx_istore (L' := [(6, aI s0), (0, aR (some (cX_h X))), (1, aI l1), (2, aI l2), (4, aR l4), (5, aI l5)]) C dX0_drift_80 (by decide) rfl ?_
  refine cx_ldcS (num := 6) (tx := "IKSBC") C hK (List.mem_of_getElem? (i := 6) rfl) dX0_drift_82 ?_
  refine hx_aload_n C dX0_drift_84 1 rfl rfl ?_
  refine cx_ldcS (num := 6) (tx := "IKSBC") C hK (List.mem_of_getElem? (i := 6) rfl) dX0_drift_85 ?_
  obtain ⟨ht3, hw⟩ := hw
  refine fun H locs hI ls hl => cx_ri (S := [aR (some (cX_h X)), aR (some (cX_s X 6))]) hI hl (fun _ h => h) (cr_V (Cn := RJ0) (As := []) (rest := [toV (aR (some (cX_h X))), toV (aR (some (cX_s X 6)))]) C hK hI hl 0 (cv_str hK hI ht3) (sc_J0_length _ X H.size _ _ _ hw) (lw_V q822 q270 q271 q88 q272) (by decide +kernel) ⟨rfl, rfl, Nat.le_of_ble_eq_true rfl, Nat.le_of_ble_eq_true rfl⟩ (av_W [aR (some (cX_h X)), aR (some (cX_s X 6))] 8 (Nat.le_of_ble_eq_true rfl)) dX0_drift_87 rfl rfl ⟨by omega, by omega⟩) (fun r1 μ2 hw => ?_)
  refine fun H locs hI ls hl => cx_ri (S := [aR (some (cX_s X 6))]) hI hl (fun _ h => h) (cr_V (Cn := RX0) (As := [toV (aI r1)]) (rest := [toV (aR (some (cX_s X 6)))]) C hK hI hl 1 (cv_dyn hK hI (ci := 0) rfl (Or.inl ⟨0, rfl⟩)) (sc_X0_nextLot _ X H.size _ _ _ hw) (lw_V q823 q825 qs22 q84 q826) (by decide +kernel) ⟨rfl, rfl, Nat.le_of_ble_eq_true rfl, Nat.le_of_ble_eq_true rfl⟩ (av_W [aR (some (cX_s X 6))] 8 (Nat.le_of_ble_eq_true rfl)) dX0_drift_90 rfl rfl ⟨by omega, by omega⟩) (fun r4 μ5 hw => ?_)
  obtain ⟨ht8, hw⟩ := hw
  refine fun H locs hI ls hl => cx_ri (S := []) hI hl (fun _ h => h) (cr_V (Cn := RJ0) (As := [toV (aI r4)]) (rest := []) C hK hI hl 1 (cv_str hK hI ht8) (sc_J0_charAt _ X H.size _ _ _ _ hw) (lw_V q829 q655 q656 q88 q657) (by decide +kernel) ⟨rfl, rfl, Nat.le_of_ble_eq_true rfl, Nat.le_of_ble_eq_true rfl⟩ (av_W [] 8 (Nat.le_of_ble_eq_true rfl)) dX0_drift_93 rfl rfl ⟨by omega, by omega⟩) (fun r6 μ7 hw => ?_)
  obtain ⟨b9, hu10, hw⟩ := hw
  refine fun H locs hI ls hl => cx_rr (S := []) hI hl (fun _ h => h) (cr_S (As := [toV (aI r6)]) (rest := []) C hK hI hl 1 (sc_X0_signOf _ X H.size _ b9 _ _ hw) (lw_S q830 q400 q84 q401) (by decide +kernel) ⟨rfl, rfl, Nat.le_of_ble_eq_true rfl, Nat.le_of_ble_eq_true rfl⟩ (av_W [] 8 (Nat.le_of_ble_eq_true rfl)) dX0_drift_96 rfl rfl ⟨by omega, by omega⟩) (fun r11 μ12 hw => ?_)
  obtain hb : (kk + b9) + (b - b9) ≤ (zz_R Z).cells ∧ (nn + 5 * b9) + 5 * (b - b9) ≤ (zz_R Z).slots := ⟨by omega, by omega⟩
  refine hx_astore (L' := [(7, aR r11), (6, aI s0), (0, aR (some (cX_h X))), (1, aI l1), (2, aI l2), (4, aR l4), (5, aI l5)]) C dX0_drift_99 (by decide) rfl ?_
  refine hx_iload C dX0_drift_101 1 rfl ?_
  obtain ⟨hr13, hw⟩ := hw
  refine hx_if_eq (tgt := 120) C dX0_drift_103 (by decide) hr13 (fun h => ?_) (fun h => ?_)
  · have hw := hw.1 h
    obtain ⟨hu14, hw⟩ := hw
    refine cx_new (fs := fun a => coF_7 (alc μ12 a 8 0) a) C hK 7 8 rfl in_X9 tyX9_ok q562 q420 q96 (by decide) (fun a => cdE_7 alc_t) (cxd_7 _) (by omega) (by omega) dX0_drift_120 (fun a15 hf16 => ?_)
    have hw := hw a15 hf16
    obtain hb : ((kk + b9) + 1) + ((b - b9) - 1) ≤ (zz_R Z).cells ∧ ((nn + 5 * b9) + 5) + 5 * ((b - b9) - 1) ≤ (zz_R Z).slots := ⟨by omega, by omega⟩
    have ht17 : tg (alc μ12 a15 8 0) a15 = 8 := alc_t
    refine hx_dup C dX0_drift_123 rfl ?_
    refine hx_aload C dX0_drift_124 0 rfl ?_
    refine hx_aload C dX0_drift_126 5 rfl ?_
    refine fun H locs hI ls hl => cx_rv (S := [aR (some a15)]) hI hl (fun _ h => h) (cr_I (a := a15) (As := [toV (aR r11), toV (aR l4)]) (rest := [toV (aR (some a15))]) C hK hI hl 2 (sc_X9_init _ X H.size _ _ _ _ _ hw) q563 q422 q96 q423 rfl (by decide +kernel) ⟨rfl, rfl, Nat.le_of_ble_eq_true rfl, Nat.le_of_ble_eq_true rfl⟩ (av_W [aR (some a15)] 8 (Nat.le_of_ble_eq_true rfl)) dX0_drift_128 rfl rfl ⟨by omega, by omega⟩) (fun μ19 hw => ?_)
    refine hx_L [2, 3, 4, 6] rfl ?_
    exact sc_X0_drift_131 C hK hQ hP61 _ _ _ _ _ _ hw _ _ hb
  · have hw := hw.2 h
    obtain ⟨hu20, hw⟩ := hw
    refine cx_new (fs := fun a => coF_7 (alc μ12 a 8 0) a) C hK 7 8 rfl in_X9 tyX9_ok q562 q420 q96 (by decide) (fun a => cdE_7 alc_t) (cxd_7 _) (by omega) (by omega) dX0_drift_106 (fun a21 hf22 => ?_)
    have hw := hw a21 hf22
    obtain hb : ((kk + b9) + 1) + ((b - b9) - 1) ≤ (zz_R Z).cells ∧ ((nn + 5 * b9) + 5) + 5 * ((b - b9) - 1) ≤ (zz_R Z).slots := ⟨by omega, by omega⟩
    have ht23 : tg (alc μ12 a21 8 0) a21 = 8 := alc_t
    refine hx_dup C dX0_drift_109 rfl ?_
    refine hx_aload C dX0_drift_110 5 rfl ?_
    refine hx_aload C dX0_drift_112 0 rfl ?_
    refine fun H locs hI ls hl => cx_rv (S := [aR (some a21)]) hI hl (fun _ h => h) (cr_I (a := a21) (As := [toV (aR l4), toV (aR r11)]) (rest := [toV (aR (some a21))]) C hK hI hl 2 (sc_X9_init _ X H.size _ _ _ _ _ hw) q563 q422 q96 q423 rfl (by decide +kernel) ⟨rfl, rfl, Nat.le_of_ble_eq_true rfl, Nat.le_of_ble_eq_true rfl⟩ (av_W [aR (some a21)] 8 (Nat.le_of_ble_eq_true rfl)) dX0_drift_114 rfl rfl ⟨by omega, by omega⟩) (fun μ25 hw => ?_)
    refine hx_goto (tgt := 131) C dX0_drift_117 (by decide) ?_
    refine hx_L [2, 3, 4, 6] rfl ?_
    exact sc_X0_drift_131 C hK hQ hP61 _ _ _ _ _ _ hw _ _ hb
def wc_X0_drift_61b (X : cX) (P61 : Int → Int → Option Nat → Int → Nat → CM → Prop) (Q : Int → CM → Prop) (l1 : Int) (l2 : Int) (l4 : Option Nat) (l5 : Int) (b : Nat) (μ : CM) : Prop := R32 l5 ∧ R32 l2 ∧ ((l2 ≤ l5 → wc_X0_lay X l1 l4 μ (fun r3 μ4 => Q r3 μ4)) ∧ (l5 < l2 → wc_X0_nextLot X 2 μ (fun r5 μ6 => R32 r5 ∧ ((¬ r5 = 0 → wc_X0_drift_80 X  P61 Q l1 l2 l4 l5 0 b μ6) ∧ (r5 = 0 → wc_X0_drift_80 X  P61 Q l1 l2 l4 l5 1 b μ6)))))
set_option maxHeartbeats 4000000 in
theorem sc_X0_drift_61b {Z : zz} {X : cX} {μ0 : CM} {Q : Int → CM → Prop} (C : gC Z cX0_drift 8 RX0 (some .int) 132 2642) (hK : cCt Z X μ0) (hQ : zz_q Z = MQ (zz_b Z) (cQi X μ0 (zz_s Z).heap.size Q) (zz_a Z) (zz_s Z) (zz_R Z).cells (zz_R Z).slots (cA X μ0 (zz_s Z).heap.size)) {P61 : Int → Int → Option Nat → Int → Nat → CM → Prop} (hP61 : ∀ l1 l2 l4 l5 b μ, P61 l1 l2 l4 l5 b μ → ∀ kk nn, (kk + b ≤ (zz_R Z).cells ∧ nn + 5 * b ≤ (zz_R Z).slots) → hG Z 8 (cI Z X μ0 μ) kk nn 61 [(0, aR (some (cX_h X))), (1, aI l1), (2, aI l2), (4, aR l4), (5, aI l5)] [])  : ∀ l1 l2 l4 l5 b μ, wc_X0_drift_61b X P61 Q l1 l2 l4 l5 b μ → ∀ kk nn, (kk + b ≤ (zz_R Z).cells ∧ nn + 5 * b ≤ (zz_R Z).slots) → hG Z 8 (cI Z X μ0 μ) kk nn 61 [(0, aR (some (cX_h X))), (1, aI l1), (2, aI l2), (4, aR l4), (5, aI l5)] [] := by
  intro l1 l2 l4 l5 b μ hw kk nn hb
  unfold wc_X0_drift_61b at hw
  refine hx_iload C dX0_drift_61 4 rfl ?_
  refine hx_iload_n C dX0_drift_63 2 rfl rfl ?_
  obtain ⟨hr1, hw⟩ := hw
  obtain ⟨hr2, hw⟩ := hw
  refine hx_icmp_ge (tgt := 139) C dX0_drift_64 (by decide) hr1 hr2 (fun h => ?_) (fun h => ?_)
  · have hw := hw.1 h
    refine hx_aload_n C dX0_drift_139 0 rfl rfl ?_
    refine hx_iload_n C dX0_drift_140 1 rfl rfl ?_
    refine hx_aload C dX0_drift_141 3 rfl ?_
    refine fun H locs hI ls hl => cx_ri (S := []) hI hl (fun _ h => h) (cr_V (Cn := RX0) (As := [toV (aI l1), toV (aR l4)]) (rest := []) C hK hI hl 2 (cv_dyn hK hI (ci := 0) rfl (Or.inl ⟨0, rfl⟩)) (sc_X0_lay _ X H.size _ _ _ _ hw) (lw_V q479 q481 qs8 q84 q482) (by decide +kernel) ⟨rfl, rfl, Nat.le_of_ble_eq_true rfl, Nat.le_of_ble_eq_true rfl⟩ (av_W [] 8 (Nat.le_of_ble_eq_true rfl)) dX0_drift_143 rfl rfl ⟨by omega, by omega⟩) (fun r3 μ4 hw => ?_)
    exact cx_iret C hQ (by omega) (by omega) rfl hw dX0_drift_146
  · have hw := hw.2 h
    refine hx_aload_n C dX0_drift_67 0 rfl rfl ?_
    refine hx_iconst C dX0_drift_68 ?_
    refine fun H locs hI ls hl => cx_ri (S := []) hI hl (fun _ h => h) (cr_V (Cn := RX0) (As := [toV (aI 2)]) (rest := []) C hK hI hl 1 (cv_dyn hK hI (ci := 0) rfl (Or.inl ⟨0, rfl⟩)) (sc_X0_nextLot _ X H.size _ _ _ hw) (lw_V q823 q825 qs22 q84 q826) (by decide +kernel) ⟨rfl, rfl, Nat.le_of_ble_eq_true rfl, Nat.le_of_ble_eq_true rfl⟩ (av_W [] 8 (Nat.le_of_ble_eq_true rfl)) dX0_drift_69 rfl rfl ⟨by omega, by omega⟩) (fun r5 μ6 hw => ?_)
    obtain ⟨hr7, hw⟩ := hw
    refine hx_if_ne (tgt := 79) C dX0_drift_72 (by decide) hr7 (fun h => ?_) (fun h => ?_)
    · have hw := hw.1 h
      refine hx_iconst C dX0_drift_79 ?_
      refine hx_L [0, 1, 2, 3, 4] rfl ?_
      exact sc_X0_drift_80 C hK hQ hP61 _ _ _ _ _ _ _ hw _ _ hb
    · have hw := hw.2 h
      refine hx_iconst C dX0_drift_75 ?_
      refine hx_goto (tgt := 80) C dX0_drift_76 (by decide) ?_
      refine hx_L [0, 1, 2, 3, 4] rfl ?_
      exact sc_X0_drift_80 C hK hQ hP61 _ _ _ _ _ _ _ hw _ _ hb
def wc_X0_drift_61 (X : cX) (Q : Int → CM → Prop) (l1 : Int) (l2 : Int) (l4 : Option Nat) (l5 : Int) (b : Nat) (μ : CM) : Prop := ∀ P61 : Int → Int → Option Nat → Int → Nat → CM → Prop, (∀ l1 l2 l4 l5 b μ, wc_X0_drift_61b X P61 Q l1 l2 l4 l5 b μ → P61 l1 l2 l4 l5 b μ) → P61 l1 l2 l4 l5 b μ
set_option maxHeartbeats 4000000 in
theorem sc_X0_drift_61 {Z : zz} {X : cX} {μ0 : CM} {Q : Int → CM → Prop} (C : gC Z cX0_drift 8 RX0 (some .int) 132 2642) (hK : cCt Z X μ0) (hQ : zz_q Z = MQ (zz_b Z) (cQi X μ0 (zz_s Z).heap.size Q) (zz_a Z) (zz_s Z) (zz_R Z).cells (zz_R Z).slots (cA X μ0 (zz_s Z).heap.size))  : ∀ l1 l2 l4 l5 b μ, wc_X0_drift_61 X Q l1 l2 l4 l5 b μ → ∀ kk nn, (kk + b ≤ (zz_R Z).cells ∧ nn + 5 * b ≤ (zz_R Z).slots) → hG Z 8 (cI Z X μ0 μ) kk nn 61 [(0, aR (some (cX_h X))), (1, aI l1), (2, aI l2), (4, aR l4), (5, aI l5)] [] := by
  intro l1 l2 l4 l5 b μ hw
  exact hw (fun l1 l2 l4 l5 b μ => ∀ kk nn, (kk + b ≤ (zz_R Z).cells ∧ nn + 5 * b ≤ (zz_R Z).slots) → hG Z 8 (cI Z X μ0 μ) kk nn 61 [(0, aR (some (cX_h X))), (1, aI l1), (2, aI l2), (4, aR l4), (5, aI l5)] []) (fun l1 l2 l4 l5 b μ hw => sc_X0_drift_61b C hK hQ (fun _ _ _ _ _ _ h => h) l1 l2 l4 l5 b μ hw)
def wc_X0_drift (X : cX) (b : Nat) (l1 : Int) (l2 : Int) (l3 : Int) (μ : CM) (Q : Int → CM → Prop) : Prop := wc_X0_isShelf X l1 μ (fun r1 μ2 => R32 r1 ∧ ((¬ r1 = 0 → wc_X0_isIn X l2 1 40 μ2 (fun r4 μ5 => R32 r4 ∧ ((r4 = 0 → wc_X0_drift_30 X   Q b μ5) ∧ (¬ r4 = 0 → wc_X0_isIn X l3 1 999999 μ5 (fun r7 μ8 => R32 r7 ∧ ((¬ r7 = 0 → R32 l3 ∧ (tg μ8 (cX_s X 6) = 13 ∨ tg μ8 (cX_s X 6) = 14) ∧ wc_J0_length X (cX_s X 6) (pkI μ8 9 0 l3) (fun r11 μ12 => wc_X0_nextLot X r11 μ12 (fun r14 μ15 => (tg μ15 (cX_s X 6) = 13 ∨ tg μ15 (cX_s X 6) = 14) ∧ wc_J0_charAt X (cX_s X 6) r14 μ15 (fun r16 μ17 => (∃ b19, b19 ≤ b ∧ wc_X0_signOf X b19 r16 μ17 (fun r21 μ22 => wc_X0_drift_61 X   Q l1 l2 r21 1 (b - b19) μ22)))))) ∧ (r7 = 0 → wc_X0_drift_30 X   Q b μ8))))))) ∧ (r1 = 0 → Q (-1000000001) μ2)))
set_option maxHeartbeats 4000000 in
theorem sc_X0_drift (l : Launch) (X : cX) (sz : Nat) (Q : Int → CM → Prop) (b : Nat) (l1 : Int) (l2 : Int) (l3 : Int) (μ : CM) (hw : wc_X0_drift X b l1 l2 l3 μ Q) : Met l yX0_drift (ws_ yX0_drift cX0_drift 8 (some .int)) ({ frames := 132, cells := b, slots := 5 * b, locals := 2642 }) (cPc X (([aR (some (cX_h X)), aI l1, aI l2, aI l3] : List AV).map toV) μ sz) (cQi X μ sz Q) b (5 * b) (cA X μ sz) := by
  refine cx_met2 (rm := ({ frames := 132, cells := b, slots := 5 * b, locals := 2642 })) (As := [aR (some (cX_h X)), aI l1, aI l2, aI l3]) (L0 := [(0, aR (some (cX_h X))), (1, aI l1), (2, aI l2), (3, aI l3)]) (by decide) rfl (Nat.le_of_ble_eq_true rfl) rfl ?_
  intro Z C hK hsz hR hl0 hin hQ
  subst hsz
  have C : gC Z cX0_drift 8 RX0 (some .int) 132 2642 := C
  have hQ : zz_q Z = MQ (zz_b Z) (cQi X μ (zz_s Z).heap.size Q) (zz_a Z) (zz_s Z) (zz_R Z).cells (zz_R Z).slots (cA X μ (zz_s Z).heap.size) := by rw [hR]; exact hQ
  have hb : 0 + b ≤ (zz_R Z).cells ∧ 0 + 5 * b ≤ (zz_R Z).slots := by rw [hR]; exact ⟨by dsimp only; omega, by dsimp only; omega⟩
  unfold wc_X0_drift at hw
  refine hx_iload_n C dX0_drift_0 1 rfl rfl ?_
  refine fun H locs hI ls hl => cx_ri (S := []) hI hl (fun _ h => h) (cr_S (As := [toV (aI l1)]) (rest := []) C hK hI hl 1 (sc_X0_isShelf _ X H.size _ _ _ hw) (lw_S q215 q216 q84 q217) (by decide +kernel) ⟨rfl, rfl, Nat.le_of_ble_eq_true rfl, Nat.le_of_ble_eq_true rfl⟩ (av_W [] 8 (Nat.le_of_ble_eq_true rfl)) dX0_drift_1 rfl rfl ⟨by omega, by omega⟩) (fun r1 μ2 hw => ?_)
  obtain ⟨hr3, hw⟩ := hw
  refine hx_if_ne (tgt := 10) C dX0_drift_4 (by decide) hr3 (fun h => ?_) (fun h => ?_)
  · have hw := hw.1 h
    refine hx_iload_n C dX0_drift_10 2 rfl rfl ?_
    refine hx_iconst C dX0_drift_11 ?_
    refine hx_bipush C dX0_drift_12 (by decide) ?_
    refine fun H locs hI ls hl => cx_ri (S := []) hI hl (fun _ h => h) (cr_S (As := [toV (aI l2), toV (aI 1), toV (aI 40)]) (rest := []) C hK hI hl 3 (sc_X0_isIn _ X H.size _ _ _ _ _ hw) (lw_S q205 q206 q84 q207) (by decide +kernel) ⟨rfl, rfl, Nat.le_of_ble_eq_true rfl, Nat.le_of_ble_eq_true rfl⟩ (av_W [] 8 (Nat.le_of_ble_eq_true rfl)) dX0_drift_14 rfl rfl ⟨by omega, by omega⟩) (fun r4 μ5 hw => ?_)
    obtain ⟨hr6, hw⟩ := hw
    refine hx_if_eq (tgt := 30) C dX0_drift_17 (by decide) hr6 (fun h => ?_) (fun h => ?_)
    · have hw := hw.1 h
      refine hx_L [] rfl ?_
      exact sc_X0_drift_30 C hK hQ  _ _ hw _ _ hb
    · have hw := hw.2 h
      refine hx_iload_n C dX0_drift_20 3 rfl rfl ?_
      refine hx_iconst C dX0_drift_21 ?_
      refine hx_ldc C 999999 q820 (by decide) dX0_drift_22 ?_
      refine fun H locs hI ls hl => cx_ri (S := []) hI hl (fun _ h => h) (cr_S (As := [toV (aI l3), toV (aI 1), toV (aI 999999)]) (rest := []) C hK hI hl 3 (sc_X0_isIn _ X H.size _ _ _ _ _ hw) (lw_S q205 q206 q84 q207) (by decide +kernel) ⟨rfl, rfl, Nat.le_of_ble_eq_true rfl, Nat.le_of_ble_eq_true rfl⟩ (av_W [] 8 (Nat.le_of_ble_eq_true rfl)) dX0_drift_24 rfl rfl ⟨by omega, by omega⟩) (fun r7 μ8 hw => ?_)
      obtain ⟨hr9, hw⟩ := hw
      refine hx_if_ne (tgt := 33) C dX0_drift_27 (by decide) hr9 (fun h => ?_) (fun h => ?_)
      · have hw := hw.1 h
        refine hx_aload_n C dX0_drift_33 0 rfl rfl ?_
        refine hx_iload_n C dX0_drift_34 3 rfl rfl ?_
        obtain ⟨hr10, hw⟩ := hw
        refine hx_i2l C dX0_drift_35 hr10 ?_
        refine cx_putS C hK 0 9 (by decide) rfl in_X0 tyX0_ok nmX0 (by decide) q175 rfl rfl rfl (Nat.le_of_ble_eq_true rfl) ⟨rfl, rfl⟩ (csb_9 X _ _) rfl rfl rfl rfl dX0_drift_36 ?_
        refine cx_ldcS (num := 6) (tx := "IKSBC") C hK (List.mem_of_getElem? (i := 6) rfl) dX0_drift_39 ?_
        refine hx_aload_n C dX0_drift_41 0 rfl rfl ?_
        refine cx_ldcS (num := 6) (tx := "IKSBC") C hK (List.mem_of_getElem? (i := 6) rfl) dX0_drift_42 ?_
        obtain ⟨ht13, hw⟩ := hw
        refine fun H locs hI ls hl => cx_ri (S := [aR (some (cX_h X)), aR (some (cX_s X 6))]) hI hl (fun _ h => h) (cr_V (Cn := RJ0) (As := []) (rest := [toV (aR (some (cX_h X))), toV (aR (some (cX_s X 6)))]) C hK hI hl 0 (cv_str hK hI ht13) (sc_J0_length _ X H.size _ _ _ hw) (lw_V q822 q270 q271 q88 q272) (by decide +kernel) ⟨rfl, rfl, Nat.le_of_ble_eq_true rfl, Nat.le_of_ble_eq_true rfl⟩ (av_W [aR (some (cX_h X)), aR (some (cX_s X 6))] 8 (Nat.le_of_ble_eq_true rfl)) dX0_drift_44 rfl rfl ⟨by omega, by omega⟩) (fun r11 μ12 hw => ?_)
        refine fun H locs hI ls hl => cx_ri (S := [aR (some (cX_s X 6))]) hI hl (fun _ h => h) (cr_V (Cn := RX0) (As := [toV (aI r11)]) (rest := [toV (aR (some (cX_s X 6)))]) C hK hI hl 1 (cv_dyn hK hI (ci := 0) rfl (Or.inl ⟨0, rfl⟩)) (sc_X0_nextLot _ X H.size _ _ _ hw) (lw_V q823 q825 qs22 q84 q826) (by decide +kernel) ⟨rfl, rfl, Nat.le_of_ble_eq_true rfl, Nat.le_of_ble_eq_true rfl⟩ (av_W [aR (some (cX_s X 6))] 8 (Nat.le_of_ble_eq_true rfl)) dX0_drift_47 rfl rfl ⟨by omega, by omega⟩) (fun r14 μ15 hw => ?_)
        obtain ⟨ht18, hw⟩ := hw
        refine fun H locs hI ls hl => cx_ri (S := []) hI hl (fun _ h => h) (cr_V (Cn := RJ0) (As := [toV (aI r14)]) (rest := []) C hK hI hl 1 (cv_str hK hI ht18) (sc_J0_charAt _ X H.size _ _ _ _ hw) (lw_V q829 q655 q656 q88 q657) (by decide +kernel) ⟨rfl, rfl, Nat.le_of_ble_eq_true rfl, Nat.le_of_ble_eq_true rfl⟩ (av_W [] 8 (Nat.le_of_ble_eq_true rfl)) dX0_drift_50 rfl rfl ⟨by omega, by omega⟩) (fun r16 μ17 hw => ?_)
        obtain ⟨b19, hu20, hw⟩ := hw
        refine fun H locs hI ls hl => cx_rr (S := []) hI hl (fun _ h => h) (cr_S (As := [toV (aI r16)]) (rest := []) C hK hI hl 1 (sc_X0_signOf _ X H.size _ b19 _ _ hw) (lw_S q830 q400 q84 q401) (by decide +kernel) ⟨rfl, rfl, Nat.le_of_ble_eq_true rfl, Nat.le_of_ble_eq_true rfl⟩ (av_W [] 8 (Nat.le_of_ble_eq_true rfl)) dX0_drift_53 rfl rfl ⟨by omega, by omega⟩) (fun r21 μ22 hw => ?_)
        obtain hb : (0 + b19) + (b - b19) ≤ (zz_R Z).cells ∧ (0 + 5 * b19) + 5 * (b - b19) ≤ (zz_R Z).slots := ⟨by omega, by omega⟩
        refine hx_astore (L' := [(4, aR r21), (0, aR (some (cX_h X))), (1, aI l1), (2, aI l2), (3, aI l3)]) C dX0_drift_56 (by decide) rfl ?_
        refine hx_iconst C dX0_drift_58 ?_
        refine hx_istore (L' := [(5, aI 1), (4, aR r21), (0, aR (some (cX_h X))), (1, aI l1), (2, aI l2), (3, aI l3)]) C dX0_drift_59 (by decide) rfl ?_
        refine hx_L [2, 3, 4, 1, 0] rfl ?_
        exact sc_X0_drift_61 C hK hQ  _ _ _ _ _ _ hw _ _ hb
      · have hw := hw.2 h
        refine hx_L [] rfl ?_
        exact sc_X0_drift_30 C hK hQ  _ _ hw _ _ hb
  · have hw := hw.2 h
    refine hx_ldc C (-1000000001) q218 (by decide) dX0_drift_7 ?_
    exact cx_iret C hQ (by omega) (by omega) rfl hw dX0_drift_9
