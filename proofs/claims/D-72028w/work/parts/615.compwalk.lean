/-! walks of the component (printed by gen_comp) -/
set_option maxRecDepth 100000
-- ('BinderPress$Work', 'size', '()I')
def wc_X1_size (X : cX) (μ : CM) (Q : Int → CM → Prop) : Prop := wr_X1_size_2 X 310 (kI μ 25 0) 300 μ (fun r1 μ2 => Q r1 μ2)
set_option maxHeartbeats 4000000 in
theorem sc_X1_size (l : Launch) (X : cX) (sz : Nat) (Q : Int → CM → Prop) (μ : CM) (hw : wc_X1_size X μ Q) : Met l yX1_size (ws_ yX1_size cX1_size 1 (some .int)) ({ frames := 312, cells := 0, slots := 0, locals := 7486 }) (cPc X (([aR (some (cX_a X 0))] : List AV).map toV) μ sz) (cQi X μ sz Q) 0 (0) (cA X μ sz) := by
  refine cx_met2 (rm := ({ frames := 312, cells := 0, slots := 0, locals := 7486 })) (As := [aR (some (cX_a X 0))]) (L0 := [(0, aR (some (cX_a X 0)))]) (by decide) rfl (Nat.le_of_ble_eq_true rfl) rfl ?_
  intro Z C hK hsz hR hl0 hin hQ
  subst hsz
  have C : gC Z cX1_size 1 RX1 (some .int) 312 7486 := C
  have hQ : zz_q Z = MQ (zz_b Z) (cQi X μ (zz_s Z).heap.size Q) (zz_a Z) (zz_s Z) (zz_R Z).cells (zz_R Z).slots (cA X μ (zz_s Z).heap.size) := by rw [hR]; exact hQ
  unfold wc_X1_size at hw
  refine hx_aload_n C dX1_size_0 0 rfl rfl ?_
  refine hx_aload_n C dX1_size_1 0 rfl rfl ?_
  refine cx_getS (μ := μ) (v := aI (kI μ 25 0)) C hK 1 5 rfl in_X1 (by decide) q130 rfl rfl rfl dX1_size_2 ?_
  refine hx_sipush C dX1_size_5 (by decide) ?_
  refine fun H locs hI ls hl => cx_ri (S := []) hI hl (fun _ h => h) (dr_V (Cn := RX1) (As := [toV (aI (kI μ 25 0)), toV (aI 300)]) (rest := []) C hK hI hl 2 (cv_dyn hK hI (ci := 1) rfl (Or.inl ⟨1, rfl⟩)) ((rr_X1_size_2 _ X 310) _ _ _ H.size _ hw) (by omega) (by omega) (lw_V q790 q792 qs19 q85 q793) (by decide +kernel) (av_W [] 8 (Nat.le_of_ble_eq_true rfl)) dX1_size_8 rfl rfl ⟨by omega, by omega⟩) (fun r1 μ2 hw => ?_)
  exact cx_iret C hQ (by omega) (by omega) rfl hw dX1_size_11
-- ('BinderPress$Work', 'hasStep', '(I)Z')
def rmet_X1_hasStep (l : Launch) (X : cX) (fr lo : Nat) (rc : Int → CM → (Int → CM → Prop) → Prop) : Prop := ∀ (l1 : Int) (μ : CM) (sz : Nat) (Q : Int → CM → Prop), rc l1 μ Q → ∃ rm, crm rm 0 (0) fr lo 5 ∧ Met l yX1_hasStep (ws_ yX1_hasStep cX1_hasStep 5 (some .boolean)) rm (cPc X (([aR (some (cX_a X 0)), aI l1] : List AV).map toV) μ sz) (cQi X μ sz Q) 0 (0) (cA X μ sz)
def wc_X1_hasStep_69 (X : cX) (rc : Int → CM → (Int → CM → Prop) → Prop) (Q : Int → CM → Prop) (l3 : Int) (μ : CM) : Prop := (l3 = 0 ∨ l3 = 1) ∧ Q l3 μ
set_option maxHeartbeats 4000000 in
theorem sc_X1_hasStep_69 {Z : zz} {X : cX} {μ0 : CM} {Q : Int → CM → Prop} {rc : Int → CM → (Int → CM → Prop) → Prop} {fr lo : Nat} (hA : 3 ≤ fr) (hB : 74 ≤ lo) (C : gC Z cX1_hasStep 5 RX1 (some .boolean) (fr + 0) (lo + 0)) (hK : cCt Z X μ0) (hrc : rmet_X1_hasStep (zz_l Z) X fr lo rc) (hQ : zz_q Z = MQ (zz_b Z) (cQi X μ0 (zz_s Z).heap.size Q) (zz_a Z) (zz_s Z) (zz_R Z).cells (zz_R Z).slots (cA X μ0 (zz_s Z).heap.size))  : ∀ l3 μ, wc_X1_hasStep_69 X rc Q l3 μ → hG Z 5 (cI Z X μ0 μ) 0 0 69 [(3, aI l3)] [] := by
  intro l3 μ hw
  unfold wc_X1_hasStep_69 at hw
  refine hx_iload_n C dX1_hasStep_69 0 rfl rfl ?_
  obtain ⟨hz, hw⟩ := hw
  exact cx_iret C hQ (by omega) (by omega) (mz_n hz) hw dX1_hasStep_70
def wc_X1_hasStep_36b (X : cX) (rc : Int → CM → (Int → CM → Prop) → Prop) (P36 : Int → Int → Int → Int → CM → Prop) (Q : Int → CM → Prop) (l1 : Int) (l2 : Int) (l3 : Int) (l4 : Int) (μ : CM) : Prop := R32 l4 ∧ R32 l2 ∧ ((l2 ≤ l4 → wc_X1_hasStep_69 X rc  Q l3 μ) ∧ (l4 < l2 → R32 l3 ∧ ((¬ l3 = 0 → wc_X1_hasStep_69 X rc  Q l3 μ) ∧ (l3 = 0 → wc_X1_down X l1 l4 μ (fun r4 μ5 => (0 ≤ r4 ∧ r4 < 62000) ∧ rc (kI μ5 22 (r4).toNat) μ5 (fun r7 μ8 => P36 l1 l2 r7 (l4 + 1) μ8))))))
set_option maxHeartbeats 4000000 in
theorem sc_X1_hasStep_36b {Z : zz} {X : cX} {μ0 : CM} {Q : Int → CM → Prop} {rc : Int → CM → (Int → CM → Prop) → Prop} {fr lo : Nat} (hA : 3 ≤ fr) (hB : 74 ≤ lo) (C : gC Z cX1_hasStep 5 RX1 (some .boolean) (fr + 0) (lo + 0)) (hK : cCt Z X μ0) (hrc : rmet_X1_hasStep (zz_l Z) X fr lo rc) (hQ : zz_q Z = MQ (zz_b Z) (cQi X μ0 (zz_s Z).heap.size Q) (zz_a Z) (zz_s Z) (zz_R Z).cells (zz_R Z).slots (cA X μ0 (zz_s Z).heap.size)) {P36 : Int → Int → Int → Int → CM → Prop} (hP36 : ∀ l1 l2 l3 l4 μ, P36 l1 l2 l3 l4 μ → hG Z 5 (cI Z X μ0 μ) 0 0 36 [(0, aR (some (cX_a X 0))), (1, aI l1), (2, aI l2), (3, aI l3), (4, aI l4)] [])  : ∀ l1 l2 l3 l4 μ, wc_X1_hasStep_36b X rc P36 Q l1 l2 l3 l4 μ → hG Z 5 (cI Z X μ0 μ) 0 0 36 [(0, aR (some (cX_a X 0))), (1, aI l1), (2, aI l2), (3, aI l3), (4, aI l4)] [] := by
  intro l1 l2 l3 l4 μ hw
  unfold wc_X1_hasStep_36b at hw
  refine hx_iload C dX1_hasStep_36 4 rfl ?_
  refine hx_iload_n C dX1_hasStep_38 2 rfl rfl ?_
  obtain ⟨hr1, hw⟩ := hw
  obtain ⟨hr2, hw⟩ := hw
  refine hx_icmp_ge (tgt := 69) C dX1_hasStep_39 (by decide) hr1 hr2 (fun h => ?_) (fun h => ?_)
  · have hw := hw.1 h
    refine hx_L [3] rfl ?_
    exact sc_X1_hasStep_69 hA hB C hK hrc hQ  _ _ hw
  · have hw := hw.2 h
    refine hx_iload_n C dX1_hasStep_42 3 rfl rfl ?_
    obtain ⟨hr3, hw⟩ := hw
    refine hx_if_ne (tgt := 69) C dX1_hasStep_43 (by decide) hr3 (fun h => ?_) (fun h => ?_)
    · have hw := hw.1 h
      refine hx_L [3] rfl ?_
      exact sc_X1_hasStep_69 hA hB C hK hrc hQ  _ _ hw
    · have hw := hw.2 h
      refine hx_aload_n C dX1_hasStep_46 0 rfl rfl ?_
      refine hx_aload_n C dX1_hasStep_47 0 rfl rfl ?_
      refine cx_getS (μ := μ) (v := aR (some (cX_a X 22))) C hK 1 2 rfl in_X1 (by decide) q127 rfl rfl rfl dX1_hasStep_48 ?_
      refine hx_aload_n C dX1_hasStep_51 0 rfl rfl ?_
      refine hx_iload_n C dX1_hasStep_52 1 rfl rfl ?_
      refine hx_iload C dX1_hasStep_53 4 rfl ?_
      refine fun H locs hI ls hl => cx_ri (S := [aR (some (cX_a X 22)), aR (some (cX_a X 0))]) hI hl (fun _ h => h) (cr_V (Cn := RX1) (As := [toV (aI l1), toV (aI l4)]) (rest := [toV (aR (some (cX_a X 22))), toV (aR (some (cX_a X 0)))]) C hK hI hl 2 (cv_dyn hK hI (ci := 1) rfl (Or.inl ⟨1, rfl⟩)) (sc_X1_down _ X H.size _ _ _ _ hw) (lw_V q708 q710 qs16 q85 q711) (by decide +kernel) ⟨rfl, rfl, by (dsimp only; omega), by (dsimp only; omega)⟩ (av_W [aR (some (cX_a X 22)), aR (some (cX_a X 0))] 8 (Nat.le_of_ble_eq_true rfl)) dX1_hasStep_55 rfl rfl ⟨by omega, by omega⟩) (fun r4 μ5 hw => ?_)
      obtain ⟨hx6, hw⟩ := hw
      refine cx_iald (μ := μ5) (f := kI μ5 22) C hK (Or.inl ⟨10, rfl⟩) hx6.1 hx6.2 (by decide) dX1_hasStep_58 ?_
      refine fun H locs hI ls hl => cx_ri (S := []) hI hl (fun _ h => h) (dr_V (Cn := RX1) (As := [toV (aI (kI μ5 22 (r4).toNat))]) (rest := []) C hK hI hl 1 (cv_dyn hK hI (ci := 1) rfl (Or.inl ⟨1, rfl⟩)) (hrc _ _ H.size _ hw) (by omega) (by omega) (lw_V q794 q796 qs20 q85 q797) (by decide +kernel) (av_W [] 8 (Nat.le_of_ble_eq_true rfl)) dX1_hasStep_59 rfl rfl ⟨by omega, by omega⟩) (fun r7 μ8 hw => ?_)
      refine hx_istore_n (L' := [(3, aI r7), (0, aR (some (cX_a X 0))), (1, aI l1), (2, aI l2), (4, aI l4)]) C dX1_hasStep_62 rfl (by decide) rfl ?_
      refine hx_iinc (L' := [(4, aI (l4 + 1)), (3, aI r7), (0, aR (some (cX_a X 0))), (1, aI l1), (2, aI l2)]) C dX1_hasStep_63 4 rfl (by decide) rfl ?_
      refine hx_goto (tgt := 36) C dX1_hasStep_66 (by decide) ?_
      refine hx_L [2, 3, 4, 1, 0] rfl ?_
      exact hP36 _ _ _ _ _ hw
def wc_X1_hasStep_36 (X : cX) (rc : Int → CM → (Int → CM → Prop) → Prop) (Q : Int → CM → Prop) (l1 : Int) (l2 : Int) (l3 : Int) (l4 : Int) (μ : CM) : Prop := ∀ P36 : Int → Int → Int → Int → CM → Prop, (∀ l1 l2 l3 l4 μ, wc_X1_hasStep_36b X rc P36 Q l1 l2 l3 l4 μ → P36 l1 l2 l3 l4 μ) → P36 l1 l2 l3 l4 μ
set_option maxHeartbeats 4000000 in
theorem sc_X1_hasStep_36 {Z : zz} {X : cX} {μ0 : CM} {Q : Int → CM → Prop} {rc : Int → CM → (Int → CM → Prop) → Prop} {fr lo : Nat} (hA : 3 ≤ fr) (hB : 74 ≤ lo) (C : gC Z cX1_hasStep 5 RX1 (some .boolean) (fr + 0) (lo + 0)) (hK : cCt Z X μ0) (hrc : rmet_X1_hasStep (zz_l Z) X fr lo rc) (hQ : zz_q Z = MQ (zz_b Z) (cQi X μ0 (zz_s Z).heap.size Q) (zz_a Z) (zz_s Z) (zz_R Z).cells (zz_R Z).slots (cA X μ0 (zz_s Z).heap.size))  : ∀ l1 l2 l3 l4 μ, wc_X1_hasStep_36 X rc Q l1 l2 l3 l4 μ → hG Z 5 (cI Z X μ0 μ) 0 0 36 [(0, aR (some (cX_a X 0))), (1, aI l1), (2, aI l2), (3, aI l3), (4, aI l4)] [] := by
  intro l1 l2 l3 l4 μ hw
  exact hw (fun l1 l2 l3 l4 μ => hG Z 5 (cI Z X μ0 μ) 0 0 36 [(0, aR (some (cX_a X 0))), (1, aI l1), (2, aI l2), (3, aI l3), (4, aI l4)] []) (fun l1 l2 l3 l4 μ hw => sc_X1_hasStep_36b hA hB C hK hrc hQ (fun _ _ _ _ _ h => h) l1 l2 l3 l4 μ hw)
def wc_X1_hasStep_32 (X : cX) (rc : Int → CM → (Int → CM → Prop) → Prop) (Q : Int → CM → Prop) (l1 : Int) (l2 : Int) (s0 : Int) (μ : CM) : Prop := wc_X1_hasStep_36 X rc  Q l1 l2 s0 0 μ
set_option maxHeartbeats 4000000 in
theorem sc_X1_hasStep_32 {Z : zz} {X : cX} {μ0 : CM} {Q : Int → CM → Prop} {rc : Int → CM → (Int → CM → Prop) → Prop} {fr lo : Nat} (hA : 3 ≤ fr) (hB : 74 ≤ lo) (C : gC Z cX1_hasStep 5 RX1 (some .boolean) (fr + 0) (lo + 0)) (hK : cCt Z X μ0) (hrc : rmet_X1_hasStep (zz_l Z) X fr lo rc) (hQ : zz_q Z = MQ (zz_b Z) (cQi X μ0 (zz_s Z).heap.size Q) (zz_a Z) (zz_s Z) (zz_R Z).cells (zz_R Z).slots (cA X μ0 (zz_s Z).heap.size))  : ∀ l1 l2 s0 μ, wc_X1_hasStep_32 X rc Q l1 l2 s0 μ → hG Z 5 (cI Z X μ0 μ) 0 0 32 [(0, aR (some (cX_a X 0))), (1, aI l1), (2, aI l2)] [aI s0] := by
  intro l1 l2 s0 μ hw
  unfold wc_X1_hasStep_32 at hw
  refine hx_istore_n (L' := [(3, aI s0), (0, aR (some (cX_a X 0))), (1, aI l1), (2, aI l2)]) C dX1_hasStep_32 rfl (by decide) rfl ?_
  refine hx_iconst C dX1_hasStep_33 ?_
  refine hx_istore (L' := [(4, aI 0), (3, aI s0), (0, aR (some (cX_a X 0))), (1, aI l1), (2, aI l2)]) C dX1_hasStep_34 (by decide) rfl ?_
  refine hx_L [2, 3, 4, 1, 0] rfl ?_
  exact sc_X1_hasStep_36 hA hB C hK hrc hQ  _ _ _ _ _ hw
def wc_X1_hasStep (X : cX) (rc : Int → CM → (Int → CM → Prop) → Prop) (l1 : Int) (μ : CM) (Q : Int → CM → Prop) : Prop := wc_X1_spine X l1 μ (fun r1 μ2 => wc_X1_down X l1 r1 μ2 (fun r3 μ4 => (0 ≤ r3 ∧ r3 < 62000) ∧ wc_X0_textOf X (kI μ4 20 (r3).toNat) μ4 (fun r6 μ7 => wc_X1_wants X r6 μ7 (fun r8 μ9 => R32 r8 ∧ R32 r1 ∧ ((r1 < r8 → wc_X1_hasStep_32 X rc  Q l1 r1 0 μ9) ∧ (r8 ≤ r1 → wc_X1_hasStep_32 X rc  Q l1 r1 1 μ9))))))
set_option maxHeartbeats 4000000 in
theorem sc_X1_hasStep (l : Launch) (X : cX) (sz : Nat) (Q : Int → CM → Prop) {rc : Int → CM → (Int → CM → Prop) → Prop} {fr lo : Nat} (hA : 3 ≤ fr) (hB : 74 ≤ lo) (hrc : rmet_X1_hasStep l X fr lo rc) (l1 : Int) (μ : CM) (hw : wc_X1_hasStep X rc l1 μ Q) : Met l yX1_hasStep (ws_ yX1_hasStep cX1_hasStep 5 (some .boolean)) ({ frames := (fr + 0), cells := 0, slots := 0, locals := (lo + 0) }) (cPc X (([aR (some (cX_a X 0)), aI l1] : List AV).map toV) μ sz) (cQi X μ sz Q) 0 (0) (cA X μ sz) := by
  refine cx_met2 (rm := ({ frames := (fr + 0), cells := 0, slots := 0, locals := (lo + 0) })) (As := [aR (some (cX_a X 0)), aI l1]) (L0 := [(0, aR (some (cX_a X 0))), (1, aI l1)]) (by decide) rfl (Nat.le_of_ble_eq_true rfl) rfl ?_
  intro Z C hK hsz hR hl0 hin hQ
  subst hsz
  have C : gC Z cX1_hasStep 5 RX1 (some .boolean) (fr + 0) (lo + 0) := C
  rw [← hl0] at hrc
  have hQ : zz_q Z = MQ (zz_b Z) (cQi X μ (zz_s Z).heap.size Q) (zz_a Z) (zz_s Z) (zz_R Z).cells (zz_R Z).slots (cA X μ (zz_s Z).heap.size) := by rw [hR]; exact hQ
  unfold wc_X1_hasStep at hw
  refine hx_aload_n C dX1_hasStep_0 0 rfl rfl ?_
  refine hx_iload_n C dX1_hasStep_1 1 rfl rfl ?_
  refine fun H locs hI ls hl => cx_ri (S := []) hI hl (fun _ h => h) (cr_V (Cn := RX1) (As := [toV (aI l1)]) (rest := []) C hK hI hl 1 (cv_dyn hK hI (ci := 1) rfl (Or.inl ⟨1, rfl⟩)) (sc_X1_spine _ X H.size _ _ _ hw) (lw_V q700 q702 qs14 q85 q703) (by decide +kernel) ⟨rfl, rfl, by (dsimp only; omega), by (dsimp only; omega)⟩ (av_W [] 8 (Nat.le_of_ble_eq_true rfl)) dX1_hasStep_2 rfl rfl ⟨by omega, by omega⟩) (fun r1 μ2 hw => ?_)
  refine hx_istore_n (L' := [(2, aI r1), (0, aR (some (cX_a X 0))), (1, aI l1)]) C dX1_hasStep_5 rfl (by decide) rfl ?_
  refine hx_aload_n C dX1_hasStep_6 1 rfl rfl ?_
  refine cx_getS (μ := μ2) (v := aR (some (cX_a X 20))) C hK 1 0 rfl in_X1 (by decide) q125 rfl rfl rfl dX1_hasStep_7 ?_
  refine hx_aload_n C dX1_hasStep_10 1 rfl rfl ?_
  refine hx_iload_n C dX1_hasStep_11 2 rfl rfl ?_
  refine hx_iload_n C dX1_hasStep_12 0 rfl rfl ?_
  refine fun H locs hI ls hl => cx_ri (S := [aR (some (cX_a X 20))]) hI hl (fun _ h => h) (cr_V (Cn := RX1) (As := [toV (aI l1), toV (aI r1)]) (rest := [toV (aR (some (cX_a X 20)))]) C hK hI hl 2 (cv_dyn hK hI (ci := 1) rfl (Or.inl ⟨1, rfl⟩)) (sc_X1_down _ X H.size _ _ _ _ hw) (lw_V q708 q710 qs16 q85 q711) (by decide +kernel) ⟨rfl, rfl, by (dsimp only; omega), by (dsimp only; omega)⟩ (av_W [aR (some (cX_a X 20))] 8 (Nat.le_of_ble_eq_true rfl)) dX1_hasStep_13 rfl rfl ⟨by omega, by omega⟩) (fun r3 μ4 hw => ?_)
  obtain ⟨hx5, hw⟩ := hw
  refine cx_iald (μ := μ4) (f := kI μ4 20) C hK (Or.inl ⟨8, rfl⟩) hx5.1 hx5.2 (by decide) dX1_hasStep_16 ?_
  refine fun H locs hI ls hl => cx_rr (S := []) hI hl (fun _ h => h) (cr_SN (As := [toV (aI (kI μ4 20 (r3).toNat))]) (rest := []) C hK hI hl 1 (sc_X0_textOf _ X H.size _ _ _ hw) (List.mem_of_getElem? (i := 22) rfl) q261 q84 q262 (by decide +kernel) ⟨rfl, rfl, by (dsimp only; omega), by (dsimp only; omega)⟩ (av_W [] 8 (Nat.le_of_ble_eq_true rfl)) dX1_hasStep_17 rfl rfl ⟨by omega, by omega⟩) (fun r6 μ7 hw => ?_)
  refine fun H locs hI ls hl => cx_ri (S := []) hI hl (fun _ h => h) (cr_S (As := [toV (aR r6)]) (rest := []) C hK hI hl 1 (sc_X1_wants _ X H.size _ _ _ hw) (lw_S q713 q714 q85 q715) (by decide +kernel) ⟨rfl, rfl, by (dsimp only; omega), by (dsimp only; omega)⟩ (av_W [] 8 (Nat.le_of_ble_eq_true rfl)) dX1_hasStep_20 rfl rfl ⟨by omega, by omega⟩) (fun r8 μ9 hw => ?_)
  refine hx_iload_n C dX1_hasStep_23 0 rfl rfl ?_
  obtain ⟨hr10, hw⟩ := hw
  obtain ⟨hr11, hw⟩ := hw
  refine hx_icmp_gt (tgt := 31) C dX1_hasStep_24 (by decide) hr10 hr11 (fun h => ?_) (fun h => ?_)
  · have hw := hw.1 h
    refine hx_iconst C dX1_hasStep_31 ?_
    refine hx_L [1, 2, 0] rfl ?_
    exact sc_X1_hasStep_32 hA hB C hK hrc hQ  _ _ _ _ hw
  · have hw := hw.2 h
    refine hx_iconst C dX1_hasStep_27 ?_
    refine hx_goto (tgt := 32) C dX1_hasStep_28 (by decide) ?_
    refine hx_L [1, 2, 0] rfl ?_
    exact sc_X1_hasStep_32 hA hB C hK hrc hQ  _ _ _ _ hw
def wr_X1_hasStep (X : cX) : Nat → Int → CM → (Int → CM → Prop) → Prop
  | 0 => fun _ _ _ => False
  | d + 1 => wc_X1_hasStep X (wr_X1_hasStep X d)
set_option maxHeartbeats 4000000 in
theorem rr_X1_hasStep (l : Launch) (X : cX) : ∀ d, rmet_X1_hasStep l X (3 + 1 * d) (74 + 24 * d) (wr_X1_hasStep X d) := by
  intro d
  induction d with
  | zero => intro l1 μ sz Q h; exact h.elim
  | succ d ih =>
    intro l1 μ sz Q h
    exact ⟨_, ⟨rfl, rfl, by first | omega | (dsimp only; omega), by first | omega | (dsimp only; omega)⟩, sc_X1_hasStep l X sz Q (by omega) (by omega) ih l1 μ h⟩
-- ('BinderPress$Work', 'go', '(I)V')
def wc_X1_go_86 (X : cX) (P0 : Int → CM → Prop) (Q : CM → Prop) (l1 : Int) (s1 : Int) (μ : CM) : Prop := (s1 = 0 ∨ s1 = 1) ∧ P0 l1 (pkI μ 28 0 s1)
set_option maxHeartbeats 4000000 in
theorem sc_X1_go_86 {Z : zz} {X : cX} {μ0 : CM} {Q : CM → Prop} (C : gC Z cX1_go 2 RX1 none 624 15600) (hK : cCt Z X μ0) (hQ : zz_q Z = MQ (zz_b Z) (cQv X μ0 (zz_s Z).heap.size Q) (zz_a Z) (zz_s Z) (zz_R Z).cells (zz_R Z).slots (cA X μ0 (zz_s Z).heap.size)) {P0 : Int → CM → Prop} (hP0 : ∀ l1 μ, P0 l1 μ → hG Z 2 (cI Z X μ0 μ) 0 0 0 [(0, aR (some (cX_a X 0))), (1, aI l1)] [])  : ∀ l1 s1 μ, wc_X1_go_86 X P0 Q l1 s1 μ → hG Z 2 (cI Z X μ0 μ) 0 0 86 [(0, aR (some (cX_a X 0))), (1, aI l1)] [aI s1, aR (some (cX_a X 0))] := by
  intro l1 s1 μ hw
  unfold wc_X1_go_86 at hw
  obtain ⟨hz1, hw⟩ := hw
  refine cx_putS C hK 1 8 (by decide) rfl in_X1 tyX1_ok nmX1 (by decide) q134 rfl rfl rfl (Nat.le_of_ble_eq_true rfl) ⟨mz_n hz1, mz_f hz1⟩ (csb_28 X _ _) rfl rfl rfl rfl dX1_go_86 ?_
  refine hx_goto (tgt := 0) C dX1_go_89 (by decide) ?_
  refine hx_L [0, 1] rfl ?_
  exact hP0 _ _ hw
def wc_X1_go_85 (X : cX) (P0 : Int → CM → Prop) (Q : CM → Prop) (l1 : Int) (μ : CM) : Prop := wc_X1_go_86 X  P0 Q l1 0 μ
set_option maxHeartbeats 4000000 in
theorem sc_X1_go_85 {Z : zz} {X : cX} {μ0 : CM} {Q : CM → Prop} (C : gC Z cX1_go 2 RX1 none 624 15600) (hK : cCt Z X μ0) (hQ : zz_q Z = MQ (zz_b Z) (cQv X μ0 (zz_s Z).heap.size Q) (zz_a Z) (zz_s Z) (zz_R Z).cells (zz_R Z).slots (cA X μ0 (zz_s Z).heap.size)) {P0 : Int → CM → Prop} (hP0 : ∀ l1 μ, P0 l1 μ → hG Z 2 (cI Z X μ0 μ) 0 0 0 [(0, aR (some (cX_a X 0))), (1, aI l1)] [])  : ∀ l1 μ, wc_X1_go_85 X P0 Q l1 μ → hG Z 2 (cI Z X μ0 μ) 0 0 85 [(0, aR (some (cX_a X 0))), (1, aI l1)] [aR (some (cX_a X 0))] := by
  intro l1 μ hw
  unfold wc_X1_go_85 at hw
  refine hx_iconst C dX1_go_85 ?_
  refine hx_L [0, 1] rfl ?_
  exact sc_X1_go_86 C hK hQ hP0 _ _ _ hw
def wc_X1_go_59 (X : cX) (P0 : Int → CM → Prop) (Q : CM → Prop) (l1 : Int) (s1 : Int) (s2 : Int) (μ : CM) : Prop := R32 (kI μ 29 0) ∧ ((¬ (kI μ 29 0) = 0 → wc_X1_go_85 X  P0 Q l1 (pkI μ 27 0 (s1 + s2))) ∧ ((kI μ 29 0) = 0 → wc_X1_size X (pkI μ 27 0 (s1 + s2)) (fun r2 μ3 => R32 r2 ∧ ((r2 ≤ 300 → wc_X1_go_85 X  P0 Q l1 μ3) ∧ (300 < r2 → wc_X1_go_86 X  P0 Q l1 1 μ3)))))
set_option maxHeartbeats 4000000 in
theorem sc_X1_go_59 {Z : zz} {X : cX} {μ0 : CM} {Q : CM → Prop} (C : gC Z cX1_go 2 RX1 none 624 15600) (hK : cCt Z X μ0) (hQ : zz_q Z = MQ (zz_b Z) (cQv X μ0 (zz_s Z).heap.size Q) (zz_a Z) (zz_s Z) (zz_R Z).cells (zz_R Z).slots (cA X μ0 (zz_s Z).heap.size)) {P0 : Int → CM → Prop} (hP0 : ∀ l1 μ, P0 l1 μ → hG Z 2 (cI Z X μ0 μ) 0 0 0 [(0, aR (some (cX_a X 0))), (1, aI l1)] [])  : ∀ l1 s1 s2 μ, wc_X1_go_59 X P0 Q l1 s1 s2 μ → hG Z 2 (cI Z X μ0 μ) 0 0 59 [(0, aR (some (cX_a X 0))), (1, aI l1)] [aI s2, aI s1, aR (some (cX_a X 0))] := by
  intro l1 s1 s2 μ hw
  unfold wc_X1_go_59 at hw
  refine hx_iadd C dX1_go_59 ?_
  refine cx_putS C hK 1 7 (by decide) rfl in_X1 tyX1_ok nmX1 (by decide) q132 rfl rfl rfl (Nat.le_of_ble_eq_true rfl) ⟨rfl, rfl⟩ (csb_27 X _ _) rfl rfl rfl rfl dX1_go_60 ?_
  refine hx_aload_n C dX1_go_63 0 rfl rfl ?_
  refine hx_aload_n C dX1_go_64 0 rfl rfl ?_
  refine cx_getS (μ := (pkI μ 27 0 (s1 + s2))) (v := aI (kI μ 29 0)) C hK 1 9 rfl in_X1 (by decide) q136 rfl rfl rfl dX1_go_65 ?_
  obtain ⟨hr1, hw⟩ := hw
  refine hx_if_ne (tgt := 85) C dX1_go_68 (by decide) hr1 (fun h => ?_) (fun h => ?_)
  · have hw := hw.1 h
    refine hx_L [0, 1] rfl ?_
    exact sc_X1_go_85 C hK hQ hP0 _ _ hw
  · have hw := hw.2 h
    refine hx_aload_n C dX1_go_71 0 rfl rfl ?_
    refine fun H locs hI ls hl => cx_ri (S := [aR (some (cX_a X 0))]) hI hl (fun _ h => h) (cr_V (Cn := RX1) (As := []) (rest := [toV (aR (some (cX_a X 0)))]) C hK hI hl 0 (cv_dyn hK hI (ci := 1) rfl (Or.inl ⟨1, rfl⟩)) (sc_X1_size _ X H.size _ _ hw) (lw_V q786 q787 q788 q85 q789) (by decide +kernel) ⟨rfl, rfl, Nat.le_of_ble_eq_true rfl, Nat.le_of_ble_eq_true rfl⟩ (av_W [aR (some (cX_a X 0))] 8 (Nat.le_of_ble_eq_true rfl)) dX1_go_72 rfl rfl ⟨by omega, by omega⟩) (fun r2 μ3 hw => ?_)
    refine hx_sipush C dX1_go_75 (by decide) ?_
    obtain ⟨hr4, hw⟩ := hw
    refine hx_icmp_le (tgt := 85) C dX1_go_78 (by decide) hr4 (by decide) (fun h => ?_) (fun h => ?_)
    · have hw := hw.1 h
      refine hx_L [0, 1] rfl ?_
      exact sc_X1_go_85 C hK hQ hP0 _ _ hw
    · have hw := hw.2 h
      refine hx_iconst C dX1_go_81 ?_
      refine hx_goto (tgt := 86) C dX1_go_82 (by decide) ?_
      refine hx_L [0, 1] rfl ?_
      exact sc_X1_go_86 C hK hQ hP0 _ _ _ hw
def wc_X1_go_39 (X : cX) (P0 : Int → CM → Prop) (Q : CM → Prop) (l1 : Int) (s1 : Int) (μ : CM) : Prop := (s1 = 0 ∨ s1 = 1) ∧ R32 s1 ∧ ((s1 = 0 → wc_X1_go_59 X  P0 Q l1 (kI μ 27 0) 1 (pkI μ 29 0 s1)) ∧ (¬ s1 = 0 → wc_X1_go_59 X  P0 Q l1 (kI μ 27 0) 0 (pkI μ 29 0 s1)))
set_option maxHeartbeats 4000000 in
theorem sc_X1_go_39 {Z : zz} {X : cX} {μ0 : CM} {Q : CM → Prop} (C : gC Z cX1_go 2 RX1 none 624 15600) (hK : cCt Z X μ0) (hQ : zz_q Z = MQ (zz_b Z) (cQv X μ0 (zz_s Z).heap.size Q) (zz_a Z) (zz_s Z) (zz_R Z).cells (zz_R Z).slots (cA X μ0 (zz_s Z).heap.size)) {P0 : Int → CM → Prop} (hP0 : ∀ l1 μ, P0 l1 μ → hG Z 2 (cI Z X μ0 μ) 0 0 0 [(0, aR (some (cX_a X 0))), (1, aI l1)] [])  : ∀ l1 s1 μ, wc_X1_go_39 X P0 Q l1 s1 μ → hG Z 2 (cI Z X μ0 μ) 0 0 39 [(0, aR (some (cX_a X 0))), (1, aI l1)] [aI s1, aR (some (cX_a X 0))] := by
  intro l1 s1 μ hw
  unfold wc_X1_go_39 at hw
  obtain ⟨hz1, hw⟩ := hw
  refine cx_putS C hK 1 9 (by decide) rfl in_X1 tyX1_ok nmX1 (by decide) q136 rfl rfl rfl (Nat.le_of_ble_eq_true rfl) ⟨mz_n hz1, mz_f hz1⟩ (csb_29 X _ _) rfl rfl rfl rfl dX1_go_39 ?_
  refine hx_aload_n C dX1_go_42 0 rfl rfl ?_
  refine hx_dup C dX1_go_43 rfl ?_
  refine cx_getS (μ := (pkI μ 29 0 s1)) (v := aI (kI μ 27 0)) C hK 1 7 rfl in_X1 (by decide) q132 rfl rfl rfl dX1_go_44 ?_
  refine hx_aload_n C dX1_go_47 0 rfl rfl ?_
  refine cx_getS (μ := (pkI μ 29 0 s1)) (v := aI s1) C hK 1 9 rfl in_X1 (by decide) q136 rfl rfl rfl dX1_go_48 ?_
  obtain ⟨hr2, hw⟩ := hw
  refine hx_if_eq (tgt := 58) C dX1_go_51 (by decide) hr2 (fun h => ?_) (fun h => ?_)
  · have hw := hw.1 h
    refine hx_iconst C dX1_go_58 ?_
    refine hx_L [0, 1] rfl ?_
    exact sc_X1_go_59 C hK hQ hP0 _ _ _ _ hw
  · have hw := hw.2 h
    refine hx_iconst C dX1_go_54 ?_
    refine hx_goto (tgt := 59) C dX1_go_55 (by decide) ?_
    refine hx_L [0, 1] rfl ?_
    exact sc_X1_go_59 C hK hQ hP0 _ _ _ _ hw
def wc_X1_go_120 (X : cX) (Q : CM → Prop) (s1 : Int) (s2 : Int) (μ : CM) : Prop := ((io_or s1 s2) = 0 ∨ (io_or s1 s2) = 1) ∧ Q (pkI μ 29 0 (io_or s1 s2))
set_option maxHeartbeats 4000000 in
theorem sc_X1_go_120 {Z : zz} {X : cX} {μ0 : CM} {Q : CM → Prop} (C : gC Z cX1_go 2 RX1 none 624 15600) (hK : cCt Z X μ0) (hQ : zz_q Z = MQ (zz_b Z) (cQv X μ0 (zz_s Z).heap.size Q) (zz_a Z) (zz_s Z) (zz_R Z).cells (zz_R Z).slots (cA X μ0 (zz_s Z).heap.size))  : ∀ s1 s2 μ, wc_X1_go_120 X Q s1 s2 μ → hG Z 2 (cI Z X μ0 μ) 0 0 120 [] [aI s2, aI s1, aR (some (cX_a X 0))] := by
  intro s1 s2 μ hw
  unfold wc_X1_go_120 at hw
  refine hx_ior C dX1_go_120 ?_
  obtain ⟨hz1, hw⟩ := hw
  refine cx_putS C hK 1 9 (by decide) rfl in_X1 tyX1_ok nmX1 (by decide) q136 rfl rfl rfl (Nat.le_of_ble_eq_true rfl) ⟨mz_n hz1, mz_f hz1⟩ (csb_29 X _ _) rfl rfl rfl rfl dX1_go_121 ?_
  exact cx_vret C hQ (by omega) (by omega) hw dX1_go_124
def wc_X1_go_119 (X : cX) (Q : CM → Prop) (s1 : Int) (μ : CM) : Prop := wc_X1_go_120 X   Q s1 0 μ
set_option maxHeartbeats 4000000 in
theorem sc_X1_go_119 {Z : zz} {X : cX} {μ0 : CM} {Q : CM → Prop} (C : gC Z cX1_go 2 RX1 none 624 15600) (hK : cCt Z X μ0) (hQ : zz_q Z = MQ (zz_b Z) (cQv X μ0 (zz_s Z).heap.size Q) (zz_a Z) (zz_s Z) (zz_R Z).cells (zz_R Z).slots (cA X μ0 (zz_s Z).heap.size))  : ∀ s1 μ, wc_X1_go_119 X Q s1 μ → hG Z 2 (cI Z X μ0 μ) 0 0 119 [] [aI s1, aR (some (cX_a X 0))] := by
  intro s1 μ hw
  unfold wc_X1_go_119 at hw
  refine hx_iconst C dX1_go_119 ?_
  refine hx_L [] rfl ?_
  exact sc_X1_go_120 C hK hQ  _ _ _ hw
def wc_X1_go_92 (X : cX) (Q : CM → Prop) (μ : CM) : Prop := R32 (kI μ 28 0) ∧ ((¬ (kI μ 28 0) = 0 → wc_X1_go_119 X   Q (kI μ 29 0) μ) ∧ ((kI μ 28 0) = 0 → wr_X1_hasStep X 310 (kI μ 25 0) μ (fun r2 μ3 => R32 r2 ∧ ((¬ r2 = 0 → wc_X1_go_119 X   Q (kI μ 29 0) μ3) ∧ (r2 = 0 → wc_X1_go_120 X   Q (kI μ 29 0) 1 μ3)))))
set_option maxHeartbeats 4000000 in
theorem sc_X1_go_92 {Z : zz} {X : cX} {μ0 : CM} {Q : CM → Prop} (C : gC Z cX1_go 2 RX1 none 624 15600) (hK : cCt Z X μ0) (hQ : zz_q Z = MQ (zz_b Z) (cQv X μ0 (zz_s Z).heap.size Q) (zz_a Z) (zz_s Z) (zz_R Z).cells (zz_R Z).slots (cA X μ0 (zz_s Z).heap.size))  : ∀ μ, wc_X1_go_92 X Q μ → hG Z 2 (cI Z X μ0 μ) 0 0 92 [(0, aR (some (cX_a X 0)))] [] := by
  intro μ hw
  unfold wc_X1_go_92 at hw
  refine hx_aload_n C dX1_go_92 0 rfl rfl ?_
  refine hx_dup C dX1_go_93 rfl ?_
  refine cx_getS (μ := μ) (v := aI (kI μ 29 0)) C hK 1 9 rfl in_X1 (by decide) q136 rfl rfl rfl dX1_go_94 ?_
  refine hx_aload_n C dX1_go_97 0 rfl rfl ?_
  refine cx_getS (μ := μ) (v := aI (kI μ 28 0)) C hK 1 8 rfl in_X1 (by decide) q134 rfl rfl rfl dX1_go_98 ?_
  obtain ⟨hr1, hw⟩ := hw
  refine hx_if_ne (tgt := 119) C dX1_go_101 (by decide) hr1 (fun h => ?_) (fun h => ?_)
  · have hw := hw.1 h
    refine hx_L [] rfl ?_
    exact sc_X1_go_119 C hK hQ  _ _ hw
  · have hw := hw.2 h
    refine hx_aload_n C dX1_go_104 0 rfl rfl ?_
    refine hx_aload_n C dX1_go_105 0 rfl rfl ?_
    refine cx_getS (μ := μ) (v := aI (kI μ 25 0)) C hK 1 5 rfl in_X1 (by decide) q130 rfl rfl rfl dX1_go_106 ?_
    refine fun H locs hI ls hl => cx_ri (S := [aI (kI μ 29 0), aR (some (cX_a X 0))]) hI hl (fun _ h => h) (dr_V (Cn := RX1) (As := [toV (aI (kI μ 25 0))]) (rest := [toV (aI (kI μ 29 0)), toV (aR (some (cX_a X 0)))]) C hK hI hl 1 (cv_dyn hK hI (ci := 1) rfl (Or.inl ⟨1, rfl⟩)) ((rr_X1_hasStep _ X 310) _ _ H.size _ hw) (by omega) (by omega) (lw_V q794 q796 qs20 q85 q797) (by decide +kernel) (av_W [aI (kI μ 29 0), aR (some (cX_a X 0))] 8 (Nat.le_of_ble_eq_true rfl)) dX1_go_109 rfl rfl ⟨by omega, by omega⟩) (fun r2 μ3 hw => ?_)
    obtain ⟨hr4, hw⟩ := hw
    refine hx_if_ne (tgt := 119) C dX1_go_112 (by decide) hr4 (fun h => ?_) (fun h => ?_)
    · have hw := hw.1 h
      refine hx_L [] rfl ?_
      exact sc_X1_go_119 C hK hQ  _ _ hw
    · have hw := hw.2 h
      refine hx_iconst C dX1_go_115 ?_
      refine hx_goto (tgt := 120) C dX1_go_116 (by decide) ?_
      refine hx_L [] rfl ?_
      exact sc_X1_go_120 C hK hQ  _ _ _ hw
def wc_X1_go_0b (X : cX) (P0 : Int → CM → Prop) (Q : CM → Prop) (l1 : Int) (μ : CM) : Prop := R32 (kI μ 27 0) ∧ R32 l1 ∧ ((l1 ≤ (kI μ 27 0) → wc_X1_go_92 X   Q μ) ∧ ((kI μ 27 0) < l1 → R32 (kI μ 28 0) ∧ ((¬ (kI μ 28 0) = 0 → wc_X1_go_92 X   Q μ) ∧ ((kI μ 28 0) = 0 → R32 (kI μ 29 0) ∧ ((¬ (kI μ 29 0) = 0 → wc_X1_go_92 X   Q μ) ∧ ((kI μ 29 0) = 0 → wr_X1_step X 310 (kI μ 25 0) μ (fun r5 μ6 => R32 r5 ∧ ((¬ r5 = 0 → wc_X1_go_39 X  P0 Q l1 0 μ6) ∧ (r5 = 0 → wc_X1_go_39 X  P0 Q l1 1 μ6)))))))))
set_option maxHeartbeats 4000000 in
theorem sc_X1_go_0b {Z : zz} {X : cX} {μ0 : CM} {Q : CM → Prop} (C : gC Z cX1_go 2 RX1 none 624 15600) (hK : cCt Z X μ0) (hQ : zz_q Z = MQ (zz_b Z) (cQv X μ0 (zz_s Z).heap.size Q) (zz_a Z) (zz_s Z) (zz_R Z).cells (zz_R Z).slots (cA X μ0 (zz_s Z).heap.size)) {P0 : Int → CM → Prop} (hP0 : ∀ l1 μ, P0 l1 μ → hG Z 2 (cI Z X μ0 μ) 0 0 0 [(0, aR (some (cX_a X 0))), (1, aI l1)] [])  : ∀ l1 μ, wc_X1_go_0b X P0 Q l1 μ → hG Z 2 (cI Z X μ0 μ) 0 0 0 [(0, aR (some (cX_a X 0))), (1, aI l1)] [] := by
  intro l1 μ hw
  unfold wc_X1_go_0b at hw
  refine hx_aload_n C dX1_go_0 0 rfl rfl ?_
  refine cx_getS (μ := μ) (v := aI (kI μ 27 0)) C hK 1 7 rfl in_X1 (by decide) q132 rfl rfl rfl dX1_go_1 ?_
  refine hx_iload_n C dX1_go_4 1 rfl rfl ?_
  obtain ⟨hr1, hw⟩ := hw
  obtain ⟨hr2, hw⟩ := hw
  refine hx_icmp_ge (tgt := 92) C dX1_go_5 (by decide) hr1 hr2 (fun h => ?_) (fun h => ?_)
  · have hw := hw.1 h
    refine hx_L [0] rfl ?_
    exact sc_X1_go_92 C hK hQ  _ hw
  · have hw := hw.2 h
    refine hx_aload_n C dX1_go_8 0 rfl rfl ?_
    refine cx_getS (μ := μ) (v := aI (kI μ 28 0)) C hK 1 8 rfl in_X1 (by decide) q134 rfl rfl rfl dX1_go_9 ?_
    obtain ⟨hr3, hw⟩ := hw
    refine hx_if_ne (tgt := 92) C dX1_go_12 (by decide) hr3 (fun h => ?_) (fun h => ?_)
    · have hw := hw.1 h
      refine hx_L [0] rfl ?_
      exact sc_X1_go_92 C hK hQ  _ hw
    · have hw := hw.2 h
      refine hx_aload_n C dX1_go_15 0 rfl rfl ?_
      refine cx_getS (μ := μ) (v := aI (kI μ 29 0)) C hK 1 9 rfl in_X1 (by decide) q136 rfl rfl rfl dX1_go_16 ?_
      obtain ⟨hr4, hw⟩ := hw
      refine hx_if_ne (tgt := 92) C dX1_go_19 (by decide) hr4 (fun h => ?_) (fun h => ?_)
      · have hw := hw.1 h
        refine hx_L [0] rfl ?_
        exact sc_X1_go_92 C hK hQ  _ hw
      · have hw := hw.2 h
        refine hx_aload_n C dX1_go_22 0 rfl rfl ?_
        refine hx_aload_n C dX1_go_23 0 rfl rfl ?_
        refine hx_aload_n C dX1_go_24 0 rfl rfl ?_
        refine cx_getS (μ := μ) (v := aI (kI μ 25 0)) C hK 1 5 rfl in_X1 (by decide) q130 rfl rfl rfl dX1_go_25 ?_
        refine fun H locs hI ls hl => cx_ri (S := [aR (some (cX_a X 0))]) hI hl (fun _ h => h) (dr_V (Cn := RX1) (As := [toV (aI (kI μ 25 0))]) (rest := [toV (aR (some (cX_a X 0)))]) C hK hI hl 1 (cv_dyn hK hI (ci := 1) rfl (Or.inl ⟨1, rfl⟩)) ((rr_X1_step _ X 310) _ _ H.size _ hw) (by omega) (by omega) (lw_V q696 q698 qs13 q85 q699) (by decide +kernel) (av_W [aR (some (cX_a X 0))] 8 (Nat.le_of_ble_eq_true rfl)) dX1_go_28 rfl rfl ⟨by omega, by omega⟩) (fun r5 μ6 hw => ?_)
        obtain ⟨hr7, hw⟩ := hw
        refine hx_if_ne (tgt := 38) C dX1_go_31 (by decide) hr7 (fun h => ?_) (fun h => ?_)
        · have hw := hw.1 h
          refine hx_iconst C dX1_go_38 ?_
          refine hx_L [0, 1] rfl ?_
          exact sc_X1_go_39 C hK hQ hP0 _ _ _ hw
        · have hw := hw.2 h
          refine hx_iconst C dX1_go_34 ?_
          refine hx_goto (tgt := 39) C dX1_go_35 (by decide) ?_
          refine hx_L [0, 1] rfl ?_
          exact sc_X1_go_39 C hK hQ hP0 _ _ _ hw
def wc_X1_go_0 (X : cX) (Q : CM → Prop) (l1 : Int) (μ : CM) : Prop := ∀ P0 : Int → CM → Prop, (∀ l1 μ, wc_X1_go_0b X P0 Q l1 μ → P0 l1 μ) → P0 l1 μ
set_option maxHeartbeats 4000000 in
theorem sc_X1_go_0 {Z : zz} {X : cX} {μ0 : CM} {Q : CM → Prop} (C : gC Z cX1_go 2 RX1 none 624 15600) (hK : cCt Z X μ0) (hQ : zz_q Z = MQ (zz_b Z) (cQv X μ0 (zz_s Z).heap.size Q) (zz_a Z) (zz_s Z) (zz_R Z).cells (zz_R Z).slots (cA X μ0 (zz_s Z).heap.size))  : ∀ l1 μ, wc_X1_go_0 X Q l1 μ → hG Z 2 (cI Z X μ0 μ) 0 0 0 [(0, aR (some (cX_a X 0))), (1, aI l1)] [] := by
  intro l1 μ hw
  exact hw (fun l1 μ => hG Z 2 (cI Z X μ0 μ) 0 0 0 [(0, aR (some (cX_a X 0))), (1, aI l1)] []) (fun l1 μ hw => sc_X1_go_0b C hK hQ (fun _ _ h => h) l1 μ hw)
def wc_X1_go (X : cX) (l1 : Int) (μ : CM) (Q : CM → Prop) : Prop := wc_X1_go_0 X   Q l1 μ
set_option maxHeartbeats 4000000 in
theorem sc_X1_go (l : Launch) (X : cX) (sz : Nat) (Q : CM → Prop) (l1 : Int) (μ : CM) (hw : wc_X1_go X l1 μ Q) : Met l yX1_go (ws_ yX1_go cX1_go 2 none) ({ frames := 624, cells := 0, slots := 0, locals := 15600 }) (cPc X (([aR (some (cX_a X 0)), aI l1] : List AV).map toV) μ sz) (cQv X μ sz Q) 0 (0) (cA X μ sz) := by
  refine cx_met2 (rm := ({ frames := 624, cells := 0, slots := 0, locals := 15600 })) (As := [aR (some (cX_a X 0)), aI l1]) (L0 := [(0, aR (some (cX_a X 0))), (1, aI l1)]) (by decide) rfl (Nat.le_of_ble_eq_true rfl) rfl ?_
  intro Z C hK hsz hR hl0 hin hQ
  subst hsz
  have C : gC Z cX1_go 2 RX1 none 624 15600 := C
  have hQ : zz_q Z = MQ (zz_b Z) (cQv X μ (zz_s Z).heap.size Q) (zz_a Z) (zz_s Z) (zz_R Z).cells (zz_R Z).slots (cA X μ (zz_s Z).heap.size) := by rw [hR]; exact hQ
  unfold wc_X1_go at hw
  refine hx_L [0, 1] rfl ?_
  exact sc_X1_go_0 C hK hQ  _ _ hw
-- ('BinderPress$Name', '<init>', '(I)V')
def wc_X7_init (X : cX) (l0 : Nat) (l1 : Int) (μ : CM) (Q : CM → Prop) : Prop := wc_X5_init X l0 μ (fun μ2 => tg μ2 l0 = 6 ∧ Q (poI μ2 l0 0 l1))
set_option maxHeartbeats 4000000 in
theorem sc_X7_init (l : Launch) (X : cX) (sz : Nat) (Q : CM → Prop) (l0 : Nat) (l1 : Int) (μ : CM) (hw : wc_X7_init X l0 l1 μ Q) : Met l yX7_init (ws_ yX7_init cX7_init 2 none) ({ frames := 2, cells := 0, slots := 0, locals := 50 }) (cPc X (([aR (some l0), aI l1] : List AV).map toV) μ sz) (cQv X μ sz Q) 0 (0) (cA X μ sz) := by
  refine cx_met2 (rm := ({ frames := 2, cells := 0, slots := 0, locals := 50 })) (As := [aR (some l0), aI l1]) (L0 := [(0, aR (some l0)), (1, aI l1)]) (by decide) rfl (Nat.le_of_ble_eq_true rfl) rfl ?_
  intro Z C hK hsz hR hl0 hin hQ
  subst hsz
  have C : gC Z cX7_init 2 RX7 none 2 50 := C
  have hQ : zz_q Z = MQ (zz_b Z) (cQv X μ (zz_s Z).heap.size Q) (zz_a Z) (zz_s Z) (zz_R Z).cells (zz_R Z).slots (cA X μ (zz_s Z).heap.size) := by rw [hR]; exact hQ
  unfold wc_X7_init at hw
  refine hx_aload_n C dX7_init_0 0 rfl rfl ?_
  refine fun H locs hI ls hl => cx_rv (S := []) hI hl (fun _ h => h) (cr_IN (a := l0) (As := []) (rest := []) C hK hI hl 0 (sc_X5_init _ X H.size _ _ _ hw) (List.mem_of_getElem? (i := 54) rfl) q372 q92 q373 rfl (by decide +kernel) ⟨rfl, rfl, Nat.le_of_ble_eq_true rfl, Nat.le_of_ble_eq_true rfl⟩ (av_W [] 8 (Nat.le_of_ble_eq_true rfl)) dX7_init_1 rfl rfl ⟨by omega, by omega⟩) (fun μ2 hw => ?_)
  refine hx_aload_n C dX7_init_4 0 rfl rfl ?_
  refine hx_iload_n C dX7_init_5 1 rfl rfl ?_
  obtain ⟨ht3, hw⟩ := hw
  refine cx_putF (μ := μ2) (μ' := (poI μ2 l0 0 l1)) C hK hin 5 0 rfl in_X7 tyX7_ok nmX7 (by decide) q393 rfl rfl rfl (cdE_5 ht3) (Nat.le_of_ble_eq_true rfl) ⟨rfl, rfl⟩ (cset_5_0 μ2 l0 l1) (cdE_5 ht3) rfl rfl rfl (fun _ hb => st_o hb) (fun _ _ => rfl) dX7_init_6 ?_
  exact cx_vret C hQ (by omega) (by omega) hw dX7_init_9
-- ('BinderPress$Work', 'term', '(I)LBinderPress$Term;')
def rmet_X1_term_2 (l : Launch) (X : cX) (fr lo : Nat) (rc : Nat → Int → CM → (Option Nat → CM → Prop) → Prop) : Prop := ∀ (b : Nat) (l1 : Int) (μ : CM) (sz : Nat) (Q : Option Nat → CM → Prop), rc b l1 μ Q → ∃ rm, crm rm b (5 * b) fr lo 3 ∧ Met l yX1_term_2 (ws_ yX1_term_2 cX1_term_2 3 (some (.object "BinderPress$Term"))) rm (cPc X (([aR (some (cX_a X 0)), aI l1] : List AV).map toV) μ sz) (cQr X μ sz Q) b (5 * b) (cA X μ sz)
def wc_X1_term_2_80 (X : cX) (rc : Nat → Int → CM → (Option Nat → CM → Prop) → Prop) (Q : Option Nat → CM → Prop) (s0 : Option Nat) (b : Nat) (μ : CM) : Prop := Q s0 μ
set_option maxHeartbeats 4000000 in
theorem sc_X1_term_2_80 {Z : zz} {X : cX} {μ0 : CM} {Q : Option Nat → CM → Prop} {rc : Nat → Int → CM → (Option Nat → CM → Prop) → Prop} {fr lo : Nat} (hA : 132 ≤ fr) (hB : 2642 ≤ lo) (C : gC Z cX1_term_2 3 RX1 (some (.object "BinderPress$Term")) (fr + 0) (lo + 0)) (hK : cCt Z X μ0) (hrc : rmet_X1_term_2 (zz_l Z) X fr lo rc) (hQ : zz_q Z = MQ (zz_b Z) (cQr X μ0 (zz_s Z).heap.size Q) (zz_a Z) (zz_s Z) (zz_R Z).cells (zz_R Z).slots (cA X μ0 (zz_s Z).heap.size))  : ∀ s0 b μ, wc_X1_term_2_80 X rc Q s0 b μ → ∀ kk nn, (kk + b ≤ (zz_R Z).cells ∧ nn + 5 * b ≤ (zz_R Z).slots) → hG Z 3 (cI Z X μ0 μ) kk nn 80 [] [aR s0] := by
  intro s0 b μ hw kk nn hb
  unfold wc_X1_term_2_80 at hw
  exact cx_aret C hQ (by omega) (by omega) (Or.inl ⟨_, rfl⟩) hw dX1_term_2_80
def wc_X1_term_2 (X : cX) (rc : Nat → Int → CM → (Option Nat → CM → Prop) → Prop) (b : Nat) (l1 : Int) (μ : CM) (Q : Option Nat → CM → Prop) : Prop := wc_X1_self X l1 μ (fun r1 μ2 => (0 ≤ r1 ∧ r1 < 62000) ∧ R32 (kI μ2 20 (r1).toNat) ∧ ((¬ (kI μ2 20 (r1).toNat) = 0 → (0 ≤ r1 ∧ r1 < 62000) ∧ wc_X0_isName X (kI μ2 20 (r1).toNat) μ2 (fun r6 μ7 => R32 r6 ∧ ((r6 = 0 → ((0 ≤ r1 ∧ r1 < 62000) ∧ ∃ b10, b10 ≤ b ∧ wc_X0_signOf X b10 (kI μ7 20 (r1).toNat) μ7 (fun r12 μ13 => wc_X1_term_2_80 X rc  Q r12 (b - b10) μ13))) ∧ (¬ r6 = 0 → 1 ≤ b ∧ ∀ a15, tg μ7 a15 = 0 → (0 ≤ r1 ∧ r1 < 62000) ∧ wc_X7_init X a15 (kI μ7 20 (r1).toNat) (alc μ7 a15 6 0) (fun μ20 => wc_X1_term_2_80 X rc  Q (some a15) (b - 1) μ20))))) ∧ ((kI μ2 20 (r1).toNat) = 0 → (1 ≤ b ∧ ∀ a22, tg μ2 a22 = 0 → (0 ≤ r1 ∧ r1 < 62000) ∧ ∃ b26, b26 ≤ (b - 1) ∧ rc b26 (kI μ2 21 (r1).toNat) (alc μ2 a22 8 0) (fun r28 μ29 => ((0 ≤ r1 ∧ r1 < 62000) ∧ ∃ b31, b31 ≤ ((b - 1) - b26) ∧ rc b31 (kI μ29 22 (r1).toNat) μ29 (fun r33 μ34 => wc_X9_init X a22 r28 r33 μ34 (fun μ36 => Q (some a22) μ36))))))))
set_option maxHeartbeats 4000000 in
theorem sc_X1_term_2 (l : Launch) (X : cX) (sz : Nat) (Q : Option Nat → CM → Prop) {rc : Nat → Int → CM → (Option Nat → CM → Prop) → Prop} {fr lo : Nat} (hA : 132 ≤ fr) (hB : 2642 ≤ lo) (hrc : rmet_X1_term_2 l X fr lo rc) (b : Nat) (l1 : Int) (μ : CM) (hw : wc_X1_term_2 X rc b l1 μ Q) : Met l yX1_term_2 (ws_ yX1_term_2 cX1_term_2 3 (some (.object "BinderPress$Term"))) ({ frames := (fr + 0), cells := b, slots := 5 * b, locals := (lo + 0) }) (cPc X (([aR (some (cX_a X 0)), aI l1] : List AV).map toV) μ sz) (cQr X μ sz Q) b (5 * b) (cA X μ sz) := by
  refine cx_met2 (rm := ({ frames := (fr + 0), cells := b, slots := 5 * b, locals := (lo + 0) })) (As := [aR (some (cX_a X 0)), aI l1]) (L0 := [(0, aR (some (cX_a X 0))), (1, aI l1)]) (by decide) rfl (Nat.le_of_ble_eq_true rfl) rfl ?_
  intro Z C hK hsz hR hl0 hin hQ
  subst hsz
  have C : gC Z cX1_term_2 3 RX1 (some (.object "BinderPress$Term")) (fr + 0) (lo + 0) := C
  rw [← hl0] at hrc
  have hQ : zz_q Z = MQ (zz_b Z) (cQr X μ (zz_s Z).heap.size Q) (zz_a Z) (zz_s Z) (zz_R Z).cells (zz_R Z).slots (cA X μ (zz_s Z).heap.size) := by rw [hR]; exact hQ
  have hb : 0 + b ≤ (zz_R Z).cells ∧ 0 + 5 * b ≤ (zz_R Z).slots := by rw [hR]; exact ⟨by dsimp only; omega, by dsimp only; omega⟩
  unfold wc_X1_term_2 at hw
  refine hx_aload_n C dX1_term_2_0 0 rfl rfl ?_
  refine hx_iload_n C dX1_term_2_1 1 rfl rfl ?_
  refine fun H locs hI ls hl => cx_ri (S := []) hI hl (fun _ h => h) (cr_V (Cn := RX1) (As := [toV (aI l1)]) (rest := []) C hK hI hl 1 (cv_dyn hK hI (ci := 1) rfl (Or.inl ⟨1, rfl⟩)) (sc_X1_self _ X H.size _ _ _ hw) (lw_V q704 q706 qs15 q85 q707) (by decide +kernel) ⟨rfl, rfl, by (dsimp only; omega), by (dsimp only; omega)⟩ (av_W [] 8 (Nat.le_of_ble_eq_true rfl)) dX1_term_2_2 rfl rfl ⟨by omega, by omega⟩) (fun r1 μ2 hw => ?_)
  refine hx_istore_n (L' := [(2, aI r1), (0, aR (some (cX_a X 0))), (1, aI l1)]) C dX1_term_2_5 rfl (by decide) rfl ?_
  refine hx_aload_n C dX1_term_2_6 1 rfl rfl ?_
  refine cx_getS (μ := μ2) (v := aR (some (cX_a X 20))) C hK 1 0 rfl in_X1 (by decide) q125 rfl rfl rfl dX1_term_2_7 ?_
  refine hx_iload_n C dX1_term_2_10 0 rfl rfl ?_
  obtain ⟨hx3, hw⟩ := hw
  refine cx_iald (μ := μ2) (f := kI μ2 20) C hK (Or.inl ⟨8, rfl⟩) hx3.1 hx3.2 (by decide) dX1_term_2_11 ?_
  obtain ⟨hr4, hw⟩ := hw
  refine hx_if_ne (tgt := 43) C dX1_term_2_12 (by decide) hr4 (fun h => ?_) (fun h => ?_)
  · have hw := hw.1 h
    refine hx_aload_n C dX1_term_2_43 1 rfl rfl ?_
    refine cx_getS (μ := μ2) (v := aR (some (cX_a X 20))) C hK 1 0 rfl in_X1 (by decide) q125 rfl rfl rfl dX1_term_2_44 ?_
    refine hx_iload_n C dX1_term_2_47 0 rfl rfl ?_
    obtain ⟨hx5, hw⟩ := hw
    refine cx_iald (μ := μ2) (f := kI μ2 20) C hK (Or.inl ⟨8, rfl⟩) hx5.1 hx5.2 (by decide) dX1_term_2_48 ?_
    refine fun H locs hI ls hl => cx_ri (S := []) hI hl (fun _ h => h) (cr_SN (As := [toV (aI (kI μ2 20 (r1).toNat))]) (rest := []) C hK hI hl 1 (sc_X0_isName _ X H.size _ _ _ hw) (List.mem_of_getElem? (i := 23) rfl) q258 q84 q259 (by decide +kernel) ⟨rfl, rfl, by (dsimp only; omega), by (dsimp only; omega)⟩ (av_W [] 8 (Nat.le_of_ble_eq_true rfl)) dX1_term_2_49 rfl rfl ⟨by omega, by omega⟩) (fun r6 μ7 hw => ?_)
    obtain ⟨hr8, hw⟩ := hw
    refine hx_if_eq (tgt := 71) C dX1_term_2_52 (by decide) hr8 (fun h => ?_) (fun h => ?_)
    · have hw := hw.1 h
      refine hx_aload_n C dX1_term_2_71 1 rfl rfl ?_
      refine cx_getS (μ := μ7) (v := aR (some (cX_a X 20))) C hK 1 0 rfl in_X1 (by decide) q125 rfl rfl rfl dX1_term_2_72 ?_
      refine hx_iload_n C dX1_term_2_75 0 rfl rfl ?_
      obtain ⟨hx9, hw⟩ := hw
      refine cx_iald (μ := μ7) (f := kI μ7 20) C hK (Or.inl ⟨8, rfl⟩) hx9.1 hx9.2 (by decide) dX1_term_2_76 ?_
      obtain ⟨b10, hu11, hw⟩ := hw
      refine fun H locs hI ls hl => cx_rr (S := []) hI hl (fun _ h => h) (cr_SN (As := [toV (aI (kI μ7 20 (r1).toNat))]) (rest := []) C hK hI hl 1 (sc_X0_signOf _ X H.size _ b10 _ _ hw) (List.mem_of_getElem? (i := 24) rfl) q400 q84 q401 (by decide +kernel) ⟨rfl, rfl, by (dsimp only; omega), by (dsimp only; omega)⟩ (av_W [] 8 (Nat.le_of_ble_eq_true rfl)) dX1_term_2_77 rfl rfl ⟨by omega, by omega⟩) (fun r12 μ13 hw => ?_)
      obtain hb : (0 + b10) + (b - b10) ≤ (zz_R Z).cells ∧ (0 + 5 * b10) + 5 * (b - b10) ≤ (zz_R Z).slots := ⟨by omega, by omega⟩
      refine hx_L [] rfl ?_
      exact sc_X1_term_2_80 hA hB C hK hrc hQ  _ _ _ hw _ _ hb
    · have hw := hw.2 h
      obtain ⟨hu14, hw⟩ := hw
      refine cx_new (fs := fun a => coF_5 (alc μ7 a 6 0) a) C hK 5 6 rfl in_X7 tyX7_ok q652 q388 q94 (by decide) (fun a => cdE_5 alc_t) (cxd_5 _) (by omega) (by omega) dX1_term_2_55 (fun a15 hf16 => ?_)
      have hw := hw a15 hf16
      obtain hb : (0 + 1) + (b - 1) ≤ (zz_R Z).cells ∧ (0 + 1) + 5 * (b - 1) ≤ (zz_R Z).slots := ⟨by omega, by omega⟩
      have ht17 : tg (alc μ7 a15 6 0) a15 = 6 := alc_t
      refine hx_dup C dX1_term_2_58 rfl ?_
      refine hx_aload_n C dX1_term_2_59 1 rfl rfl ?_
      refine cx_getS (μ := (alc μ7 a15 6 0)) (v := aR (some (cX_a X 20))) C hK 1 0 rfl in_X1 (by decide) q125 rfl rfl rfl dX1_term_2_60 ?_
      refine hx_iload_n C dX1_term_2_63 0 rfl rfl ?_
      obtain ⟨hx18, hw⟩ := hw
      refine cx_iald (μ := (alc μ7 a15 6 0)) (f := kI μ7 20) C hK (Or.inl ⟨8, rfl⟩) hx18.1 hx18.2 (by decide) dX1_term_2_64 ?_
      refine fun H locs hI ls hl => cx_rv (S := [aR (some a15)]) hI hl (fun _ h => h) (cr_I (a := a15) (As := [toV (aI (kI μ7 20 (r1).toNat))]) (rest := [toV (aR (some a15))]) C hK hI hl 1 (sc_X7_init _ X H.size _ _ _ _ hw) q810 q390 q94 q391 rfl (by decide +kernel) ⟨rfl, rfl, by (dsimp only; omega), by (dsimp only; omega)⟩ (av_W [aR (some a15)] 8 (Nat.le_of_ble_eq_true rfl)) dX1_term_2_65 rfl rfl ⟨by omega, by omega⟩) (fun μ20 hw => ?_)
      refine hx_goto (tgt := 80) C dX1_term_2_68 (by decide) ?_
      refine hx_L [] rfl ?_
      exact sc_X1_term_2_80 hA hB C hK hrc hQ  _ _ _ hw _ _ hb
  · have hw := hw.2 h
    obtain ⟨hu21, hw⟩ := hw
    refine cx_new (fs := fun a => coF_7 (alc μ2 a 8 0) a) C hK 7 8 rfl in_X9 tyX9_ok q647 q420 q96 (by decide) (fun a => cdE_7 alc_t) (cxd_7 _) (by omega) (by omega) dX1_term_2_15 (fun a22 hf23 => ?_)
    have hw := hw a22 hf23
    obtain hb : (0 + 1) + (b - 1) ≤ (zz_R Z).cells ∧ (0 + 5) + 5 * (b - 1) ≤ (zz_R Z).slots := ⟨by omega, by omega⟩
    have ht24 : tg (alc μ2 a22 8 0) a22 = 8 := alc_t
    refine hx_dup C dX1_term_2_18 rfl ?_
    refine hx_aload_n C dX1_term_2_19 1 rfl rfl ?_
    refine hx_aload_n C dX1_term_2_20 1 rfl rfl ?_
    refine cx_getS (μ := (alc μ2 a22 8 0)) (v := aR (some (cX_a X 21))) C hK 1 1 rfl in_X1 (by decide) q126 rfl rfl rfl dX1_term_2_21 ?_
    refine hx_iload_n C dX1_term_2_24 0 rfl rfl ?_
    obtain ⟨hx25, hw⟩ := hw
    refine cx_iald (μ := (alc μ2 a22 8 0)) (f := kI μ2 21) C hK (Or.inl ⟨9, rfl⟩) hx25.1 hx25.2 (by decide) dX1_term_2_25 ?_
    obtain ⟨b26, hu27, hw⟩ := hw
    refine fun H locs hI ls hl => cx_rr (S := [aR (some a22), aR (some a22)]) hI hl (fun _ h => h) (dr_V (Cn := RX1) (As := [toV (aI (kI μ2 21 (r1).toNat))]) (rest := [toV (aR (some a22)), toV (aR (some a22))]) C hK hI hl 1 (cv_dyn hK hI (ci := 1) rfl (Or.inl ⟨1, rfl⟩)) (hrc b26 _ _ H.size _ hw) (by omega) (by omega) (lw_V q804 q806 qs21 q85 q807) (by decide +kernel) (av_W [aR (some a22), aR (some a22)] 8 (Nat.le_of_ble_eq_true rfl)) dX1_term_2_26 rfl rfl ⟨by omega, by omega⟩) (fun r28 μ29 hw => ?_)
    obtain hb : ((0 + 1) + b26) + ((b - 1) - b26) ≤ (zz_R Z).cells ∧ ((0 + 5) + 5 * b26) + 5 * ((b - 1) - b26) ≤ (zz_R Z).slots := ⟨by omega, by omega⟩
    refine hx_aload_n C dX1_term_2_29 1 rfl rfl ?_
    refine hx_aload_n C dX1_term_2_30 1 rfl rfl ?_
    refine cx_getS (μ := μ29) (v := aR (some (cX_a X 22))) C hK 1 2 rfl in_X1 (by decide) q127 rfl rfl rfl dX1_term_2_31 ?_
    refine hx_iload_n C dX1_term_2_34 0 rfl rfl ?_
    obtain ⟨hx30, hw⟩ := hw
    refine cx_iald (μ := μ29) (f := kI μ29 22) C hK (Or.inl ⟨10, rfl⟩) hx30.1 hx30.2 (by decide) dX1_term_2_35 ?_
    obtain ⟨b31, hu32, hw⟩ := hw
    refine fun H locs hI ls hl => cx_rr (S := [aR r28, aR (some a22), aR (some a22)]) hI hl (fun _ h => h) (dr_V (Cn := RX1) (As := [toV (aI (kI μ29 22 (r1).toNat))]) (rest := [toV (aR r28), toV (aR (some a22)), toV (aR (some a22))]) C hK hI hl 1 (cv_dyn hK hI (ci := 1) rfl (Or.inl ⟨1, rfl⟩)) (hrc b31 _ _ H.size _ hw) (by omega) (by omega) (lw_V q804 q806 qs21 q85 q807) (by decide +kernel) (av_W [aR r28, aR (some a22), aR (some a22)] 8 (Nat.le_of_ble_eq_true rfl)) dX1_term_2_36 rfl rfl ⟨by omega, by omega⟩) (fun r33 μ34 hw => ?_)
    obtain hb : (((0 + 1) + b26) + b31) + (((b - 1) - b26) - b31) ≤ (zz_R Z).cells ∧ (((0 + 5) + 5 * b26) + 5 * b31) + 5 * (((b - 1) - b26) - b31) ≤ (zz_R Z).slots := ⟨by omega, by omega⟩
    refine fun H locs hI ls hl => cx_rv (S := [aR (some a22)]) hI hl (fun _ h => h) (cr_I (a := a22) (As := [toV (aR r28), toV (aR r33)]) (rest := [toV (aR (some a22))]) C hK hI hl 2 (sc_X9_init _ X H.size _ _ _ _ _ hw) q808 q422 q96 q423 rfl (by decide +kernel) ⟨rfl, rfl, by (dsimp only; omega), by (dsimp only; omega)⟩ (av_W [aR (some a22)] 8 (Nat.le_of_ble_eq_true rfl)) dX1_term_2_39 rfl rfl ⟨by omega, by omega⟩) (fun μ36 hw => ?_)
    exact cx_aret C hQ (by omega) (by omega) (Or.inl ⟨_, rfl⟩) hw dX1_term_2_42
def wr_X1_term_2 (X : cX) : Nat → Nat → Int → CM → (Option Nat → CM → Prop) → Prop
  | 0 => fun _ _ _ _ => False
  | d + 1 => wc_X1_term_2 X (wr_X1_term_2 X d)
set_option maxHeartbeats 4000000 in
theorem rr_X1_term_2 (l : Launch) (X : cX) : ∀ d, rmet_X1_term_2 l X (132 + 1 * d) (2642 + 22 * d) (wr_X1_term_2 X d) := by
  intro d
  induction d with
  | zero => intro b l1 μ sz Q h; exact h.elim
  | succ d ih =>
    intro b l1 μ sz Q h
    exact ⟨_, ⟨rfl, rfl, by first | omega | (dsimp only; omega), by first | omega | (dsimp only; omega)⟩, sc_X1_term_2 l X sz Q (by omega) (by omega) ih b l1 μ h⟩
