/-! walks of the component (printed by gen_comp) -/
set_option maxRecDepth 100000
-- ('BinderPress$Work', 'step', '(I)Z')
def rmet_X1_step (l : Launch) (X : cX) (fr lo : Nat) (rc : Int → CM → (Int → CM → Prop) → Prop) : Prop := ∀ (l1 : Int) (μ : CM) (sz : Nat) (Q : Int → CM → Prop), rc l1 μ Q → ∃ rm, crm rm 0 (0) fr lo 8 ∧ Met l yX1_step (ws_ yX1_step cX1_step 8 (some .boolean)) rm (cPc X (([aR (some (cX_a X 0)), aI l1] : List AV).map toV) μ sz) (cQi X μ sz Q) 0 (0) (cA X μ sz)
def wc_X1_step_90 (X : cX) (rc : Int → CM → (Int → CM → Prop) → Prop) (Q : Int → CM → Prop) (l3 : Option Nat) (l5 : Int) (l6 : Int) (s0 : Int) (μ : CM) : Prop := wc_X1_take X l5 l3 l6 s0 μ (fun μ2 => Q 1 μ2)
set_option maxHeartbeats 4000000 in
theorem sc_X1_step_90 {Z : zz} {X : cX} {μ0 : CM} {Q : Int → CM → Prop} {rc : Int → CM → (Int → CM → Prop) → Prop} {fr lo : Nat} (hA : 313 ≤ fr) (hB : 7203 ≤ lo) (C : gC Z cX1_step 8 RX1 (some .boolean) (fr + 0) (lo + 0)) (hK : cCt Z X μ0) (hrc : rmet_X1_step (zz_l Z) X fr lo rc) (hQ : zz_q Z = MQ (zz_b Z) (cQi X μ0 (zz_s Z).heap.size Q) (zz_a Z) (zz_s Z) (zz_R Z).cells (zz_R Z).slots (cA X μ0 (zz_s Z).heap.size))  : ∀ l3 l5 l6 s0 μ, wc_X1_step_90 X rc Q l3 l5 l6 s0 μ → hG Z 8 (cI Z X μ0 μ) 0 0 90 [(0, aR (some (cX_a X 0))), (3, aR l3), (5, aI l5), (6, aI l6)] [aI s0] := by
  intro l3 l5 l6 s0 μ hw
  unfold wc_X1_step_90 at hw
  refine hx_istore (L' := [(7, aI s0), (0, aR (some (cX_a X 0))), (3, aR l3), (5, aI l5), (6, aI l6)]) C dX1_step_90 (by decide) rfl ?_
  refine hx_aload_n C dX1_step_92 1 rfl rfl ?_
  refine hx_iload C dX1_step_93 3 rfl ?_
  refine hx_aload_n C dX1_step_95 2 rfl rfl ?_
  refine hx_iload C dX1_step_96 4 rfl ?_
  refine hx_iload C dX1_step_98 0 rfl ?_
  refine fun H locs hI ls hl => cx_rv (S := []) hI hl (fun _ h => h) (cr_V (Cn := RX1) (As := [toV (aI l5), toV (aR l3), toV (aI l6), toV (aI s0)]) (rest := []) C hK hI hl 4 (cv_dyn hK hI (ci := 1) rfl (Or.inl ⟨1, rfl⟩)) (sc_X1_take _ X H.size _ _ _ _ _ _ hw) (lw_V q776 q778 qs17 q85 q779) (by decide +kernel) ⟨rfl, rfl, by (dsimp only; omega), by (dsimp only; omega)⟩ (av_W [] 8 (Nat.le_of_ble_eq_true rfl)) dX1_step_100 rfl rfl ⟨by omega, by omega⟩) (fun μ2 hw => ?_)
  refine hx_iconst C dX1_step_103 ?_
  exact cx_iret C hQ (by omega) (by omega) (mz_n (by decide)) hw dX1_step_104
def wc_X1_step_66 (X : cX) (rc : Int → CM → (Int → CM → Prop) → Prop) (Q : Int → CM → Prop) (l3 : Option Nat) (l4 : Int) (l5 : Int) (s0 : Int) (μ : CM) : Prop := R32 l4 ∧ ((l4 ≤ 1 → wc_X1_step_90 X rc  Q l3 l5 s0 (-1) μ) ∧ (1 < l4 → wc_X1_down X l5 1 μ (fun r2 μ3 => (0 ≤ r2 ∧ r2 < 62000) ∧ wc_X1_step_90 X rc  Q l3 l5 s0 (kI μ3 22 (r2).toNat) μ3)))
set_option maxHeartbeats 4000000 in
theorem sc_X1_step_66 {Z : zz} {X : cX} {μ0 : CM} {Q : Int → CM → Prop} {rc : Int → CM → (Int → CM → Prop) → Prop} {fr lo : Nat} (hA : 313 ≤ fr) (hB : 7203 ≤ lo) (C : gC Z cX1_step 8 RX1 (some .boolean) (fr + 0) (lo + 0)) (hK : cCt Z X μ0) (hrc : rmet_X1_step (zz_l Z) X fr lo rc) (hQ : zz_q Z = MQ (zz_b Z) (cQi X μ0 (zz_s Z).heap.size Q) (zz_a Z) (zz_s Z) (zz_R Z).cells (zz_R Z).slots (cA X μ0 (zz_s Z).heap.size))  : ∀ l3 l4 l5 s0 μ, wc_X1_step_66 X rc Q l3 l4 l5 s0 μ → hG Z 8 (cI Z X μ0 μ) 0 0 66 [(0, aR (some (cX_a X 0))), (3, aR l3), (4, aI l4), (5, aI l5)] [aI s0] := by
  intro l3 l4 l5 s0 μ hw
  unfold wc_X1_step_66 at hw
  refine hx_istore (L' := [(6, aI s0), (0, aR (some (cX_a X 0))), (3, aR l3), (4, aI l4), (5, aI l5)]) C dX1_step_66 (by decide) rfl ?_
  refine hx_iload C dX1_step_68 3 rfl ?_
  refine hx_iconst C dX1_step_70 ?_
  obtain ⟨hr1, hw⟩ := hw
  refine hx_icmp_le (tgt := 89) C dX1_step_71 (by decide) hr1 (by decide) (fun h => ?_) (fun h => ?_)
  · have hw := hw.1 h
    refine hx_iconst C dX1_step_89 ?_
    refine hx_L [1, 2, 4, 0] rfl ?_
    exact sc_X1_step_90 hA hB C hK hrc hQ  _ _ _ _ _ hw
  · have hw := hw.2 h
    refine hx_aload_n C dX1_step_74 1 rfl rfl ?_
    refine cx_getS (μ := μ) (v := aR (some (cX_a X 22))) C hK 1 2 rfl in_X1 (by decide) q127 rfl rfl rfl dX1_step_75 ?_
    refine hx_aload_n C dX1_step_78 1 rfl rfl ?_
    refine hx_iload C dX1_step_79 4 rfl ?_
    refine hx_iconst C dX1_step_81 ?_
    refine fun H locs hI ls hl => cx_ri (S := [aR (some (cX_a X 22))]) hI hl (fun _ h => h) (cr_V (Cn := RX1) (As := [toV (aI l5), toV (aI 1)]) (rest := [toV (aR (some (cX_a X 22)))]) C hK hI hl 2 (cv_dyn hK hI (ci := 1) rfl (Or.inl ⟨1, rfl⟩)) (sc_X1_down _ X H.size _ _ _ _ hw) (lw_V q708 q710 qs16 q85 q711) (by decide +kernel) ⟨rfl, rfl, by (dsimp only; omega), by (dsimp only; omega)⟩ (av_W [aR (some (cX_a X 22))] 8 (Nat.le_of_ble_eq_true rfl)) dX1_step_82 rfl rfl ⟨by omega, by omega⟩) (fun r2 μ3 hw => ?_)
    obtain ⟨hx4, hw⟩ := hw
    refine cx_iald (μ := μ3) (f := kI μ3 22) C hK (Or.inl ⟨10, rfl⟩) hx4.1 hx4.2 (by decide) dX1_step_85 ?_
    refine hx_goto (tgt := 90) C dX1_step_86 (by decide) ?_
    refine hx_L [1, 2, 4, 0] rfl ?_
    exact sc_X1_step_90 hA hB C hK hrc hQ  _ _ _ _ _ hw
def wc_X1_step_110b (X : cX) (rc : Int → CM → (Int → CM → Prop) → Prop) (P110 : Int → Int → CM → Prop) (Q : Int → CM → Prop) (l1 : Int) (l5 : Int) (μ : CM) : Prop := R32 l5 ∧ ((l5 < 0 → Q 0 μ) ∧ (0 ≤ l5 → wc_X1_down X l1 l5 μ (fun r2 μ3 => (0 ≤ r2 ∧ r2 < 62000) ∧ rc (kI μ3 22 (r2).toNat) μ3 (fun r5 μ6 => R32 r5 ∧ ((r5 = 0 → P110 l1 (l5 + (-1)) μ6) ∧ (¬ r5 = 0 → Q 1 μ6))))))
set_option maxHeartbeats 4000000 in
theorem sc_X1_step_110b {Z : zz} {X : cX} {μ0 : CM} {Q : Int → CM → Prop} {rc : Int → CM → (Int → CM → Prop) → Prop} {fr lo : Nat} (hA : 313 ≤ fr) (hB : 7203 ≤ lo) (C : gC Z cX1_step 8 RX1 (some .boolean) (fr + 0) (lo + 0)) (hK : cCt Z X μ0) (hrc : rmet_X1_step (zz_l Z) X fr lo rc) (hQ : zz_q Z = MQ (zz_b Z) (cQi X μ0 (zz_s Z).heap.size Q) (zz_a Z) (zz_s Z) (zz_R Z).cells (zz_R Z).slots (cA X μ0 (zz_s Z).heap.size)) {P110 : Int → Int → CM → Prop} (hP110 : ∀ l1 l5 μ, P110 l1 l5 μ → hG Z 8 (cI Z X μ0 μ) 0 0 110 [(0, aR (some (cX_a X 0))), (1, aI l1), (5, aI l5)] [])  : ∀ l1 l5 μ, wc_X1_step_110b X rc P110 Q l1 l5 μ → hG Z 8 (cI Z X μ0 μ) 0 0 110 [(0, aR (some (cX_a X 0))), (1, aI l1), (5, aI l5)] [] := by
  intro l1 l5 μ hw
  unfold wc_X1_step_110b at hw
  refine hx_iload C dX1_step_110 2 rfl ?_
  obtain ⟨hr1, hw⟩ := hw
  refine hx_if_lt (tgt := 142) C dX1_step_112 (by decide) hr1 (fun h => ?_) (fun h => ?_)
  · have hw := hw.1 h
    refine hx_iconst C dX1_step_142 ?_
    exact cx_iret C hQ (by omega) (by omega) (mz_n (by decide)) hw dX1_step_143
  · have hw := hw.2 h
    refine hx_aload_n C dX1_step_115 0 rfl rfl ?_
    refine hx_aload_n C dX1_step_116 0 rfl rfl ?_
    refine cx_getS (μ := μ) (v := aR (some (cX_a X 22))) C hK 1 2 rfl in_X1 (by decide) q127 rfl rfl rfl dX1_step_117 ?_
    refine hx_aload_n C dX1_step_120 0 rfl rfl ?_
    refine hx_iload_n C dX1_step_121 1 rfl rfl ?_
    refine hx_iload C dX1_step_122 2 rfl ?_
    refine fun H locs hI ls hl => cx_ri (S := [aR (some (cX_a X 22)), aR (some (cX_a X 0))]) hI hl (fun _ h => h) (cr_V (Cn := RX1) (As := [toV (aI l1), toV (aI l5)]) (rest := [toV (aR (some (cX_a X 22))), toV (aR (some (cX_a X 0)))]) C hK hI hl 2 (cv_dyn hK hI (ci := 1) rfl (Or.inl ⟨1, rfl⟩)) (sc_X1_down _ X H.size _ _ _ _ hw) (lw_V q708 q710 qs16 q85 q711) (by decide +kernel) ⟨rfl, rfl, by (dsimp only; omega), by (dsimp only; omega)⟩ (av_W [aR (some (cX_a X 22)), aR (some (cX_a X 0))] 8 (Nat.le_of_ble_eq_true rfl)) dX1_step_124 rfl rfl ⟨by omega, by omega⟩) (fun r2 μ3 hw => ?_)
    obtain ⟨hx4, hw⟩ := hw
    refine cx_iald (μ := μ3) (f := kI μ3 22) C hK (Or.inl ⟨10, rfl⟩) hx4.1 hx4.2 (by decide) dX1_step_127 ?_
    refine fun H locs hI ls hl => cx_ri (S := []) hI hl (fun _ h => h) (dr_V (Cn := RX1) (As := [toV (aI (kI μ3 22 (r2).toNat))]) (rest := []) C hK hI hl 1 (cv_dyn hK hI (ci := 1) rfl (Or.inl ⟨1, rfl⟩)) (hrc _ _ H.size _ hw) (by omega) (by omega) (lw_V q696 q698 qs13 q85 q699) (by decide +kernel) (av_W [] 8 (Nat.le_of_ble_eq_true rfl)) dX1_step_128 rfl rfl ⟨by omega, by omega⟩) (fun r5 μ6 hw => ?_)
    obtain ⟨hr7, hw⟩ := hw
    refine hx_if_eq (tgt := 136) C dX1_step_131 (by decide) hr7 (fun h => ?_) (fun h => ?_)
    · have hw := hw.1 h
      refine hx_iinc (L' := [(5, aI (l5 + (-1))), (0, aR (some (cX_a X 0))), (1, aI l1)]) C dX1_step_136 2 rfl (by decide) rfl ?_
      refine hx_goto (tgt := 110) C dX1_step_139 (by decide) ?_
      refine hx_L [1, 2, 0] rfl ?_
      exact hP110 _ _ _ hw
    · have hw := hw.2 h
      refine hx_iconst C dX1_step_134 ?_
      exact cx_iret C hQ (by omega) (by omega) (mz_n (by decide)) hw dX1_step_135
def wc_X1_step_110 (X : cX) (rc : Int → CM → (Int → CM → Prop) → Prop) (Q : Int → CM → Prop) (l1 : Int) (l5 : Int) (μ : CM) : Prop := ∀ P110 : Int → Int → CM → Prop, (∀ l1 l5 μ, wc_X1_step_110b X rc P110 Q l1 l5 μ → P110 l1 l5 μ) → P110 l1 l5 μ
set_option maxHeartbeats 4000000 in
theorem sc_X1_step_110 {Z : zz} {X : cX} {μ0 : CM} {Q : Int → CM → Prop} {rc : Int → CM → (Int → CM → Prop) → Prop} {fr lo : Nat} (hA : 313 ≤ fr) (hB : 7203 ≤ lo) (C : gC Z cX1_step 8 RX1 (some .boolean) (fr + 0) (lo + 0)) (hK : cCt Z X μ0) (hrc : rmet_X1_step (zz_l Z) X fr lo rc) (hQ : zz_q Z = MQ (zz_b Z) (cQi X μ0 (zz_s Z).heap.size Q) (zz_a Z) (zz_s Z) (zz_R Z).cells (zz_R Z).slots (cA X μ0 (zz_s Z).heap.size))  : ∀ l1 l5 μ, wc_X1_step_110 X rc Q l1 l5 μ → hG Z 8 (cI Z X μ0 μ) 0 0 110 [(0, aR (some (cX_a X 0))), (1, aI l1), (5, aI l5)] [] := by
  intro l1 l5 μ hw
  exact hw (fun l1 l5 μ => hG Z 8 (cI Z X μ0 μ) 0 0 110 [(0, aR (some (cX_a X 0))), (1, aI l1), (5, aI l5)] []) (fun l1 l5 μ hw => sc_X1_step_110b hA hB C hK hrc hQ (fun _ _ _ h => h) l1 l5 μ hw)
def wc_X1_step (X : cX) (rc : Int → CM → (Int → CM → Prop) → Prop) (l1 : Int) (μ : CM) (Q : Int → CM → Prop) : Prop := wc_X1_spine X l1 μ (fun r1 μ2 => wc_X1_down X l1 r1 μ2 (fun r3 μ4 => (0 ≤ r3 ∧ r3 < 62000) ∧ wc_X0_textOf X (kI μ4 20 (r3).toNat) μ4 (fun r6 μ7 => wc_X1_wants X r6 μ7 (fun r8 μ9 => R32 r8 ∧ R32 r1 ∧ ((r1 < r8 → wc_X1_step_110 X rc  Q l1 (r1 - 1) μ9) ∧ (r8 ≤ r1 → wc_X1_down X l1 (r1 - r8) μ9 (fun r12 μ13 => R32 r8 ∧ ((¬ r8 = 3 → wc_X1_step_66 X rc  Q r6 r8 r12 (-1) μ13) ∧ (r8 = 3 → wc_X1_down X r12 2 μ13 (fun r15 μ16 => (0 ≤ r15 ∧ r15 < 62000) ∧ wc_X1_step_66 X rc  Q r6 r8 r12 (kI μ16 22 (r15).toNat) μ16))))))))))
set_option maxHeartbeats 4000000 in
theorem sc_X1_step (l : Launch) (X : cX) (sz : Nat) (Q : Int → CM → Prop) {rc : Int → CM → (Int → CM → Prop) → Prop} {fr lo : Nat} (hA : 313 ≤ fr) (hB : 7203 ≤ lo) (hrc : rmet_X1_step l X fr lo rc) (l1 : Int) (μ : CM) (hw : wc_X1_step X rc l1 μ Q) : Met l yX1_step (ws_ yX1_step cX1_step 8 (some .boolean)) ({ frames := (fr + 0), cells := 0, slots := 0, locals := (lo + 0) }) (cPc X (([aR (some (cX_a X 0)), aI l1] : List AV).map toV) μ sz) (cQi X μ sz Q) 0 (0) (cA X μ sz) := by
  refine cx_met2 (rm := ({ frames := (fr + 0), cells := 0, slots := 0, locals := (lo + 0) })) (As := [aR (some (cX_a X 0)), aI l1]) (L0 := [(0, aR (some (cX_a X 0))), (1, aI l1)]) (by decide) rfl (Nat.le_of_ble_eq_true rfl) rfl ?_
  intro Z C hK hsz hR hl0 hin hQ
  subst hsz
  have C : gC Z cX1_step 8 RX1 (some .boolean) (fr + 0) (lo + 0) := C
  rw [← hl0] at hrc
  have hQ : zz_q Z = MQ (zz_b Z) (cQi X μ (zz_s Z).heap.size Q) (zz_a Z) (zz_s Z) (zz_R Z).cells (zz_R Z).slots (cA X μ (zz_s Z).heap.size) := by rw [hR]; exact hQ
  unfold wc_X1_step at hw
  refine hx_aload_n C dX1_step_0 0 rfl rfl ?_
  refine hx_iload_n C dX1_step_1 1 rfl rfl ?_
  refine fun H locs hI ls hl => cx_ri (S := []) hI hl (fun _ h => h) (cr_V (Cn := RX1) (As := [toV (aI l1)]) (rest := []) C hK hI hl 1 (cv_dyn hK hI (ci := 1) rfl (Or.inl ⟨1, rfl⟩)) (sc_X1_spine _ X H.size _ _ _ hw) (lw_V q700 q702 qs14 q85 q703) (by decide +kernel) ⟨rfl, rfl, by (dsimp only; omega), by (dsimp only; omega)⟩ (av_W [] 8 (Nat.le_of_ble_eq_true rfl)) dX1_step_2 rfl rfl ⟨by omega, by omega⟩) (fun r1 μ2 hw => ?_)
  refine hx_istore_n (L' := [(2, aI r1), (0, aR (some (cX_a X 0))), (1, aI l1)]) C dX1_step_5 rfl (by decide) rfl ?_
  refine hx_aload_n C dX1_step_6 1 rfl rfl ?_
  refine cx_getS (μ := μ2) (v := aR (some (cX_a X 20))) C hK 1 0 rfl in_X1 (by decide) q125 rfl rfl rfl dX1_step_7 ?_
  refine hx_aload_n C dX1_step_10 1 rfl rfl ?_
  refine hx_iload_n C dX1_step_11 2 rfl rfl ?_
  refine hx_iload_n C dX1_step_12 0 rfl rfl ?_
  refine fun H locs hI ls hl => cx_ri (S := [aR (some (cX_a X 20))]) hI hl (fun _ h => h) (cr_V (Cn := RX1) (As := [toV (aI l1), toV (aI r1)]) (rest := [toV (aR (some (cX_a X 20)))]) C hK hI hl 2 (cv_dyn hK hI (ci := 1) rfl (Or.inl ⟨1, rfl⟩)) (sc_X1_down _ X H.size _ _ _ _ hw) (lw_V q708 q710 qs16 q85 q711) (by decide +kernel) ⟨rfl, rfl, by (dsimp only; omega), by (dsimp only; omega)⟩ (av_W [aR (some (cX_a X 20))] 8 (Nat.le_of_ble_eq_true rfl)) dX1_step_13 rfl rfl ⟨by omega, by omega⟩) (fun r3 μ4 hw => ?_)
  obtain ⟨hx5, hw⟩ := hw
  refine cx_iald (μ := μ4) (f := kI μ4 20) C hK (Or.inl ⟨8, rfl⟩) hx5.1 hx5.2 (by decide) dX1_step_16 ?_
  refine fun H locs hI ls hl => cx_rr (S := []) hI hl (fun _ h => h) (cr_SN (As := [toV (aI (kI μ4 20 (r3).toNat))]) (rest := []) C hK hI hl 1 (sc_X0_textOf _ X H.size _ _ _ hw) (List.mem_of_getElem? (i := 22) rfl) q261 q84 q262 (by decide +kernel) ⟨rfl, rfl, by (dsimp only; omega), by (dsimp only; omega)⟩ (av_W [] 8 (Nat.le_of_ble_eq_true rfl)) dX1_step_17 rfl rfl ⟨by omega, by omega⟩) (fun r6 μ7 hw => ?_)
  refine hx_astore_n (L' := [(3, aR r6), (2, aI r1), (0, aR (some (cX_a X 0))), (1, aI l1)]) C dX1_step_20 rfl (by decide) rfl ?_
  refine hx_aload_n C dX1_step_21 0 rfl rfl ?_
  refine fun H locs hI ls hl => cx_ri (S := []) hI hl (fun _ h => h) (cr_S (As := [toV (aR r6)]) (rest := []) C hK hI hl 1 (sc_X1_wants _ X H.size _ _ _ hw) (lw_S q713 q714 q85 q715) (by decide +kernel) ⟨rfl, rfl, by (dsimp only; omega), by (dsimp only; omega)⟩ (av_W [] 8 (Nat.le_of_ble_eq_true rfl)) dX1_step_22 rfl rfl ⟨by omega, by omega⟩) (fun r8 μ9 hw => ?_)
  refine hx_istore (L' := [(4, aI r8), (3, aR r6), (2, aI r1), (0, aR (some (cX_a X 0))), (1, aI l1)]) C dX1_step_25 (by decide) rfl ?_
  refine hx_iload C dX1_step_27 0 rfl ?_
  refine hx_iload_n C dX1_step_29 2 rfl rfl ?_
  obtain ⟨hr10, hw⟩ := hw
  obtain ⟨hr11, hw⟩ := hw
  refine hx_icmp_gt (tgt := 105) C dX1_step_30 (by decide) hr10 hr11 (fun h => ?_) (fun h => ?_)
  · have hw := hw.1 h
    refine hx_iload_n C dX1_step_105 2 rfl rfl ?_
    refine hx_iconst C dX1_step_106 ?_
    refine hx_isub C dX1_step_107 ?_
    refine hx_istore (L' := [(5, aI (r1 - 1)), (4, aI r8), (3, aR r6), (2, aI r1), (0, aR (some (cX_a X 0))), (1, aI l1)]) C dX1_step_108 (by decide) rfl ?_
    refine hx_L [4, 5, 0] rfl ?_
    exact sc_X1_step_110 hA hB C hK hrc hQ  _ _ _ hw
  · have hw := hw.2 h
    refine hx_aload_n C dX1_step_33 3 rfl rfl ?_
    refine hx_iload_n C dX1_step_34 4 rfl rfl ?_
    refine hx_iload_n C dX1_step_35 2 rfl rfl ?_
    refine hx_iload C dX1_step_36 0 rfl ?_
    refine hx_isub C dX1_step_38 ?_
    refine fun H locs hI ls hl => cx_ri (S := []) hI hl (fun _ h => h) (cr_V (Cn := RX1) (As := [toV (aI l1), toV (aI (r1 - r8))]) (rest := []) C hK hI hl 2 (cv_dyn hK hI (ci := 1) rfl (Or.inl ⟨1, rfl⟩)) (sc_X1_down _ X H.size _ _ _ _ hw) (lw_V q708 q710 qs16 q85 q711) (by decide +kernel) ⟨rfl, rfl, by (dsimp only; omega), by (dsimp only; omega)⟩ (av_W [] 8 (Nat.le_of_ble_eq_true rfl)) dX1_step_39 rfl rfl ⟨by omega, by omega⟩) (fun r12 μ13 hw => ?_)
    refine hx_istore (L' := [(5, aI r12), (4, aI r8), (3, aR r6), (2, aI r1), (0, aR (some (cX_a X 0))), (1, aI l1)]) C dX1_step_42 (by decide) rfl ?_
    refine hx_iload C dX1_step_44 1 rfl ?_
    refine hx_iconst C dX1_step_46 ?_
    obtain ⟨hr14, hw⟩ := hw
    refine hx_icmp_ne (tgt := 65) C dX1_step_47 (by decide) hr14 (by decide) (fun h => ?_) (fun h => ?_)
    · have hw := hw.1 h
      refine hx_iconst C dX1_step_65 ?_
      refine hx_L [4, 2, 1, 0] rfl ?_
      exact sc_X1_step_66 hA hB C hK hrc hQ  _ _ _ _ _ hw
    · have hw := hw.2 h
      refine hx_aload_n C dX1_step_50 4 rfl rfl ?_
      refine cx_getS (μ := μ13) (v := aR (some (cX_a X 22))) C hK 1 2 rfl in_X1 (by decide) q127 rfl rfl rfl dX1_step_51 ?_
      refine hx_aload_n C dX1_step_54 4 rfl rfl ?_
      refine hx_iload C dX1_step_55 0 rfl ?_
      refine hx_iconst C dX1_step_57 ?_
      refine fun H locs hI ls hl => cx_ri (S := [aR (some (cX_a X 22))]) hI hl (fun _ h => h) (cr_V (Cn := RX1) (As := [toV (aI r12), toV (aI 2)]) (rest := [toV (aR (some (cX_a X 22)))]) C hK hI hl 2 (cv_dyn hK hI (ci := 1) rfl (Or.inl ⟨1, rfl⟩)) (sc_X1_down _ X H.size _ _ _ _ hw) (lw_V q708 q710 qs16 q85 q711) (by decide +kernel) ⟨rfl, rfl, by (dsimp only; omega), by (dsimp only; omega)⟩ (av_W [aR (some (cX_a X 22))] 8 (Nat.le_of_ble_eq_true rfl)) dX1_step_58 rfl rfl ⟨by omega, by omega⟩) (fun r15 μ16 hw => ?_)
      obtain ⟨hx17, hw⟩ := hw
      refine cx_iald (μ := μ16) (f := kI μ16 22) C hK (Or.inl ⟨10, rfl⟩) hx17.1 hx17.2 (by decide) dX1_step_61 ?_
      refine hx_goto (tgt := 66) C dX1_step_62 (by decide) ?_
      refine hx_L [4, 2, 1, 0] rfl ?_
      exact sc_X1_step_66 hA hB C hK hrc hQ  _ _ _ _ _ hw
def wr_X1_step (X : cX) : Nat → Int → CM → (Int → CM → Prop) → Prop
  | 0 => fun _ _ _ => False
  | d + 1 => wc_X1_step X (wr_X1_step X d)
set_option maxHeartbeats 4000000 in
theorem rr_X1_step (l : Launch) (X : cX) : ∀ d, rmet_X1_step l X (313 + 1 * d) (7203 + 27 * d) (wr_X1_step X d) := by
  intro d
  induction d with
  | zero => intro l1 μ sz Q h; exact h.elim
  | succ d ih =>
    intro l1 μ sz Q h
    exact ⟨_, ⟨rfl, rfl, by first | omega | (dsimp only; omega), by first | omega | (dsimp only; omega)⟩, sc_X1_step l X sz Q (by omega) (by omega) ih l1 μ h⟩
-- ('BinderPress$Work', 'size', '(II)I')
def rmet_X1_size_2 (l : Launch) (X : cX) (fr lo : Nat) (rc : Int → Int → CM → (Int → CM → Prop) → Prop) : Prop := ∀ (l1 : Int) (l2 : Int) (μ : CM) (sz : Nat) (Q : Int → CM → Prop), rc l1 l2 μ Q → ∃ rm, crm rm 0 (0) fr lo 5 ∧ Met l yX1_size_2 (ws_ yX1_size_2 cX1_size_2 5 (some .int)) rm (cPc X (([aR (some (cX_a X 0)), aI l1, aI l2] : List AV).map toV) μ sz) (cQi X μ sz Q) 0 (0) (cA X μ sz)
def wc_X1_size_2_19 (X : cX) (rc : Int → Int → CM → (Int → CM → Prop) → Prop) (Q : Int → CM → Prop) (μ : CM) : Prop := Q 1 μ
set_option maxHeartbeats 4000000 in
theorem sc_X1_size_2_19 {Z : zz} {X : cX} {μ0 : CM} {Q : Int → CM → Prop} {rc : Int → Int → CM → (Int → CM → Prop) → Prop} {fr lo : Nat} (hA : 1 ≤ fr) (hB : 22 ≤ lo) (C : gC Z cX1_size_2 5 RX1 (some .int) (fr + 0) (lo + 0)) (hK : cCt Z X μ0) (hrc : rmet_X1_size_2 (zz_l Z) X fr lo rc) (hQ : zz_q Z = MQ (zz_b Z) (cQi X μ0 (zz_s Z).heap.size Q) (zz_a Z) (zz_s Z) (zz_R Z).cells (zz_R Z).slots (cA X μ0 (zz_s Z).heap.size))  : ∀ μ, wc_X1_size_2_19 X rc Q μ → hG Z 5 (cI Z X μ0 μ) 0 0 19 [] [] := by
  intro μ hw
  unfold wc_X1_size_2_19 at hw
  refine hx_iconst C dX1_size_2_19 ?_
  exact cx_iret C hQ (by omega) (by omega) rfl hw dX1_size_2_20
def wc_X1_size_2_66 (X : cX) (rc : Int → Int → CM → (Int → CM → Prop) → Prop) (Q : Int → CM → Prop) (s0 : Int) (μ : CM) : Prop := Q s0 μ
set_option maxHeartbeats 4000000 in
theorem sc_X1_size_2_66 {Z : zz} {X : cX} {μ0 : CM} {Q : Int → CM → Prop} {rc : Int → Int → CM → (Int → CM → Prop) → Prop} {fr lo : Nat} (hA : 1 ≤ fr) (hB : 22 ≤ lo) (C : gC Z cX1_size_2 5 RX1 (some .int) (fr + 0) (lo + 0)) (hK : cCt Z X μ0) (hrc : rmet_X1_size_2 (zz_l Z) X fr lo rc) (hQ : zz_q Z = MQ (zz_b Z) (cQi X μ0 (zz_s Z).heap.size Q) (zz_a Z) (zz_s Z) (zz_R Z).cells (zz_R Z).slots (cA X μ0 (zz_s Z).heap.size))  : ∀ s0 μ, wc_X1_size_2_66 X rc Q s0 μ → hG Z 5 (cI Z X μ0 μ) 0 0 66 [] [aI s0] := by
  intro s0 μ hw
  unfold wc_X1_size_2_66 at hw
  exact cx_iret C hQ (by omega) (by omega) rfl hw dX1_size_2_66
def wc_X1_size_2 (X : cX) (rc : Int → Int → CM → (Int → CM → Prop) → Prop) (l1 : Int) (l2 : Int) (μ : CM) (Q : Int → CM → Prop) : Prop := wc_X1_self X l1 μ (fun r1 μ2 => (0 ≤ r1 ∧ r1 < 62000) ∧ R32 (kI μ2 20 (r1).toNat) ∧ ((¬ (kI μ2 20 (r1).toNat) = 0 → wc_X1_size_2_19 X rc  Q μ2) ∧ ((kI μ2 20 (r1).toNat) = 0 → R32 l2 ∧ ((0 < l2 → (0 ≤ r1 ∧ r1 < 62000) ∧ rc (kI μ2 21 (r1).toNat) (l2 - 1) μ2 (fun r7 μ8 => R32 (1 + r7) ∧ R32 l2 ∧ (((1 + r7) ≤ l2 → (0 ≤ r1 ∧ r1 < 62000) ∧ rc (kI μ8 22 (r1).toNat) (l2 - (1 + r7)) μ8 (fun r12 μ13 => wc_X1_size_2_66 X rc  Q ((1 + r7) + r12) μ13)) ∧ (l2 < (1 + r7) → wc_X1_size_2_66 X rc  Q (1 + r7) μ8)))) ∧ (l2 ≤ 0 → wc_X1_size_2_19 X rc  Q μ2)))))
set_option maxHeartbeats 4000000 in
theorem sc_X1_size_2 (l : Launch) (X : cX) (sz : Nat) (Q : Int → CM → Prop) {rc : Int → Int → CM → (Int → CM → Prop) → Prop} {fr lo : Nat} (hA : 1 ≤ fr) (hB : 22 ≤ lo) (hrc : rmet_X1_size_2 l X fr lo rc) (l1 : Int) (l2 : Int) (μ : CM) (hw : wc_X1_size_2 X rc l1 l2 μ Q) : Met l yX1_size_2 (ws_ yX1_size_2 cX1_size_2 5 (some .int)) ({ frames := (fr + 0), cells := 0, slots := 0, locals := (lo + 0) }) (cPc X (([aR (some (cX_a X 0)), aI l1, aI l2] : List AV).map toV) μ sz) (cQi X μ sz Q) 0 (0) (cA X μ sz) := by
  refine cx_met2 (rm := ({ frames := (fr + 0), cells := 0, slots := 0, locals := (lo + 0) })) (As := [aR (some (cX_a X 0)), aI l1, aI l2]) (L0 := [(0, aR (some (cX_a X 0))), (1, aI l1), (2, aI l2)]) (by decide) rfl (Nat.le_of_ble_eq_true rfl) rfl ?_
  intro Z C hK hsz hR hl0 hin hQ
  subst hsz
  have C : gC Z cX1_size_2 5 RX1 (some .int) (fr + 0) (lo + 0) := C
  rw [← hl0] at hrc
  have hQ : zz_q Z = MQ (zz_b Z) (cQi X μ (zz_s Z).heap.size Q) (zz_a Z) (zz_s Z) (zz_R Z).cells (zz_R Z).slots (cA X μ (zz_s Z).heap.size) := by rw [hR]; exact hQ
  unfold wc_X1_size_2 at hw
  refine hx_aload_n C dX1_size_2_0 0 rfl rfl ?_
  refine hx_iload_n C dX1_size_2_1 1 rfl rfl ?_
  refine fun H locs hI ls hl => cx_ri (S := []) hI hl (fun _ h => h) (cr_V (Cn := RX1) (As := [toV (aI l1)]) (rest := []) C hK hI hl 1 (cv_dyn hK hI (ci := 1) rfl (Or.inl ⟨1, rfl⟩)) (sc_X1_self _ X H.size _ _ _ hw) (lw_V q704 q706 qs15 q85 q707) (by decide +kernel) ⟨rfl, rfl, by (dsimp only; omega), by (dsimp only; omega)⟩ (av_W [] 8 (Nat.le_of_ble_eq_true rfl)) dX1_size_2_2 rfl rfl ⟨by omega, by omega⟩) (fun r1 μ2 hw => ?_)
  refine hx_istore_n (L' := [(3, aI r1), (0, aR (some (cX_a X 0))), (1, aI l1), (2, aI l2)]) C dX1_size_2_5 rfl (by decide) rfl ?_
  refine hx_aload_n C dX1_size_2_6 1 rfl rfl ?_
  refine cx_getS (μ := μ2) (v := aR (some (cX_a X 20))) C hK 1 0 rfl in_X1 (by decide) q125 rfl rfl rfl dX1_size_2_7 ?_
  refine hx_iload_n C dX1_size_2_10 0 rfl rfl ?_
  obtain ⟨hx3, hw⟩ := hw
  refine cx_iald (μ := μ2) (f := kI μ2 20) C hK (Or.inl ⟨8, rfl⟩) hx3.1 hx3.2 (by decide) dX1_size_2_11 ?_
  obtain ⟨hr4, hw⟩ := hw
  refine hx_if_ne (tgt := 19) C dX1_size_2_12 (by decide) hr4 (fun h => ?_) (fun h => ?_)
  · have hw := hw.1 h
    refine hx_L [] rfl ?_
    exact sc_X1_size_2_19 hA hB C hK hrc hQ  _ hw
  · have hw := hw.2 h
    refine hx_iload_n C dX1_size_2_15 3 rfl rfl ?_
    obtain ⟨hr5, hw⟩ := hw
    refine hx_if_gt (tgt := 21) C dX1_size_2_16 (by decide) hr5 (fun h => ?_) (fun h => ?_)
    · have hw := hw.1 h
      refine hx_iconst C dX1_size_2_21 ?_
      refine hx_aload_n C dX1_size_2_22 1 rfl rfl ?_
      refine hx_aload_n C dX1_size_2_23 1 rfl rfl ?_
      refine cx_getS (μ := μ2) (v := aR (some (cX_a X 21))) C hK 1 1 rfl in_X1 (by decide) q126 rfl rfl rfl dX1_size_2_24 ?_
      refine hx_iload_n C dX1_size_2_27 0 rfl rfl ?_
      obtain ⟨hx6, hw⟩ := hw
      refine cx_iald (μ := μ2) (f := kI μ2 21) C hK (Or.inl ⟨9, rfl⟩) hx6.1 hx6.2 (by decide) dX1_size_2_28 ?_
      refine hx_iload_n C dX1_size_2_29 3 rfl rfl ?_
      refine hx_iconst C dX1_size_2_30 ?_
      refine hx_isub C dX1_size_2_31 ?_
      refine fun H locs hI ls hl => cx_ri (S := [aI 1]) hI hl (fun _ h => h) (dr_V (Cn := RX1) (As := [toV (aI (kI μ2 21 (r1).toNat)), toV (aI (l2 - 1))]) (rest := [toV (aI 1)]) C hK hI hl 2 (cv_dyn hK hI (ci := 1) rfl (Or.inl ⟨1, rfl⟩)) (hrc _ _ _ H.size _ hw) (by omega) (by omega) (lw_V q790 q792 qs19 q85 q793) (by decide +kernel) (av_W [aI 1] 8 (Nat.le_of_ble_eq_true rfl)) dX1_size_2_32 rfl rfl ⟨by omega, by omega⟩) (fun r7 μ8 hw => ?_)
      refine hx_iadd C dX1_size_2_35 ?_
      refine hx_istore (L' := [(4, aI (1 + r7)), (3, aI r1), (0, aR (some (cX_a X 0))), (1, aI l1), (2, aI l2)]) C dX1_size_2_36 (by decide) rfl ?_
      refine hx_iload C dX1_size_2_38 0 rfl ?_
      refine hx_iload_n C dX1_size_2_40 4 rfl rfl ?_
      obtain ⟨hr9, hw⟩ := hw
      obtain ⟨hr10, hw⟩ := hw
      refine hx_icmp_le (tgt := 49) C dX1_size_2_41 (by decide) hr9 hr10 (fun h => ?_) (fun h => ?_)
      · have hw := hw.1 h
        refine hx_iload C dX1_size_2_49 0 rfl ?_
        refine hx_aload_n C dX1_size_2_51 2 rfl rfl ?_
        refine hx_aload_n C dX1_size_2_52 2 rfl rfl ?_
        refine cx_getS (μ := μ8) (v := aR (some (cX_a X 22))) C hK 1 2 rfl in_X1 (by decide) q127 rfl rfl rfl dX1_size_2_53 ?_
        refine hx_iload_n C dX1_size_2_56 1 rfl rfl ?_
        obtain ⟨hx11, hw⟩ := hw
        refine cx_iald (μ := μ8) (f := kI μ8 22) C hK (Or.inl ⟨10, rfl⟩) hx11.1 hx11.2 (by decide) dX1_size_2_57 ?_
        refine hx_iload_n C dX1_size_2_58 4 rfl rfl ?_
        refine hx_iload C dX1_size_2_59 0 rfl ?_
        refine hx_isub C dX1_size_2_61 ?_
        refine fun H locs hI ls hl => cx_ri (S := [aI (1 + r7)]) hI hl (fun _ h => h) (dr_V (Cn := RX1) (As := [toV (aI (kI μ8 22 (r1).toNat)), toV (aI (l2 - (1 + r7)))]) (rest := [toV (aI (1 + r7))]) C hK hI hl 2 (cv_dyn hK hI (ci := 1) rfl (Or.inl ⟨1, rfl⟩)) (hrc _ _ _ H.size _ hw) (by omega) (by omega) (lw_V q790 q792 qs19 q85 q793) (by decide +kernel) (av_W [aI (1 + r7)] 8 (Nat.le_of_ble_eq_true rfl)) dX1_size_2_62 rfl rfl ⟨by omega, by omega⟩) (fun r12 μ13 hw => ?_)
        refine hx_iadd C dX1_size_2_65 ?_
        refine hx_L [] rfl ?_
        exact sc_X1_size_2_66 hA hB C hK hrc hQ  _ _ hw
      · have hw := hw.2 h
        refine hx_iload C dX1_size_2_44 0 rfl ?_
        refine hx_goto (tgt := 66) C dX1_size_2_46 (by decide) ?_
        refine hx_L [] rfl ?_
        exact sc_X1_size_2_66 hA hB C hK hrc hQ  _ _ hw
    · have hw := hw.2 h
      refine hx_L [] rfl ?_
      exact sc_X1_size_2_19 hA hB C hK hrc hQ  _ hw
def wr_X1_size_2 (X : cX) : Nat → Int → Int → CM → (Int → CM → Prop) → Prop
  | 0 => fun _ _ _ _ => False
  | d + 1 => wc_X1_size_2 X (wr_X1_size_2 X d)
set_option maxHeartbeats 4000000 in
theorem rr_X1_size_2 (l : Launch) (X : cX) : ∀ d, rmet_X1_size_2 l X (1 + 1 * d) (22 + 24 * d) (wr_X1_size_2 X d) := by
  intro d
  induction d with
  | zero => intro l1 l2 μ sz Q h; exact h.elim
  | succ d ih =>
    intro l1 l2 μ sz Q h
    exact ⟨_, ⟨rfl, rfl, by first | omega | (dsimp only; omega), by first | omega | (dsimp only; omega)⟩, sc_X1_size_2 l X sz Q (by omega) (by omega) ih l1 l2 μ h⟩
