/-! walks of the component (printed by gen_comp) -/
set_option maxRecDepth 100000
-- ('BinderPress$Work', 'cell', '(III)I')
def wc_X1_cell (X : cX) (l1 : Int) (l2 : Int) (l3 : Int) (μ : CM) (Q : Int → CM → Prop) : Prop := (0 ≤ (kI μ 24 0) ∧ (kI μ 24 0) < 62000) ∧ (0 ≤ (kI μ 24 0) ∧ (kI μ 24 0) < 62000) ∧ (0 ≤ (kI μ 24 0) ∧ (kI μ 24 0) < 62000) ∧ (0 ≤ (kI μ 24 0) ∧ (kI μ 24 0) < 62000) ∧ Q (((kI μ 24 0) + 1) - 1) (pkI (pkI (pkI (pkI (pkI μ 20 ((kI μ 24 0)).toNat l1) 21 ((kI μ 24 0)).toNat l2) 22 ((kI μ 24 0)).toNat l3) 23 ((kI μ 24 0)).toNat (-1)) 24 0 ((kI μ 24 0) + 1))
set_option maxHeartbeats 4000000 in
theorem sc_X1_cell (l : Launch) (X : cX) (sz : Nat) (Q : Int → CM → Prop) (l1 : Int) (l2 : Int) (l3 : Int) (μ : CM) (hw : wc_X1_cell X l1 l2 l3 μ Q) : Met l yX1_cell (ws_ yX1_cell cX1_cell 4 (some .int)) ({ frames := 0, cells := 0, slots := 0, locals := 0 }) (cPc X (([aR (some (cX_a X 0)), aI l1, aI l2, aI l3] : List AV).map toV) μ sz) (cQi X μ sz Q) 0 (0) (cA X μ sz) := by
  refine cx_met2 (rm := ({ frames := 0, cells := 0, slots := 0, locals := 0 })) (As := [aR (some (cX_a X 0)), aI l1, aI l2, aI l3]) (L0 := [(0, aR (some (cX_a X 0))), (1, aI l1), (2, aI l2), (3, aI l3)]) (by decide) rfl (Nat.le_of_ble_eq_true rfl) rfl ?_
  intro Z C hK hsz hR hl0 hin hQ
  subst hsz
  have C : gC Z cX1_cell 4 RX1 (some .int) 0 0 := C
  have hQ : zz_q Z = MQ (zz_b Z) (cQi X μ (zz_s Z).heap.size Q) (zz_a Z) (zz_s Z) (zz_R Z).cells (zz_R Z).slots (cA X μ (zz_s Z).heap.size) := by rw [hR]; exact hQ
  unfold wc_X1_cell at hw
  refine hx_aload_n C dX1_cell_0 0 rfl rfl ?_
  refine cx_getS (μ := μ) (v := aR (some (cX_a X 20))) C hK 1 0 rfl in_X1 (by decide) q125 rfl rfl rfl dX1_cell_1 ?_
  refine hx_aload_n C dX1_cell_4 0 rfl rfl ?_
  refine cx_getS (μ := μ) (v := aI (kI μ 24 0)) C hK 1 4 rfl in_X1 (by decide) q129 rfl rfl rfl dX1_cell_5 ?_
  refine hx_iload_n C dX1_cell_8 1 rfl rfl ?_
  obtain ⟨hx1, hw⟩ := hw
  refine cx_iast (μ := μ) (μ' := (pkI μ 20 ((kI μ 24 0)).toNat l1)) C hK (cu_S 8 rfl (csb_20 X _ _ _) rfl rfl rfl rfl) hx1.1 hx1.2 (by decide) dX1_cell_9 ?_
  refine hx_aload_n C dX1_cell_10 0 rfl rfl ?_
  refine cx_getS (μ := (pkI μ 20 ((kI μ 24 0)).toNat l1)) (v := aR (some (cX_a X 21))) C hK 1 1 rfl in_X1 (by decide) q126 rfl rfl rfl dX1_cell_11 ?_
  refine hx_aload_n C dX1_cell_14 0 rfl rfl ?_
  refine cx_getS (μ := (pkI μ 20 ((kI μ 24 0)).toNat l1)) (v := aI (kI μ 24 0)) C hK 1 4 rfl in_X1 (by decide) q129 rfl rfl rfl dX1_cell_15 ?_
  refine hx_iload_n C dX1_cell_18 2 rfl rfl ?_
  obtain ⟨hx2, hw⟩ := hw
  refine cx_iast (μ := (pkI μ 20 ((kI μ 24 0)).toNat l1)) (μ' := (pkI (pkI μ 20 ((kI μ 24 0)).toNat l1) 21 ((kI μ 24 0)).toNat l2)) C hK (cu_S 9 rfl (csb_21 X _ _ _) rfl rfl rfl rfl) hx2.1 hx2.2 (by decide) dX1_cell_19 ?_
  refine hx_aload_n C dX1_cell_20 0 rfl rfl ?_
  refine cx_getS (μ := (pkI (pkI μ 20 ((kI μ 24 0)).toNat l1) 21 ((kI μ 24 0)).toNat l2)) (v := aR (some (cX_a X 22))) C hK 1 2 rfl in_X1 (by decide) q127 rfl rfl rfl dX1_cell_21 ?_
  refine hx_aload_n C dX1_cell_24 0 rfl rfl ?_
  refine cx_getS (μ := (pkI (pkI μ 20 ((kI μ 24 0)).toNat l1) 21 ((kI μ 24 0)).toNat l2)) (v := aI (kI μ 24 0)) C hK 1 4 rfl in_X1 (by decide) q129 rfl rfl rfl dX1_cell_25 ?_
  refine hx_iload_n C dX1_cell_28 3 rfl rfl ?_
  obtain ⟨hx3, hw⟩ := hw
  refine cx_iast (μ := (pkI (pkI μ 20 ((kI μ 24 0)).toNat l1) 21 ((kI μ 24 0)).toNat l2)) (μ' := (pkI (pkI (pkI μ 20 ((kI μ 24 0)).toNat l1) 21 ((kI μ 24 0)).toNat l2) 22 ((kI μ 24 0)).toNat l3)) C hK (cu_S 10 rfl (csb_22 X _ _ _) rfl rfl rfl rfl) hx3.1 hx3.2 (by decide) dX1_cell_29 ?_
  refine hx_aload_n C dX1_cell_30 0 rfl rfl ?_
  refine cx_getS (μ := (pkI (pkI (pkI μ 20 ((kI μ 24 0)).toNat l1) 21 ((kI μ 24 0)).toNat l2) 22 ((kI μ 24 0)).toNat l3)) (v := aR (some (cX_a X 23))) C hK 1 3 rfl in_X1 (by decide) q128 rfl rfl rfl dX1_cell_31 ?_
  refine hx_aload_n C dX1_cell_34 0 rfl rfl ?_
  refine cx_getS (μ := (pkI (pkI (pkI μ 20 ((kI μ 24 0)).toNat l1) 21 ((kI μ 24 0)).toNat l2) 22 ((kI μ 24 0)).toNat l3)) (v := aI (kI μ 24 0)) C hK 1 4 rfl in_X1 (by decide) q129 rfl rfl rfl dX1_cell_35 ?_
  refine hx_iconst C dX1_cell_38 ?_
  obtain ⟨hx4, hw⟩ := hw
  refine cx_iast (μ := (pkI (pkI (pkI μ 20 ((kI μ 24 0)).toNat l1) 21 ((kI μ 24 0)).toNat l2) 22 ((kI μ 24 0)).toNat l3)) (μ' := (pkI (pkI (pkI (pkI μ 20 ((kI μ 24 0)).toNat l1) 21 ((kI μ 24 0)).toNat l2) 22 ((kI μ 24 0)).toNat l3) 23 ((kI μ 24 0)).toNat (-1))) C hK (cu_S 11 rfl (csb_23 X _ _ _) rfl rfl rfl rfl) hx4.1 hx4.2 (by decide) dX1_cell_39 ?_
  refine hx_aload_n C dX1_cell_40 0 rfl rfl ?_
  refine hx_dup C dX1_cell_41 rfl ?_
  refine cx_getS (μ := (pkI (pkI (pkI (pkI μ 20 ((kI μ 24 0)).toNat l1) 21 ((kI μ 24 0)).toNat l2) 22 ((kI μ 24 0)).toNat l3) 23 ((kI μ 24 0)).toNat (-1))) (v := aI (kI μ 24 0)) C hK 1 4 rfl in_X1 (by decide) q129 rfl rfl rfl dX1_cell_42 ?_
  refine hx_iconst C dX1_cell_45 ?_
  refine hx_iadd C dX1_cell_46 ?_
  refine cx_putS C hK 1 4 (by decide) rfl in_X1 tyX1_ok nmX1 (by decide) q129 rfl rfl rfl (Nat.le_of_ble_eq_true rfl) ⟨rfl, rfl⟩ (csb_24 X _ _) rfl rfl rfl rfl dX1_cell_47 ?_
  refine hx_aload_n C dX1_cell_50 0 rfl rfl ?_
  refine cx_getS (μ := (pkI (pkI (pkI (pkI (pkI μ 20 ((kI μ 24 0)).toNat l1) 21 ((kI μ 24 0)).toNat l2) 22 ((kI μ 24 0)).toNat l3) 23 ((kI μ 24 0)).toNat (-1)) 24 0 ((kI μ 24 0) + 1))) (v := aI ((kI μ 24 0) + 1)) C hK 1 4 rfl in_X1 (by decide) q129 rfl rfl rfl dX1_cell_51 ?_
  refine hx_iconst C dX1_cell_54 ?_
  refine hx_isub C dX1_cell_55 ?_
  exact cx_iret C hQ (by omega) (by omega) rfl hw dX1_cell_56
-- ('BinderPress$Work', 'of', '(LBinderPress$Term;)I')
def rmet_X1_of (l : Launch) (X : cX) (fr lo : Nat) (rc : Option Nat → CM → (Int → CM → Prop) → Prop) : Prop := ∀ (l1 : Option Nat) (μ : CM) (sz : Nat) (Q : Int → CM → Prop), rc l1 μ Q → ∃ rm, crm rm 0 (0) fr lo 4 ∧ Met l yX1_of (ws_ yX1_of cX1_of 4 (some .int)) rm (cPc X (([aR (some (cX_a X 0)), aR l1] : List AV).map toV) μ sz) (cQi X μ sz Q) 0 (0) (cA X μ sz)
def wc_X1_of_67 (X : cX) (rc : Option Nat → CM → (Int → CM → Prop) → Prop) (Q : Int → CM → Prop) (s1 : Int) (μ : CM) : Prop := wc_X1_cell X s1 (-1) (-1) μ (fun r1 μ2 => Q r1 μ2)
set_option maxHeartbeats 4000000 in
theorem sc_X1_of_67 {Z : zz} {X : cX} {μ0 : CM} {Q : Int → CM → Prop} {rc : Option Nat → CM → (Int → CM → Prop) → Prop} {fr lo : Nat} (hA : 4 ≤ fr) (hB : 93 ≤ lo) (C : gC Z cX1_of 4 RX1 (some .int) (fr + 0) (lo + 0)) (hK : cCt Z X μ0) (hrc : rmet_X1_of (zz_l Z) X fr lo rc) (hQ : zz_q Z = MQ (zz_b Z) (cQi X μ0 (zz_s Z).heap.size Q) (zz_a Z) (zz_s Z) (zz_R Z).cells (zz_R Z).slots (cA X μ0 (zz_s Z).heap.size))  : ∀ s1 μ, wc_X1_of_67 X rc Q s1 μ → hG Z 4 (cI Z X μ0 μ) 0 0 67 [] [aI s1, aR (some (cX_a X 0))] := by
  intro s1 μ hw
  unfold wc_X1_of_67 at hw
  refine hx_iconst C dX1_of_67 ?_
  refine hx_iconst C dX1_of_68 ?_
  refine fun H locs hI ls hl => cx_ri (S := []) hI hl (fun _ h => h) (cr_V (Cn := RX1) (As := [toV (aI s1), toV (aI (-1)), toV (aI (-1))]) (rest := []) C hK hI hl 3 (cv_dyn hK hI (ci := 1) rfl (Or.inl ⟨1, rfl⟩)) (sc_X1_cell _ X H.size _ _ _ _ _ hw) (lw_V q648 q650 qs12 q85 q651) (by decide +kernel) ⟨rfl, rfl, by (dsimp only; omega), by (dsimp only; omega)⟩ (av_W [] 8 (Nat.le_of_ble_eq_true rfl)) dX1_of_69 rfl rfl ⟨by omega, by omega⟩) (fun r1 μ2 hw => ?_)
  exact cx_iret C hQ (by omega) (by omega) rfl hw dX1_of_72
def wc_X1_of (X : cX) (rc : Option Nat → CM → (Int → CM → Prop) → Prop) (l1 : Option Nat) (μ : CM) (Q : Int → CM → Prop) : Prop := (∃ a1, l1 = some a1 ∧ (5 ≤ tg μ a1 ∧ tg μ a1 ≤ 8) ∧ ((tg μ a1 = 8 → rc (oR μ a1 0) μ (fun r5 μ6 => tg μ6 a1 = 8 ∧ rc (oR μ6 a1 1) μ6 (fun r8 μ9 => wc_X1_cell X 0 r5 r8 μ9 (fun r10 μ11 => Q r10 μ11)))) ∧ (¬ tg μ a1 = 8 → (5 ≤ tg μ a1 ∧ tg μ a1 ≤ 8) ∧ ((tg μ a1 = 6 → wc_X1_of_67 X rc  Q (oI μ a1 0) μ) ∧ (¬ tg μ a1 = 6 → (tg μ a1 = 7 ∧ ∃ a15, (oR μ a1 0) = some a15 ∧ (tg μ a15 = 13 ∨ tg μ a15 = 14) ∧ wc_J0_charAt X a15 0 μ (fun r17 μ18 => wc_X1_of_67 X rc  Q r17 μ18)))))))
set_option maxHeartbeats 4000000 in
theorem sc_X1_of (l : Launch) (X : cX) (sz : Nat) (Q : Int → CM → Prop) {rc : Option Nat → CM → (Int → CM → Prop) → Prop} {fr lo : Nat} (hA : 4 ≤ fr) (hB : 93 ≤ lo) (hrc : rmet_X1_of l X fr lo rc) (l1 : Option Nat) (μ : CM) (hw : wc_X1_of X rc l1 μ Q) : Met l yX1_of (ws_ yX1_of cX1_of 4 (some .int)) ({ frames := (fr + 0), cells := 0, slots := 0, locals := (lo + 0) }) (cPc X (([aR (some (cX_a X 0)), aR l1] : List AV).map toV) μ sz) (cQi X μ sz Q) 0 (0) (cA X μ sz) := by
  refine cx_met2 (rm := ({ frames := (fr + 0), cells := 0, slots := 0, locals := (lo + 0) })) (As := [aR (some (cX_a X 0)), aR l1]) (L0 := [(0, aR (some (cX_a X 0))), (1, aR l1)]) (by decide) rfl (Nat.le_of_ble_eq_true rfl) rfl ?_
  intro Z C hK hsz hR hl0 hin hQ
  subst hsz
  have C : gC Z cX1_of 4 RX1 (some .int) (fr + 0) (lo + 0) := C
  rw [← hl0] at hrc
  have hQ : zz_q Z = MQ (zz_b Z) (cQi X μ (zz_s Z).heap.size Q) (zz_a Z) (zz_s Z) (zz_R Z).cells (zz_R Z).slots (cA X μ (zz_s Z).heap.size) := by rw [hR]; exact hQ
  unfold wc_X1_of at hw
  refine hx_aload_n C dX1_of_0 1 rfl rfl ?_
  obtain ⟨a1, ha2, hw⟩ := hw
  rw [ha2]
  obtain ⟨hi3, hw⟩ := hw
  rcases (show tg μ a1 = 8 ∨ (tg μ a1 = 6 ∨ tg μ a1 = 7 ∨ tg μ a1 = 5) by omega) with h | h | h | h
  · have ht4 := h
    have hw := hw.1 h
    refine cx_instY C hK (ci := 7) rfl (Or.inr (cdE_7 ht4)) q647 dX1_of_1 ?_
    refine hx_if_eq (tgt := 36) C dX1_of_4 (by decide) (by decide) (fun h => ?_) (fun h => ?_)
    · exact absurd h (by decide)
    · skip
      refine hx_aload_n C dX1_of_7 1 rfl rfl ?_
      refine cx_cast C hK (ci := 7) rfl (Or.inr (cdE_7 ht4)) q647 dX1_of_8 ?_
      refine hx_astore_n (L' := [(2, aR (some a1)), (0, aR (some (cX_a X 0))), (1, aR (some a1))]) C dX1_of_11 rfl (by decide) rfl ?_
      refine hx_aload_n C dX1_of_12 1 rfl rfl ?_
      refine hx_aload_n C dX1_of_13 0 rfl rfl ?_
      refine cx_getN (μ := μ) (v := aR (oR μ a1 0)) C hK 7 0 rfl in_X9 (by decide) (List.mem_of_getElem? (i := 20) rfl) rfl (cdE_7 ht4) rfl dX1_of_14 ?_
      refine fun H locs hI ls hl => cx_ri (S := []) hI hl (fun _ h => h) (dr_V (Cn := RX1) (As := [toV (aR (oR μ a1 0))]) (rest := []) C hK hI hl 1 (cv_dyn hK hI (ci := 1) rfl (Or.inl ⟨1, rfl⟩)) (hrc _ _ H.size _ hw) (by omega) (by omega) (lw_V q643 q645 qs11 q85 q646) (by decide +kernel) (av_W [] 8 (Nat.le_of_ble_eq_true rfl)) dX1_of_17 rfl rfl ⟨by omega, by omega⟩) (fun r5 μ6 hw => ?_)
      refine hx_istore_n (L' := [(3, aI r5), (2, aR (some a1)), (0, aR (some (cX_a X 0))), (1, aR (some a1))]) C dX1_of_20 rfl (by decide) rfl ?_
      refine hx_aload_n C dX1_of_21 2 rfl rfl ?_
      refine hx_iconst C dX1_of_22 ?_
      refine hx_iload_n C dX1_of_23 0 rfl rfl ?_
      refine hx_aload_n C dX1_of_24 2 rfl rfl ?_
      refine hx_aload_n C dX1_of_25 1 rfl rfl ?_
      obtain ⟨ht7, hw⟩ := hw
      refine cx_getN (μ := μ6) (v := aR (oR μ6 a1 1)) C hK 7 1 rfl in_X9 (by decide) (List.mem_of_getElem? (i := 21) rfl) rfl (cdE_7 ht7) rfl dX1_of_26 ?_
      refine fun H locs hI ls hl => cx_ri (S := [aI r5, aI 0, aR (some (cX_a X 0))]) hI hl (fun _ h => h) (dr_V (Cn := RX1) (As := [toV (aR (oR μ6 a1 1))]) (rest := [toV (aI r5), toV (aI 0), toV (aR (some (cX_a X 0)))]) C hK hI hl 1 (cv_dyn hK hI (ci := 1) rfl (Or.inl ⟨1, rfl⟩)) (hrc _ _ H.size _ hw) (by omega) (by omega) (lw_V q643 q645 qs11 q85 q646) (by decide +kernel) (av_W [aI r5, aI 0, aR (some (cX_a X 0))] 8 (Nat.le_of_ble_eq_true rfl)) dX1_of_29 rfl rfl ⟨by omega, by omega⟩) (fun r8 μ9 hw => ?_)
      refine fun H locs hI ls hl => cx_ri (S := []) hI hl (fun _ h => h) (cr_V (Cn := RX1) (As := [toV (aI 0), toV (aI r5), toV (aI r8)]) (rest := []) C hK hI hl 3 (cv_dyn hK hI (ci := 1) rfl (Or.inl ⟨1, rfl⟩)) (sc_X1_cell _ X H.size _ _ _ _ _ hw) (lw_V q648 q650 qs12 q85 q651) (by decide +kernel) ⟨rfl, rfl, by (dsimp only; omega), by (dsimp only; omega)⟩ (av_W [] 8 (Nat.le_of_ble_eq_true rfl)) dX1_of_32 rfl rfl ⟨by omega, by omega⟩) (fun r10 μ11 hw => ?_)
      exact cx_iret C hQ (by omega) (by omega) rfl hw dX1_of_35
  · have hw := hw.2 (by omega)
    refine cx_instN C hK (ci := 5) (nm := "BinderPress$Put") rfl (Or.inr (cdE_5 h)) q647 (List.mem_of_getElem? (i := 1) rfl) dX1_of_1 ?_
    refine hx_if_eq (tgt := 36) C dX1_of_4 (by decide) (by decide) (fun h => ?_) (fun h => ?_)
    · skip
      refine hx_aload_n C dX1_of_36 0 rfl rfl ?_
      refine hx_aload_n C dX1_of_37 1 rfl rfl ?_
      obtain ⟨hi12, hw⟩ := hw
      rcases (show tg μ a1 = 6 ∨ (tg μ a1 = 7 ∨ tg μ a1 = 8 ∨ tg μ a1 = 5) by omega) with h | h | h | h
      · have ht13 := h
        have hw := hw.1 h
        refine cx_instY C hK (ci := 5) rfl (Or.inr (cdE_5 ht13)) q652 dX1_of_38 ?_
        refine hx_if_eq (tgt := 56) C dX1_of_41 (by decide) (by decide) (fun h => ?_) (fun h => ?_)
        · exact absurd h (by decide)
        · skip
          refine hx_aload_n C dX1_of_44 1 rfl rfl ?_
          refine cx_cast C hK (ci := 5) rfl (Or.inr (cdE_5 ht13)) q652 dX1_of_45 ?_
          refine hx_astore_n (L' := [(2, aR (some a1)), (0, aR (some (cX_a X 0))), (1, aR (some a1))]) C dX1_of_48 rfl (by decide) rfl ?_
          refine hx_aload_n C dX1_of_49 0 rfl rfl ?_
          refine cx_getN (μ := μ) (v := aI (oI μ a1 0)) C hK 5 0 rfl in_X7 (by decide) (List.mem_of_getElem? (i := 18) rfl) rfl (cdE_5 ht13) rfl dX1_of_50 ?_
          refine hx_goto (tgt := 67) C dX1_of_53 (by decide) ?_
          refine hx_L [] rfl ?_
          exact sc_X1_of_67 hA hB C hK hrc hQ  _ _ hw
      · have hw := hw.2 (by omega)
        refine cx_instN C hK (ci := 6) (nm := "BinderPress$Name") rfl (Or.inr (cdE_6 h)) q652 (List.mem_of_getElem? (i := 3) rfl) dX1_of_38 ?_
        refine hx_if_eq (tgt := 56) C dX1_of_41 (by decide) (by decide) (fun h => ?_) (fun h => ?_)
        · skip
          refine hx_aload_n C dX1_of_56 1 rfl rfl ?_
          obtain ⟨ht14, hw⟩ := hw
          refine cx_cast C hK (ci := 6) rfl (Or.inr (cdE_6 ht14)) q653 dX1_of_57 ?_
          refine cx_getN (μ := μ) (v := aR (oR μ a1 0)) C hK 6 0 rfl in_X8 (by decide) (List.mem_of_getElem? (i := 19) rfl) rfl (cdE_6 ht14) rfl dX1_of_60 ?_
          refine hx_iconst C dX1_of_63 ?_
          obtain ⟨a15, ha16, hw⟩ := hw
          rw [ha16]
          obtain ⟨ht19, hw⟩ := hw
          refine fun H locs hI ls hl => cx_ri (S := [aR (some (cX_a X 0))]) hI hl (fun _ h => h) (cr_V (Cn := RJ0) (As := [toV (aI 0)]) (rest := [toV (aR (some (cX_a X 0)))]) C hK hI hl 1 (cv_str hK hI ht19) (sc_J0_charAt _ X H.size _ _ _ _ hw) (lw_V q654 q655 q656 q88 q657) (by decide +kernel) ⟨rfl, rfl, by (dsimp only; omega), by (dsimp only; omega)⟩ (av_W [aR (some (cX_a X 0))] 8 (Nat.le_of_ble_eq_true rfl)) dX1_of_64 rfl rfl ⟨by omega, by omega⟩) (fun r17 μ18 hw => ?_)
          refine hx_L [] rfl ?_
          exact sc_X1_of_67 hA hB C hK hrc hQ  _ _ hw
        · exact absurd h (by decide)
      · have hw := hw.2 (by omega)
        refine cx_instN C hK (ci := 7) (nm := "BinderPress$Name") rfl (Or.inr (cdE_7 h)) q652 (List.mem_of_getElem? (i := 6) rfl) dX1_of_38 ?_
        refine hx_if_eq (tgt := 56) C dX1_of_41 (by decide) (by decide) (fun h => ?_) (fun h => ?_)
        · skip
          refine hx_aload_n C dX1_of_56 1 rfl rfl ?_
          obtain ⟨ht14, hw⟩ := hw
          refine cx_cast C hK (ci := 6) rfl (Or.inr (cdE_6 ht14)) q653 dX1_of_57 ?_
          refine cx_getN (μ := μ) (v := aR (oR μ a1 0)) C hK 6 0 rfl in_X8 (by decide) (List.mem_of_getElem? (i := 19) rfl) rfl (cdE_6 ht14) rfl dX1_of_60 ?_
          refine hx_iconst C dX1_of_63 ?_
          obtain ⟨a15, ha16, hw⟩ := hw
          rw [ha16]
          obtain ⟨ht19, hw⟩ := hw
          refine fun H locs hI ls hl => cx_ri (S := [aR (some (cX_a X 0))]) hI hl (fun _ h => h) (cr_V (Cn := RJ0) (As := [toV (aI 0)]) (rest := [toV (aR (some (cX_a X 0)))]) C hK hI hl 1 (cv_str hK hI ht19) (sc_J0_charAt _ X H.size _ _ _ _ hw) (lw_V q654 q655 q656 q88 q657) (by decide +kernel) ⟨rfl, rfl, by (dsimp only; omega), by (dsimp only; omega)⟩ (av_W [aR (some (cX_a X 0))] 8 (Nat.le_of_ble_eq_true rfl)) dX1_of_64 rfl rfl ⟨by omega, by omega⟩) (fun r17 μ18 hw => ?_)
          refine hx_L [] rfl ?_
          exact sc_X1_of_67 hA hB C hK hrc hQ  _ _ hw
        · exact absurd h (by decide)
      · have hw := hw.2 (by omega)
        refine cx_instN C hK (ci := 4) (nm := "BinderPress$Name") rfl (Or.inr (cdE_4 h)) q652 (List.mem_of_getElem? (i := 9) rfl) dX1_of_38 ?_
        refine hx_if_eq (tgt := 56) C dX1_of_41 (by decide) (by decide) (fun h => ?_) (fun h => ?_)
        · skip
          refine hx_aload_n C dX1_of_56 1 rfl rfl ?_
          obtain ⟨ht14, hw⟩ := hw
          refine cx_cast C hK (ci := 6) rfl (Or.inr (cdE_6 ht14)) q653 dX1_of_57 ?_
          refine cx_getN (μ := μ) (v := aR (oR μ a1 0)) C hK 6 0 rfl in_X8 (by decide) (List.mem_of_getElem? (i := 19) rfl) rfl (cdE_6 ht14) rfl dX1_of_60 ?_
          refine hx_iconst C dX1_of_63 ?_
          obtain ⟨a15, ha16, hw⟩ := hw
          rw [ha16]
          obtain ⟨ht19, hw⟩ := hw
          refine fun H locs hI ls hl => cx_ri (S := [aR (some (cX_a X 0))]) hI hl (fun _ h => h) (cr_V (Cn := RJ0) (As := [toV (aI 0)]) (rest := [toV (aR (some (cX_a X 0)))]) C hK hI hl 1 (cv_str hK hI ht19) (sc_J0_charAt _ X H.size _ _ _ _ hw) (lw_V q654 q655 q656 q88 q657) (by decide +kernel) ⟨rfl, rfl, by (dsimp only; omega), by (dsimp only; omega)⟩ (av_W [aR (some (cX_a X 0))] 8 (Nat.le_of_ble_eq_true rfl)) dX1_of_64 rfl rfl ⟨by omega, by omega⟩) (fun r17 μ18 hw => ?_)
          refine hx_L [] rfl ?_
          exact sc_X1_of_67 hA hB C hK hrc hQ  _ _ hw
        · exact absurd h (by decide)
    · exact absurd h (by decide)
  · have hw := hw.2 (by omega)
    refine cx_instN C hK (ci := 6) (nm := "BinderPress$Put") rfl (Or.inr (cdE_6 h)) q647 (List.mem_of_getElem? (i := 4) rfl) dX1_of_1 ?_
    refine hx_if_eq (tgt := 36) C dX1_of_4 (by decide) (by decide) (fun h => ?_) (fun h => ?_)
    · skip
      refine hx_aload_n C dX1_of_36 0 rfl rfl ?_
      refine hx_aload_n C dX1_of_37 1 rfl rfl ?_
      obtain ⟨hi12, hw⟩ := hw
      rcases (show tg μ a1 = 6 ∨ (tg μ a1 = 7 ∨ tg μ a1 = 8 ∨ tg μ a1 = 5) by omega) with h | h | h | h
      · have ht13 := h
        have hw := hw.1 h
        refine cx_instY C hK (ci := 5) rfl (Or.inr (cdE_5 ht13)) q652 dX1_of_38 ?_
        refine hx_if_eq (tgt := 56) C dX1_of_41 (by decide) (by decide) (fun h => ?_) (fun h => ?_)
        · exact absurd h (by decide)
        · skip
          refine hx_aload_n C dX1_of_44 1 rfl rfl ?_
          refine cx_cast C hK (ci := 5) rfl (Or.inr (cdE_5 ht13)) q652 dX1_of_45 ?_
          refine hx_astore_n (L' := [(2, aR (some a1)), (0, aR (some (cX_a X 0))), (1, aR (some a1))]) C dX1_of_48 rfl (by decide) rfl ?_
          refine hx_aload_n C dX1_of_49 0 rfl rfl ?_
          refine cx_getN (μ := μ) (v := aI (oI μ a1 0)) C hK 5 0 rfl in_X7 (by decide) (List.mem_of_getElem? (i := 18) rfl) rfl (cdE_5 ht13) rfl dX1_of_50 ?_
          refine hx_goto (tgt := 67) C dX1_of_53 (by decide) ?_
          refine hx_L [] rfl ?_
          exact sc_X1_of_67 hA hB C hK hrc hQ  _ _ hw
      · have hw := hw.2 (by omega)
        refine cx_instN C hK (ci := 6) (nm := "BinderPress$Name") rfl (Or.inr (cdE_6 h)) q652 (List.mem_of_getElem? (i := 3) rfl) dX1_of_38 ?_
        refine hx_if_eq (tgt := 56) C dX1_of_41 (by decide) (by decide) (fun h => ?_) (fun h => ?_)
        · skip
          refine hx_aload_n C dX1_of_56 1 rfl rfl ?_
          obtain ⟨ht14, hw⟩ := hw
          refine cx_cast C hK (ci := 6) rfl (Or.inr (cdE_6 ht14)) q653 dX1_of_57 ?_
          refine cx_getN (μ := μ) (v := aR (oR μ a1 0)) C hK 6 0 rfl in_X8 (by decide) (List.mem_of_getElem? (i := 19) rfl) rfl (cdE_6 ht14) rfl dX1_of_60 ?_
          refine hx_iconst C dX1_of_63 ?_
          obtain ⟨a15, ha16, hw⟩ := hw
          rw [ha16]
          obtain ⟨ht19, hw⟩ := hw
          refine fun H locs hI ls hl => cx_ri (S := [aR (some (cX_a X 0))]) hI hl (fun _ h => h) (cr_V (Cn := RJ0) (As := [toV (aI 0)]) (rest := [toV (aR (some (cX_a X 0)))]) C hK hI hl 1 (cv_str hK hI ht19) (sc_J0_charAt _ X H.size _ _ _ _ hw) (lw_V q654 q655 q656 q88 q657) (by decide +kernel) ⟨rfl, rfl, by (dsimp only; omega), by (dsimp only; omega)⟩ (av_W [aR (some (cX_a X 0))] 8 (Nat.le_of_ble_eq_true rfl)) dX1_of_64 rfl rfl ⟨by omega, by omega⟩) (fun r17 μ18 hw => ?_)
          refine hx_L [] rfl ?_
          exact sc_X1_of_67 hA hB C hK hrc hQ  _ _ hw
        · exact absurd h (by decide)
      · have hw := hw.2 (by omega)
        refine cx_instN C hK (ci := 7) (nm := "BinderPress$Name") rfl (Or.inr (cdE_7 h)) q652 (List.mem_of_getElem? (i := 6) rfl) dX1_of_38 ?_
        refine hx_if_eq (tgt := 56) C dX1_of_41 (by decide) (by decide) (fun h => ?_) (fun h => ?_)
        · skip
          refine hx_aload_n C dX1_of_56 1 rfl rfl ?_
          obtain ⟨ht14, hw⟩ := hw
          refine cx_cast C hK (ci := 6) rfl (Or.inr (cdE_6 ht14)) q653 dX1_of_57 ?_
          refine cx_getN (μ := μ) (v := aR (oR μ a1 0)) C hK 6 0 rfl in_X8 (by decide) (List.mem_of_getElem? (i := 19) rfl) rfl (cdE_6 ht14) rfl dX1_of_60 ?_
          refine hx_iconst C dX1_of_63 ?_
          obtain ⟨a15, ha16, hw⟩ := hw
          rw [ha16]
          obtain ⟨ht19, hw⟩ := hw
          refine fun H locs hI ls hl => cx_ri (S := [aR (some (cX_a X 0))]) hI hl (fun _ h => h) (cr_V (Cn := RJ0) (As := [toV (aI 0)]) (rest := [toV (aR (some (cX_a X 0)))]) C hK hI hl 1 (cv_str hK hI ht19) (sc_J0_charAt _ X H.size _ _ _ _ hw) (lw_V q654 q655 q656 q88 q657) (by decide +kernel) ⟨rfl, rfl, by (dsimp only; omega), by (dsimp only; omega)⟩ (av_W [aR (some (cX_a X 0))] 8 (Nat.le_of_ble_eq_true rfl)) dX1_of_64 rfl rfl ⟨by omega, by omega⟩) (fun r17 μ18 hw => ?_)
          refine hx_L [] rfl ?_
          exact sc_X1_of_67 hA hB C hK hrc hQ  _ _ hw
        · exact absurd h (by decide)
      · have hw := hw.2 (by omega)
        refine cx_instN C hK (ci := 4) (nm := "BinderPress$Name") rfl (Or.inr (cdE_4 h)) q652 (List.mem_of_getElem? (i := 9) rfl) dX1_of_38 ?_
        refine hx_if_eq (tgt := 56) C dX1_of_41 (by decide) (by decide) (fun h => ?_) (fun h => ?_)
        · skip
          refine hx_aload_n C dX1_of_56 1 rfl rfl ?_
          obtain ⟨ht14, hw⟩ := hw
          refine cx_cast C hK (ci := 6) rfl (Or.inr (cdE_6 ht14)) q653 dX1_of_57 ?_
          refine cx_getN (μ := μ) (v := aR (oR μ a1 0)) C hK 6 0 rfl in_X8 (by decide) (List.mem_of_getElem? (i := 19) rfl) rfl (cdE_6 ht14) rfl dX1_of_60 ?_
          refine hx_iconst C dX1_of_63 ?_
          obtain ⟨a15, ha16, hw⟩ := hw
          rw [ha16]
          obtain ⟨ht19, hw⟩ := hw
          refine fun H locs hI ls hl => cx_ri (S := [aR (some (cX_a X 0))]) hI hl (fun _ h => h) (cr_V (Cn := RJ0) (As := [toV (aI 0)]) (rest := [toV (aR (some (cX_a X 0)))]) C hK hI hl 1 (cv_str hK hI ht19) (sc_J0_charAt _ X H.size _ _ _ _ hw) (lw_V q654 q655 q656 q88 q657) (by decide +kernel) ⟨rfl, rfl, by (dsimp only; omega), by (dsimp only; omega)⟩ (av_W [aR (some (cX_a X 0))] 8 (Nat.le_of_ble_eq_true rfl)) dX1_of_64 rfl rfl ⟨by omega, by omega⟩) (fun r17 μ18 hw => ?_)
          refine hx_L [] rfl ?_
          exact sc_X1_of_67 hA hB C hK hrc hQ  _ _ hw
        · exact absurd h (by decide)
    · exact absurd h (by decide)
  · have hw := hw.2 (by omega)
    refine cx_instN C hK (ci := 4) (nm := "BinderPress$Put") rfl (Or.inr (cdE_4 h)) q647 (List.mem_of_getElem? (i := 11) rfl) dX1_of_1 ?_
    refine hx_if_eq (tgt := 36) C dX1_of_4 (by decide) (by decide) (fun h => ?_) (fun h => ?_)
    · skip
      refine hx_aload_n C dX1_of_36 0 rfl rfl ?_
      refine hx_aload_n C dX1_of_37 1 rfl rfl ?_
      obtain ⟨hi12, hw⟩ := hw
      rcases (show tg μ a1 = 6 ∨ (tg μ a1 = 7 ∨ tg μ a1 = 8 ∨ tg μ a1 = 5) by omega) with h | h | h | h
      · have ht13 := h
        have hw := hw.1 h
        refine cx_instY C hK (ci := 5) rfl (Or.inr (cdE_5 ht13)) q652 dX1_of_38 ?_
        refine hx_if_eq (tgt := 56) C dX1_of_41 (by decide) (by decide) (fun h => ?_) (fun h => ?_)
        · exact absurd h (by decide)
        · skip
          refine hx_aload_n C dX1_of_44 1 rfl rfl ?_
          refine cx_cast C hK (ci := 5) rfl (Or.inr (cdE_5 ht13)) q652 dX1_of_45 ?_
          refine hx_astore_n (L' := [(2, aR (some a1)), (0, aR (some (cX_a X 0))), (1, aR (some a1))]) C dX1_of_48 rfl (by decide) rfl ?_
          refine hx_aload_n C dX1_of_49 0 rfl rfl ?_
          refine cx_getN (μ := μ) (v := aI (oI μ a1 0)) C hK 5 0 rfl in_X7 (by decide) (List.mem_of_getElem? (i := 18) rfl) rfl (cdE_5 ht13) rfl dX1_of_50 ?_
          refine hx_goto (tgt := 67) C dX1_of_53 (by decide) ?_
          refine hx_L [] rfl ?_
          exact sc_X1_of_67 hA hB C hK hrc hQ  _ _ hw
      · have hw := hw.2 (by omega)
        refine cx_instN C hK (ci := 6) (nm := "BinderPress$Name") rfl (Or.inr (cdE_6 h)) q652 (List.mem_of_getElem? (i := 3) rfl) dX1_of_38 ?_
        refine hx_if_eq (tgt := 56) C dX1_of_41 (by decide) (by decide) (fun h => ?_) (fun h => ?_)
        · skip
          refine hx_aload_n C dX1_of_56 1 rfl rfl ?_
          obtain ⟨ht14, hw⟩ := hw
          refine cx_cast C hK (ci := 6) rfl (Or.inr (cdE_6 ht14)) q653 dX1_of_57 ?_
          refine cx_getN (μ := μ) (v := aR (oR μ a1 0)) C hK 6 0 rfl in_X8 (by decide) (List.mem_of_getElem? (i := 19) rfl) rfl (cdE_6 ht14) rfl dX1_of_60 ?_
          refine hx_iconst C dX1_of_63 ?_
          obtain ⟨a15, ha16, hw⟩ := hw
          rw [ha16]
          obtain ⟨ht19, hw⟩ := hw
          refine fun H locs hI ls hl => cx_ri (S := [aR (some (cX_a X 0))]) hI hl (fun _ h => h) (cr_V (Cn := RJ0) (As := [toV (aI 0)]) (rest := [toV (aR (some (cX_a X 0)))]) C hK hI hl 1 (cv_str hK hI ht19) (sc_J0_charAt _ X H.size _ _ _ _ hw) (lw_V q654 q655 q656 q88 q657) (by decide +kernel) ⟨rfl, rfl, by (dsimp only; omega), by (dsimp only; omega)⟩ (av_W [aR (some (cX_a X 0))] 8 (Nat.le_of_ble_eq_true rfl)) dX1_of_64 rfl rfl ⟨by omega, by omega⟩) (fun r17 μ18 hw => ?_)
          refine hx_L [] rfl ?_
          exact sc_X1_of_67 hA hB C hK hrc hQ  _ _ hw
        · exact absurd h (by decide)
      · have hw := hw.2 (by omega)
        refine cx_instN C hK (ci := 7) (nm := "BinderPress$Name") rfl (Or.inr (cdE_7 h)) q652 (List.mem_of_getElem? (i := 6) rfl) dX1_of_38 ?_
        refine hx_if_eq (tgt := 56) C dX1_of_41 (by decide) (by decide) (fun h => ?_) (fun h => ?_)
        · skip
          refine hx_aload_n C dX1_of_56 1 rfl rfl ?_
          obtain ⟨ht14, hw⟩ := hw
          refine cx_cast C hK (ci := 6) rfl (Or.inr (cdE_6 ht14)) q653 dX1_of_57 ?_
          refine cx_getN (μ := μ) (v := aR (oR μ a1 0)) C hK 6 0 rfl in_X8 (by decide) (List.mem_of_getElem? (i := 19) rfl) rfl (cdE_6 ht14) rfl dX1_of_60 ?_
          refine hx_iconst C dX1_of_63 ?_
          obtain ⟨a15, ha16, hw⟩ := hw
          rw [ha16]
          obtain ⟨ht19, hw⟩ := hw
          refine fun H locs hI ls hl => cx_ri (S := [aR (some (cX_a X 0))]) hI hl (fun _ h => h) (cr_V (Cn := RJ0) (As := [toV (aI 0)]) (rest := [toV (aR (some (cX_a X 0)))]) C hK hI hl 1 (cv_str hK hI ht19) (sc_J0_charAt _ X H.size _ _ _ _ hw) (lw_V q654 q655 q656 q88 q657) (by decide +kernel) ⟨rfl, rfl, by (dsimp only; omega), by (dsimp only; omega)⟩ (av_W [aR (some (cX_a X 0))] 8 (Nat.le_of_ble_eq_true rfl)) dX1_of_64 rfl rfl ⟨by omega, by omega⟩) (fun r17 μ18 hw => ?_)
          refine hx_L [] rfl ?_
          exact sc_X1_of_67 hA hB C hK hrc hQ  _ _ hw
        · exact absurd h (by decide)
      · have hw := hw.2 (by omega)
        refine cx_instN C hK (ci := 4) (nm := "BinderPress$Name") rfl (Or.inr (cdE_4 h)) q652 (List.mem_of_getElem? (i := 9) rfl) dX1_of_38 ?_
        refine hx_if_eq (tgt := 56) C dX1_of_41 (by decide) (by decide) (fun h => ?_) (fun h => ?_)
        · skip
          refine hx_aload_n C dX1_of_56 1 rfl rfl ?_
          obtain ⟨ht14, hw⟩ := hw
          refine cx_cast C hK (ci := 6) rfl (Or.inr (cdE_6 ht14)) q653 dX1_of_57 ?_
          refine cx_getN (μ := μ) (v := aR (oR μ a1 0)) C hK 6 0 rfl in_X8 (by decide) (List.mem_of_getElem? (i := 19) rfl) rfl (cdE_6 ht14) rfl dX1_of_60 ?_
          refine hx_iconst C dX1_of_63 ?_
          obtain ⟨a15, ha16, hw⟩ := hw
          rw [ha16]
          obtain ⟨ht19, hw⟩ := hw
          refine fun H locs hI ls hl => cx_ri (S := [aR (some (cX_a X 0))]) hI hl (fun _ h => h) (cr_V (Cn := RJ0) (As := [toV (aI 0)]) (rest := [toV (aR (some (cX_a X 0)))]) C hK hI hl 1 (cv_str hK hI ht19) (sc_J0_charAt _ X H.size _ _ _ _ hw) (lw_V q654 q655 q656 q88 q657) (by decide +kernel) ⟨rfl, rfl, by (dsimp only; omega), by (dsimp only; omega)⟩ (av_W [aR (some (cX_a X 0))] 8 (Nat.le_of_ble_eq_true rfl)) dX1_of_64 rfl rfl ⟨by omega, by omega⟩) (fun r17 μ18 hw => ?_)
          refine hx_L [] rfl ?_
          exact sc_X1_of_67 hA hB C hK hrc hQ  _ _ hw
        · exact absurd h (by decide)
    · exact absurd h (by decide)
def wr_X1_of (X : cX) : Nat → Option Nat → CM → (Int → CM → Prop) → Prop
  | 0 => fun _ _ _ => False
  | d + 1 => wc_X1_of X (wr_X1_of X d)
set_option maxHeartbeats 4000000 in
theorem rr_X1_of (l : Launch) (X : cX) : ∀ d, rmet_X1_of l X (4 + 1 * d) (93 + 23 * d) (wr_X1_of X d) := by
  intro d
  induction d with
  | zero => intro l1 μ sz Q h; exact h.elim
  | succ d ih =>
    intro l1 μ sz Q h
    exact ⟨_, ⟨rfl, rfl, by first | omega | (dsimp only; omega), by first | omega | (dsimp only; omega)⟩, sc_X1_of l X sz Q (by omega) (by omega) ih l1 μ h⟩
-- ('BinderPress$Work', 'begin', '(LBinderPress$Term;Z)V')
def wc_X1_begin (X : cX) (l1 : Option Nat) (l2 : Int) (μ : CM) (Q : CM → Prop) : Prop := wr_X1_of X 130 l1 (pkI μ 24 0 0) (fun r1 μ2 => (l2 = 0 ∨ l2 = 1) ∧ Q (pkI (pkI (pkI (pkI (pkI μ2 25 0 r1) 26 0 l2) 27 0 0) 28 0 0) 29 0 0))
set_option maxHeartbeats 4000000 in
theorem sc_X1_begin (l : Launch) (X : cX) (sz : Nat) (Q : CM → Prop) (l1 : Option Nat) (l2 : Int) (μ : CM) (hw : wc_X1_begin X l1 l2 μ Q) : Met l yX1_begin (ws_ yX1_begin cX1_begin 3 none) ({ frames := 135, cells := 0, slots := 0, locals := 3106 }) (cPc X (([aR (some (cX_a X 0)), aR l1, aI l2] : List AV).map toV) μ sz) (cQv X μ sz Q) 0 (0) (cA X μ sz) := by
  refine cx_met2 (rm := ({ frames := 135, cells := 0, slots := 0, locals := 3106 })) (As := [aR (some (cX_a X 0)), aR l1, aI l2]) (L0 := [(0, aR (some (cX_a X 0))), (1, aR l1), (2, aI l2)]) (by decide) rfl (Nat.le_of_ble_eq_true rfl) rfl ?_
  intro Z C hK hsz hR hl0 hin hQ
  subst hsz
  have C : gC Z cX1_begin 3 RX1 none 135 3106 := C
  have hQ : zz_q Z = MQ (zz_b Z) (cQv X μ (zz_s Z).heap.size Q) (zz_a Z) (zz_s Z) (zz_R Z).cells (zz_R Z).slots (cA X μ (zz_s Z).heap.size) := by rw [hR]; exact hQ
  unfold wc_X1_begin at hw
  refine hx_aload_n C dX1_begin_0 0 rfl rfl ?_
  refine hx_iconst C dX1_begin_1 ?_
  refine cx_putS C hK 1 4 (by decide) rfl in_X1 tyX1_ok nmX1 (by decide) q129 rfl rfl rfl (Nat.le_of_ble_eq_true rfl) ⟨rfl, rfl⟩ (csb_24 X _ _) rfl rfl rfl rfl dX1_begin_2 ?_
  refine hx_aload_n C dX1_begin_5 0 rfl rfl ?_
  refine hx_aload_n C dX1_begin_6 0 rfl rfl ?_
  refine hx_aload_n C dX1_begin_7 1 rfl rfl ?_
  refine fun H locs hI ls hl => cx_ri (S := [aR (some (cX_a X 0))]) hI hl (fun _ h => h) (dr_V (Cn := RX1) (As := [toV (aR l1)]) (rest := [toV (aR (some (cX_a X 0)))]) C hK hI hl 1 (cv_dyn hK hI (ci := 1) rfl (Or.inl ⟨1, rfl⟩)) ((rr_X1_of _ X 130) _ _ H.size _ hw) (by omega) (by omega) (lw_V q643 q645 qs11 q85 q646) (by decide +kernel) (av_W [aR (some (cX_a X 0))] 8 (Nat.le_of_ble_eq_true rfl)) dX1_begin_8 rfl rfl ⟨by omega, by omega⟩) (fun r1 μ2 hw => ?_)
  refine cx_putS C hK 1 5 (by decide) rfl in_X1 tyX1_ok nmX1 (by decide) q130 rfl rfl rfl (Nat.le_of_ble_eq_true rfl) ⟨rfl, rfl⟩ (csb_25 X _ _) rfl rfl rfl rfl dX1_begin_11 ?_
  refine hx_aload_n C dX1_begin_14 0 rfl rfl ?_
  refine hx_iload_n C dX1_begin_15 2 rfl rfl ?_
  obtain ⟨hz3, hw⟩ := hw
  refine cx_putS C hK 1 6 (by decide) rfl in_X1 tyX1_ok nmX1 (by decide) q131 rfl rfl rfl (Nat.le_of_ble_eq_true rfl) ⟨mz_n hz3, mz_f hz3⟩ (csb_26 X _ _) rfl rfl rfl rfl dX1_begin_16 ?_
  refine hx_aload_n C dX1_begin_19 0 rfl rfl ?_
  refine hx_iconst C dX1_begin_20 ?_
  refine cx_putS C hK 1 7 (by decide) rfl in_X1 tyX1_ok nmX1 (by decide) q132 rfl rfl rfl (Nat.le_of_ble_eq_true rfl) ⟨rfl, rfl⟩ (csb_27 X _ _) rfl rfl rfl rfl dX1_begin_21 ?_
  refine hx_aload_n C dX1_begin_24 0 rfl rfl ?_
  refine hx_iconst C dX1_begin_25 ?_
  refine cx_putS C hK 1 8 (by decide) rfl in_X1 tyX1_ok nmX1 (by decide) q134 rfl rfl rfl (Nat.le_of_ble_eq_true rfl) ⟨mz_n (by decide), mz_f (by decide)⟩ (csb_28 X _ _) rfl rfl rfl rfl dX1_begin_26 ?_
  refine hx_aload_n C dX1_begin_29 0 rfl rfl ?_
  refine hx_iconst C dX1_begin_30 ?_
  refine cx_putS C hK 1 9 (by decide) rfl in_X1 tyX1_ok nmX1 (by decide) q136 rfl rfl rfl (Nat.le_of_ble_eq_true rfl) ⟨mz_n (by decide), mz_f (by decide)⟩ (csb_29 X _ _) rfl rfl rfl rfl dX1_begin_31 ?_
  exact cx_vret C hQ (by omega) (by omega) hw dX1_begin_34
-- ('BinderPress$Work', 'self', '(I)I')
def wc_X1_self_2b (X : cX) (P2 : Int → CM → Prop) (Q : Int → CM → Prop) (l2 : Int) (μ : CM) : Prop := (0 ≤ l2 ∧ l2 < 62000) ∧ R32 (kI μ 23 (l2).toNat) ∧ (((kI μ 23 (l2).toNat) = (-1) → Q l2 μ) ∧ (¬ (kI μ 23 (l2).toNat) = (-1) → (0 ≤ l2 ∧ l2 < 62000) ∧ P2 (kI μ 23 (l2).toNat) μ))
set_option maxHeartbeats 4000000 in
theorem sc_X1_self_2b {Z : zz} {X : cX} {μ0 : CM} {Q : Int → CM → Prop} (C : gC Z cX1_self 3 RX1 (some .int) 0 0) (hK : cCt Z X μ0) (hQ : zz_q Z = MQ (zz_b Z) (cQi X μ0 (zz_s Z).heap.size Q) (zz_a Z) (zz_s Z) (zz_R Z).cells (zz_R Z).slots (cA X μ0 (zz_s Z).heap.size)) {P2 : Int → CM → Prop} (hP2 : ∀ l2 μ, P2 l2 μ → hG Z 3 (cI Z X μ0 μ) 0 0 2 [(0, aR (some (cX_a X 0))), (2, aI l2)] [])  : ∀ l2 μ, wc_X1_self_2b X P2 Q l2 μ → hG Z 3 (cI Z X μ0 μ) 0 0 2 [(0, aR (some (cX_a X 0))), (2, aI l2)] [] := by
  intro l2 μ hw
  unfold wc_X1_self_2b at hw
  refine hx_aload_n C dX1_self_2 0 rfl rfl ?_
  refine cx_getS (μ := μ) (v := aR (some (cX_a X 23))) C hK 1 3 rfl in_X1 (by decide) q128 rfl rfl rfl dX1_self_3 ?_
  refine hx_iload_n C dX1_self_6 1 rfl rfl ?_
  obtain ⟨hx1, hw⟩ := hw
  refine cx_iald (μ := μ) (f := kI μ 23) C hK (Or.inl ⟨11, rfl⟩) hx1.1 hx1.2 (by decide) dX1_self_7 ?_
  refine hx_iconst C dX1_self_8 ?_
  obtain ⟨hr2, hw⟩ := hw
  refine hx_icmp_eq (tgt := 22) C dX1_self_9 (by decide) hr2 (by decide) (fun h => ?_) (fun h => ?_)
  · have hw := hw.1 h
    refine hx_iload_n C dX1_self_22 1 rfl rfl ?_
    exact cx_iret C hQ (by omega) (by omega) rfl hw dX1_self_23
  · have hw := hw.2 h
    refine hx_aload_n C dX1_self_12 0 rfl rfl ?_
    refine cx_getS (μ := μ) (v := aR (some (cX_a X 23))) C hK 1 3 rfl in_X1 (by decide) q128 rfl rfl rfl dX1_self_13 ?_
    refine hx_iload_n C dX1_self_16 1 rfl rfl ?_
    obtain ⟨hx3, hw⟩ := hw
    refine cx_iald (μ := μ) (f := kI μ 23) C hK (Or.inl ⟨11, rfl⟩) hx3.1 hx3.2 (by decide) dX1_self_17 ?_
    refine hx_istore_n (L' := [(2, aI (kI μ 23 (l2).toNat)), (0, aR (some (cX_a X 0)))]) C dX1_self_18 rfl (by decide) rfl ?_
    refine hx_goto (tgt := 2) C dX1_self_19 (by decide) ?_
    refine hx_L [1, 0] rfl ?_
    exact hP2 _ _ hw
def wc_X1_self_2 (X : cX) (Q : Int → CM → Prop) (l2 : Int) (μ : CM) : Prop := ∀ P2 : Int → CM → Prop, (∀ l2 μ, wc_X1_self_2b X P2 Q l2 μ → P2 l2 μ) → P2 l2 μ
set_option maxHeartbeats 4000000 in
theorem sc_X1_self_2 {Z : zz} {X : cX} {μ0 : CM} {Q : Int → CM → Prop} (C : gC Z cX1_self 3 RX1 (some .int) 0 0) (hK : cCt Z X μ0) (hQ : zz_q Z = MQ (zz_b Z) (cQi X μ0 (zz_s Z).heap.size Q) (zz_a Z) (zz_s Z) (zz_R Z).cells (zz_R Z).slots (cA X μ0 (zz_s Z).heap.size))  : ∀ l2 μ, wc_X1_self_2 X Q l2 μ → hG Z 3 (cI Z X μ0 μ) 0 0 2 [(0, aR (some (cX_a X 0))), (2, aI l2)] [] := by
  intro l2 μ hw
  exact hw (fun l2 μ => hG Z 3 (cI Z X μ0 μ) 0 0 2 [(0, aR (some (cX_a X 0))), (2, aI l2)] []) (fun l2 μ hw => sc_X1_self_2b C hK hQ (fun _ _ h => h) l2 μ hw)
def wc_X1_self (X : cX) (l1 : Int) (μ : CM) (Q : Int → CM → Prop) : Prop := wc_X1_self_2 X   Q l1 μ
set_option maxHeartbeats 4000000 in
theorem sc_X1_self (l : Launch) (X : cX) (sz : Nat) (Q : Int → CM → Prop) (l1 : Int) (μ : CM) (hw : wc_X1_self X l1 μ Q) : Met l yX1_self (ws_ yX1_self cX1_self 3 (some .int)) ({ frames := 0, cells := 0, slots := 0, locals := 0 }) (cPc X (([aR (some (cX_a X 0)), aI l1] : List AV).map toV) μ sz) (cQi X μ sz Q) 0 (0) (cA X μ sz) := by
  refine cx_met2 (rm := ({ frames := 0, cells := 0, slots := 0, locals := 0 })) (As := [aR (some (cX_a X 0)), aI l1]) (L0 := [(0, aR (some (cX_a X 0))), (1, aI l1)]) (by decide) rfl (Nat.le_of_ble_eq_true rfl) rfl ?_
  intro Z C hK hsz hR hl0 hin hQ
  subst hsz
  have C : gC Z cX1_self 3 RX1 (some .int) 0 0 := C
  have hQ : zz_q Z = MQ (zz_b Z) (cQi X μ (zz_s Z).heap.size Q) (zz_a Z) (zz_s Z) (zz_R Z).cells (zz_R Z).slots (cA X μ (zz_s Z).heap.size) := by rw [hR]; exact hQ
  unfold wc_X1_self at hw
  refine hx_iload_n C dX1_self_0 1 rfl rfl ?_
  refine hx_istore_n (L' := [(2, aI l1), (0, aR (some (cX_a X 0))), (1, aI l1)]) C dX1_self_1 rfl (by decide) rfl ?_
  refine hx_L [1, 0] rfl ?_
  exact sc_X1_self_2 C hK hQ  _ _ hw
-- ('BinderPress$Work', 'spine', '(I)I')
def wc_X1_spine_8b (X : cX) (P8 : Int → Int → CM → Prop) (Q : Int → CM → Prop) (l2 : Int) (l3 : Int) (μ : CM) : Prop := (0 ≤ l3 ∧ l3 < 62000) ∧ R32 (kI μ 20 (l3).toNat) ∧ ((¬ (kI μ 20 (l3).toNat) = 0 → Q l2 μ) ∧ ((kI μ 20 (l3).toNat) = 0 → (0 ≤ l3 ∧ l3 < 62000) ∧ wc_X1_self X (kI μ 21 (l3).toNat) μ (fun r4 μ5 => P8 (l2 + 1) r4 μ5)))
set_option maxHeartbeats 4000000 in
theorem sc_X1_spine_8b {Z : zz} {X : cX} {μ0 : CM} {Q : Int → CM → Prop} (C : gC Z cX1_spine 4 RX1 (some .int) 1 22) (hK : cCt Z X μ0) (hQ : zz_q Z = MQ (zz_b Z) (cQi X μ0 (zz_s Z).heap.size Q) (zz_a Z) (zz_s Z) (zz_R Z).cells (zz_R Z).slots (cA X μ0 (zz_s Z).heap.size)) {P8 : Int → Int → CM → Prop} (hP8 : ∀ l2 l3 μ, P8 l2 l3 μ → hG Z 4 (cI Z X μ0 μ) 0 0 8 [(0, aR (some (cX_a X 0))), (2, aI l2), (3, aI l3)] [])  : ∀ l2 l3 μ, wc_X1_spine_8b X P8 Q l2 l3 μ → hG Z 4 (cI Z X μ0 μ) 0 0 8 [(0, aR (some (cX_a X 0))), (2, aI l2), (3, aI l3)] [] := by
  intro l2 l3 μ hw
  unfold wc_X1_spine_8b at hw
  refine hx_aload_n C dX1_spine_8 0 rfl rfl ?_
  refine cx_getS (μ := μ) (v := aR (some (cX_a X 20))) C hK 1 0 rfl in_X1 (by decide) q125 rfl rfl rfl dX1_spine_9 ?_
  refine hx_iload_n C dX1_spine_12 2 rfl rfl ?_
  obtain ⟨hx1, hw⟩ := hw
  refine cx_iald (μ := μ) (f := kI μ 20) C hK (Or.inl ⟨8, rfl⟩) hx1.1 hx1.2 (by decide) dX1_spine_13 ?_
  obtain ⟨hr2, hw⟩ := hw
  refine hx_if_ne (tgt := 34) C dX1_spine_14 (by decide) hr2 (fun h => ?_) (fun h => ?_)
  · have hw := hw.1 h
    refine hx_iload_n C dX1_spine_34 1 rfl rfl ?_
    exact cx_iret C hQ (by omega) (by omega) rfl hw dX1_spine_35
  · have hw := hw.2 h
    refine hx_aload_n C dX1_spine_17 0 rfl rfl ?_
    refine hx_aload_n C dX1_spine_18 0 rfl rfl ?_
    refine cx_getS (μ := μ) (v := aR (some (cX_a X 21))) C hK 1 1 rfl in_X1 (by decide) q126 rfl rfl rfl dX1_spine_19 ?_
    refine hx_iload_n C dX1_spine_22 2 rfl rfl ?_
    obtain ⟨hx3, hw⟩ := hw
    refine cx_iald (μ := μ) (f := kI μ 21) C hK (Or.inl ⟨9, rfl⟩) hx3.1 hx3.2 (by decide) dX1_spine_23 ?_
    refine fun H locs hI ls hl => cx_ri (S := []) hI hl (fun _ h => h) (cr_V (Cn := RX1) (As := [toV (aI (kI μ 21 (l3).toNat))]) (rest := []) C hK hI hl 1 (cv_dyn hK hI (ci := 1) rfl (Or.inl ⟨1, rfl⟩)) (sc_X1_self _ X H.size _ _ _ hw) (lw_V q704 q706 qs15 q85 q707) (by decide +kernel) ⟨rfl, rfl, Nat.le_of_ble_eq_true rfl, Nat.le_of_ble_eq_true rfl⟩ (av_W [] 8 (Nat.le_of_ble_eq_true rfl)) dX1_spine_24 rfl rfl ⟨by omega, by omega⟩) (fun r4 μ5 hw => ?_)
    refine hx_istore_n (L' := [(3, aI r4), (0, aR (some (cX_a X 0))), (2, aI l2)]) C dX1_spine_27 rfl (by decide) rfl ?_
    refine hx_iinc (L' := [(2, aI (l2 + 1)), (3, aI r4), (0, aR (some (cX_a X 0)))]) C dX1_spine_28 2 rfl (by decide) rfl ?_
    refine hx_goto (tgt := 8) C dX1_spine_31 (by decide) ?_
    refine hx_L [2, 0, 1] rfl ?_
    exact hP8 _ _ _ hw
def wc_X1_spine_8 (X : cX) (Q : Int → CM → Prop) (l2 : Int) (l3 : Int) (μ : CM) : Prop := ∀ P8 : Int → Int → CM → Prop, (∀ l2 l3 μ, wc_X1_spine_8b X P8 Q l2 l3 μ → P8 l2 l3 μ) → P8 l2 l3 μ
set_option maxHeartbeats 4000000 in
theorem sc_X1_spine_8 {Z : zz} {X : cX} {μ0 : CM} {Q : Int → CM → Prop} (C : gC Z cX1_spine 4 RX1 (some .int) 1 22) (hK : cCt Z X μ0) (hQ : zz_q Z = MQ (zz_b Z) (cQi X μ0 (zz_s Z).heap.size Q) (zz_a Z) (zz_s Z) (zz_R Z).cells (zz_R Z).slots (cA X μ0 (zz_s Z).heap.size))  : ∀ l2 l3 μ, wc_X1_spine_8 X Q l2 l3 μ → hG Z 4 (cI Z X μ0 μ) 0 0 8 [(0, aR (some (cX_a X 0))), (2, aI l2), (3, aI l3)] [] := by
  intro l2 l3 μ hw
  exact hw (fun l2 l3 μ => hG Z 4 (cI Z X μ0 μ) 0 0 8 [(0, aR (some (cX_a X 0))), (2, aI l2), (3, aI l3)] []) (fun l2 l3 μ hw => sc_X1_spine_8b C hK hQ (fun _ _ _ h => h) l2 l3 μ hw)
def wc_X1_spine (X : cX) (l1 : Int) (μ : CM) (Q : Int → CM → Prop) : Prop := wc_X1_self X l1 μ (fun r1 μ2 => wc_X1_spine_8 X   Q 0 r1 μ2)
set_option maxHeartbeats 4000000 in
theorem sc_X1_spine (l : Launch) (X : cX) (sz : Nat) (Q : Int → CM → Prop) (l1 : Int) (μ : CM) (hw : wc_X1_spine X l1 μ Q) : Met l yX1_spine (ws_ yX1_spine cX1_spine 4 (some .int)) ({ frames := 1, cells := 0, slots := 0, locals := 22 }) (cPc X (([aR (some (cX_a X 0)), aI l1] : List AV).map toV) μ sz) (cQi X μ sz Q) 0 (0) (cA X μ sz) := by
  refine cx_met2 (rm := ({ frames := 1, cells := 0, slots := 0, locals := 22 })) (As := [aR (some (cX_a X 0)), aI l1]) (L0 := [(0, aR (some (cX_a X 0))), (1, aI l1)]) (by decide) rfl (Nat.le_of_ble_eq_true rfl) rfl ?_
  intro Z C hK hsz hR hl0 hin hQ
  subst hsz
  have C : gC Z cX1_spine 4 RX1 (some .int) 1 22 := C
  have hQ : zz_q Z = MQ (zz_b Z) (cQi X μ (zz_s Z).heap.size Q) (zz_a Z) (zz_s Z) (zz_R Z).cells (zz_R Z).slots (cA X μ (zz_s Z).heap.size) := by rw [hR]; exact hQ
  unfold wc_X1_spine at hw
  refine hx_iconst C dX1_spine_0 ?_
  refine hx_istore_n (L' := [(2, aI 0), (0, aR (some (cX_a X 0))), (1, aI l1)]) C dX1_spine_1 rfl (by decide) rfl ?_
  refine hx_aload_n C dX1_spine_2 1 rfl rfl ?_
  refine hx_iload_n C dX1_spine_3 2 rfl rfl ?_
  refine fun H locs hI ls hl => cx_ri (S := []) hI hl (fun _ h => h) (cr_V (Cn := RX1) (As := [toV (aI l1)]) (rest := []) C hK hI hl 1 (cv_dyn hK hI (ci := 1) rfl (Or.inl ⟨1, rfl⟩)) (sc_X1_self _ X H.size _ _ _ hw) (lw_V q704 q706 qs15 q85 q707) (by decide +kernel) ⟨rfl, rfl, Nat.le_of_ble_eq_true rfl, Nat.le_of_ble_eq_true rfl⟩ (av_W [] 8 (Nat.le_of_ble_eq_true rfl)) dX1_spine_4 rfl rfl ⟨by omega, by omega⟩) (fun r1 μ2 hw => ?_)
  refine hx_istore_n (L' := [(3, aI r1), (2, aI 0), (0, aR (some (cX_a X 0))), (1, aI l1)]) C dX1_spine_7 rfl (by decide) rfl ?_
  refine hx_L [2, 1, 0] rfl ?_
  exact sc_X1_spine_8 C hK hQ  _ _ _ hw
