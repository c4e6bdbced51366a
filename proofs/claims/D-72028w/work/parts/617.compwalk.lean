/-! walks of the component (printed by gen_comp) -/
set_option maxRecDepth 100000
-- ('BinderPress', 'undo', '()I')
def wc_X0_undo (X : cX) (μ : CM) (Q : Int → CM → Prop) : Prop := R32 (kI μ 5 0) ∧ ((¬ (kI μ 5 0) = 0 → (0 ≤ ((kI μ 5 0) - 1) ∧ ((kI μ 5 0) - 1) < 10) ∧ (0 ≤ ((kI μ 5 0) - 1) ∧ ((kI μ 5 0) - 1) < 10) ∧ (0 ≤ (kI μ 4 (((kI μ 5 0) - 1)).toNat) ∧ (kI μ 4 (((kI μ 5 0) - 1)).toNat) < 4) ∧ (∀ v, (kR μ 3 (((kI μ 5 0) - 1)).toNat) = some v → 5 ≤ tg (pkI μ 5 0 ((kI μ 5 0) - 1)) v ∧ tg (pkI μ 5 0 ((kI μ 5 0) - 1)) v ≤ 8) ∧ (0 ≤ ((kI μ 5 0) - 1) ∧ ((kI μ 5 0) - 1) < 10) ∧ (0 ≤ (kI μ 4 (((kI μ 5 0) - 1)).toNat) ∧ (kI μ 4 (((kI μ 5 0) - 1)).toNat) < 4) ∧ (∀ v, none = some v → tg (pkR (pkI μ 5 0 ((kI μ 5 0) - 1)) 1 ((kI μ 4 (((kI μ 5 0) - 1)).toNat)).toNat (kR μ 3 (((kI μ 5 0) - 1)).toNat)) v = 13 ∨ tg (pkR (pkI μ 5 0 ((kI μ 5 0) - 1)) 1 ((kI μ 4 (((kI μ 5 0) - 1)).toNat)).toNat (kR μ 3 (((kI μ 5 0) - 1)).toNat)) v = 14) ∧ Q ((kI μ 5 0) - 1) (pkR (pkR (pkI μ 5 0 ((kI μ 5 0) - 1)) 1 ((kI μ 4 (((kI μ 5 0) - 1)).toNat)).toNat (kR μ 3 (((kI μ 5 0) - 1)).toNat)) 2 ((kI μ 4 (((kI μ 5 0) - 1)).toNat)).toNat none)) ∧ ((kI μ 5 0) = 0 → Q (-1000000003) μ))
set_option maxHeartbeats 4000000 in
theorem sc_X0_undo (l : Launch) (X : cX) (sz : Nat) (Q : Int → CM → Prop) (μ : CM) (hw : wc_X0_undo X μ Q) : Met l yX0_undo (ws_ yX0_undo cX0_undo 1 (some .int)) ({ frames := 0, cells := 0, slots := 0, locals := 0 }) (cPc X (([aR (some (cX_h X))] : List AV).map toV) μ sz) (cQi X μ sz Q) 0 (0) (cA X μ sz) := by
  refine cx_met2 (rm := ({ frames := 0, cells := 0, slots := 0, locals := 0 })) (As := [aR (some (cX_h X))]) (L0 := [(0, aR (some (cX_h X)))]) (by decide) rfl (Nat.le_of_ble_eq_true rfl) rfl ?_
  intro Z C hK hsz hR hl0 hin hQ
  subst hsz
  have C : gC Z cX0_undo 1 RX0 (some .int) 0 0 := C
  have hQ : zz_q Z = MQ (zz_b Z) (cQi X μ (zz_s Z).heap.size Q) (zz_a Z) (zz_s Z) (zz_R Z).cells (zz_R Z).slots (cA X μ (zz_s Z).heap.size) := by rw [hR]; exact hQ
  unfold wc_X0_undo at hw
  refine hx_aload_n C dX0_undo_0 0 rfl rfl ?_
  refine cx_getS (μ := μ) (v := aI (kI μ 5 0)) C hK 0 5 rfl in_X0 (by decide) q171 rfl rfl rfl dX0_undo_1 ?_
  obtain ⟨hr1, hw⟩ := hw
  refine hx_if_ne (tgt := 10) C dX0_undo_4 (by decide) hr1 (fun h => ?_) (fun h => ?_)
  · have hw := hw.1 h
    refine hx_aload_n C dX0_undo_10 0 rfl rfl ?_
    refine hx_dup C dX0_undo_11 rfl ?_
    refine cx_getS (μ := μ) (v := aI (kI μ 5 0)) C hK 0 5 rfl in_X0 (by decide) q171 rfl rfl rfl dX0_undo_12 ?_
    refine hx_iconst C dX0_undo_15 ?_
    refine hx_isub C dX0_undo_16 ?_
    refine cx_putS C hK 0 5 (by decide) rfl in_X0 tyX0_ok nmX0 (by decide) q171 rfl rfl rfl (Nat.le_of_ble_eq_true rfl) ⟨rfl, rfl⟩ (csb_5 X _ _) rfl rfl rfl rfl dX0_undo_17 ?_
    refine hx_aload_n C dX0_undo_20 0 rfl rfl ?_
    refine cx_getS (μ := (pkI μ 5 0 ((kI μ 5 0) - 1))) (v := aR (some (cX_a X 1))) C hK 0 1 rfl in_X0 (by decide) q167 rfl rfl rfl dX0_undo_21 ?_
    refine hx_aload_n C dX0_undo_24 0 rfl rfl ?_
    refine cx_getS (μ := (pkI μ 5 0 ((kI μ 5 0) - 1))) (v := aR (some (cX_a X 4))) C hK 0 4 rfl in_X0 (by decide) q170 rfl rfl rfl dX0_undo_25 ?_
    refine hx_aload_n C dX0_undo_28 0 rfl rfl ?_
    refine cx_getS (μ := (pkI μ 5 0 ((kI μ 5 0) - 1))) (v := aI ((kI μ 5 0) - 1)) C hK 0 5 rfl in_X0 (by decide) q171 rfl rfl rfl dX0_undo_29 ?_
    obtain ⟨hx2, hw⟩ := hw
    refine cx_iald (μ := (pkI μ 5 0 ((kI μ 5 0) - 1))) (f := kI μ 4) C hK (Or.inl ⟨5, rfl⟩) hx2.1 hx2.2 (by decide) dX0_undo_32 ?_
    refine hx_aload_n C dX0_undo_33 0 rfl rfl ?_
    refine cx_getS (μ := (pkI μ 5 0 ((kI μ 5 0) - 1))) (v := aR (some (cX_a X 3))) C hK 0 3 rfl in_X0 (by decide) q169 rfl rfl rfl dX0_undo_34 ?_
    refine hx_aload_n C dX0_undo_37 0 rfl rfl ?_
    refine cx_getS (μ := (pkI μ 5 0 ((kI μ 5 0) - 1))) (v := aI ((kI μ 5 0) - 1)) C hK 0 5 rfl in_X0 (by decide) q171 rfl rfl rfl dX0_undo_38 ?_
    obtain ⟨hx3, hw⟩ := hw
    refine cx_aald (μ := (pkI μ 5 0 ((kI μ 5 0) - 1))) (f := kR μ 3) C hK 2 rfl (Or.inl ⟨4, rfl⟩) hx3.1 hx3.2 (by decide) dX0_undo_41 ?_
    obtain ⟨hx4, hw⟩ := hw
    obtain ⟨hy5, hw⟩ := hw
    refine cx_aast (μ := (pkI μ 5 0 ((kI μ 5 0) - 1))) (μ' := (pkR (pkI μ 5 0 ((kI μ 5 0) - 1)) 1 ((kI μ 4 (((kI μ 5 0) - 1)).toNat)).toNat (kR μ 3 (((kI μ 5 0) - 1)).toNat))) C hK 2 rfl (cu_S 2 rfl (csb_1 X _ _ _) rfl rfl rfl rfl) (cany_T hy5) hx4.1 hx4.2 (by decide) dX0_undo_42 ?_
    refine hx_aload_n C dX0_undo_43 0 rfl rfl ?_
    refine cx_getS (μ := (pkR (pkI μ 5 0 ((kI μ 5 0) - 1)) 1 ((kI μ 4 (((kI μ 5 0) - 1)).toNat)).toNat (kR μ 3 (((kI μ 5 0) - 1)).toNat))) (v := aR (some (cX_a X 2))) C hK 0 2 rfl in_X0 (by decide) q168 rfl rfl rfl dX0_undo_44 ?_
    refine hx_aload_n C dX0_undo_47 0 rfl rfl ?_
    refine cx_getS (μ := (pkR (pkI μ 5 0 ((kI μ 5 0) - 1)) 1 ((kI μ 4 (((kI μ 5 0) - 1)).toNat)).toNat (kR μ 3 (((kI μ 5 0) - 1)).toNat))) (v := aR (some (cX_a X 4))) C hK 0 4 rfl in_X0 (by decide) q170 rfl rfl rfl dX0_undo_48 ?_
    refine hx_aload_n C dX0_undo_51 0 rfl rfl ?_
    refine cx_getS (μ := (pkR (pkI μ 5 0 ((kI μ 5 0) - 1)) 1 ((kI μ 4 (((kI μ 5 0) - 1)).toNat)).toNat (kR μ 3 (((kI μ 5 0) - 1)).toNat))) (v := aI ((kI μ 5 0) - 1)) C hK 0 5 rfl in_X0 (by decide) q171 rfl rfl rfl dX0_undo_52 ?_
    obtain ⟨hx6, hw⟩ := hw
    refine cx_iald (μ := (pkR (pkI μ 5 0 ((kI μ 5 0) - 1)) 1 ((kI μ 4 (((kI μ 5 0) - 1)).toNat)).toNat (kR μ 3 (((kI μ 5 0) - 1)).toNat))) (f := kI μ 4) C hK (Or.inl ⟨5, rfl⟩) hx6.1 hx6.2 (by decide) dX0_undo_55 ?_
    refine hx_null C dX0_undo_56 ?_
    obtain ⟨hx7, hw⟩ := hw
    obtain ⟨hy8, hw⟩ := hw
    refine cx_aastS (μ := (pkR (pkI μ 5 0 ((kI μ 5 0) - 1)) 1 ((kI μ 4 (((kI μ 5 0) - 1)).toNat)).toNat (kR μ 3 (((kI μ 5 0) - 1)).toNat))) (μ' := (pkR (pkR (pkI μ 5 0 ((kI μ 5 0) - 1)) 1 ((kI μ 4 (((kI μ 5 0) - 1)).toNat)).toNat (kR μ 3 (((kI μ 5 0) - 1)).toNat)) 2 ((kI μ 4 (((kI μ 5 0) - 1)).toNat)).toNat none)) C hK (cu_S 3 rfl (csb_2 X _ _ _) rfl rfl rfl rfl) hy8 hx7.1 hx7.2 (by decide) dX0_undo_57 ?_
    refine hx_aload_n C dX0_undo_58 0 rfl rfl ?_
    refine cx_getS (μ := (pkR (pkR (pkI μ 5 0 ((kI μ 5 0) - 1)) 1 ((kI μ 4 (((kI μ 5 0) - 1)).toNat)).toNat (kR μ 3 (((kI μ 5 0) - 1)).toNat)) 2 ((kI μ 4 (((kI μ 5 0) - 1)).toNat)).toNat none)) (v := aI ((kI μ 5 0) - 1)) C hK 0 5 rfl in_X0 (by decide) q171 rfl rfl rfl dX0_undo_59 ?_
    exact cx_iret C hQ (by omega) (by omega) rfl hw dX0_undo_62
  · have hw := hw.2 h
    refine hx_ldc C (-1000000003) q494 (by decide) dX0_undo_7 ?_
    exact cx_iret C hQ (by omega) (by omega) rfl hw dX0_undo_9
-- ('BinderPress', 'filled', '()I')
def wc_X0_filled_26 (X : cX) (P4 : Int → Int → CM → Prop) (Q : Int → CM → Prop) (l2 : Int) (s0 : Int) (s1 : Int) (μ : CM) : Prop := P4 (io_or s0 s1) (l2 + 1) μ
set_option maxHeartbeats 4000000 in
theorem sc_X0_filled_26 {Z : zz} {X : cX} {μ0 : CM} {Q : Int → CM → Prop} (C : gC Z cX0_filled 3 RX0 (some .int) 0 0) (hK : cCt Z X μ0) (hQ : zz_q Z = MQ (zz_b Z) (cQi X μ0 (zz_s Z).heap.size Q) (zz_a Z) (zz_s Z) (zz_R Z).cells (zz_R Z).slots (cA X μ0 (zz_s Z).heap.size)) {P4 : Int → Int → CM → Prop} (hP4 : ∀ l1 l2 μ, P4 l1 l2 μ → hG Z 3 (cI Z X μ0 μ) 0 0 4 [(0, aR (some (cX_h X))), (1, aI l1), (2, aI l2)] [])  : ∀ l2 s0 s1 μ, wc_X0_filled_26 X P4 Q l2 s0 s1 μ → hG Z 3 (cI Z X μ0 μ) 0 0 26 [(0, aR (some (cX_h X))), (2, aI l2)] [aI s1, aI s0] := by
  intro l2 s0 s1 μ hw
  unfold wc_X0_filled_26 at hw
  refine hx_ior C dX0_filled_26 ?_
  refine hx_istore_n (L' := [(1, aI (io_or s0 s1)), (0, aR (some (cX_h X))), (2, aI l2)]) C dX0_filled_27 rfl (by decide) rfl ?_
  refine hx_iinc (L' := [(2, aI (l2 + 1)), (1, aI (io_or s0 s1)), (0, aR (some (cX_h X)))]) C dX0_filled_28 2 rfl (by decide) rfl ?_
  refine hx_goto (tgt := 4) C dX0_filled_31 (by decide) ?_
  refine hx_L [2, 1, 0] rfl ?_
  exact hP4 _ _ _ hw
def wc_X0_filled_4b (X : cX) (P4 : Int → Int → CM → Prop) (Q : Int → CM → Prop) (l1 : Int) (l2 : Int) (μ : CM) : Prop := R32 l2 ∧ ((4 ≤ l2 → Q l1 μ) ∧ (l2 < 4 → (0 ≤ l2 ∧ l2 < 4) ∧ ((¬ (kR μ 1 (l2).toNat) = none → wc_X0_filled_26 X  P4 Q l2 l1 (io_shl 1 l2) μ) ∧ ((kR μ 1 (l2).toNat) = none → wc_X0_filled_26 X  P4 Q l2 l1 0 μ))))
set_option maxHeartbeats 4000000 in
theorem sc_X0_filled_4b {Z : zz} {X : cX} {μ0 : CM} {Q : Int → CM → Prop} (C : gC Z cX0_filled 3 RX0 (some .int) 0 0) (hK : cCt Z X μ0) (hQ : zz_q Z = MQ (zz_b Z) (cQi X μ0 (zz_s Z).heap.size Q) (zz_a Z) (zz_s Z) (zz_R Z).cells (zz_R Z).slots (cA X μ0 (zz_s Z).heap.size)) {P4 : Int → Int → CM → Prop} (hP4 : ∀ l1 l2 μ, P4 l1 l2 μ → hG Z 3 (cI Z X μ0 μ) 0 0 4 [(0, aR (some (cX_h X))), (1, aI l1), (2, aI l2)] [])  : ∀ l1 l2 μ, wc_X0_filled_4b X P4 Q l1 l2 μ → hG Z 3 (cI Z X μ0 μ) 0 0 4 [(0, aR (some (cX_h X))), (1, aI l1), (2, aI l2)] [] := by
  intro l1 l2 μ hw
  unfold wc_X0_filled_4b at hw
  refine hx_iload_n C dX0_filled_4 2 rfl rfl ?_
  refine hx_iconst C dX0_filled_5 ?_
  obtain ⟨hr1, hw⟩ := hw
  refine hx_icmp_ge (tgt := 34) C dX0_filled_6 (by decide) hr1 (by decide) (fun h => ?_) (fun h => ?_)
  · have hw := hw.1 h
    refine hx_iload_n C dX0_filled_34 1 rfl rfl ?_
    exact cx_iret C hQ (by omega) (by omega) rfl hw dX0_filled_35
  · have hw := hw.2 h
    refine hx_iload_n C dX0_filled_9 1 rfl rfl ?_
    refine hx_aload_n C dX0_filled_10 0 rfl rfl ?_
    refine cx_getS (μ := μ) (v := aR (some (cX_a X 1))) C hK 0 1 rfl in_X0 (by decide) q167 rfl rfl rfl dX0_filled_11 ?_
    refine hx_iload_n C dX0_filled_14 2 rfl rfl ?_
    obtain ⟨hx2, hw⟩ := hw
    refine cx_aald (μ := μ) (f := kR μ 1) C hK 2 rfl (Or.inl ⟨2, rfl⟩) hx2.1 hx2.2 (by decide) dX0_filled_15 ?_
    refine hx_ifnonnull (tgt := 23) C dX0_filled_16 (by decide) (fun h => ?_) (fun h => ?_)
    · have hw := hw.1 h
      refine hx_iconst C dX0_filled_23 ?_
      refine hx_iload_n C dX0_filled_24 2 rfl rfl ?_
      refine hx_ishl C dX0_filled_25 ?_
      refine hx_L [0, 2] rfl ?_
      exact sc_X0_filled_26 C hK hQ hP4 _ _ _ _ hw
    · have hw := hw.2 h
      refine hx_iconst C dX0_filled_19 ?_
      refine hx_goto (tgt := 26) C dX0_filled_20 (by decide) ?_
      refine hx_L [0, 2] rfl ?_
      exact sc_X0_filled_26 C hK hQ hP4 _ _ _ _ hw
def wc_X0_filled_4 (X : cX) (Q : Int → CM → Prop) (l1 : Int) (l2 : Int) (μ : CM) : Prop := ∀ P4 : Int → Int → CM → Prop, (∀ l1 l2 μ, wc_X0_filled_4b X P4 Q l1 l2 μ → P4 l1 l2 μ) → P4 l1 l2 μ
set_option maxHeartbeats 4000000 in
theorem sc_X0_filled_4 {Z : zz} {X : cX} {μ0 : CM} {Q : Int → CM → Prop} (C : gC Z cX0_filled 3 RX0 (some .int) 0 0) (hK : cCt Z X μ0) (hQ : zz_q Z = MQ (zz_b Z) (cQi X μ0 (zz_s Z).heap.size Q) (zz_a Z) (zz_s Z) (zz_R Z).cells (zz_R Z).slots (cA X μ0 (zz_s Z).heap.size))  : ∀ l1 l2 μ, wc_X0_filled_4 X Q l1 l2 μ → hG Z 3 (cI Z X μ0 μ) 0 0 4 [(0, aR (some (cX_h X))), (1, aI l1), (2, aI l2)] [] := by
  intro l1 l2 μ hw
  exact hw (fun l1 l2 μ => hG Z 3 (cI Z X μ0 μ) 0 0 4 [(0, aR (some (cX_h X))), (1, aI l1), (2, aI l2)] []) (fun l1 l2 μ hw => sc_X0_filled_4b C hK hQ (fun _ _ _ h => h) l1 l2 μ hw)
def wc_X0_filled (X : cX) (μ : CM) (Q : Int → CM → Prop) : Prop := wc_X0_filled_4 X   Q 0 0 μ
set_option maxHeartbeats 4000000 in
theorem sc_X0_filled (l : Launch) (X : cX) (sz : Nat) (Q : Int → CM → Prop) (μ : CM) (hw : wc_X0_filled X μ Q) : Met l yX0_filled (ws_ yX0_filled cX0_filled 3 (some .int)) ({ frames := 0, cells := 0, slots := 0, locals := 0 }) (cPc X (([aR (some (cX_h X))] : List AV).map toV) μ sz) (cQi X μ sz Q) 0 (0) (cA X μ sz) := by
  refine cx_met2 (rm := ({ frames := 0, cells := 0, slots := 0, locals := 0 })) (As := [aR (some (cX_h X))]) (L0 := [(0, aR (some (cX_h X)))]) (by decide) rfl (Nat.le_of_ble_eq_true rfl) rfl ?_
  intro Z C hK hsz hR hl0 hin hQ
  subst hsz
  have C : gC Z cX0_filled 3 RX0 (some .int) 0 0 := C
  have hQ : zz_q Z = MQ (zz_b Z) (cQi X μ (zz_s Z).heap.size Q) (zz_a Z) (zz_s Z) (zz_R Z).cells (zz_R Z).slots (cA X μ (zz_s Z).heap.size) := by rw [hR]; exact hQ
  unfold wc_X0_filled at hw
  refine hx_iconst C dX0_filled_0 ?_
  refine hx_istore_n (L' := [(1, aI 0), (0, aR (some (cX_h X)))]) C dX0_filled_1 rfl (by decide) rfl ?_
  refine hx_iconst C dX0_filled_2 ?_
  refine hx_istore_n (L' := [(2, aI 0), (1, aI 0), (0, aR (some (cX_h X)))]) C dX0_filled_3 rfl (by decide) rfl ?_
  refine hx_L [2, 1, 0] rfl ?_
  exact sc_X0_filled_4 C hK hQ  _ _ _ hw
-- ('BinderPress', 'told', '(I)I')
def wc_X0_told (X : cX) (l1 : Int) (μ : CM) (Q : Int → CM → Prop) : Prop := R32 l1 ∧ ((l1 = 0 → Q (kI μ 7 0) μ) ∧ (l1 = 1 → wc_X0_filled X μ (fun r2 μ3 => Q r2 μ3)) ∧ (l1 = 2 → Q (kI μ 5 0) μ) ∧ ((l1 < 0 ∨ 2 < l1) → Q (-1000000002) μ))
set_option maxHeartbeats 4000000 in
theorem sc_X0_told (l : Launch) (X : cX) (sz : Nat) (Q : Int → CM → Prop) (l1 : Int) (μ : CM) (hw : wc_X0_told X l1 μ Q) : Met l yX0_told (ws_ yX0_told cX0_told 2 (some .int)) ({ frames := 1, cells := 0, slots := 0, locals := 22 }) (cPc X (([aR (some (cX_h X)), aI l1] : List AV).map toV) μ sz) (cQi X μ sz Q) 0 (0) (cA X μ sz) := by
  refine cx_met2 (rm := ({ frames := 1, cells := 0, slots := 0, locals := 22 })) (As := [aR (some (cX_h X)), aI l1]) (L0 := [(0, aR (some (cX_h X))), (1, aI l1)]) (by decide) rfl (Nat.le_of_ble_eq_true rfl) rfl ?_
  intro Z C hK hsz hR hl0 hin hQ
  subst hsz
  have C : gC Z cX0_told 2 RX0 (some .int) 1 22 := C
  have hQ : zz_q Z = MQ (zz_b Z) (cQi X μ (zz_s Z).heap.size Q) (zz_a Z) (zz_s Z) (zz_R Z).cells (zz_R Z).slots (cA X μ (zz_s Z).heap.size) := by rw [hR]; exact hQ
  unfold wc_X0_told at hw
  refine hx_iload_n C dX0_told_0 1 rfl rfl ?_
  obtain ⟨hr1, hw⟩ := hw
  rcases (show l1 = 0 ∨ l1 = 1 ∨ l1 = 2 ∨ (l1 < 0 ∨ 2 < l1) by omega) with h | h | h | h
  · have hw := hw.1 h
    refine hx_tableIn (tgt := 28) (off := 27) C 0 dX0_told_1 h (by decide) (by decide) (by decide) rfl (by decide) ?_
    refine hx_aload_n C dX0_told_28 0 rfl rfl ?_
    refine cx_getS (μ := μ) (v := aI (kI μ 7 0)) C hK 0 7 rfl in_X0 (by decide) q173 rfl rfl rfl dX0_told_29 ?_
    exact cx_iret C hQ (by omega) (by omega) rfl hw dX0_told_32
  · have hw := hw.2.1 h
    refine hx_tableIn (tgt := 33) (off := 32) C 1 dX0_told_1 h (by decide) (by decide) (by decide) rfl (by decide) ?_
    refine hx_aload_n C dX0_told_33 0 rfl rfl ?_
    refine fun H locs hI ls hl => cx_ri (S := []) hI hl (fun _ h => h) (cr_V (Cn := RX0) (As := []) (rest := []) C hK hI hl 0 (cv_dyn hK hI (ci := 0) rfl (Or.inl ⟨0, rfl⟩)) (sc_X0_filled _ X H.size _ _ hw) (lw_V q839 q841 qs23 q84 q842) (by decide +kernel) ⟨rfl, rfl, Nat.le_of_ble_eq_true rfl, Nat.le_of_ble_eq_true rfl⟩ (av_W [] 8 (Nat.le_of_ble_eq_true rfl)) dX0_told_34 rfl rfl ⟨by omega, by omega⟩) (fun r2 μ3 hw => ?_)
    exact cx_iret C hQ (by omega) (by omega) rfl hw dX0_told_37
  · have hw := hw.2.2.1 h
    refine hx_tableIn (tgt := 38) (off := 37) C 2 dX0_told_1 h (by decide) (by decide) (by decide) rfl (by decide) ?_
    refine hx_aload_n C dX0_told_38 0 rfl rfl ?_
    refine cx_getS (μ := μ) (v := aI (kI μ 5 0)) C hK 0 5 rfl in_X0 (by decide) q171 rfl rfl rfl dX0_told_39 ?_
    exact cx_iret C hQ (by omega) (by omega) rfl hw dX0_told_42
  · have hw := hw.2.2.2 h
    refine hx_tableOut (tgt := 43) C dX0_told_1 hr1 h (by decide) ?_
    refine hx_ldc C (-1000000002) q208 (by decide) dX0_told_43 ?_
    exact cx_iret C hQ (by omega) (by omega) rfl hw dX0_told_45
-- ('BinderPress', 'written', '(LBinderPress$Term;)Ljava/lang/String;')
def wc_X0_written (X : cX) (b : Nat) (l0 : Option Nat) (μ : CM) (Q : Option Nat → CM → Prop) : Prop := (1 ≤ b ∧ ∀ a2, tg μ a2 = 0 → ∃ b5, b5 ≤ (b - 1) ∧ wc_J9_init X b5 a2 (alc μ a2 12 0) (fun μ8 => (∃ a9, l0 = some a9 ∧ ∃ b11, b11 ≤ ((b - 1) - b5) ∧ wr_V_write X 130 b11 a9 (some a2) μ8 (fun μ14 => (∃ b15, b15 ≤ (((b - 1) - b5) - b11) ∧ tg μ14 a2 = 12 ∧ wc_J9_toString X b15 a2 μ14 (fun r17 μ18 => Q r17 μ18))))))
set_option maxHeartbeats 4000000 in
theorem sc_X0_written (l : Launch) (X : cX) (sz : Nat) (Q : Option Nat → CM → Prop) (b : Nat) (l0 : Option Nat) (μ : CM) (hw : wc_X0_written X b l0 μ Q) : Met l yX0_written (ws_ yX0_written cX0_written 2 (some (.object "java/lang/String"))) ({ frames := 267, cells := b, slots := 5 * b, locals := 5754 }) (cPc X (([aR l0] : List AV).map toV) μ sz) (cQr X μ sz Q) b (5 * b) (cA X μ sz) := by
  refine cx_met2 (rm := ({ frames := 267, cells := b, slots := 5 * b, locals := 5754 })) (As := [aR l0]) (L0 := [(0, aR l0)]) (by decide) rfl (Nat.le_of_ble_eq_true rfl) rfl ?_
  intro Z C hK hsz hR hl0 hin hQ
  subst hsz
  have C : gC Z cX0_written 2 RX0 (some (.object "java/lang/String")) 267 5754 := C
  have hQ : zz_q Z = MQ (zz_b Z) (cQr X μ (zz_s Z).heap.size Q) (zz_a Z) (zz_s Z) (zz_R Z).cells (zz_R Z).slots (cA X μ (zz_s Z).heap.size) := by rw [hR]; exact hQ
  have hb : 0 + b ≤ (zz_R Z).cells ∧ 0 + 5 * b ≤ (zz_R Z).slots := by rw [hR]; exact ⟨by dsimp only; omega, by dsimp only; omega⟩
  unfold wc_X0_written at hw
  obtain ⟨hu1, hw⟩ := hw
  refine cx_new (fs := fun a => coF_11 (alc μ a 12 0) a) C hK 11 12 rfl in_J9 tyJ9_ok q873 q874 q105 (by decide) (fun a => cdE_11 alc_t) (cxd_11 _) (by omega) (by omega) dX0_written_0 (fun a2 hf3 => ?_)
  have hw := hw a2 hf3
  obtain hb : (0 + 1) + (b - 1) ≤ (zz_R Z).cells ∧ (0 + 4) + 5 * (b - 1) ≤ (zz_R Z).slots := ⟨by omega, by omega⟩
  have ht4 : tg (alc μ a2 12 0) a2 = 12 := alc_t
  refine hx_dup C dX0_written_3 rfl ?_
  obtain ⟨b5, hu6, hw⟩ := hw
  refine fun H locs hI ls hl => cx_rv (S := [aR (some a2)]) hI hl (fun _ h => h) (cr_I (a := a2) (As := []) (rest := [toV (aR (some a2))]) C hK hI hl 0 (sc_J9_init _ X H.size _ b5 _ _ hw) q875 q876 q105 q877 rfl (by decide +kernel) ⟨rfl, rfl, Nat.le_of_ble_eq_true rfl, Nat.le_of_ble_eq_true rfl⟩ (av_W [aR (some a2)] 8 (Nat.le_of_ble_eq_true rfl)) dX0_written_4 rfl rfl ⟨by omega, by omega⟩) (fun μ8 hw => ?_)
  obtain hb : ((0 + 1) + b5) + ((b - 1) - b5) ≤ (zz_R Z).cells ∧ ((0 + 4) + 5 * b5) + 5 * ((b - 1) - b5) ≤ (zz_R Z).slots := ⟨by omega, by omega⟩
  refine hx_astore_n (L' := [(1, aR (some a2)), (0, aR l0)]) C dX0_written_7 rfl (by decide) rfl ?_
  refine hx_aload_n C dX0_written_8 1 rfl rfl ?_
  refine hx_aload_n C dX0_written_9 0 rfl rfl ?_
  obtain ⟨a9, ha10, hw⟩ := hw
  rw [ha10]
  obtain ⟨b11, hu12, hw⟩ := hw
  refine fun H locs hI ls hl => cx_rv (S := []) hI hl (fun _ h => h) (dv_write (rest := []) C hK hI hl (rr_V_write _ X 130) hw (by omega) (by omega) (C.w _ q903) (av_W [] 8 (Nat.le_of_ble_eq_true rfl)) dX0_written_10 rfl rfl ⟨by omega, by omega⟩) (fun μ14 hw => ?_)
  obtain hb : (((0 + 1) + b5) + b11) + (((b - 1) - b5) - b11) ≤ (zz_R Z).cells ∧ (((0 + 4) + 5 * b5) + 5 * b11) + 5 * (((b - 1) - b5) - b11) ≤ (zz_R Z).slots := ⟨by omega, by omega⟩
  refine hx_aload_n C dX0_written_13 0 rfl rfl ?_
  obtain ⟨b15, hu16, hw⟩ := hw
  obtain ⟨ht19, hw⟩ := hw
  refine fun H locs hI ls hl => cx_rr (S := []) hI hl (fun _ h => h) (cr_V (Cn := RJ9) (As := []) (rest := []) C hK hI hl 0 (cv_dyn hK hI (ci := 11) rfl (Or.inr (cdE_11 ht19))) (sc_J9_toString _ X H.size _ b15 _ _ hw) (lw_V q1061 q1062 q1063 q105 q1064) (by decide +kernel) ⟨rfl, rfl, Nat.le_of_ble_eq_true rfl, Nat.le_of_ble_eq_true rfl⟩ (av_W [] 8 (Nat.le_of_ble_eq_true rfl)) dX0_written_14 rfl rfl ⟨by omega, by omega⟩) (fun r17 μ18 hw => ?_)
  obtain hb : ((((0 + 1) + b5) + b11) + b15) + ((((b - 1) - b5) - b11) - b15) ≤ (zz_R Z).cells ∧ ((((0 + 4) + 5 * b5) + 5 * b11) + 5 * b15) + 5 * ((((b - 1) - b5) - b11) - b15) ≤ (zz_R Z).slots := ⟨by omega, by omega⟩
  exact cx_aret C hQ (by omega) (by omega) (Or.inl ⟨_, rfl⟩) hw dX0_written_17
-- ('BinderPress', 'at', '(Ljava/lang/CharSequence;I)I')
def wc_X0_at_21 (X : cX) (Q : Int → CM → Prop) (s0 : Int) (μ : CM) : Prop := Q s0 μ
set_option maxHeartbeats 4000000 in
theorem sc_X0_at_21 {Z : zz} {X : cX} {μ0 : CM} {Q : Int → CM → Prop} (C : gC Z cX0_at 2 RX0 (some .int) 4 93) (hK : cCt Z X μ0) (hQ : zz_q Z = MQ (zz_b Z) (cQi X μ0 (zz_s Z).heap.size Q) (zz_a Z) (zz_s Z) (zz_R Z).cells (zz_R Z).slots (cA X μ0 (zz_s Z).heap.size))  : ∀ s0 μ, wc_X0_at_21 X Q s0 μ → hG Z 2 (cI Z X μ0 μ) 0 0 21 [] [aI s0] := by
  intro s0 μ hw
  unfold wc_X0_at_21 at hw
  exact cx_iret C hQ (by omega) (by omega) rfl hw dX0_at_21
def wc_X0_at (X : cX) (l0 : Option Nat) (l1 : Int) (μ : CM) (Q : Int → CM → Prop) : Prop := (∃ a1, l0 = some a1 ∧ (tg μ a1 = 13 ∨ tg μ a1 = 14) ∧ wc_J0_length X a1 μ (fun r3 μ4 => R32 l1 ∧ R32 r3 ∧ ((r3 ≤ l1 → wc_X0_at_21 X   Q (-1) μ4) ∧ (l1 < r3 → (tg μ4 a1 = 13 ∨ tg μ4 a1 = 14) ∧ wc_J0_charAt X a1 l1 μ4 (fun r8 μ9 => wc_X0_at_21 X   Q r8 μ9)))))
set_option maxHeartbeats 4000000 in
theorem sc_X0_at (l : Launch) (X : cX) (sz : Nat) (Q : Int → CM → Prop) (l0 : Option Nat) (l1 : Int) (μ : CM) (hw : wc_X0_at X l0 l1 μ Q) : Met l yX0_at (ws_ yX0_at cX0_at 2 (some .int)) ({ frames := 4, cells := 0, slots := 0, locals := 93 }) (cPc X (([aR l0, aI l1] : List AV).map toV) μ sz) (cQi X μ sz Q) 0 (0) (cA X μ sz) := by
  refine cx_met2 (rm := ({ frames := 4, cells := 0, slots := 0, locals := 93 })) (As := [aR l0, aI l1]) (L0 := [(0, aR l0), (1, aI l1)]) (by decide) rfl (Nat.le_of_ble_eq_true rfl) rfl ?_
  intro Z C hK hsz hR hl0 hin hQ
  subst hsz
  have C : gC Z cX0_at 2 RX0 (some .int) 4 93 := C
  have hQ : zz_q Z = MQ (zz_b Z) (cQi X μ (zz_s Z).heap.size Q) (zz_a Z) (zz_s Z) (zz_R Z).cells (zz_R Z).slots (cA X μ (zz_s Z).heap.size) := by rw [hR]; exact hQ
  unfold wc_X0_at at hw
  refine hx_iload_n C dX0_at_0 1 rfl rfl ?_
  refine hx_aload_n C dX0_at_1 0 rfl rfl ?_
  obtain ⟨a1, ha2, hw⟩ := hw
  rw [ha2]
  obtain ⟨ht5, hw⟩ := hw
  refine fun H locs hI ls hl => cx_fi (S := [aI l1]) (x := ⟨"java/lang/CharSequence", "length", "()I"⟩) (Cn := "java/lang/String") (As := []) C hK hI hl 0 (hK.1.1.1 12 _ rfl).2 (cv_str hK hI ht5) (sc_J0_length _ X H.size _ _ _ hw) q1290 q1294 (List.mem_of_getElem? (i := 4) rfl) q270 q88 q272 (by decide +kernel) ⟨rfl, rfl, Nat.le_of_ble_eq_true rfl, Nat.le_of_ble_eq_true rfl⟩ (av_W [aI l1] 8 (Nat.le_of_ble_eq_true rfl)) dX0_at_2 rfl rfl ⟨by omega, by omega⟩ (fun r3 μ4 hw => ?_)
  obtain ⟨hr6, hw⟩ := hw
  obtain ⟨hr7, hw⟩ := hw
  refine hx_icmp_ge (tgt := 20) C dX0_at_7 (by decide) hr6 hr7 (fun h => ?_) (fun h => ?_)
  · have hw := hw.1 h
    refine hx_iconst C dX0_at_20 ?_
    refine hx_L [] rfl ?_
    exact sc_X0_at_21 C hK hQ  _ _ hw
  · have hw := hw.2 h
    refine hx_aload_n C dX0_at_10 0 rfl rfl ?_
    refine hx_iload_n C dX0_at_11 1 rfl rfl ?_
    obtain ⟨ht10, hw⟩ := hw
    refine fun H locs hI ls hl => cx_fi (S := []) (x := ⟨"java/lang/CharSequence", "charAt", "(I)C"⟩) (Cn := "java/lang/String") (As := [toV (aI l1)]) C hK hI hl 1 (hK.1.1.1 12 _ rfl).2 (cv_str hK hI ht10) (sc_J0_charAt _ X H.size _ _ _ _ hw) q1302 q1305 (List.mem_of_getElem? (i := 5) rfl) q655 q88 q657 (by decide +kernel) ⟨rfl, rfl, Nat.le_of_ble_eq_true rfl, Nat.le_of_ble_eq_true rfl⟩ (av_W [] 8 (Nat.le_of_ble_eq_true rfl)) dX0_at_12 rfl rfl ⟨by omega, by omega⟩ (fun r8 μ9 hw => ?_)
    refine hx_goto (tgt := 21) C dX0_at_17 (by decide) ?_
    refine hx_L [] rfl ?_
    exact sc_X0_at_21 C hK hQ  _ _ hw
-- ('BinderPress', 'sign', '(II)I')
def wc_X0_sign_44 (X : cX) (Q : Int → CM → Prop) (s0 : Int) (b : Nat) (μ : CM) : Prop := Q s0 μ
set_option maxHeartbeats 4000000 in
theorem sc_X0_sign_44 {Z : zz} {X : cX} {μ0 : CM} {Q : Int → CM → Prop} (C : gC Z cX0_sign 3 RX0 (some .int) 268 5775) (hK : cCt Z X μ0) (hQ : zz_q Z = MQ (zz_b Z) (cQi X μ0 (zz_s Z).heap.size Q) (zz_a Z) (zz_s Z) (zz_R Z).cells (zz_R Z).slots (cA X μ0 (zz_s Z).heap.size))  : ∀ s0 b μ, wc_X0_sign_44 X Q s0 b μ → ∀ kk nn, (kk + b ≤ (zz_R Z).cells ∧ nn + 5 * b ≤ (zz_R Z).slots) → hG Z 3 (cI Z X μ0 μ) kk nn 44 [] [aI s0] := by
  intro s0 b μ hw kk nn hb
  unfold wc_X0_sign_44 at hw
  exact cx_iret C hQ (by omega) (by omega) rfl hw dX0_sign_44
def wc_X0_sign (X : cX) (b : Nat) (l1 : Int) (l2 : Int) (μ : CM) (Q : Int → CM → Prop) : Prop := wc_X0_isShelf X l1 μ (fun r1 μ2 => R32 r1 ∧ ((¬ r1 = 0 → R32 l2 ∧ ((0 ≤ l2 → (0 ≤ l1 ∧ l1 < 4) ∧ ((¬ (kR μ2 1 (l1).toNat) = none → ((0 ≤ l1 ∧ l1 < 4) ∧ ∃ b7, b7 ≤ b ∧ wc_X0_written X b7 (kR μ2 1 (l1).toNat) μ2 (fun r9 μ10 => wc_X0_at X r9 l2 μ10 (fun r11 μ12 => wc_X0_sign_44 X   Q r11 (b - b7) μ12)))) ∧ ((kR μ2 1 (l1).toNat) = none → wc_X0_sign_44 X   Q (-1000000003) b μ2))) ∧ (l2 < 0 → Q (-1000000002) μ2))) ∧ (r1 = 0 → Q (-1000000001) μ2)))
set_option maxHeartbeats 4000000 in
theorem sc_X0_sign (l : Launch) (X : cX) (sz : Nat) (Q : Int → CM → Prop) (b : Nat) (l1 : Int) (l2 : Int) (μ : CM) (hw : wc_X0_sign X b l1 l2 μ Q) : Met l yX0_sign (ws_ yX0_sign cX0_sign 3 (some .int)) ({ frames := 268, cells := b, slots := 5 * b, locals := 5775 }) (cPc X (([aR (some (cX_h X)), aI l1, aI l2] : List AV).map toV) μ sz) (cQi X μ sz Q) b (5 * b) (cA X μ sz) := by
  refine cx_met2 (rm := ({ frames := 268, cells := b, slots := 5 * b, locals := 5775 })) (As := [aR (some (cX_h X)), aI l1, aI l2]) (L0 := [(0, aR (some (cX_h X))), (1, aI l1), (2, aI l2)]) (by decide) rfl (Nat.le_of_ble_eq_true rfl) rfl ?_
  intro Z C hK hsz hR hl0 hin hQ
  subst hsz
  have C : gC Z cX0_sign 3 RX0 (some .int) 268 5775 := C
  have hQ : zz_q Z = MQ (zz_b Z) (cQi X μ (zz_s Z).heap.size Q) (zz_a Z) (zz_s Z) (zz_R Z).cells (zz_R Z).slots (cA X μ (zz_s Z).heap.size) := by rw [hR]; exact hQ
  have hb : 0 + b ≤ (zz_R Z).cells ∧ 0 + 5 * b ≤ (zz_R Z).slots := by rw [hR]; exact ⟨by dsimp only; omega, by dsimp only; omega⟩
  unfold wc_X0_sign at hw
  refine hx_iload_n C dX0_sign_0 1 rfl rfl ?_
  refine fun H locs hI ls hl => cx_ri (S := []) hI hl (fun _ h => h) (cr_S (As := [toV (aI l1)]) (rest := []) C hK hI hl 1 (sc_X0_isShelf _ X H.size _ _ _ hw) (lw_S q215 q216 q84 q217) (by decide +kernel) ⟨rfl, rfl, Nat.le_of_ble_eq_true rfl, Nat.le_of_ble_eq_true rfl⟩ (av_W [] 8 (Nat.le_of_ble_eq_true rfl)) dX0_sign_1 rfl rfl ⟨by omega, by omega⟩) (fun r1 μ2 hw => ?_)
  obtain ⟨hr3, hw⟩ := hw
  refine hx_if_ne (tgt := 10) C dX0_sign_4 (by decide) hr3 (fun h => ?_) (fun h => ?_)
  · have hw := hw.1 h
    refine hx_iload_n C dX0_sign_10 2 rfl rfl ?_
    obtain ⟨hr4, hw⟩ := hw
    refine hx_if_ge (tgt := 17) C dX0_sign_11 (by decide) hr4 (fun h => ?_) (fun h => ?_)
    · have hw := hw.1 h
      refine hx_aload_n C dX0_sign_17 0 rfl rfl ?_
      refine cx_getS (μ := μ2) (v := aR (some (cX_a X 1))) C hK 0 1 rfl in_X0 (by decide) q167 rfl rfl rfl dX0_sign_18 ?_
      refine hx_iload_n C dX0_sign_21 1 rfl rfl ?_
      obtain ⟨hx5, hw⟩ := hw
      refine cx_aald (μ := μ2) (f := kR μ2 1) C hK 2 rfl (Or.inl ⟨2, rfl⟩) hx5.1 hx5.2 (by decide) dX0_sign_22 ?_
      refine hx_ifnonnull (tgt := 31) C dX0_sign_23 (by decide) (fun h => ?_) (fun h => ?_)
      · have hw := hw.1 h
        refine hx_aload_n C dX0_sign_31 0 rfl rfl ?_
        refine cx_getS (μ := μ2) (v := aR (some (cX_a X 1))) C hK 0 1 rfl in_X0 (by decide) q167 rfl rfl rfl dX0_sign_32 ?_
        refine hx_iload_n C dX0_sign_35 1 rfl rfl ?_
        obtain ⟨hx6, hw⟩ := hw
        refine cx_aald (μ := μ2) (f := kR μ2 1) C hK 2 rfl (Or.inl ⟨2, rfl⟩) hx6.1 hx6.2 (by decide) dX0_sign_36 ?_
        obtain ⟨b7, hu8, hw⟩ := hw
        refine fun H locs hI ls hl => cx_rr (S := []) hI hl (fun _ h => h) (cr_S (As := [toV (aR (kR μ2 1 (l1).toNat))]) (rest := []) C hK hI hl 1 (sc_X0_written _ X H.size _ b7 _ _ hw) (lw_S q870 q871 q84 q872) (by decide +kernel) ⟨rfl, rfl, Nat.le_of_ble_eq_true rfl, Nat.le_of_ble_eq_true rfl⟩ (av_W [] 8 (Nat.le_of_ble_eq_true rfl)) dX0_sign_37 rfl rfl ⟨by omega, by omega⟩) (fun r9 μ10 hw => ?_)
        obtain hb : (0 + b7) + (b - b7) ≤ (zz_R Z).cells ∧ (0 + 5 * b7) + 5 * (b - b7) ≤ (zz_R Z).slots := ⟨by omega, by omega⟩
        refine hx_iload_n C dX0_sign_40 2 rfl rfl ?_
        refine fun H locs hI ls hl => cx_ri (S := []) hI hl (fun _ h => h) (cr_S (As := [toV (aR r9), toV (aI l2)]) (rest := []) C hK hI hl 2 (sc_X0_at _ X H.size _ _ _ _ hw) (lw_S q1286 q1287 q84 q1288) (by decide +kernel) ⟨rfl, rfl, Nat.le_of_ble_eq_true rfl, Nat.le_of_ble_eq_true rfl⟩ (av_W [] 8 (Nat.le_of_ble_eq_true rfl)) dX0_sign_41 rfl rfl ⟨by omega, by omega⟩) (fun r11 μ12 hw => ?_)
        refine hx_L [] rfl ?_
        exact sc_X0_sign_44 C hK hQ  _ _ _ hw _ _ hb
      · have hw := hw.2 h
        refine hx_ldc C (-1000000003) q494 (by decide) dX0_sign_26 ?_
        refine hx_goto (tgt := 44) C dX0_sign_28 (by decide) ?_
        refine hx_L [] rfl ?_
        exact sc_X0_sign_44 C hK hQ  _ _ _ hw _ _ hb
    · have hw := hw.2 h
      refine hx_ldc C (-1000000002) q208 (by decide) dX0_sign_14 ?_
      exact cx_iret C hQ (by omega) (by omega) rfl hw dX0_sign_16
  · have hw := hw.2 h
    refine hx_ldc C (-1000000001) q218 (by decide) dX0_sign_7 ?_
    exact cx_iret C hQ (by omega) (by omega) rfl hw dX0_sign_9
-- ('BinderPress', 'steps', '(II)I')
def wc_X0_steps_103 (X : cX) (Q : Int → CM → Prop) (s0 : Int) (μ : CM) : Prop := Q s0 μ
set_option maxHeartbeats 4000000 in
theorem sc_X0_steps_103 {Z : zz} {X : cX} {μ0 : CM} {Q : Int → CM → Prop} (C : gC Z cX0_steps 3 RX0 (some .int) 625 15621) (hK : cCt Z X μ0) (hQ : zz_q Z = MQ (zz_b Z) (cQi X μ0 (zz_s Z).heap.size Q) (zz_a Z) (zz_s Z) (zz_R Z).cells (zz_R Z).slots (cA X μ0 (zz_s Z).heap.size))  : ∀ s0 μ, wc_X0_steps_103 X Q s0 μ → hG Z 3 (cI Z X μ0 μ) 0 0 103 [] [aI s0] := by
  intro s0 μ hw
  unfold wc_X0_steps_103 at hw
  exact cx_iret C hQ (by omega) (by omega) rfl hw dX0_steps_103
def wc_X0_steps_53 (X : cX) (Q : Int → CM → Prop) (s1 : Option Nat) (s2 : Int) (μ : CM) : Prop := wc_X1_begin X s1 s2 μ (fun μ2 => wc_X1_go X 200 μ2 (fun μ4 => R32 (kI μ4 28 0) ∧ (((kI μ4 28 0) = 0 → R32 (kI μ4 29 0) ∧ (((kI μ4 29 0) = 0 → wc_X0_steps_103 X   Q (-2) μ4) ∧ (¬ (kI μ4 29 0) = 0 → wc_X0_steps_103 X   Q (kI μ4 27 0) μ4))) ∧ (¬ (kI μ4 28 0) = 0 → wc_X0_steps_103 X   Q (-3) μ4))))
set_option maxHeartbeats 4000000 in
theorem sc_X0_steps_53 {Z : zz} {X : cX} {μ0 : CM} {Q : Int → CM → Prop} (C : gC Z cX0_steps 3 RX0 (some .int) 625 15621) (hK : cCt Z X μ0) (hQ : zz_q Z = MQ (zz_b Z) (cQi X μ0 (zz_s Z).heap.size Q) (zz_a Z) (zz_s Z) (zz_R Z).cells (zz_R Z).slots (cA X μ0 (zz_s Z).heap.size))  : ∀ s1 s2 μ, wc_X0_steps_53 X Q s1 s2 μ → hG Z 3 (cI Z X μ0 μ) 0 0 53 [(0, aR (some (cX_h X)))] [aI s2, aR s1, aR (some (cX_a X 0))] := by
  intro s1 s2 μ hw
  unfold wc_X0_steps_53 at hw
  refine fun H locs hI ls hl => cx_rv (S := []) hI hl (fun _ h => h) (cr_V (Cn := RX1) (As := [toV (aR s1), toV (aI s2)]) (rest := []) C hK hI hl 2 (cv_dyn hK hI (ci := 1) rfl (Or.inl ⟨1, rfl⟩)) (sc_X1_begin _ X H.size _ _ _ _ hw) (lw_V q639 q640 q641 q85 q642) (by decide +kernel) ⟨rfl, rfl, Nat.le_of_ble_eq_true rfl, Nat.le_of_ble_eq_true rfl⟩ (av_W [] 8 (Nat.le_of_ble_eq_true rfl)) dX0_steps_53 rfl rfl ⟨by omega, by omega⟩) (fun μ2 hw => ?_)
  refine hx_aload_n C dX0_steps_56 0 rfl rfl ?_
  refine cx_getS (μ := μ2) (v := aR (some (cX_a X 0))) C hK 0 0 rfl in_X0 (by decide) q166 rfl rfl rfl dX0_steps_57 ?_
  refine hx_sipush C dX0_steps_60 (by decide) ?_
  refine fun H locs hI ls hl => cx_rv (S := []) hI hl (fun _ h => h) (cr_V (Cn := RX1) (As := [toV (aI 200)]) (rest := []) C hK hI hl 1 (cv_dyn hK hI (ci := 1) rfl (Or.inl ⟨1, rfl⟩)) (sc_X1_go _ X H.size _ _ _ hw) (lw_V q692 q693 q694 q85 q695) (by decide +kernel) ⟨rfl, rfl, Nat.le_of_ble_eq_true rfl, Nat.le_of_ble_eq_true rfl⟩ (av_W [] 8 (Nat.le_of_ble_eq_true rfl)) dX0_steps_63 rfl rfl ⟨by omega, by omega⟩) (fun μ4 hw => ?_)
  refine hx_aload_n C dX0_steps_66 0 rfl rfl ?_
  refine cx_getS (μ := μ4) (v := aR (some (cX_a X 0))) C hK 0 0 rfl in_X0 (by decide) q166 rfl rfl rfl dX0_steps_67 ?_
  refine cx_getSN (μ := μ4) (v := aI (kI μ4 28 0)) C hK 1 8 rfl in_X1 (by decide) (List.mem_of_getElem? (i := 14) rfl) rfl rfl rfl dX0_steps_70 ?_
  obtain ⟨hr5, hw⟩ := hw
  refine hx_if_eq (tgt := 81) C dX0_steps_73 (by decide) hr5 (fun h => ?_) (fun h => ?_)
  · have hw := hw.1 h
    refine hx_aload_n C dX0_steps_81 0 rfl rfl ?_
    refine cx_getS (μ := μ4) (v := aR (some (cX_a X 0))) C hK 0 0 rfl in_X0 (by decide) q166 rfl rfl rfl dX0_steps_82 ?_
    refine cx_getSN (μ := μ4) (v := aI (kI μ4 29 0)) C hK 1 9 rfl in_X1 (by decide) (List.mem_of_getElem? (i := 15) rfl) rfl rfl rfl dX0_steps_85 ?_
    obtain ⟨hr6, hw⟩ := hw
    refine hx_if_eq (tgt := 101) C dX0_steps_88 (by decide) hr6 (fun h => ?_) (fun h => ?_)
    · have hw := hw.1 h
      refine hx_bipush C dX0_steps_101 (by decide) ?_
      refine hx_L [] rfl ?_
      exact sc_X0_steps_103 C hK hQ  _ _ hw
    · have hw := hw.2 h
      refine hx_aload_n C dX0_steps_91 0 rfl rfl ?_
      refine cx_getS (μ := μ4) (v := aR (some (cX_a X 0))) C hK 0 0 rfl in_X0 (by decide) q166 rfl rfl rfl dX0_steps_92 ?_
      refine cx_getSN (μ := μ4) (v := aI (kI μ4 27 0)) C hK 1 7 rfl in_X1 (by decide) (List.mem_of_getElem? (i := 13) rfl) rfl rfl rfl dX0_steps_95 ?_
      refine hx_goto (tgt := 103) C dX0_steps_98 (by decide) ?_
      refine hx_L [] rfl ?_
      exact sc_X0_steps_103 C hK hQ  _ _ hw
  · have hw := hw.2 h
    refine hx_bipush C dX0_steps_76 (by decide) ?_
    refine hx_goto (tgt := 103) C dX0_steps_78 (by decide) ?_
    refine hx_L [] rfl ?_
    exact sc_X0_steps_103 C hK hQ  _ _ hw
def wc_X0_steps (X : cX) (l1 : Int) (l2 : Int) (μ : CM) (Q : Int → CM → Prop) : Prop := wc_X0_isShelf X l1 μ (fun r1 μ2 => R32 r1 ∧ ((¬ r1 = 0 → wc_X0_isIn X l2 0 1 μ2 (fun r4 μ5 => R32 r4 ∧ ((¬ r4 = 0 → wc_X0_isPlain X l1 μ5 (fun r7 μ8 => R32 r7 ∧ ((¬ r7 = 0 → (0 ≤ l1 ∧ l1 < 4) ∧ R32 l2 ∧ ((¬ l2 = 1 → wc_X0_steps_53 X   Q (kR μ8 1 (l1).toNat) 0 μ8) ∧ (l2 = 1 → wc_X0_steps_53 X   Q (kR μ8 1 (l1).toNat) 1 μ8))) ∧ (r7 = 0 → Q (-1000000003) μ8)))) ∧ (r4 = 0 → Q (-1000000002) μ5)))) ∧ (r1 = 0 → Q (-1000000001) μ2)))
set_option maxHeartbeats 4000000 in
theorem sc_X0_steps (l : Launch) (X : cX) (sz : Nat) (Q : Int → CM → Prop) (l1 : Int) (l2 : Int) (μ : CM) (hw : wc_X0_steps X l1 l2 μ Q) : Met l yX0_steps (ws_ yX0_steps cX0_steps 3 (some .int)) ({ frames := 625, cells := 0, slots := 0, locals := 15621 }) (cPc X (([aR (some (cX_h X)), aI l1, aI l2] : List AV).map toV) μ sz) (cQi X μ sz Q) 0 (0) (cA X μ sz) := by
  refine cx_met2 (rm := ({ frames := 625, cells := 0, slots := 0, locals := 15621 })) (As := [aR (some (cX_h X)), aI l1, aI l2]) (L0 := [(0, aR (some (cX_h X))), (1, aI l1), (2, aI l2)]) (by decide) rfl (Nat.le_of_ble_eq_true rfl) rfl ?_
  intro Z C hK hsz hR hl0 hin hQ
  subst hsz
  have C : gC Z cX0_steps 3 RX0 (some .int) 625 15621 := C
  have hQ : zz_q Z = MQ (zz_b Z) (cQi X μ (zz_s Z).heap.size Q) (zz_a Z) (zz_s Z) (zz_R Z).cells (zz_R Z).slots (cA X μ (zz_s Z).heap.size) := by rw [hR]; exact hQ
  unfold wc_X0_steps at hw
  refine hx_iload_n C dX0_steps_0 1 rfl rfl ?_
  refine fun H locs hI ls hl => cx_ri (S := []) hI hl (fun _ h => h) (cr_S (As := [toV (aI l1)]) (rest := []) C hK hI hl 1 (sc_X0_isShelf _ X H.size _ _ _ hw) (lw_S q215 q216 q84 q217) (by decide +kernel) ⟨rfl, rfl, Nat.le_of_ble_eq_true rfl, Nat.le_of_ble_eq_true rfl⟩ (av_W [] 8 (Nat.le_of_ble_eq_true rfl)) dX0_steps_1 rfl rfl ⟨by omega, by omega⟩) (fun r1 μ2 hw => ?_)
  obtain ⟨hr3, hw⟩ := hw
  refine hx_if_ne (tgt := 10) C dX0_steps_4 (by decide) hr3 (fun h => ?_) (fun h => ?_)
  · have hw := hw.1 h
    refine hx_iload_n C dX0_steps_10 2 rfl rfl ?_
    refine hx_iconst C dX0_steps_11 ?_
    refine hx_iconst C dX0_steps_12 ?_
    refine fun H locs hI ls hl => cx_ri (S := []) hI hl (fun _ h => h) (cr_S (As := [toV (aI l2), toV (aI 0), toV (aI 1)]) (rest := []) C hK hI hl 3 (sc_X0_isIn _ X H.size _ _ _ _ _ hw) (lw_S q205 q206 q84 q207) (by decide +kernel) ⟨rfl, rfl, Nat.le_of_ble_eq_true rfl, Nat.le_of_ble_eq_true rfl⟩ (av_W [] 8 (Nat.le_of_ble_eq_true rfl)) dX0_steps_13 rfl rfl ⟨by omega, by omega⟩) (fun r4 μ5 hw => ?_)
    obtain ⟨hr6, hw⟩ := hw
    refine hx_if_ne (tgt := 22) C dX0_steps_16 (by decide) hr6 (fun h => ?_) (fun h => ?_)
    · have hw := hw.1 h
      refine hx_aload_n C dX0_steps_22 0 rfl rfl ?_
      refine hx_iload_n C dX0_steps_23 1 rfl rfl ?_
      refine fun H locs hI ls hl => cx_ri (S := []) hI hl (fun _ h => h) (cr_V (Cn := RX0) (As := [toV (aI l1)]) (rest := []) C hK hI hl 1 (cv_dyn hK hI (ci := 0) rfl (Or.inl ⟨0, rfl⟩)) (sc_X0_isPlain _ X H.size _ _ _ hw) (lw_V q614 q616 qs10 q84 q617) (by decide +kernel) ⟨rfl, rfl, Nat.le_of_ble_eq_true rfl, Nat.le_of_ble_eq_true rfl⟩ (av_W [] 8 (Nat.le_of_ble_eq_true rfl)) dX0_steps_24 rfl rfl ⟨by omega, by omega⟩) (fun r7 μ8 hw => ?_)
      obtain ⟨hr9, hw⟩ := hw
      refine hx_if_ne (tgt := 33) C dX0_steps_27 (by decide) hr9 (fun h => ?_) (fun h => ?_)
      · have hw := hw.1 h
        refine hx_aload_n C dX0_steps_33 0 rfl rfl ?_
        refine cx_getS (μ := μ8) (v := aR (some (cX_a X 0))) C hK 0 0 rfl in_X0 (by decide) q166 rfl rfl rfl dX0_steps_34 ?_
        refine hx_aload_n C dX0_steps_37 0 rfl rfl ?_
        refine cx_getS (μ := μ8) (v := aR (some (cX_a X 1))) C hK 0 1 rfl in_X0 (by decide) q167 rfl rfl rfl dX0_steps_38 ?_
        refine hx_iload_n C dX0_steps_41 1 rfl rfl ?_
        obtain ⟨hx10, hw⟩ := hw
        refine cx_aald (μ := μ8) (f := kR μ8 1) C hK 2 rfl (Or.inl ⟨2, rfl⟩) hx10.1 hx10.2 (by decide) dX0_steps_42 ?_
        refine hx_iload_n C dX0_steps_43 2 rfl rfl ?_
        refine hx_iconst C dX0_steps_44 ?_
        obtain ⟨hr11, hw⟩ := hw
        refine hx_icmp_ne (tgt := 52) C dX0_steps_45 (by decide) hr11 (by decide) (fun h => ?_) (fun h => ?_)
        · have hw := hw.1 h
          refine hx_iconst C dX0_steps_52 ?_
          refine hx_L [0] rfl ?_
          exact sc_X0_steps_53 C hK hQ  _ _ _ hw
        · have hw := hw.2 h
          refine hx_iconst C dX0_steps_48 ?_
          refine hx_goto (tgt := 53) C dX0_steps_49 (by decide) ?_
          refine hx_L [0] rfl ?_
          exact sc_X0_steps_53 C hK hQ  _ _ _ hw
      · have hw := hw.2 h
        refine hx_ldc C (-1000000003) q494 (by decide) dX0_steps_30 ?_
        exact cx_iret C hQ (by omega) (by omega) rfl hw dX0_steps_32
    · have hw := hw.2 h
      refine hx_ldc C (-1000000002) q208 (by decide) dX0_steps_19 ?_
      exact cx_iret C hQ (by omega) (by omega) rfl hw dX0_steps_21
  · have hw := hw.2 h
    refine hx_ldc C (-1000000001) q218 (by decide) dX0_steps_7 ?_
    exact cx_iret C hQ (by omega) (by omega) rfl hw dX0_steps_9
