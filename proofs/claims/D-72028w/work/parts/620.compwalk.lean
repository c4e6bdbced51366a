/-! walks of the component (printed by gen_comp) -/
set_option maxRecDepth 100000
-- ('BinderPress$Reader', 'isEnd', '()Z')
def wc_X3_isEnd_22 (X : cX) (Q : Int → CM → Prop) (s0 : Int) (μ : CM) : Prop := (s0 = 0 ∨ s0 = 1) ∧ Q s0 μ
set_option maxHeartbeats 4000000 in
theorem sc_X3_isEnd_22 {Z : zz} {X : cX} {μ0 : CM} {Q : Int → CM → Prop} (C : gC Z cX3_isEnd 1 RX3 (some .boolean) 1 20) (hK : cCt Z X μ0) (hQ : zz_q Z = MQ (zz_b Z) (cQi X μ0 (zz_s Z).heap.size Q) (zz_a Z) (zz_s Z) (zz_R Z).cells (zz_R Z).slots (cA X μ0 (zz_s Z).heap.size))  : ∀ s0 μ, wc_X3_isEnd_22 X Q s0 μ → hG Z 1 (cI Z X μ0 μ) 0 0 22 [] [aI s0] := by
  intro s0 μ hw
  unfold wc_X3_isEnd_22 at hw
  obtain ⟨hz, hw⟩ := hw
  exact cx_iret C hQ (by omega) (by omega) (mz_n hz) hw dX3_isEnd_22
def wc_X3_isEnd_17 (X : cX) (Q : Int → CM → Prop) (μ : CM) : Prop := wc_X3_isEnd_22 X   Q 1 μ
set_option maxHeartbeats 4000000 in
theorem sc_X3_isEnd_17 {Z : zz} {X : cX} {μ0 : CM} {Q : Int → CM → Prop} (C : gC Z cX3_isEnd 1 RX3 (some .boolean) 1 20) (hK : cCt Z X μ0) (hQ : zz_q Z = MQ (zz_b Z) (cQi X μ0 (zz_s Z).heap.size Q) (zz_a Z) (zz_s Z) (zz_R Z).cells (zz_R Z).slots (cA X μ0 (zz_s Z).heap.size))  : ∀ μ, wc_X3_isEnd_17 X Q μ → hG Z 1 (cI Z X μ0 μ) 0 0 17 [] [] := by
  intro μ hw
  unfold wc_X3_isEnd_17 at hw
  refine hx_iconst C dX3_isEnd_17 ?_
  refine hx_goto (tgt := 22) C dX3_isEnd_18 (by decide) ?_
  refine hx_L [] rfl ?_
  exact sc_X3_isEnd_22 C hK hQ  _ _ hw
def wc_X3_isEnd (X : cX) (l0 : Nat) (μ : CM) (Q : Int → CM → Prop) : Prop := tg μ l0 = 3 ∧ wc_X3_here X l0 μ (fun r1 μ2 => R32 r1 ∧ ((r1 = (-1) → wc_X3_isEnd_17 X   Q μ2) ∧ (¬ r1 = (-1) → tg μ2 l0 = 3 ∧ wc_X3_here X l0 μ2 (fun r5 μ6 => R32 r5 ∧ ((¬ r5 = 41 → wc_X3_isEnd_22 X   Q 0 μ6) ∧ (r5 = 41 → wc_X3_isEnd_17 X   Q μ6))))))
set_option maxHeartbeats 4000000 in
theorem sc_X3_isEnd (l : Launch) (X : cX) (sz : Nat) (Q : Int → CM → Prop) (l0 : Nat) (μ : CM) (hw : wc_X3_isEnd X l0 μ Q) : Met l yX3_isEnd (ws_ yX3_isEnd cX3_isEnd 1 (some .boolean)) ({ frames := 1, cells := 0, slots := 0, locals := 20 }) (cPc X (([aR (some l0)] : List AV).map toV) μ sz) (cQi X μ sz Q) 0 (0) (cA X μ sz) := by
  refine cx_met2 (rm := ({ frames := 1, cells := 0, slots := 0, locals := 20 })) (As := [aR (some l0)]) (L0 := [(0, aR (some l0))]) (by decide) rfl (Nat.le_of_ble_eq_true rfl) rfl ?_
  intro Z C hK hsz hR hl0 hin hQ
  subst hsz
  have C : gC Z cX3_isEnd 1 RX3 (some .boolean) 1 20 := C
  have hQ : zz_q Z = MQ (zz_b Z) (cQi X μ (zz_s Z).heap.size Q) (zz_a Z) (zz_s Z) (zz_R Z).cells (zz_R Z).slots (cA X μ (zz_s Z).heap.size) := by rw [hR]; exact hQ
  unfold wc_X3_isEnd at hw
  refine hx_aload_n C dX3_isEnd_0 0 rfl rfl ?_
  obtain ⟨ht3, hw⟩ := hw
  refine fun H locs hI ls hl => cx_ri (S := []) hI hl (fun _ h => h) (cr_V (Cn := RX3) (As := []) (rest := []) C hK hI hl 0 (cv_dyn hK hI (ci := 2) rfl (Or.inr (cdE_2 ht3))) (sc_X3_here _ X H.size _ _ _ hw) (lw_V q250 q252 qs1 q87 q253) (by decide +kernel) ⟨rfl, rfl, Nat.le_of_ble_eq_true rfl, Nat.le_of_ble_eq_true rfl⟩ (av_W [] 8 (Nat.le_of_ble_eq_true rfl)) dX3_isEnd_1 rfl rfl ⟨by omega, by omega⟩) (fun r1 μ2 hw => ?_)
  refine hx_iconst C dX3_isEnd_4 ?_
  obtain ⟨hr4, hw⟩ := hw
  refine hx_icmp_eq (tgt := 17) C dX3_isEnd_5 (by decide) hr4 (by decide) (fun h => ?_) (fun h => ?_)
  · have hw := hw.1 h
    refine hx_L [] rfl ?_
    exact sc_X3_isEnd_17 C hK hQ  _ hw
  · have hw := hw.2 h
    refine hx_aload_n C dX3_isEnd_8 0 rfl rfl ?_
    obtain ⟨ht7, hw⟩ := hw
    refine fun H locs hI ls hl => cx_ri (S := []) hI hl (fun _ h => h) (cr_V (Cn := RX3) (As := []) (rest := []) C hK hI hl 0 (cv_dyn hK hI (ci := 2) rfl (Or.inr (cdE_2 ht7))) (sc_X3_here _ X H.size _ _ _ hw) (lw_V q250 q252 qs1 q87 q253) (by decide +kernel) ⟨rfl, rfl, Nat.le_of_ble_eq_true rfl, Nat.le_of_ble_eq_true rfl⟩ (av_W [] 8 (Nat.le_of_ble_eq_true rfl)) dX3_isEnd_9 rfl rfl ⟨by omega, by omega⟩) (fun r5 μ6 hw => ?_)
    refine hx_bipush C dX3_isEnd_12 (by decide) ?_
    obtain ⟨hr8, hw⟩ := hw
    refine hx_icmp_ne (tgt := 21) C dX3_isEnd_14 (by decide) hr8 (by decide) (fun h => ?_) (fun h => ?_)
    · have hw := hw.1 h
      refine hx_iconst C dX3_isEnd_21 ?_
      refine hx_L [] rfl ?_
      exact sc_X3_isEnd_22 C hK hQ  _ _ hw
    · have hw := hw.2 h
      refine hx_L [] rfl ?_
      exact sc_X3_isEnd_17 C hK hQ  _ hw
-- ('BinderPress$Reader', 'binder', '()LBinderPress$Term;')
def rmet_X3_term (l : Launch) (X : cX) (fr lo : Nat) (rc : Nat → Nat → CM → (Option Nat → CM → Prop) → (Nat → CM → Prop) → Prop) : Prop := ∀ (b : Nat) (l0 : Nat) (μ : CM) (sz : Nat) (Q : Option Nat → CM → Prop) (XQ : Nat → CM → Prop), rc b l0 μ Q XQ → ∃ rm, crm rm b (5 * b) fr lo 2 ∧ vy_Met l yX3_term (ws_ yX3_term cX3_term 2 (some (.object "BinderPress$Term"))) rm (cPc X (([aR (some l0)] : List AV).map toV) μ sz) (cQr X μ sz Q) (cXQ X μ sz "BinderPress$Fault" XQ) b (5 * b) (cA X μ sz)
def wc_X3_binder (X : cX) (rc : Nat → Nat → CM → (Option Nat → CM → Prop) → (Nat → CM → Prop) → Prop) (b : Nat) (l0 : Nat) (μ : CM) (Q : Option Nat → CM → Prop) (XQ : Nat → CM → Prop) : Prop := tg μ l0 = 3 ∧ wc_X3_here X l0 μ (fun r1 μ2 => wc_X0_isName X r1 μ2 (fun r4 μ5 => (tg μ5 l0 = 3 ∧ ∃ b7, b7 ≤ b ∧ wc_X3_want X b7 r4 1 (oI μ5 l0 2) μ5 (fun μ10 => (tg μ10 l0 = 3 ∧ ∃ b12, b12 ≤ (b - b7) ∧ wc_X3_sign X b12 l0 46 (poI μ10 l0 2 ((oI μ10 l0 2) + 1)) (fun μ15 => (1 ≤ ((b - b7) - b12) ∧ ∀ a17, tg μ15 a17 = 0 → ∃ b20, b20 ≤ (((b - b7) - b12) - 1) ∧ tg (alc μ15 a17 5 0) l0 = 3 ∧ rc b20 l0 (alc μ15 a17 5 0) (fun r22 μ23 => wc_X6_init X a17 r1 r22 μ23 (fun μ26 => Q (some a17) μ26)) XQ)) XQ)) XQ)))
set_option maxHeartbeats 4000000 in
theorem sc_X3_binder (l : Launch) (X : cX) (sz : Nat) (Q : Option Nat → CM → Prop) (XQ : Nat → CM → Prop) {rc : Nat → Nat → CM → (Option Nat → CM → Prop) → (Nat → CM → Prop) → Prop} {fr lo : Nat} (hA : 132 ≤ fr) (hB : 2642 ≤ lo) (hrc : rmet_X3_term l X fr lo rc) (b : Nat) (l0 : Nat) (μ : CM) (hw : wc_X3_binder X rc b l0 μ Q XQ) : vy_Met l yX3_binder (ws_ yX3_binder cX3_binder 2 (some (.object "BinderPress$Term"))) ({ frames := (fr + 0), cells := b, slots := 5 * b, locals := (lo + 0) }) (cPc X (([aR (some l0)] : List AV).map toV) μ sz) (cQr X μ sz Q) (cXQ X μ sz "BinderPress$Fault" XQ) b (5 * b) (cA X μ sz) := by
  refine cy_met2 (rm := ({ frames := (fr + 0), cells := b, slots := 5 * b, locals := (lo + 0) })) (As := [aR (some l0)]) (L0 := [(0, aR (some l0))]) (by decide) rfl (Nat.le_of_ble_eq_true rfl) rfl ?_
  intro Z C hK hsz hR hl0 hin hX hQ
  subst hsz
  have C : gC Z cX3_binder 2 RX3 (some (.object "BinderPress$Term")) (fr + 0) (lo + 0) := C
  rw [← hl0] at hrc
  have hQ : zz_q Z = vy_MQ (zz_b Z) (cQr X μ (zz_s Z).heap.size Q) (cXQ X μ (zz_s Z).heap.size "BinderPress$Fault" XQ) (zz_a Z) (zz_s Z) (zz_R Z).cells (zz_R Z).slots (cA X μ (zz_s Z).heap.size) := by rw [hR]; exact hQ
  have hb : 0 + b ≤ (zz_R Z).cells ∧ 0 + 5 * b ≤ (zz_R Z).slots := by rw [hR]; exact ⟨by dsimp only; omega, by dsimp only; omega⟩
  unfold wc_X3_binder at hw
  refine hx_aload_n C dX3_binder_0 0 rfl rfl ?_
  obtain ⟨ht3, hw⟩ := hw
  refine fun H locs hI ls hl => cx_ri (S := []) hI hl (fun _ h => h) (cr_V (Cn := RX3) (As := []) (rest := []) C hK hI hl 0 (cv_dyn hK hI (ci := 2) rfl (Or.inr (cdE_2 ht3))) (sc_X3_here _ X H.size _ _ _ hw) (lw_V q250 q252 qs1 q87 q253) (by decide +kernel) ⟨rfl, rfl, by (dsimp only; omega), by (dsimp only; omega)⟩ (av_W [] 8 (Nat.le_of_ble_eq_true rfl)) dX3_binder_1 rfl rfl ⟨by omega, by omega⟩) (fun r1 μ2 hw => ?_)
  refine hx_istore_n (L' := [(1, aI r1), (0, aR (some l0))]) C dX3_binder_4 rfl (by decide) rfl ?_
  refine hx_iload_n C dX3_binder_5 0 rfl rfl ?_
  refine fun H locs hI ls hl => cx_ri (S := []) hI hl (fun _ h => h) (cr_SN (As := [toV (aI r1)]) (rest := []) C hK hI hl 1 (sc_X0_isName _ X H.size _ _ _ hw) (List.mem_of_getElem? (i := 37) rfl) q258 q84 q259 (by decide +kernel) ⟨rfl, rfl, by (dsimp only; omega), by (dsimp only; omega)⟩ (av_W [] 8 (Nat.le_of_ble_eq_true rfl)) dX3_binder_6 rfl rfl ⟨by omega, by omega⟩) (fun r4 μ5 hw => ?_)
  refine hx_iconst C dX3_binder_9 ?_
  refine hx_aload_n C dX3_binder_10 1 rfl rfl ?_
  obtain ⟨ht6, hw⟩ := hw
  refine cx_get (μ := μ5) (v := aI (oI μ5 l0 2)) C hK 2 2 rfl in_X3 (by decide) q227 rfl (cdE_2 ht6) rfl dX3_binder_11 ?_
  obtain ⟨b7, hu8, hw⟩ := hw
  refine fun H locs hI ls hl => cy_rv (S := []) hI hl (fun _ h => h) (cy_S (As := [toV (aI r4), toV (aI 1), toV (aI (oI μ5 l0 2))]) (rest := []) C hK hI hl 3 (sc_X3_want _ X H.size _ _ b7 _ _ _ _ hw) (lw_S q279 q280 q87 q281) (by decide +kernel) ⟨rfl, rfl, by (dsimp only; omega), by (dsimp only; omega)⟩ (av_W [] 8 (Nat.le_of_ble_eq_true rfl)) dX3_binder_14 rfl rfl ⟨by omega, by omega⟩) (fun q9 μ10x hx => cy_out C hX hQ (by omega) (by omega) hx) (fun μ10 hw => ?_)
  obtain hb : (0 + b7) + (b - b7) ≤ (zz_R Z).cells ∧ (0 + 5 * b7) + 5 * (b - b7) ≤ (zz_R Z).slots := ⟨by omega, by omega⟩
  refine hx_aload_n C dX3_binder_17 1 rfl rfl ?_
  refine hx_dup C dX3_binder_18 rfl ?_
  obtain ⟨ht11, hw⟩ := hw
  refine cx_get (μ := μ10) (v := aI (oI μ10 l0 2)) C hK 2 2 rfl in_X3 (by decide) q227 rfl (cdE_2 ht11) rfl dX3_binder_19 ?_
  refine hx_iconst C dX3_binder_22 ?_
  refine hx_iadd C dX3_binder_23 ?_
  refine cx_put (μ := μ10) (μ' := (poI μ10 l0 2 ((oI μ10 l0 2) + 1))) C hK 2 2 rfl in_X3 tyX3_ok nmX3 (by decide) q227 rfl rfl (cdE_2 ht11) (Nat.le_of_ble_eq_true rfl) ⟨rfl, rfl⟩ (cset_2_2 μ10 l0 ((oI μ10 l0 2) + 1)) (cdE_2 ht11) rfl rfl rfl (fun _ hb => st_o hb) (fun _ _ => rfl) dX3_binder_24 ?_
  refine hx_aload_n C dX3_binder_27 1 rfl rfl ?_
  refine hx_bipush C dX3_binder_28 (by decide) ?_
  obtain ⟨b12, hu13, hw⟩ := hw
  refine fun H locs hI ls hl => cy_rv (S := []) hI hl (fun _ h => h) (cy_V (Cn := RX3) (As := [toV (aI 46)]) (rest := []) C hK hI hl 1 (cv_dyn hK hI (ci := 2) rfl (Or.inr (cdE_2 ht11))) (sc_X3_sign _ X H.size _ _ b12 _ _ _ hw) (lw_V q354 q356 qs4 q87 q357) (by decide +kernel) ⟨rfl, rfl, by (dsimp only; omega), by (dsimp only; omega)⟩ (av_W [] 8 (Nat.le_of_ble_eq_true rfl)) dX3_binder_30 rfl rfl ⟨by omega, by omega⟩) (fun q9 μ15x hx => cy_out C hX hQ (by omega) (by omega) hx) (fun μ15 hw => ?_)
  obtain hb : ((0 + b7) + b12) + ((b - b7) - b12) ≤ (zz_R Z).cells ∧ ((0 + 5 * b7) + 5 * b12) + 5 * ((b - b7) - b12) ≤ (zz_R Z).slots := ⟨by omega, by omega⟩
  obtain ⟨hu16, hw⟩ := hw
  refine cx_new (fs := fun a => coF_4 (alc μ15 a 5 0) a) C hK 4 5 rfl in_X6 tyX6_ok q366 q367 q93 (by decide) (fun a => cdE_4 alc_t) (cxd_4 _) (by omega) (by omega) dX3_binder_33 (fun a17 hf18 => ?_)
  have hw := hw a17 hf18
  obtain hb : (((0 + b7) + b12) + 1) + (((b - b7) - b12) - 1) ≤ (zz_R Z).cells ∧ (((0 + 5 * b7) + 5 * b12) + 3) + 5 * (((b - b7) - b12) - 1) ≤ (zz_R Z).slots := ⟨by omega, by omega⟩
  have ht19 : tg (alc μ15 a17 5 0) a17 = 5 := alc_t
  refine hx_dup C dX3_binder_36 rfl ?_
  refine hx_iload_n C dX3_binder_37 0 rfl rfl ?_
  refine hx_aload_n C dX3_binder_38 1 rfl rfl ?_
  obtain ⟨b20, hu21, hw⟩ := hw
  obtain ⟨ht24, hw⟩ := hw
  refine fun H locs hI ls hl => cy_rr (S := [aI r1, aR (some a17), aR (some a17)]) hI hl (fun _ h => h) (dy_V (Cn := RX3) (As := []) (rest := [toV (aI r1), toV (aR (some a17)), toV (aR (some a17))]) C hK hI hl 0 (cv_dyn hK hI (ci := 2) rfl (Or.inr (cdE_2 ht24))) (hrc b20 _ _ H.size _ _ hw) (by omega) (by omega) (lw_V q242 q243 q244 q87 q245) (by decide +kernel) (av_W [aI r1, aR (some a17), aR (some a17)] 8 (Nat.le_of_ble_eq_true rfl)) dX3_binder_39 rfl rfl ⟨by omega, by omega⟩) (fun q9 μ23x hx => cy_out C hX hQ (by omega) (by omega) hx) (fun r22 μ23 hw => ?_)
  obtain hb : ((((0 + b7) + b12) + 1) + b20) + ((((b - b7) - b12) - 1) - b20) ≤ (zz_R Z).cells ∧ ((((0 + 5 * b7) + 5 * b12) + 3) + 5 * b20) + 5 * ((((b - b7) - b12) - 1) - b20) ≤ (zz_R Z).slots := ⟨by omega, by omega⟩
  refine fun H locs hI ls hl => cx_rv (S := [aR (some a17)]) hI hl (fun _ h => h) (cr_I (a := a17) (As := [toV (aI r1), toV (aR r22)]) (rest := [toV (aR (some a17))]) C hK hI hl 2 (sc_X6_init _ X H.size _ _ _ _ _ hw) q368 q369 q93 q370 rfl (by decide +kernel) ⟨rfl, rfl, by (dsimp only; omega), by (dsimp only; omega)⟩ (av_W [aR (some a17)] 8 (Nat.le_of_ble_eq_true rfl)) dX3_binder_42 rfl rfl ⟨by omega, by omega⟩) (fun μ26 hw => ?_)
  exact cy_aret C hQ (by omega) (by omega) (Or.inl ⟨_, rfl⟩) hw dX3_binder_45
-- ('BinderPress$Reader', 'item', '(II)LBinderPress$Term;')
def wc_X3_item_59 (X : cX) (rc : Nat → Nat → CM → (Option Nat → CM → Prop) → (Nat → CM → Prop) → Prop) (Q : Option Nat → CM → Prop) (XQ : Nat → CM → Prop) (s0 : Option Nat) (b : Nat) (μ : CM) : Prop := Q s0 μ
set_option maxHeartbeats 4000000 in
theorem sc_X3_item_59 {Z : zz} {X : cX} {μ0 : CM} {Q : Option Nat → CM → Prop} {XQ : Nat → CM → Prop} {rc : Nat → Nat → CM → (Option Nat → CM → Prop) → (Nat → CM → Prop) → Prop} {fr lo : Nat} (hA : 132 ≤ fr) (hB : 2642 ≤ lo) (C : gC Z cX3_item 4 RX3 (some (.object "BinderPress$Term")) (fr + 1) (lo + 21)) (hK : cCt Z X μ0) (hrc : rmet_X3_term (zz_l Z) X fr lo rc) (hX : ∀ x ∈ (zz_c Z).exceptionTable.toList, False) (hQ : zz_q Z = vy_MQ (zz_b Z) (cQr X μ0 (zz_s Z).heap.size Q) (cXQ X μ0 (zz_s Z).heap.size "BinderPress$Fault" XQ) (zz_a Z) (zz_s Z) (zz_R Z).cells (zz_R Z).slots (cA X μ0 (zz_s Z).heap.size))  : ∀ s0 b μ, wc_X3_item_59 X rc Q XQ s0 b μ → ∀ kk nn, (kk + b ≤ (zz_R Z).cells ∧ nn + 5 * b ≤ (zz_R Z).slots) → hG Z 4 (cI Z X μ0 μ) kk nn 59 [] [aR s0] := by
  intro s0 b μ hw kk nn hb
  unfold wc_X3_item_59 at hw
  exact cy_aret C hQ (by omega) (by omega) (Or.inl ⟨_, rfl⟩) hw dX3_item_59
def wc_X3_item (X : cX) (rc : Nat → Nat → CM → (Option Nat → CM → Prop) → (Nat → CM → Prop) → Prop) (b : Nat) (l0 : Nat) (l1 : Int) (l2 : Int) (μ : CM) (Q : Option Nat → CM → Prop) (XQ : Nat → CM → Prop) : Prop := R32 l1 ∧ ((¬ l1 = 40 → (∃ b2, b2 ≤ b ∧ tg μ l0 = 3 ∧ wc_X3_grow X b2 l0 l2 μ (fun μ5 => R32 l1 ∧ ((¬ l1 = 94 → wc_X0_isName X l1 μ5 (fun r8 μ9 => R32 r8 ∧ ((r8 = 0 → (∃ b11, b11 ≤ (b - b2) ∧ wc_X0_signOf X b11 l1 μ9 (fun r13 μ14 => wc_X3_item_59 X rc  Q XQ r13 ((b - b2) - b11) μ14))) ∧ (¬ r8 = 0 → 1 ≤ (b - b2) ∧ ∀ a16, tg μ9 a16 = 0 → wc_X7_init X a16 l1 (alc μ9 a16 6 0) (fun μ20 => wc_X3_item_59 X rc  Q XQ (some a16) ((b - b2) - 1) μ20))))) ∧ (l1 = 94 → (∃ b21, b21 ≤ (b - b2) ∧ tg μ5 l0 = 3 ∧ wc_X3_binder X rc b21 l0 μ5 (fun r23 μ24 => wc_X3_item_59 X rc  Q XQ r23 ((b - b2) - b21) μ24) XQ)))) XQ)) ∧ (l1 = 40 → (∃ b26, b26 ≤ b ∧ tg μ l0 = 3 ∧ rc b26 l0 μ (fun r28 μ29 => (∃ b31, b31 ≤ (b - b26) ∧ tg μ29 l0 = 3 ∧ wc_X3_sign X b31 l0 41 μ29 (fun μ34 => Q r28 μ34) XQ)) XQ)))
set_option maxHeartbeats 4000000 in
theorem sc_X3_item (l : Launch) (X : cX) (sz : Nat) (Q : Option Nat → CM → Prop) (XQ : Nat → CM → Prop) {rc : Nat → Nat → CM → (Option Nat → CM → Prop) → (Nat → CM → Prop) → Prop} {fr lo : Nat} (hA : 132 ≤ fr) (hB : 2642 ≤ lo) (hrc : rmet_X3_term l X fr lo rc) (b : Nat) (l0 : Nat) (l1 : Int) (l2 : Int) (μ : CM) (hw : wc_X3_item X rc b l0 l1 l2 μ Q XQ) : vy_Met l yX3_item (ws_ yX3_item cX3_item 4 (some (.object "BinderPress$Term"))) ({ frames := (fr + 1), cells := b, slots := 5 * b, locals := (lo + 21) }) (cPc X (([aR (some l0), aI l1, aI l2] : List AV).map toV) μ sz) (cQr X μ sz Q) (cXQ X μ sz "BinderPress$Fault" XQ) b (5 * b) (cA X μ sz) := by
  refine cy_met2 (rm := ({ frames := (fr + 1), cells := b, slots := 5 * b, locals := (lo + 21) })) (As := [aR (some l0), aI l1, aI l2]) (L0 := [(0, aR (some l0)), (1, aI l1), (2, aI l2)]) (by decide) rfl (Nat.le_of_ble_eq_true rfl) rfl ?_
  intro Z C hK hsz hR hl0 hin hX hQ
  subst hsz
  have C : gC Z cX3_item 4 RX3 (some (.object "BinderPress$Term")) (fr + 1) (lo + 21) := C
  rw [← hl0] at hrc
  have hQ : zz_q Z = vy_MQ (zz_b Z) (cQr X μ (zz_s Z).heap.size Q) (cXQ X μ (zz_s Z).heap.size "BinderPress$Fault" XQ) (zz_a Z) (zz_s Z) (zz_R Z).cells (zz_R Z).slots (cA X μ (zz_s Z).heap.size) := by rw [hR]; exact hQ
  have hb : 0 + b ≤ (zz_R Z).cells ∧ 0 + 5 * b ≤ (zz_R Z).slots := by rw [hR]; exact ⟨by dsimp only; omega, by dsimp only; omega⟩
  unfold wc_X3_item at hw
  refine hx_iload_n C dX3_item_0 1 rfl rfl ?_
  refine hx_bipush C dX3_item_1 (by decide) ?_
  obtain ⟨hr1, hw⟩ := hw
  refine hx_icmp_ne (tgt := 19) C dX3_item_3 (by decide) hr1 (by decide) (fun h => ?_) (fun h => ?_)
  · have hw := hw.1 h
    refine hx_aload_n C dX3_item_19 0 rfl rfl ?_
    refine hx_iload_n C dX3_item_20 2 rfl rfl ?_
    obtain ⟨b2, hu3, hw⟩ := hw
    obtain ⟨ht6, hw⟩ := hw
    refine fun H locs hI ls hl => cy_rv (S := []) hI hl (fun _ h => h) (cy_V (Cn := RX3) (As := [toV (aI l2)]) (rest := []) C hK hI hl 1 (cv_dyn hK hI (ci := 2) rfl (Or.inr (cdE_2 ht6))) (sc_X3_grow _ X H.size _ _ b2 _ _ _ hw) (lw_V q358 q360 qs5 q87 q361) (by decide +kernel) ⟨rfl, rfl, by (dsimp only; omega), by (dsimp only; omega)⟩ (av_W [] 8 (Nat.le_of_ble_eq_true rfl)) dX3_item_21 rfl rfl ⟨by omega, by omega⟩) (fun q9 μ5x hx => cy_out C hX hQ (by omega) (by omega) hx) (fun μ5 hw => ?_)
    obtain hb : (0 + b2) + (b - b2) ≤ (zz_R Z).cells ∧ (0 + 5 * b2) + 5 * (b - b2) ≤ (zz_R Z).slots := ⟨by omega, by omega⟩
    refine hx_iload_n C dX3_item_24 1 rfl rfl ?_
    refine hx_bipush C dX3_item_25 (by decide) ?_
    obtain ⟨hr7, hw⟩ := hw
    refine hx_icmp_ne (tgt := 37) C dX3_item_27 (by decide) hr7 (by decide) (fun h => ?_) (fun h => ?_)
    · have hw := hw.1 h
      refine hx_iload_n C dX3_item_37 1 rfl rfl ?_
      refine fun H locs hI ls hl => cx_ri (S := []) hI hl (fun _ h => h) (cr_SN (As := [toV (aI l1)]) (rest := []) C hK hI hl 1 (sc_X0_isName _ X H.size _ _ _ hw) (List.mem_of_getElem? (i := 37) rfl) q258 q84 q259 (by decide +kernel) ⟨rfl, rfl, by (dsimp only; omega), by (dsimp only; omega)⟩ (av_W [] 8 (Nat.le_of_ble_eq_true rfl)) dX3_item_38 rfl rfl ⟨by omega, by omega⟩) (fun r8 μ9 hw => ?_)
      obtain ⟨hr10, hw⟩ := hw
      refine hx_if_eq (tgt := 55) C dX3_item_41 (by decide) hr10 (fun h => ?_) (fun h => ?_)
      · have hw := hw.1 h
        refine hx_iload_n C dX3_item_55 1 rfl rfl ?_
        obtain ⟨b11, hu12, hw⟩ := hw
        refine fun H locs hI ls hl => cx_rr (S := []) hI hl (fun _ h => h) (cr_SN (As := [toV (aI l1)]) (rest := []) C hK hI hl 1 (sc_X0_signOf _ X H.size _ b11 _ _ hw) (List.mem_of_getElem? (i := 39) rfl) q400 q84 q401 (by decide +kernel) ⟨rfl, rfl, by (dsimp only; omega), by (dsimp only; omega)⟩ (av_W [] 8 (Nat.le_of_ble_eq_true rfl)) dX3_item_56 rfl rfl ⟨by omega, by omega⟩) (fun r13 μ14 hw => ?_)
        obtain hb : ((0 + b2) + b11) + ((b - b2) - b11) ≤ (zz_R Z).cells ∧ ((0 + 5 * b2) + 5 * b11) + 5 * ((b - b2) - b11) ≤ (zz_R Z).slots := ⟨by omega, by omega⟩
        refine hx_L [] rfl ?_
        exact sc_X3_item_59 hA hB C hK hrc hX hQ  _ _ _ hw _ _ hb
      · have hw := hw.2 h
        obtain ⟨hu15, hw⟩ := hw
        refine cx_new (fs := fun a => coF_5 (alc μ9 a 6 0) a) C hK 5 6 rfl in_X7 tyX7_ok q387 q388 q94 (by decide) (fun a => cdE_5 alc_t) (cxd_5 _) (by omega) (by omega) dX3_item_44 (fun a16 hf17 => ?_)
        have hw := hw a16 hf17
        obtain hb : ((0 + b2) + 1) + ((b - b2) - 1) ≤ (zz_R Z).cells ∧ ((0 + 5 * b2) + 1) + 5 * ((b - b2) - 1) ≤ (zz_R Z).slots := ⟨by omega, by omega⟩
        have ht18 : tg (alc μ9 a16 6 0) a16 = 6 := alc_t
        refine hx_dup C dX3_item_47 rfl ?_
        refine hx_iload_n C dX3_item_48 1 rfl rfl ?_
        refine fun H locs hI ls hl => cx_rv (S := [aR (some a16)]) hI hl (fun _ h => h) (cr_I (a := a16) (As := [toV (aI l1)]) (rest := [toV (aR (some a16))]) C hK hI hl 1 (sc_X7_init _ X H.size _ _ _ _ hw) q389 q390 q94 q391 rfl (by decide +kernel) ⟨rfl, rfl, by (dsimp only; omega), by (dsimp only; omega)⟩ (av_W [aR (some a16)] 8 (Nat.le_of_ble_eq_true rfl)) dX3_item_49 rfl rfl ⟨by omega, by omega⟩) (fun μ20 hw => ?_)
        refine hx_goto (tgt := 59) C dX3_item_52 (by decide) ?_
        refine hx_L [] rfl ?_
        exact sc_X3_item_59 hA hB C hK hrc hX hQ  _ _ _ hw _ _ hb
    · have hw := hw.2 h
      refine hx_aload_n C dX3_item_30 0 rfl rfl ?_
      obtain ⟨b21, hu22, hw⟩ := hw
      obtain ⟨ht25, hw⟩ := hw
      refine fun H locs hI ls hl => cy_rr (S := []) hI hl (fun _ h => h) (cy_V (Cn := RX3) (As := []) (rest := []) C hK hI hl 0 (cv_dyn hK hI (ci := 2) rfl (Or.inr (cdE_2 ht25))) (sc_X3_binder _ X H.size _ _ hA hB hrc b21 _ _ hw) (lw_V q362 q364 qs6 q87 q365) (by decide +kernel) ⟨rfl, rfl, by (dsimp only; omega), by (dsimp only; omega)⟩ (av_W [] 8 (Nat.le_of_ble_eq_true rfl)) dX3_item_31 rfl rfl ⟨by omega, by omega⟩) (fun q9 μ24x hx => cy_out C hX hQ (by omega) (by omega) hx) (fun r23 μ24 hw => ?_)
      obtain hb : ((0 + b2) + b21) + ((b - b2) - b21) ≤ (zz_R Z).cells ∧ ((0 + 5 * b2) + 5 * b21) + 5 * ((b - b2) - b21) ≤ (zz_R Z).slots := ⟨by omega, by omega⟩
      refine hx_goto (tgt := 59) C dX3_item_34 (by decide) ?_
      refine hx_L [] rfl ?_
      exact sc_X3_item_59 hA hB C hK hrc hX hQ  _ _ _ hw _ _ hb
  · have hw := hw.2 h
    refine hx_aload_n C dX3_item_6 0 rfl rfl ?_
    obtain ⟨b26, hu27, hw⟩ := hw
    obtain ⟨ht30, hw⟩ := hw
    refine fun H locs hI ls hl => cy_rr (S := []) hI hl (fun _ h => h) (dy_V (Cn := RX3) (As := []) (rest := []) C hK hI hl 0 (cv_dyn hK hI (ci := 2) rfl (Or.inr (cdE_2 ht30))) (hrc b26 _ _ H.size _ _ hw) (by omega) (by omega) (lw_V q242 q243 q244 q87 q245) (by decide +kernel) (av_W [] 8 (Nat.le_of_ble_eq_true rfl)) dX3_item_7 rfl rfl ⟨by omega, by omega⟩) (fun q9 μ29x hx => cy_out C hX hQ (by omega) (by omega) hx) (fun r28 μ29 hw => ?_)
    obtain hb : (0 + b26) + (b - b26) ≤ (zz_R Z).cells ∧ (0 + 5 * b26) + 5 * (b - b26) ≤ (zz_R Z).slots := ⟨by omega, by omega⟩
    refine hx_astore_n (L' := [(3, aR r28), (0, aR (some l0)), (1, aI l1), (2, aI l2)]) C dX3_item_10 rfl (by decide) rfl ?_
    refine hx_aload_n C dX3_item_11 1 rfl rfl ?_
    refine hx_bipush C dX3_item_12 (by decide) ?_
    obtain ⟨b31, hu32, hw⟩ := hw
    obtain ⟨ht35, hw⟩ := hw
    refine fun H locs hI ls hl => cy_rv (S := []) hI hl (fun _ h => h) (cy_V (Cn := RX3) (As := [toV (aI 41)]) (rest := []) C hK hI hl 1 (cv_dyn hK hI (ci := 2) rfl (Or.inr (cdE_2 ht35))) (sc_X3_sign _ X H.size _ _ b31 _ _ _ hw) (lw_V q354 q356 qs4 q87 q357) (by decide +kernel) ⟨rfl, rfl, by (dsimp only; omega), by (dsimp only; omega)⟩ (av_W [] 8 (Nat.le_of_ble_eq_true rfl)) dX3_item_14 rfl rfl ⟨by omega, by omega⟩) (fun q9 μ34x hx => cy_out C hX hQ (by omega) (by omega) hx) (fun μ34 hw => ?_)
    obtain hb : ((0 + b26) + b31) + ((b - b26) - b31) ≤ (zz_R Z).cells ∧ ((0 + 5 * b26) + 5 * b31) + 5 * ((b - b26) - b31) ≤ (zz_R Z).slots := ⟨by omega, by omega⟩
    refine hx_aload_n C dX3_item_17 0 rfl rfl ?_
    exact cy_aret C hQ (by omega) (by omega) (Or.inl ⟨_, rfl⟩) hw dX3_item_18
-- ('BinderPress$Reader', 'next', '()LBinderPress$Term;')
def wc_X3_next (X : cX) (rc : Nat → Nat → CM → (Option Nat → CM → Prop) → (Nat → CM → Prop) → Prop) (b : Nat) (l0 : Nat) (μ : CM) (Q : Option Nat → CM → Prop) (XQ : Nat → CM → Prop) : Prop := tg μ l0 = 3 ∧ wc_X3_here X l0 μ (fun r1 μ2 => tg μ2 l0 = 3 ∧ wc_X3_canBegin X r1 μ2 (fun r5 μ6 => (∃ b7, b7 ≤ b ∧ wc_X3_want X b7 r5 1 (oI μ2 l0 2) μ6 (fun μ10 => (tg μ10 l0 = 3 ∧ ∃ b12, b12 ≤ (b - b7) ∧ wc_X3_item X rc b12 l0 r1 (oI μ2 l0 2) (poI μ10 l0 2 ((oI μ10 l0 2) + 1)) (fun r14 μ15 => Q r14 μ15) XQ)) XQ)))
set_option maxHeartbeats 4000000 in
theorem sc_X3_next (l : Launch) (X : cX) (sz : Nat) (Q : Option Nat → CM → Prop) (XQ : Nat → CM → Prop) {rc : Nat → Nat → CM → (Option Nat → CM → Prop) → (Nat → CM → Prop) → Prop} {fr lo : Nat} (hA : 132 ≤ fr) (hB : 2642 ≤ lo) (hrc : rmet_X3_term l X fr lo rc) (b : Nat) (l0 : Nat) (μ : CM) (hw : wc_X3_next X rc b l0 μ Q XQ) : vy_Met l yX3_next (ws_ yX3_next cX3_next 3 (some (.object "BinderPress$Term"))) ({ frames := (fr + 2), cells := b, slots := 5 * b, locals := (lo + 44) }) (cPc X (([aR (some l0)] : List AV).map toV) μ sz) (cQr X μ sz Q) (cXQ X μ sz "BinderPress$Fault" XQ) b (5 * b) (cA X μ sz) := by
  refine cy_met2 (rm := ({ frames := (fr + 2), cells := b, slots := 5 * b, locals := (lo + 44) })) (As := [aR (some l0)]) (L0 := [(0, aR (some l0))]) (by decide) rfl (Nat.le_of_ble_eq_true rfl) rfl ?_
  intro Z C hK hsz hR hl0 hin hX hQ
  subst hsz
  have C : gC Z cX3_next 3 RX3 (some (.object "BinderPress$Term")) (fr + 2) (lo + 44) := C
  rw [← hl0] at hrc
  have hQ : zz_q Z = vy_MQ (zz_b Z) (cQr X μ (zz_s Z).heap.size Q) (cXQ X μ (zz_s Z).heap.size "BinderPress$Fault" XQ) (zz_a Z) (zz_s Z) (zz_R Z).cells (zz_R Z).slots (cA X μ (zz_s Z).heap.size) := by rw [hR]; exact hQ
  have hb : 0 + b ≤ (zz_R Z).cells ∧ 0 + 5 * b ≤ (zz_R Z).slots := by rw [hR]; exact ⟨by dsimp only; omega, by dsimp only; omega⟩
  unfold wc_X3_next at hw
  refine hx_aload_n C dX3_next_0 0 rfl rfl ?_
  obtain ⟨ht3, hw⟩ := hw
  refine fun H locs hI ls hl => cx_ri (S := []) hI hl (fun _ h => h) (cr_V (Cn := RX3) (As := []) (rest := []) C hK hI hl 0 (cv_dyn hK hI (ci := 2) rfl (Or.inr (cdE_2 ht3))) (sc_X3_here _ X H.size _ _ _ hw) (lw_V q250 q252 qs1 q87 q253) (by decide +kernel) ⟨rfl, rfl, by (dsimp only; omega), by (dsimp only; omega)⟩ (av_W [] 8 (Nat.le_of_ble_eq_true rfl)) dX3_next_1 rfl rfl ⟨by omega, by omega⟩) (fun r1 μ2 hw => ?_)
  refine hx_istore_n (L' := [(1, aI r1), (0, aR (some l0))]) C dX3_next_4 rfl (by decide) rfl ?_
  refine hx_aload_n C dX3_next_5 1 rfl rfl ?_
  obtain ⟨ht4, hw⟩ := hw
  refine cx_get (μ := μ2) (v := aI (oI μ2 l0 2)) C hK 2 2 rfl in_X3 (by decide) q227 rfl (cdE_2 ht4) rfl dX3_next_6 ?_
  refine hx_istore_n (L' := [(2, aI (oI μ2 l0 2)), (1, aI r1), (0, aR (some l0))]) C dX3_next_9 rfl (by decide) rfl ?_
  refine hx_iload_n C dX3_next_10 1 rfl rfl ?_
  refine fun H locs hI ls hl => cx_ri (S := []) hI hl (fun _ h => h) (cr_S (As := [toV (aI r1)]) (rest := []) C hK hI hl 1 (sc_X3_canBegin _ X H.size _ _ _ hw) (lw_S q254 q255 q87 q256) (by decide +kernel) ⟨rfl, rfl, by (dsimp only; omega), by (dsimp only; omega)⟩ (av_W [] 8 (Nat.le_of_ble_eq_true rfl)) dX3_next_11 rfl rfl ⟨by omega, by omega⟩) (fun r5 μ6 hw => ?_)
  refine hx_iconst C dX3_next_14 ?_
  refine hx_iload_n C dX3_next_15 0 rfl rfl ?_
  obtain ⟨b7, hu8, hw⟩ := hw
  refine fun H locs hI ls hl => cy_rv (S := []) hI hl (fun _ h => h) (cy_S (As := [toV (aI r5), toV (aI 1), toV (aI (oI μ2 l0 2))]) (rest := []) C hK hI hl 3 (sc_X3_want _ X H.size _ _ b7 _ _ _ _ hw) (lw_S q279 q280 q87 q281) (by decide +kernel) ⟨rfl, rfl, by (dsimp only; omega), by (dsimp only; omega)⟩ (av_W [] 8 (Nat.le_of_ble_eq_true rfl)) dX3_next_16 rfl rfl ⟨by omega, by omega⟩) (fun q9 μ10x hx => cy_out C hX hQ (by omega) (by omega) hx) (fun μ10 hw => ?_)
  obtain hb : (0 + b7) + (b - b7) ≤ (zz_R Z).cells ∧ (0 + 5 * b7) + 5 * (b - b7) ≤ (zz_R Z).slots := ⟨by omega, by omega⟩
  refine hx_aload_n C dX3_next_19 2 rfl rfl ?_
  refine hx_dup C dX3_next_20 rfl ?_
  obtain ⟨ht11, hw⟩ := hw
  refine cx_get (μ := μ10) (v := aI (oI μ10 l0 2)) C hK 2 2 rfl in_X3 (by decide) q227 rfl (cdE_2 ht11) rfl dX3_next_21 ?_
  refine hx_iconst C dX3_next_24 ?_
  refine hx_iadd C dX3_next_25 ?_
  refine cx_put (μ := μ10) (μ' := (poI μ10 l0 2 ((oI μ10 l0 2) + 1))) C hK 2 2 rfl in_X3 tyX3_ok nmX3 (by decide) q227 rfl rfl (cdE_2 ht11) (Nat.le_of_ble_eq_true rfl) ⟨rfl, rfl⟩ (cset_2_2 μ10 l0 ((oI μ10 l0 2) + 1)) (cdE_2 ht11) rfl rfl rfl (fun _ hb => st_o hb) (fun _ _ => rfl) dX3_next_26 ?_
  refine hx_aload_n C dX3_next_29 2 rfl rfl ?_
  refine hx_iload_n C dX3_next_30 1 rfl rfl ?_
  refine hx_iload_n C dX3_next_31 0 rfl rfl ?_
  obtain ⟨b12, hu13, hw⟩ := hw
  refine fun H locs hI ls hl => cy_rr (S := []) hI hl (fun _ h => h) (cy_V (Cn := RX3) (As := [toV (aI r1), toV (aI (oI μ2 l0 2))]) (rest := []) C hK hI hl 2 (cv_dyn hK hI (ci := 2) rfl (Or.inr (cdE_2 ht11))) (sc_X3_item _ X H.size _ _ hA hB hrc b12 _ _ _ _ hw) (lw_V q350 q352 qs3 q87 q353) (by decide +kernel) ⟨rfl, rfl, by (dsimp only; omega), by (dsimp only; omega)⟩ (av_W [] 8 (Nat.le_of_ble_eq_true rfl)) dX3_next_32 rfl rfl ⟨by omega, by omega⟩) (fun q9 μ15x hx => cy_out C hX hQ (by omega) (by omega) hx) (fun r14 μ15 hw => ?_)
  obtain hb : ((0 + b7) + b12) + ((b - b7) - b12) ≤ (zz_R Z).cells ∧ ((0 + 5 * b7) + 5 * b12) + 5 * ((b - b7) - b12) ≤ (zz_R Z).slots := ⟨by omega, by omega⟩
  exact cy_aret C hQ (by omega) (by omega) (Or.inl ⟨_, rfl⟩) hw dX3_next_35
-- ('BinderPress$Reader', 'term', '()LBinderPress$Term;')
def wc_X3_term_5b (X : cX) (rc : Nat → Nat → CM → (Option Nat → CM → Prop) → (Nat → CM → Prop) → Prop) (P5 : Nat → Option Nat → Nat → CM → Prop) (Q : Option Nat → CM → Prop) (XQ : Nat → CM → Prop) (l0 : Nat) (l1 : Option Nat) (b : Nat) (μ : CM) : Prop := tg μ l0 = 3 ∧ wc_X3_isEnd X l0 μ (fun r1 μ2 => R32 r1 ∧ ((¬ r1 = 0 → Q l1 μ2) ∧ (r1 = 0 → tg μ2 l0 = 3 ∧ wc_X3_here X l0 μ2 (fun r5 μ6 => wc_X3_canBegin X r5 μ6 (fun r8 μ9 => (tg μ9 l0 = 3 ∧ ∃ b11, b11 ≤ b ∧ wc_X3_want X b11 r8 1 (oI μ9 l0 2) μ9 (fun μ14 => (tg μ14 l0 = 3 ∧ ∃ b16, b16 ≤ (b - b11) ∧ wc_X3_grow X b16 l0 (oI μ14 l0 2) μ14 (fun μ19 => (1 ≤ ((b - b11) - b16) ∧ ∀ a21, tg μ19 a21 = 0 → ∃ b24, b24 ≤ (((b - b11) - b16) - 1) ∧ tg (alc μ19 a21 8 0) l0 = 3 ∧ wc_X3_next X rc b24 l0 (alc μ19 a21 8 0) (fun r26 μ27 => wc_X9_init X a21 l1 r26 μ27 (fun μ30 => P5 l0 (some a21) ((((b - b11) - b16) - 1) - b24) μ30)) XQ)) XQ)) XQ))))))
set_option maxHeartbeats 4000000 in
theorem sc_X3_term_5b {Z : zz} {X : cX} {μ0 : CM} {Q : Option Nat → CM → Prop} {XQ : Nat → CM → Prop} {rc : Nat → Nat → CM → (Option Nat → CM → Prop) → (Nat → CM → Prop) → Prop} {fr lo : Nat} (hA : 132 ≤ fr) (hB : 2642 ≤ lo) (C : gC Z cX3_term 2 RX3 (some (.object "BinderPress$Term")) (fr + 3) (lo + 66)) (hK : cCt Z X μ0) (hrc : rmet_X3_term (zz_l Z) X fr lo rc) (hX : ∀ x ∈ (zz_c Z).exceptionTable.toList, False) (hQ : zz_q Z = vy_MQ (zz_b Z) (cQr X μ0 (zz_s Z).heap.size Q) (cXQ X μ0 (zz_s Z).heap.size "BinderPress$Fault" XQ) (zz_a Z) (zz_s Z) (zz_R Z).cells (zz_R Z).slots (cA X μ0 (zz_s Z).heap.size)) {P5 : Nat → Option Nat → Nat → CM → Prop} (hP5 : ∀ l0 l1 b μ, P5 l0 l1 b μ → ∀ kk nn, (kk + b ≤ (zz_R Z).cells ∧ nn + 5 * b ≤ (zz_R Z).slots) → hG Z 2 (cI Z X μ0 μ) kk nn 5 [(0, aR (some l0)), (1, aR l1)] [])  : ∀ l0 l1 b μ, wc_X3_term_5b X rc P5 Q XQ l0 l1 b μ → ∀ kk nn, (kk + b ≤ (zz_R Z).cells ∧ nn + 5 * b ≤ (zz_R Z).slots) → hG Z 2 (cI Z X μ0 μ) kk nn 5 [(0, aR (some l0)), (1, aR l1)] [] := by
  intro l0 l1 b μ hw kk nn hb
  unfold wc_X3_term_5b at hw
  refine hx_aload_n C dX3_term_5 0 rfl rfl ?_
  obtain ⟨ht3, hw⟩ := hw
  refine fun H locs hI ls hl => cx_ri (S := []) hI hl (fun _ h => h) (cr_V (Cn := RX3) (As := []) (rest := []) C hK hI hl 0 (cv_dyn hK hI (ci := 2) rfl (Or.inr (cdE_2 ht3))) (sc_X3_isEnd _ X H.size _ _ _ hw) (lw_V q415 q417 qs7 q87 q418) (by decide +kernel) ⟨rfl, rfl, by (dsimp only; omega), by (dsimp only; omega)⟩ (av_W [] 8 (Nat.le_of_ble_eq_true rfl)) dX3_term_6 rfl rfl ⟨by omega, by omega⟩) (fun r1 μ2 hw => ?_)
  obtain ⟨hr4, hw⟩ := hw
  refine hx_if_ne (tgt := 51) C dX3_term_9 (by decide) hr4 (fun h => ?_) (fun h => ?_)
  · have hw := hw.1 h
    refine hx_aload_n C dX3_term_51 1 rfl rfl ?_
    exact cy_aret C hQ (by omega) (by omega) (Or.inl ⟨_, rfl⟩) hw dX3_term_52
  · have hw := hw.2 h
    refine hx_aload_n C dX3_term_12 0 rfl rfl ?_
    obtain ⟨ht7, hw⟩ := hw
    refine fun H locs hI ls hl => cx_ri (S := []) hI hl (fun _ h => h) (cr_V (Cn := RX3) (As := []) (rest := []) C hK hI hl 0 (cv_dyn hK hI (ci := 2) rfl (Or.inr (cdE_2 ht7))) (sc_X3_here _ X H.size _ _ _ hw) (lw_V q250 q252 qs1 q87 q253) (by decide +kernel) ⟨rfl, rfl, by (dsimp only; omega), by (dsimp only; omega)⟩ (av_W [] 8 (Nat.le_of_ble_eq_true rfl)) dX3_term_13 rfl rfl ⟨by omega, by omega⟩) (fun r5 μ6 hw => ?_)
    refine fun H locs hI ls hl => cx_ri (S := []) hI hl (fun _ h => h) (cr_S (As := [toV (aI r5)]) (rest := []) C hK hI hl 1 (sc_X3_canBegin _ X H.size _ _ _ hw) (lw_S q254 q255 q87 q256) (by decide +kernel) ⟨rfl, rfl, by (dsimp only; omega), by (dsimp only; omega)⟩ (av_W [] 8 (Nat.le_of_ble_eq_true rfl)) dX3_term_16 rfl rfl ⟨by omega, by omega⟩) (fun r8 μ9 hw => ?_)
    refine hx_iconst C dX3_term_19 ?_
    refine hx_aload_n C dX3_term_20 0 rfl rfl ?_
    obtain ⟨ht10, hw⟩ := hw
    refine cx_get (μ := μ9) (v := aI (oI μ9 l0 2)) C hK 2 2 rfl in_X3 (by decide) q227 rfl (cdE_2 ht10) rfl dX3_term_21 ?_
    obtain ⟨b11, hu12, hw⟩ := hw
    refine fun H locs hI ls hl => cy_rv (S := []) hI hl (fun _ h => h) (cy_S (As := [toV (aI r8), toV (aI 1), toV (aI (oI μ9 l0 2))]) (rest := []) C hK hI hl 3 (sc_X3_want _ X H.size _ _ b11 _ _ _ _ hw) (lw_S q279 q280 q87 q281) (by decide +kernel) ⟨rfl, rfl, by (dsimp only; omega), by (dsimp only; omega)⟩ (av_W [] 8 (Nat.le_of_ble_eq_true rfl)) dX3_term_24 rfl rfl ⟨by omega, by omega⟩) (fun q9 μ14x hx => cy_out C hX hQ (by omega) (by omega) hx) (fun μ14 hw => ?_)
    obtain hb : (kk + b11) + (b - b11) ≤ (zz_R Z).cells ∧ (nn + 5 * b11) + 5 * (b - b11) ≤ (zz_R Z).slots := ⟨by omega, by omega⟩
    refine hx_aload_n C dX3_term_27 0 rfl rfl ?_
    refine hx_aload_n C dX3_term_28 0 rfl rfl ?_
    obtain ⟨ht15, hw⟩ := hw
    refine cx_get (μ := μ14) (v := aI (oI μ14 l0 2)) C hK 2 2 rfl in_X3 (by decide) q227 rfl (cdE_2 ht15) rfl dX3_term_29 ?_
    obtain ⟨b16, hu17, hw⟩ := hw
    refine fun H locs hI ls hl => cy_rv (S := []) hI hl (fun _ h => h) (cy_V (Cn := RX3) (As := [toV (aI (oI μ14 l0 2))]) (rest := []) C hK hI hl 1 (cv_dyn hK hI (ci := 2) rfl (Or.inr (cdE_2 ht15))) (sc_X3_grow _ X H.size _ _ b16 _ _ _ hw) (lw_V q358 q360 qs5 q87 q361) (by decide +kernel) ⟨rfl, rfl, by (dsimp only; omega), by (dsimp only; omega)⟩ (av_W [] 8 (Nat.le_of_ble_eq_true rfl)) dX3_term_32 rfl rfl ⟨by omega, by omega⟩) (fun q9 μ19x hx => cy_out C hX hQ (by omega) (by omega) hx) (fun μ19 hw => ?_)
    obtain hb : ((kk + b11) + b16) + ((b - b11) - b16) ≤ (zz_R Z).cells ∧ ((nn + 5 * b11) + 5 * b16) + 5 * ((b - b11) - b16) ≤ (zz_R Z).slots := ⟨by omega, by omega⟩
    obtain ⟨hu20, hw⟩ := hw
    refine cx_new (fs := fun a => coF_7 (alc μ19 a 8 0) a) C hK 7 8 rfl in_X9 tyX9_ok q419 q420 q96 (by decide) (fun a => cdE_7 alc_t) (cxd_7 _) (by omega) (by omega) dX3_term_35 (fun a21 hf22 => ?_)
    have hw := hw a21 hf22
    obtain hb : (((kk + b11) + b16) + 1) + (((b - b11) - b16) - 1) ≤ (zz_R Z).cells ∧ (((nn + 5 * b11) + 5 * b16) + 5) + 5 * (((b - b11) - b16) - 1) ≤ (zz_R Z).slots := ⟨by omega, by omega⟩
    have ht23 : tg (alc μ19 a21 8 0) a21 = 8 := alc_t
    refine hx_dup C dX3_term_38 rfl ?_
    refine hx_aload_n C dX3_term_39 1 rfl rfl ?_
    refine hx_aload_n C dX3_term_40 0 rfl rfl ?_
    obtain ⟨b24, hu25, hw⟩ := hw
    obtain ⟨ht28, hw⟩ := hw
    refine fun H locs hI ls hl => cy_rr (S := [aR l1, aR (some a21), aR (some a21)]) hI hl (fun _ h => h) (cy_V (Cn := RX3) (As := []) (rest := [toV (aR l1), toV (aR (some a21)), toV (aR (some a21))]) C hK hI hl 0 (cv_dyn hK hI (ci := 2) rfl (Or.inr (cdE_2 ht28))) (sc_X3_next _ X H.size _ _ hA hB hrc b24 _ _ hw) (lw_V q246 q248 qs0 q87 q249) (by decide +kernel) ⟨rfl, rfl, by (dsimp only; omega), by (dsimp only; omega)⟩ (av_W [aR l1, aR (some a21), aR (some a21)] 8 (Nat.le_of_ble_eq_true rfl)) dX3_term_41 rfl rfl ⟨by omega, by omega⟩) (fun q9 μ27x hx => cy_out C hX hQ (by omega) (by omega) hx) (fun r26 μ27 hw => ?_)
    obtain hb : ((((kk + b11) + b16) + 1) + b24) + ((((b - b11) - b16) - 1) - b24) ≤ (zz_R Z).cells ∧ ((((nn + 5 * b11) + 5 * b16) + 5) + 5 * b24) + 5 * ((((b - b11) - b16) - 1) - b24) ≤ (zz_R Z).slots := ⟨by omega, by omega⟩
    refine fun H locs hI ls hl => cx_rv (S := [aR (some a21)]) hI hl (fun _ h => h) (cr_I (a := a21) (As := [toV (aR l1), toV (aR r26)]) (rest := [toV (aR (some a21))]) C hK hI hl 2 (sc_X9_init _ X H.size _ _ _ _ _ hw) q421 q422 q96 q423 rfl (by decide +kernel) ⟨rfl, rfl, by (dsimp only; omega), by (dsimp only; omega)⟩ (av_W [aR (some a21)] 8 (Nat.le_of_ble_eq_true rfl)) dX3_term_44 rfl rfl ⟨by omega, by omega⟩) (fun μ30 hw => ?_)
    refine hx_astore_n (L' := [(1, aR (some a21)), (0, aR (some l0))]) C dX3_term_47 rfl (by decide) rfl ?_
    refine hx_goto (tgt := 5) C dX3_term_48 (by decide) ?_
    refine hx_L [1, 0] rfl ?_
    exact hP5 _ _ _ _ hw _ _ hb
def wc_X3_term_5 (X : cX) (rc : Nat → Nat → CM → (Option Nat → CM → Prop) → (Nat → CM → Prop) → Prop) (Q : Option Nat → CM → Prop) (XQ : Nat → CM → Prop) (l0 : Nat) (l1 : Option Nat) (b : Nat) (μ : CM) : Prop := ∀ P5 : Nat → Option Nat → Nat → CM → Prop, (∀ l0 l1 b μ, wc_X3_term_5b X rc P5 Q XQ l0 l1 b μ → P5 l0 l1 b μ) → P5 l0 l1 b μ
set_option maxHeartbeats 4000000 in
theorem sc_X3_term_5 {Z : zz} {X : cX} {μ0 : CM} {Q : Option Nat → CM → Prop} {XQ : Nat → CM → Prop} {rc : Nat → Nat → CM → (Option Nat → CM → Prop) → (Nat → CM → Prop) → Prop} {fr lo : Nat} (hA : 132 ≤ fr) (hB : 2642 ≤ lo) (C : gC Z cX3_term 2 RX3 (some (.object "BinderPress$Term")) (fr + 3) (lo + 66)) (hK : cCt Z X μ0) (hrc : rmet_X3_term (zz_l Z) X fr lo rc) (hX : ∀ x ∈ (zz_c Z).exceptionTable.toList, False) (hQ : zz_q Z = vy_MQ (zz_b Z) (cQr X μ0 (zz_s Z).heap.size Q) (cXQ X μ0 (zz_s Z).heap.size "BinderPress$Fault" XQ) (zz_a Z) (zz_s Z) (zz_R Z).cells (zz_R Z).slots (cA X μ0 (zz_s Z).heap.size))  : ∀ l0 l1 b μ, wc_X3_term_5 X rc Q XQ l0 l1 b μ → ∀ kk nn, (kk + b ≤ (zz_R Z).cells ∧ nn + 5 * b ≤ (zz_R Z).slots) → hG Z 2 (cI Z X μ0 μ) kk nn 5 [(0, aR (some l0)), (1, aR l1)] [] := by
  intro l0 l1 b μ hw
  exact hw (fun l0 l1 b μ => ∀ kk nn, (kk + b ≤ (zz_R Z).cells ∧ nn + 5 * b ≤ (zz_R Z).slots) → hG Z 2 (cI Z X μ0 μ) kk nn 5 [(0, aR (some l0)), (1, aR l1)] []) (fun l0 l1 b μ hw => sc_X3_term_5b hA hB C hK hrc hX hQ (fun _ _ _ _ h => h) l0 l1 b μ hw)
def wc_X3_term (X : cX) (rc : Nat → Nat → CM → (Option Nat → CM → Prop) → (Nat → CM → Prop) → Prop) (b : Nat) (l0 : Nat) (μ : CM) (Q : Option Nat → CM → Prop) (XQ : Nat → CM → Prop) : Prop := (∃ b1, b1 ≤ b ∧ tg μ l0 = 3 ∧ wc_X3_next X rc b1 l0 μ (fun r3 μ4 => wc_X3_term_5 X rc  Q XQ l0 r3 (b - b1) μ4) XQ)
set_option maxHeartbeats 4000000 in
theorem sc_X3_term (l : Launch) (X : cX) (sz : Nat) (Q : Option Nat → CM → Prop) (XQ : Nat → CM → Prop) {rc : Nat → Nat → CM → (Option Nat → CM → Prop) → (Nat → CM → Prop) → Prop} {fr lo : Nat} (hA : 132 ≤ fr) (hB : 2642 ≤ lo) (hrc : rmet_X3_term l X fr lo rc) (b : Nat) (l0 : Nat) (μ : CM) (hw : wc_X3_term X rc b l0 μ Q XQ) : vy_Met l yX3_term (ws_ yX3_term cX3_term 2 (some (.object "BinderPress$Term"))) ({ frames := (fr + 3), cells := b, slots := 5 * b, locals := (lo + 66) }) (cPc X (([aR (some l0)] : List AV).map toV) μ sz) (cQr X μ sz Q) (cXQ X μ sz "BinderPress$Fault" XQ) b (5 * b) (cA X μ sz) := by
  refine cy_met2 (rm := ({ frames := (fr + 3), cells := b, slots := 5 * b, locals := (lo + 66) })) (As := [aR (some l0)]) (L0 := [(0, aR (some l0))]) (by decide) rfl (Nat.le_of_ble_eq_true rfl) rfl ?_
  intro Z C hK hsz hR hl0 hin hX hQ
  subst hsz
  have C : gC Z cX3_term 2 RX3 (some (.object "BinderPress$Term")) (fr + 3) (lo + 66) := C
  rw [← hl0] at hrc
  have hQ : zz_q Z = vy_MQ (zz_b Z) (cQr X μ (zz_s Z).heap.size Q) (cXQ X μ (zz_s Z).heap.size "BinderPress$Fault" XQ) (zz_a Z) (zz_s Z) (zz_R Z).cells (zz_R Z).slots (cA X μ (zz_s Z).heap.size) := by rw [hR]; exact hQ
  have hb : 0 + b ≤ (zz_R Z).cells ∧ 0 + 5 * b ≤ (zz_R Z).slots := by rw [hR]; exact ⟨by dsimp only; omega, by dsimp only; omega⟩
  unfold wc_X3_term at hw
  refine hx_aload_n C dX3_term_0 0 rfl rfl ?_
  obtain ⟨b1, hu2, hw⟩ := hw
  obtain ⟨ht5, hw⟩ := hw
  refine fun H locs hI ls hl => cy_rr (S := []) hI hl (fun _ h => h) (cy_V (Cn := RX3) (As := []) (rest := []) C hK hI hl 0 (cv_dyn hK hI (ci := 2) rfl (Or.inr (cdE_2 ht5))) (sc_X3_next _ X H.size _ _ hA hB hrc b1 _ _ hw) (lw_V q246 q248 qs0 q87 q249) (by decide +kernel) ⟨rfl, rfl, by (dsimp only; omega), by (dsimp only; omega)⟩ (av_W [] 8 (Nat.le_of_ble_eq_true rfl)) dX3_term_1 rfl rfl ⟨by omega, by omega⟩) (fun q9 μ4x hx => cy_out C hX hQ (by omega) (by omega) hx) (fun r3 μ4 hw => ?_)
  obtain hb : (0 + b1) + (b - b1) ≤ (zz_R Z).cells ∧ (0 + 5 * b1) + 5 * (b - b1) ≤ (zz_R Z).slots := ⟨by omega, by omega⟩
  refine hx_astore_n (L' := [(1, aR r3), (0, aR (some l0))]) C dX3_term_4 rfl (by decide) rfl ?_
  refine hx_L [1, 0] rfl ?_
  exact sc_X3_term_5 hA hB C hK hrc hX hQ  _ _ _ _ hw _ _ hb
def wr_X3_term (X : cX) : Nat → Nat → Nat → CM → (Option Nat → CM → Prop) → (Nat → CM → Prop) → Prop
  | 0 => fun _ _ _ _ _ => False
  | d + 1 => wc_X3_term X (wr_X3_term X d)
set_option maxHeartbeats 4000000 in
theorem rr_X3_term (l : Launch) (X : cX) : ∀ d, rmet_X3_term l X (132 + 4 * d) (2642 + 87 * d) (wr_X3_term X d) := by
  intro d
  induction d with
  | zero => intro b l0 μ sz Q XQ h; exact h.elim
  | succ d ih =>
    intro b l0 μ sz Q XQ h
    exact ⟨_, ⟨rfl, rfl, by first | omega | (dsimp only; omega), by first | omega | (dsimp only; omega)⟩, sc_X3_term l X sz Q XQ (by omega) (by omega) ih b l0 μ h⟩
-- ('BinderPress$Reader', 'all', '()LBinderPress$Term;')
def wc_X3_all_18 (X : cX) (Q : Option Nat → CM → Prop) (XQ : Nat → CM → Prop) (l0 : Nat) (l1 : Option Nat) (s0 : Int) (b : Nat) (μ : CM) : Prop := (tg μ l0 = 3 ∧ ∃ b2, b2 ≤ b ∧ wc_X3_want X b2 s0 1 (oI μ l0 2) μ (fun μ5 => Q l1 μ5) XQ)
set_option maxHeartbeats 4000000 in
theorem sc_X3_all_18 {Z : zz} {X : cX} {μ0 : CM} {Q : Option Nat → CM → Prop} {XQ : Nat → CM → Prop} (C : gC Z cX3_all 2 RX3 (some (.object "BinderPress$Term")) 1176 25349) (hK : cCt Z X μ0) (hX : ∀ x ∈ (zz_c Z).exceptionTable.toList, False) (hQ : zz_q Z = vy_MQ (zz_b Z) (cQr X μ0 (zz_s Z).heap.size Q) (cXQ X μ0 (zz_s Z).heap.size "BinderPress$Fault" XQ) (zz_a Z) (zz_s Z) (zz_R Z).cells (zz_R Z).slots (cA X μ0 (zz_s Z).heap.size))  : ∀ l0 l1 s0 b μ, wc_X3_all_18 X Q XQ l0 l1 s0 b μ → ∀ kk nn, (kk + b ≤ (zz_R Z).cells ∧ nn + 5 * b ≤ (zz_R Z).slots) → hG Z 2 (cI Z X μ0 μ) kk nn 18 [(0, aR (some l0)), (1, aR l1)] [aI s0] := by
  intro l0 l1 s0 b μ hw kk nn hb
  unfold wc_X3_all_18 at hw
  refine hx_iconst C dX3_all_18 ?_
  refine hx_aload_n C dX3_all_19 0 rfl rfl ?_
  obtain ⟨ht1, hw⟩ := hw
  refine cx_get (μ := μ) (v := aI (oI μ l0 2)) C hK 2 2 rfl in_X3 (by decide) q227 rfl (cdE_2 ht1) rfl dX3_all_20 ?_
  obtain ⟨b2, hu3, hw⟩ := hw
  refine fun H locs hI ls hl => cy_rv (S := []) hI hl (fun _ h => h) (cy_S (As := [toV (aI s0), toV (aI 1), toV (aI (oI μ l0 2))]) (rest := []) C hK hI hl 3 (sc_X3_want _ X H.size _ _ b2 _ _ _ _ hw) (lw_S q279 q280 q87 q281) (by decide +kernel) ⟨rfl, rfl, Nat.le_of_ble_eq_true rfl, Nat.le_of_ble_eq_true rfl⟩ (av_W [] 8 (Nat.le_of_ble_eq_true rfl)) dX3_all_23 rfl rfl ⟨by omega, by omega⟩) (fun q9 μ5x hx => cy_out C hX hQ (by omega) (by omega) hx) (fun μ5 hw => ?_)
  obtain hb : (kk + b2) + (b - b2) ≤ (zz_R Z).cells ∧ (nn + 5 * b2) + 5 * (b - b2) ≤ (zz_R Z).slots := ⟨by omega, by omega⟩
  refine hx_aload_n C dX3_all_26 1 rfl rfl ?_
  exact cy_aret C hQ (by omega) (by omega) (Or.inl ⟨_, rfl⟩) hw dX3_all_27
def wc_X3_all (X : cX) (b : Nat) (l0 : Nat) (μ : CM) (Q : Option Nat → CM → Prop) (XQ : Nat → CM → Prop) : Prop := (∃ b1, b1 ≤ b ∧ tg μ l0 = 3 ∧ wr_X3_term X 260 b1 l0 μ (fun r3 μ4 => tg μ4 l0 = 3 ∧ wc_X3_here X l0 μ4 (fun r6 μ7 => R32 r6 ∧ ((¬ r6 = (-1) → wc_X3_all_18 X   Q XQ l0 r3 0 (b - b1) μ7) ∧ (r6 = (-1) → wc_X3_all_18 X   Q XQ l0 r3 1 (b - b1) μ7)))) XQ)
set_option maxHeartbeats 4000000 in
theorem sc_X3_all (l : Launch) (X : cX) (sz : Nat) (Q : Option Nat → CM → Prop) (XQ : Nat → CM → Prop) (b : Nat) (l0 : Nat) (μ : CM) (hw : wc_X3_all X b l0 μ Q XQ) : vy_Met l yX3_all (ws_ yX3_all cX3_all 2 (some (.object "BinderPress$Term"))) ({ frames := 1176, cells := b, slots := 5 * b, locals := 25349 }) (cPc X (([aR (some l0)] : List AV).map toV) μ sz) (cQr X μ sz Q) (cXQ X μ sz "BinderPress$Fault" XQ) b (5 * b) (cA X μ sz) := by
  refine cy_met2 (rm := ({ frames := 1176, cells := b, slots := 5 * b, locals := 25349 })) (As := [aR (some l0)]) (L0 := [(0, aR (some l0))]) (by decide) rfl (Nat.le_of_ble_eq_true rfl) rfl ?_
  intro Z C hK hsz hR hl0 hin hX hQ
  subst hsz
  have C : gC Z cX3_all 2 RX3 (some (.object "BinderPress$Term")) 1176 25349 := C
  have hQ : zz_q Z = vy_MQ (zz_b Z) (cQr X μ (zz_s Z).heap.size Q) (cXQ X μ (zz_s Z).heap.size "BinderPress$Fault" XQ) (zz_a Z) (zz_s Z) (zz_R Z).cells (zz_R Z).slots (cA X μ (zz_s Z).heap.size) := by rw [hR]; exact hQ
  have hb : 0 + b ≤ (zz_R Z).cells ∧ 0 + 5 * b ≤ (zz_R Z).slots := by rw [hR]; exact ⟨by dsimp only; omega, by dsimp only; omega⟩
  unfold wc_X3_all at hw
  refine hx_aload_n C dX3_all_0 0 rfl rfl ?_
  obtain ⟨b1, hu2, hw⟩ := hw
  obtain ⟨ht5, hw⟩ := hw
  refine fun H locs hI ls hl => cy_rr (S := []) hI hl (fun _ h => h) (dy_V (Cn := RX3) (As := []) (rest := []) C hK hI hl 0 (cv_dyn hK hI (ci := 2) rfl (Or.inr (cdE_2 ht5))) ((rr_X3_term _ X 260) b1 _ _ H.size _ _ hw) (by omega) (by omega) (lw_V q242 q243 q244 q87 q245) (by decide +kernel) (av_W [] 8 (Nat.le_of_ble_eq_true rfl)) dX3_all_1 rfl rfl ⟨by omega, by omega⟩) (fun q9 μ4x hx => cy_out C hX hQ (by omega) (by omega) hx) (fun r3 μ4 hw => ?_)
  obtain hb : (0 + b1) + (b - b1) ≤ (zz_R Z).cells ∧ (0 + 5 * b1) + 5 * (b - b1) ≤ (zz_R Z).slots := ⟨by omega, by omega⟩
  refine hx_astore_n (L' := [(1, aR r3), (0, aR (some l0))]) C dX3_all_4 rfl (by decide) rfl ?_
  refine hx_aload_n C dX3_all_5 1 rfl rfl ?_
  obtain ⟨ht8, hw⟩ := hw
  refine fun H locs hI ls hl => cx_ri (S := []) hI hl (fun _ h => h) (cr_V (Cn := RX3) (As := []) (rest := []) C hK hI hl 0 (cv_dyn hK hI (ci := 2) rfl (Or.inr (cdE_2 ht8))) (sc_X3_here _ X H.size _ _ _ hw) (lw_V q250 q252 qs1 q87 q253) (by decide +kernel) ⟨rfl, rfl, Nat.le_of_ble_eq_true rfl, Nat.le_of_ble_eq_true rfl⟩ (av_W [] 8 (Nat.le_of_ble_eq_true rfl)) dX3_all_6 rfl rfl ⟨by omega, by omega⟩) (fun r6 μ7 hw => ?_)
  refine hx_iconst C dX3_all_9 ?_
  obtain ⟨hr9, hw⟩ := hw
  refine hx_icmp_ne (tgt := 17) C dX3_all_10 (by decide) hr9 (by decide) (fun h => ?_) (fun h => ?_)
  · have hw := hw.1 h
    refine hx_iconst C dX3_all_17 ?_
    refine hx_L [1, 0] rfl ?_
    exact sc_X3_all_18 C hK hX hQ  _ _ _ _ _ hw _ _ hb
  · have hw := hw.2 h
    refine hx_iconst C dX3_all_13 ?_
    refine hx_goto (tgt := 18) C dX3_all_14 (by decide) ?_
    refine hx_L [1, 0] rfl ?_
    exact sc_X3_all_18 C hK hX hQ  _ _ _ _ _ hw _ _ hb
