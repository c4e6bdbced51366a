/-! walks of the component (printed by gen_comp) -/
set_option maxRecDepth 100000
-- ('BinderPress$Kinds', '<init>', '(LBinderPress$Term;)V')
def wc_X11_init_35b (X : cX) (P35 : Nat → Option Nat → Int → Nat → CM → Prop) (Q : CM → Prop) (l0 : Nat) (l1 : Option Nat) (l2 : Int) (b : Nat) (μ : CM) : Prop := R32 l2 ∧ ((26 ≤ l2 → (∃ b2, b2 ≤ b ∧ tg μ l0 = 9 ∧ wr_X11_of X 130 b2 l0 l1 μ (fun r4 μ5 => tg μ5 l0 = 9 ∧ Q (poR μ5 l0 4 r4)))) ∧ (l2 < 26 → tg μ l0 = 9 ∧ 1 ≤ b ∧ ∀ a10, tg μ a10 = 0 → wc_X12_init X a10 (alc μ a10 10 0) (fun μ15 => (∃ a16, (oR μ l0 0) = some a16 ∧ tg μ15 a16 = 25 ∧ (0 ≤ l2 ∧ l2 < ((ln μ15 a16) : Int)) ∧ (ln μ15 a16) < 2147483648 ∧ (∀ v, (some a10) = some v → tg μ15 v = 10) ∧ P35 l0 l1 (l2 + 1) (b - 1) (poR μ15 a16 (l2).toNat (some a10))))))
set_option maxHeartbeats 4000000 in
theorem sc_X11_init_35b {Z : zz} {X : cX} {μ0 : CM} {Q : CM → Prop} (C : gC Z cX11_init 3 RX11 none 1064 24741) (hK : cCt Z X μ0) (hin : (zz_t Z).name = "<init>") (hQ : zz_q Z = MQ (zz_b Z) (cQv X μ0 (zz_s Z).heap.size Q) (zz_a Z) (zz_s Z) (zz_R Z).cells (zz_R Z).slots (cA X μ0 (zz_s Z).heap.size)) {P35 : Nat → Option Nat → Int → Nat → CM → Prop} (hP35 : ∀ l0 l1 l2 b μ, P35 l0 l1 l2 b μ → ∀ kk nn, (kk + b ≤ (zz_R Z).cells ∧ nn + 5 * b ≤ (zz_R Z).slots) → hG Z 3 (cI Z X μ0 μ) kk nn 35 [(0, aR (some l0)), (1, aR l1), (2, aI l2)] [])  : ∀ l0 l1 l2 b μ, wc_X11_init_35b X P35 Q l0 l1 l2 b μ → ∀ kk nn, (kk + b ≤ (zz_R Z).cells ∧ nn + 5 * b ≤ (zz_R Z).slots) → hG Z 3 (cI Z X μ0 μ) kk nn 35 [(0, aR (some l0)), (1, aR l1), (2, aI l2)] [] := by
  intro l0 l1 l2 b μ hw kk nn hb
  unfold wc_X11_init_35b at hw
  refine hx_iload_n C dX11_init_35 2 rfl rfl ?_
  refine hx_bipush C dX11_init_36 (by decide) ?_
  obtain ⟨hr1, hw⟩ := hw
  refine hx_icmp_ge (tgt := 60) C dX11_init_38 (by decide) hr1 (by decide) (fun h => ?_) (fun h => ?_)
  · have hw := hw.1 h
    refine hx_aload_n C dX11_init_60 0 rfl rfl ?_
    refine hx_aload_n C dX11_init_61 0 rfl rfl ?_
    refine hx_aload_n C dX11_init_62 1 rfl rfl ?_
    obtain ⟨b2, hu3, hw⟩ := hw
    obtain ⟨ht6, hw⟩ := hw
    refine fun H locs hI ls hl => cx_rr (S := [aR (some l0)]) hI hl (fun _ h => h) (dr_V (Cn := RX11) (As := [toV (aR l1)]) (rest := [toV (aR (some l0))]) C hK hI hl 1 (cv_dyn hK hI (ci := 8) rfl (Or.inr (cdE_8 ht6))) ((rr_X11_of _ X 130) b2 _ _ _ H.size _ hw) (by omega) (by omega) (lw_V q1179 q1181 qs27 q107 q1182) (by decide +kernel) (av_W [aR (some l0)] 8 (Nat.le_of_ble_eq_true rfl)) dX11_init_63 rfl rfl ⟨by omega, by omega⟩) (fun r4 μ5 hw => ?_)
    obtain hb : (kk + b2) + (b - b2) ≤ (zz_R Z).cells ∧ (nn + 5 * b2) + 5 * (b - b2) ≤ (zz_R Z).slots := ⟨by omega, by omega⟩
    obtain ⟨ht7, hw⟩ := hw
    refine cx_putF (μ := μ5) (μ' := (poR μ5 l0 4 r4)) C hK hin 8 4 rfl in_X11 tyX11_ok nmX11 (by decide) q1221 rfl rfl rfl (cdE_8 ht7) (Nat.le_of_ble_eq_true rfl) (cz_r (ty := tyX11 4) rfl r4) (cset_8_4 μ5 l0 r4) (cdE_8 ht7) rfl rfl rfl (fun _ _ => rfl) (fun _ hb => stq_o hb) dX11_init_66 ?_
    exact cx_vret C hQ (by omega) (by omega) hw dX11_init_69
  · have hw := hw.2 h
    refine hx_aload_n C dX11_init_41 0 rfl rfl ?_
    obtain ⟨ht8, hw⟩ := hw
    refine cx_get (μ := μ) (v := aR (oR μ l0 0)) C hK 8 0 rfl in_X11 (by decide) q1217 rfl (cdE_8 ht8) rfl dX11_init_42 ?_
    refine hx_iload_n C dX11_init_45 2 rfl rfl ?_
    obtain ⟨hu9, hw⟩ := hw
    refine cx_new (fs := fun a => coF_9 (alc μ a 10 0) a) C hK 9 10 rfl in_X12 tyX12_ok q1157 q1159 q108 (by decide) (fun a => cdE_9 alc_t) (cxd_9 _) (by omega) (by omega) dX11_init_46 (fun a10 hf11 => ?_)
    have hw := hw a10 hf11
    obtain hb : (kk + 1) + (b - 1) ≤ (zz_R Z).cells ∧ (nn + 4) + 5 * (b - 1) ≤ (zz_R Z).slots := ⟨by omega, by omega⟩
    have ht12 := alc_kp (t := 10) (m := 0) hf11 ht8 (by decide)
    have ht13 : tg (alc μ a10 10 0) a10 = 10 := alc_t
    refine hx_dup C dX11_init_49 rfl ?_
    refine fun H locs hI ls hl => cx_rv (S := [aR (some a10), aI l2, aR (oR μ l0 0)]) hI hl (fun _ h => h) (cr_IN (a := a10) (As := []) (rest := [toV (aR (some a10)), toV (aI l2), toV (aR (oR μ l0 0))]) C hK hI hl 0 (sc_X12_init _ X H.size _ _ _ hw) (List.mem_of_getElem? (i := 33) rfl) q1161 q108 q1162 rfl (by decide +kernel) ⟨rfl, rfl, Nat.le_of_ble_eq_true rfl, Nat.le_of_ble_eq_true rfl⟩ (av_W [aR (some a10), aI l2, aR (oR μ l0 0)] 8 (Nat.le_of_ble_eq_true rfl)) dX11_init_50 rfl rfl ⟨by omega, by omega⟩) (fun μ15 hw => ?_)
    obtain ⟨a16, ha17, hw⟩ := hw
    rw [ha17]
    obtain ⟨ht18, hw⟩ := hw
    obtain ⟨hx19, hw⟩ := hw
    obtain ⟨hl20, hw⟩ := hw
    obtain ⟨hy21, hw⟩ := hw
    refine cx_aast (μ := μ15) (μ' := (poR μ15 a16 (l2).toNat (some a10))) (len := (ln μ15 a16)) C hK 5 rfl (cu_oK ht18) (cany_K hy21) hx19.1 hx19.2 hl20 dX11_init_53 ?_
    refine hx_iinc (L' := [(2, aI (l2 + 1)), (0, aR (some l0)), (1, aR l1)]) C dX11_init_54 2 rfl (by decide) rfl ?_
    refine hx_goto (tgt := 35) C dX11_init_57 (by decide) ?_
    refine hx_L [1, 2, 0] rfl ?_
    exact hP35 _ _ _ _ _ hw _ _ hb
def wc_X11_init_35 (X : cX) (Q : CM → Prop) (l0 : Nat) (l1 : Option Nat) (l2 : Int) (b : Nat) (μ : CM) : Prop := ∀ P35 : Nat → Option Nat → Int → Nat → CM → Prop, (∀ l0 l1 l2 b μ, wc_X11_init_35b X P35 Q l0 l1 l2 b μ → P35 l0 l1 l2 b μ) → P35 l0 l1 l2 b μ
set_option maxHeartbeats 4000000 in
theorem sc_X11_init_35 {Z : zz} {X : cX} {μ0 : CM} {Q : CM → Prop} (C : gC Z cX11_init 3 RX11 none 1064 24741) (hK : cCt Z X μ0) (hin : (zz_t Z).name = "<init>") (hQ : zz_q Z = MQ (zz_b Z) (cQv X μ0 (zz_s Z).heap.size Q) (zz_a Z) (zz_s Z) (zz_R Z).cells (zz_R Z).slots (cA X μ0 (zz_s Z).heap.size))  : ∀ l0 l1 l2 b μ, wc_X11_init_35 X Q l0 l1 l2 b μ → ∀ kk nn, (kk + b ≤ (zz_R Z).cells ∧ nn + 5 * b ≤ (zz_R Z).slots) → hG Z 3 (cI Z X μ0 μ) kk nn 35 [(0, aR (some l0)), (1, aR l1), (2, aI l2)] [] := by
  intro l0 l1 l2 b μ hw
  exact hw (fun l0 l1 l2 b μ => ∀ kk nn, (kk + b ≤ (zz_R Z).cells ∧ nn + 5 * b ≤ (zz_R Z).slots) → hG Z 3 (cI Z X μ0 μ) kk nn 35 [(0, aR (some l0)), (1, aR l1), (2, aI l2)] []) (fun l0 l1 l2 b μ hw => sc_X11_init_35b C hK hin hQ (fun _ _ _ _ _ h => h) l0 l1 l2 b μ hw)
def wc_X11_init (X : cX) (b : Nat) (l0 : Nat) (l1 : Option Nat) (μ : CM) (Q : CM → Prop) : Prop := 6 ≤ b ∧ ∀ a2, tg μ a2 = 0 → tg (alc μ a2 25 26) l0 = 9 ∧ 6 ≤ (b - 6) ∧ ∀ a7, tg (alc μ a2 25 26) a7 = 0 → 1 ≤ ((b - 6) - 6) ∧ ∀ a13, tg (alc (poR (alc μ a2 25 26) l0 0 (some a2)) a7 25 26) a13 = 0 → wc_X12_init X a13 (alc (poR (alc (poR (alc μ a2 25 26) l0 0 (some a2)) a7 25 26) l0 1 (some a7)) a13 10 0) (fun μ20 => tg μ20 l0 = 9 ∧ wc_X11_init_35 X   Q l0 l1 0 (((b - 6) - 6) - 1) (poR μ20 l0 3 (some a13)))
set_option maxHeartbeats 4000000 in
theorem sc_X11_init (l : Launch) (X : cX) (sz : Nat) (Q : CM → Prop) (b : Nat) (l0 : Nat) (l1 : Option Nat) (μ : CM) (hw : wc_X11_init X b l0 l1 μ Q) : Met l yX11_init (ws_ yX11_init cX11_init 3 none) ({ frames := 1064, cells := b, slots := 5 * b, locals := 24741 }) (cPc X (([aR (some l0), aR l1] : List AV).map toV) μ sz) (cQv X μ sz Q) b (5 * b) (cA X μ sz) := by
  refine cx_met2 (rm := ({ frames := 1064, cells := b, slots := 5 * b, locals := 24741 })) (As := [aR (some l0), aR l1]) (L0 := [(0, aR (some l0)), (1, aR l1)]) (by decide) rfl (Nat.le_of_ble_eq_true rfl) rfl ?_
  intro Z C hK hsz hR hl0 hin hQ
  subst hsz
  have C : gC Z cX11_init 3 RX11 none 1064 24741 := C
  have hQ : zz_q Z = MQ (zz_b Z) (cQv X μ (zz_s Z).heap.size Q) (zz_a Z) (zz_s Z) (zz_R Z).cells (zz_R Z).slots (cA X μ (zz_s Z).heap.size) := by rw [hR]; exact hQ
  have hb : 0 + b ≤ (zz_R Z).cells ∧ 0 + 5 * b ≤ (zz_R Z).slots := by rw [hR]; exact ⟨by dsimp only; omega, by dsimp only; omega⟩
  unfold wc_X11_init at hw
  refine hx_aload_n C dX11_init_0 0 rfl rfl ?_
  refine cx_objInit C q1156 q116 q117 (by omega) (by simp [toV_cat, avc]; try omega) dX11_init_1 ?_
  refine hx_aload_n C dX11_init_4 0 rfl rfl ?_
  refine hx_bipush C dX11_init_5 (by decide) ?_
  obtain ⟨hu1, hw⟩ := hw
  refine cx_newQL C hK 5 25 26 rfl rfl rfl (by decide) q1157 (by decide) (fun ν a h => cdA_5 h) (by decide) (by decide) (by omega) (by omega) dX11_init_7 (fun a2 hf3 => ?_)
  have hw := hw a2 hf3
  obtain hb : (0 + 1) + (b - 6) ≤ (zz_R Z).cells ∧ (0 + 26) + 5 * (b - 6) ≤ (zz_R Z).slots := ⟨by omega, by omega⟩
  have ht4 : tg (alc μ a2 25 26) a2 = 25 := alc_t
  obtain ⟨ht5, hw⟩ := hw
  refine cx_putF (μ := (alc μ a2 25 26)) (μ' := (poR (alc μ a2 25 26) l0 0 (some a2))) C hK hin 8 0 rfl in_X11 tyX11_ok nmX11 (by decide) q1217 rfl rfl rfl (cdE_8 ht5) (Nat.le_of_ble_eq_true rfl) (cz_r (ty := tyX11 0) rfl (some a2)) (cset_8_0 (alc μ a2 25 26) l0 (some a2)) (cdE_8 ht5) rfl rfl rfl (fun _ _ => rfl) (fun _ hb => stq_o hb) dX11_init_10 ?_
  refine hx_aload_n C dX11_init_13 0 rfl rfl ?_
  refine hx_bipush C dX11_init_14 (by decide) ?_
  obtain ⟨hu6, hw⟩ := hw
  refine cx_newQL C hK 5 25 26 rfl rfl rfl (by decide) q1157 (by decide) (fun ν a h => cdA_5 h) (by decide) (by decide) (by omega) (by omega) dX11_init_16 (fun a7 hf8 => ?_)
  have hw := hw a7 hf8
  obtain hb : ((0 + 1) + 1) + ((b - 6) - 6) ≤ (zz_R Z).cells ∧ ((0 + 26) + 26) + 5 * ((b - 6) - 6) ≤ (zz_R Z).slots := ⟨by omega, by omega⟩
  have ht9 := alc_kp (t := 25) (m := 26) hf8 ht4 (by decide)
  have ht10 := alc_kp (t := 25) (m := 26) hf8 ht5 (by decide)
  have ht11 : tg (alc (poR (alc μ a2 25 26) l0 0 (some a2)) a7 25 26) a7 = 25 := alc_t
  refine cx_putF (μ := (alc (poR (alc μ a2 25 26) l0 0 (some a2)) a7 25 26)) (μ' := (poR (alc (poR (alc μ a2 25 26) l0 0 (some a2)) a7 25 26) l0 1 (some a7))) C hK hin 8 1 rfl in_X11 tyX11_ok nmX11 (by decide) q1218 rfl rfl rfl (cdE_8 ht10) (Nat.le_of_ble_eq_true rfl) (cz_r (ty := tyX11 1) rfl (some a7)) (cset_8_1 (alc (poR (alc μ a2 25 26) l0 0 (some a2)) a7 25 26) l0 (some a7)) (cdE_8 ht10) rfl rfl rfl (fun _ _ => rfl) (fun _ hb => stq_o hb) dX11_init_19 ?_
  refine hx_aload_n C dX11_init_22 0 rfl rfl ?_
  obtain ⟨hu12, hw⟩ := hw
  refine cx_new (fs := fun a => coF_9 (alc (poR (alc (poR (alc μ a2 25 26) l0 0 (some a2)) a7 25 26) l0 1 (some a7)) a 10 0) a) C hK 9 10 rfl in_X12 tyX12_ok q1157 q1159 q108 (by decide) (fun a => cdE_9 alc_t) (cxd_9 _) (by omega) (by omega) dX11_init_23 (fun a13 hf14 => ?_)
  have hw := hw a13 hf14
  obtain hb : (((0 + 1) + 1) + 1) + (((b - 6) - 6) - 1) ≤ (zz_R Z).cells ∧ (((0 + 26) + 26) + 4) + 5 * (((b - 6) - 6) - 1) ≤ (zz_R Z).slots := ⟨by omega, by omega⟩
  have ht15 := alc_kp (t := 10) (m := 0) hf14 ht9 (by decide)
  have ht16 := alc_kp (t := 10) (m := 0) hf14 ht10 (by decide)
  have ht17 := alc_kp (t := 10) (m := 0) hf14 ht11 (by decide)
  have ht18 : tg (alc (poR (alc (poR (alc μ a2 25 26) l0 0 (some a2)) a7 25 26) l0 1 (some a7)) a13 10 0) a13 = 10 := alc_t
  refine hx_dup C dX11_init_26 rfl ?_
  refine fun H locs hI ls hl => cx_rv (S := [aR (some a13), aR (some l0)]) hI hl (fun _ h => h) (cr_IN (a := a13) (As := []) (rest := [toV (aR (some a13)), toV (aR (some l0))]) C hK hI hl 0 (sc_X12_init _ X H.size _ _ _ hw) (List.mem_of_getElem? (i := 33) rfl) q1161 q108 q1162 rfl (by decide +kernel) ⟨rfl, rfl, Nat.le_of_ble_eq_true rfl, Nat.le_of_ble_eq_true rfl⟩ (av_W [aR (some a13), aR (some l0)] 8 (Nat.le_of_ble_eq_true rfl)) dX11_init_27 rfl rfl ⟨by omega, by omega⟩) (fun μ20 hw => ?_)
  obtain ⟨ht21, hw⟩ := hw
  refine cx_put (μ := μ20) (μ' := (poR μ20 l0 3 (some a13))) C hK 8 3 rfl in_X11 tyX11_ok nmX11 (by decide) q1220 rfl rfl (cdE_8 ht21) (Nat.le_of_ble_eq_true rfl) (cz_r (ty := tyX11 3) rfl (some a13)) (cset_8_3 μ20 l0 (some a13)) (cdE_8 ht21) rfl rfl rfl (fun _ _ => rfl) (fun _ hb => stq_o hb) dX11_init_30 ?_
  refine hx_iconst C dX11_init_33 ?_
  refine hx_istore_n (L' := [(2, aI 0), (0, aR (some l0)), (1, aR l1)]) C dX11_init_34 rfl (by decide) rfl ?_
  refine hx_L [1, 2, 0] rfl ?_
  exact sc_X11_init_35 C hK hin hQ  _ _ _ _ _ hw _ _ hb
-- ('BinderPress$Kind', 'isRound', '()Z')
def rmet_X12_isRound (l : Launch) (X : cX) (fr lo : Nat) (rc : Nat → CM → (Int → CM → Prop) → Prop) : Prop := ∀ (l0 : Nat) (μ : CM) (sz : Nat) (Q : Int → CM → Prop), rc l0 μ Q → ∃ rm, crm rm 0 (0) fr lo 3 ∧ Met l yX12_isRound (ws_ yX12_isRound cX12_isRound 3 (some .boolean)) rm (cPc X (([aR (some l0)] : List AV).map toV) μ sz) (cQi X μ sz Q) 0 (0) (cA X μ sz)
def wc_X12_isRound_20 (X : cX) (rc : Nat → CM → (Int → CM → Prop) → Prop) (Q : Int → CM → Prop) (μ : CM) : Prop := Q 0 μ
set_option maxHeartbeats 4000000 in
theorem sc_X12_isRound_20 {Z : zz} {X : cX} {μ0 : CM} {Q : Int → CM → Prop} {rc : Nat → CM → (Int → CM → Prop) → Prop} {fr lo : Nat} (hA : 1 ≤ fr) (hB : 21 ≤ lo) (C : gC Z cX12_isRound 3 RX12 (some .boolean) (fr + 0) (lo + 0)) (hK : cCt Z X μ0) (hrc : rmet_X12_isRound (zz_l Z) X fr lo rc) (hQ : zz_q Z = MQ (zz_b Z) (cQi X μ0 (zz_s Z).heap.size Q) (zz_a Z) (zz_s Z) (zz_R Z).cells (zz_R Z).slots (cA X μ0 (zz_s Z).heap.size))  : ∀ μ, wc_X12_isRound_20 X rc Q μ → hG Z 3 (cI Z X μ0 μ) 0 0 20 [] [] := by
  intro μ hw
  unfold wc_X12_isRound_20 at hw
  refine hx_iconst C dX12_isRound_20 ?_
  exact cx_iret C hQ (by omega) (by omega) (mz_n (by decide)) hw dX12_isRound_21
def wc_X12_isRound_62 (X : cX) (rc : Nat → CM → (Int → CM → Prop) → Prop) (Q : Int → CM → Prop) (l1 : Option Nat) (s0 : Int) (μ : CM) : Prop := (∃ a1, l1 = some a1 ∧ tg μ a1 = 10 ∧ (s0 = 0 ∨ s0 = 1) ∧ Q s0 (poI μ a1 3 2))
set_option maxHeartbeats 4000000 in
theorem sc_X12_isRound_62 {Z : zz} {X : cX} {μ0 : CM} {Q : Int → CM → Prop} {rc : Nat → CM → (Int → CM → Prop) → Prop} {fr lo : Nat} (hA : 1 ≤ fr) (hB : 21 ≤ lo) (C : gC Z cX12_isRound 3 RX12 (some .boolean) (fr + 0) (lo + 0)) (hK : cCt Z X μ0) (hrc : rmet_X12_isRound (zz_l Z) X fr lo rc) (hQ : zz_q Z = MQ (zz_b Z) (cQi X μ0 (zz_s Z).heap.size Q) (zz_a Z) (zz_s Z) (zz_R Z).cells (zz_R Z).slots (cA X μ0 (zz_s Z).heap.size))  : ∀ l1 s0 μ, wc_X12_isRound_62 X rc Q l1 s0 μ → hG Z 3 (cI Z X μ0 μ) 0 0 62 [(1, aR l1)] [aI s0] := by
  intro l1 s0 μ hw
  unfold wc_X12_isRound_62 at hw
  refine hx_istore_n (L' := [(2, aI s0), (1, aR l1)]) C dX12_isRound_62 rfl (by decide) rfl ?_
  refine hx_aload_n C dX12_isRound_63 1 rfl rfl ?_
  refine hx_iconst C dX12_isRound_64 ?_
  obtain ⟨a1, ha2, hw⟩ := hw
  rw [ha2]
  obtain ⟨ht3, hw⟩ := hw
  refine cx_put (μ := μ) (μ' := (poI μ a1 3 2)) C hK 9 3 rfl in_X12 tyX12_ok nmX12 (by decide) q1169 rfl rfl (cdE_9 ht3) (Nat.le_of_ble_eq_true rfl) ⟨rfl, rfl⟩ (cset_9_3 μ a1 2) (cdE_9 ht3) rfl rfl rfl (fun _ hb => st_o hb) (fun _ _ => rfl) dX12_isRound_65 ?_
  refine hx_iload_n C dX12_isRound_68 0 rfl rfl ?_
  obtain ⟨hz, hw⟩ := hw
  exact cx_iret C hQ (by omega) (by omega) (mz_n hz) hw dX12_isRound_69
def wc_X12_isRound_57 (X : cX) (rc : Nat → CM → (Int → CM → Prop) → Prop) (Q : Int → CM → Prop) (l1 : Option Nat) (μ : CM) : Prop := wc_X12_isRound_62 X rc  Q l1 1 μ
set_option maxHeartbeats 4000000 in
theorem sc_X12_isRound_57 {Z : zz} {X : cX} {μ0 : CM} {Q : Int → CM → Prop} {rc : Nat → CM → (Int → CM → Prop) → Prop} {fr lo : Nat} (hA : 1 ≤ fr) (hB : 21 ≤ lo) (C : gC Z cX12_isRound 3 RX12 (some .boolean) (fr + 0) (lo + 0)) (hK : cCt Z X μ0) (hrc : rmet_X12_isRound (zz_l Z) X fr lo rc) (hQ : zz_q Z = MQ (zz_b Z) (cQi X μ0 (zz_s Z).heap.size Q) (zz_a Z) (zz_s Z) (zz_R Z).cells (zz_R Z).slots (cA X μ0 (zz_s Z).heap.size))  : ∀ l1 μ, wc_X12_isRound_57 X rc Q l1 μ → hG Z 3 (cI Z X μ0 μ) 0 0 57 [(1, aR l1)] [] := by
  intro l1 μ hw
  unfold wc_X12_isRound_57 at hw
  refine hx_iconst C dX12_isRound_57 ?_
  refine hx_goto (tgt := 62) C dX12_isRound_58 (by decide) ?_
  refine hx_L [0] rfl ?_
  exact sc_X12_isRound_62 hA hB C hK hrc hQ  _ _ _ hw
def wc_X12_isRound (X : cX) (rc : Nat → CM → (Int → CM → Prop) → Prop) (l0 : Nat) (μ : CM) (Q : Int → CM → Prop) : Prop := tg μ l0 = 10 ∧ wc_X12_self X l0 μ (fun r1 μ2 => (∃ a4, r1 = some a4 ∧ tg μ2 a4 = 10 ∧ (((oR μ2 a4 1) = none → wc_X12_isRound_20 X rc  Q μ2) ∧ (¬ (oR μ2 a4 1) = none → R32 (oI μ2 a4 3) ∧ ((¬ (oI μ2 a4 3) = 2 → R32 (oI μ2 a4 3) ∧ ((¬ (oI μ2 a4 3) = 1 → (∃ a9, (oR μ2 a4 1) = some a9 ∧ tg μ2 a9 = 10 ∧ rc a9 (poI μ2 a4 3 1) (fun r11 μ12 => R32 r11 ∧ ((¬ r11 = 0 → wc_X12_isRound_57 X rc  Q (some a4) μ12) ∧ (r11 = 0 → (tg μ12 a4 = 10 ∧ ∃ a16, (oR μ12 a4 2) = some a16 ∧ tg μ12 a16 = 10 ∧ rc a16 μ12 (fun r18 μ19 => R32 r18 ∧ ((r18 = 0 → wc_X12_isRound_62 X rc  Q (some a4) 0 μ19) ∧ (¬ r18 = 0 → wc_X12_isRound_57 X rc  Q (some a4) μ19))))))))) ∧ ((oI μ2 a4 3) = 1 → Q 1 μ2))) ∧ ((oI μ2 a4 3) = 2 → wc_X12_isRound_20 X rc  Q μ2))))))
set_option maxHeartbeats 4000000 in
theorem sc_X12_isRound (l : Launch) (X : cX) (sz : Nat) (Q : Int → CM → Prop) {rc : Nat → CM → (Int → CM → Prop) → Prop} {fr lo : Nat} (hA : 1 ≤ fr) (hB : 21 ≤ lo) (hrc : rmet_X12_isRound l X fr lo rc) (l0 : Nat) (μ : CM) (hw : wc_X12_isRound X rc l0 μ Q) : Met l yX12_isRound (ws_ yX12_isRound cX12_isRound 3 (some .boolean)) ({ frames := (fr + 0), cells := 0, slots := 0, locals := (lo + 0) }) (cPc X (([aR (some l0)] : List AV).map toV) μ sz) (cQi X μ sz Q) 0 (0) (cA X μ sz) := by
  refine cx_met2 (rm := ({ frames := (fr + 0), cells := 0, slots := 0, locals := (lo + 0) })) (As := [aR (some l0)]) (L0 := [(0, aR (some l0))]) (by decide) rfl (Nat.le_of_ble_eq_true rfl) rfl ?_
  intro Z C hK hsz hR hl0 hin hQ
  subst hsz
  have C : gC Z cX12_isRound 3 RX12 (some .boolean) (fr + 0) (lo + 0) := C
  rw [← hl0] at hrc
  have hQ : zz_q Z = MQ (zz_b Z) (cQi X μ (zz_s Z).heap.size Q) (zz_a Z) (zz_s Z) (zz_R Z).cells (zz_R Z).slots (cA X μ (zz_s Z).heap.size) := by rw [hR]; exact hQ
  unfold wc_X12_isRound at hw
  refine hx_aload_n C dX12_isRound_0 0 rfl rfl ?_
  obtain ⟨ht3, hw⟩ := hw
  refine fun H locs hI ls hl => cx_rr (S := []) hI hl (fun _ h => h) (cr_V (Cn := RX12) (As := []) (rest := []) C hK hI hl 0 (cv_dyn hK hI (ci := 9) rfl (Or.inr (cdE_9 ht3))) (sc_X12_self _ X H.size _ _ _ hw) (lw_V q1207 q1208 q1209 q108 q1210) (by decide +kernel) ⟨rfl, rfl, by (dsimp only; omega), by (dsimp only; omega)⟩ (av_W [] 8 (Nat.le_of_ble_eq_true rfl)) dX12_isRound_1 rfl rfl ⟨by omega, by omega⟩) (fun r1 μ2 hw => ?_)
  refine hx_astore_n (L' := [(1, aR r1), (0, aR (some l0))]) C dX12_isRound_4 rfl (by decide) rfl ?_
  refine hx_aload_n C dX12_isRound_5 0 rfl rfl ?_
  obtain ⟨a4, ha5, hw⟩ := hw
  rw [ha5]
  obtain ⟨ht6, hw⟩ := hw
  refine cx_get (μ := μ2) (v := aR (oR μ2 a4 1)) C hK 9 1 rfl in_X12 (by decide) q1165 rfl (cdE_9 ht6) rfl dX12_isRound_6 ?_
  refine hx_ifnull (tgt := 20) C dX12_isRound_9 (by decide) (fun h => ?_) (fun h => ?_)
  · have hw := hw.1 h
    refine hx_L [] rfl ?_
    exact sc_X12_isRound_20 hA hB C hK hrc hQ  _ hw
  · have hw := hw.2 h
    refine hx_aload_n C dX12_isRound_12 0 rfl rfl ?_
    refine cx_get (μ := μ2) (v := aI (oI μ2 a4 3)) C hK 9 3 rfl in_X12 (by decide) q1169 rfl (cdE_9 ht6) rfl dX12_isRound_13 ?_
    refine hx_iconst C dX12_isRound_16 ?_
    obtain ⟨hr7, hw⟩ := hw
    refine hx_icmp_ne (tgt := 22) C dX12_isRound_17 (by decide) hr7 (by decide) (fun h => ?_) (fun h => ?_)
    · have hw := hw.1 h
      refine hx_aload_n C dX12_isRound_22 0 rfl rfl ?_
      refine cx_get (μ := μ2) (v := aI (oI μ2 a4 3)) C hK 9 3 rfl in_X12 (by decide) q1169 rfl (cdE_9 ht6) rfl dX12_isRound_23 ?_
      refine hx_iconst C dX12_isRound_26 ?_
      obtain ⟨hr8, hw⟩ := hw
      refine hx_icmp_ne (tgt := 32) C dX12_isRound_27 (by decide) hr8 (by decide) (fun h => ?_) (fun h => ?_)
      · have hw := hw.1 h
        refine hx_aload_n C dX12_isRound_32 0 rfl rfl ?_
        refine hx_iconst C dX12_isRound_33 ?_
        refine cx_put (μ := μ2) (μ' := (poI μ2 a4 3 1)) C hK 9 3 rfl in_X12 tyX12_ok nmX12 (by decide) q1169 rfl rfl (cdE_9 ht6) (Nat.le_of_ble_eq_true rfl) ⟨rfl, rfl⟩ (cset_9_3 μ2 a4 1) (cdE_9 ht6) rfl rfl rfl (fun _ hb => st_o hb) (fun _ _ => rfl) dX12_isRound_34 ?_
        refine hx_aload_n C dX12_isRound_37 0 rfl rfl ?_
        refine cx_get (μ := (poI μ2 a4 3 1)) (v := aR (oR μ2 a4 1)) C hK 9 1 rfl in_X12 (by decide) q1165 rfl (cdE_9 ht6) rfl dX12_isRound_38 ?_
        obtain ⟨a9, ha10, hw⟩ := hw
        rw [ha10]
        obtain ⟨ht13, hw⟩ := hw
        refine fun H locs hI ls hl => cx_ri (S := []) hI hl (fun _ h => h) (dr_V (Cn := RX12) (As := []) (rest := []) C hK hI hl 0 (cv_dyn hK hI (ci := 9) rfl (Or.inr (cdE_9 ht13))) (hrc _ _ H.size _ hw) (by omega) (by omega) (lw_V q1245 q1242 q1243 q108 q1244) (by decide +kernel) (av_W [] 8 (Nat.le_of_ble_eq_true rfl)) dX12_isRound_41 rfl rfl ⟨by omega, by omega⟩) (fun r11 μ12 hw => ?_)
        obtain ⟨hr14, hw⟩ := hw
        refine hx_if_ne (tgt := 57) C dX12_isRound_44 (by decide) hr14 (fun h => ?_) (fun h => ?_)
        · have hw := hw.1 h
          refine hx_L [0] rfl ?_
          exact sc_X12_isRound_57 hA hB C hK hrc hQ  _ _ hw
        · have hw := hw.2 h
          refine hx_aload_n C dX12_isRound_47 0 rfl rfl ?_
          obtain ⟨ht15, hw⟩ := hw
          refine cx_get (μ := μ12) (v := aR (oR μ12 a4 2)) C hK 9 2 rfl in_X12 (by decide) q1167 rfl (cdE_9 ht15) rfl dX12_isRound_48 ?_
          obtain ⟨a16, ha17, hw⟩ := hw
          rw [ha17]
          obtain ⟨ht20, hw⟩ := hw
          refine fun H locs hI ls hl => cx_ri (S := []) hI hl (fun _ h => h) (dr_V (Cn := RX12) (As := []) (rest := []) C hK hI hl 0 (cv_dyn hK hI (ci := 9) rfl (Or.inr (cdE_9 ht20))) (hrc _ _ H.size _ hw) (by omega) (by omega) (lw_V q1245 q1242 q1243 q108 q1244) (by decide +kernel) (av_W [] 8 (Nat.le_of_ble_eq_true rfl)) dX12_isRound_51 rfl rfl ⟨by omega, by omega⟩) (fun r18 μ19 hw => ?_)
          obtain ⟨hr21, hw⟩ := hw
          refine hx_if_eq (tgt := 61) C dX12_isRound_54 (by decide) hr21 (fun h => ?_) (fun h => ?_)
          · have hw := hw.1 h
            refine hx_iconst C dX12_isRound_61 ?_
            refine hx_L [0] rfl ?_
            exact sc_X12_isRound_62 hA hB C hK hrc hQ  _ _ _ hw
          · have hw := hw.2 h
            refine hx_L [0] rfl ?_
            exact sc_X12_isRound_57 hA hB C hK hrc hQ  _ _ hw
      · have hw := hw.2 h
        refine hx_iconst C dX12_isRound_30 ?_
        exact cx_iret C hQ (by omega) (by omega) (mz_n (by decide)) hw dX12_isRound_31
    · have hw := hw.2 h
      refine hx_L [] rfl ?_
      exact sc_X12_isRound_20 hA hB C hK hrc hQ  _ hw
def wr_X12_isRound (X : cX) : Nat → Nat → CM → (Int → CM → Prop) → Prop
  | 0 => fun _ _ _ => False
  | d + 1 => wc_X12_isRound X (wr_X12_isRound X d)
set_option maxHeartbeats 4000000 in
theorem rr_X12_isRound (l : Launch) (X : cX) : ∀ d, rmet_X12_isRound l X (1 + 1 * d) (21 + 22 * d) (wr_X12_isRound X d) := by
  intro d
  induction d with
  | zero => intro l0 μ sz Q h; exact h.elim
  | succ d ih =>
    intro l0 μ sz Q h
    exact ⟨_, ⟨rfl, rfl, by first | omega | (dsimp only; omega), by first | omega | (dsimp only; omega)⟩, sc_X12_isRound l X sz Q (by omega) (by omega) ih l0 μ h⟩
-- ('BinderPress$Kinds', 'isThere', '()Z')
def wc_X11_isThere_25 (X : cX) (Q : Int → CM → Prop) (s0 : Int) (μ : CM) : Prop := (s0 = 0 ∨ s0 = 1) ∧ Q s0 μ
set_option maxHeartbeats 4000000 in
theorem sc_X11_isThere_25 {Z : zz} {X : cX} {μ0 : CM} {Q : Int → CM → Prop} (C : gC Z cX11_isThere 1 RX11 (some .boolean) 802 17643) (hK : cCt Z X μ0) (hQ : zz_q Z = MQ (zz_b Z) (cQi X μ0 (zz_s Z).heap.size Q) (zz_a Z) (zz_s Z) (zz_R Z).cells (zz_R Z).slots (cA X μ0 (zz_s Z).heap.size))  : ∀ s0 μ, wc_X11_isThere_25 X Q s0 μ → hG Z 1 (cI Z X μ0 μ) 0 0 25 [] [aI s0] := by
  intro s0 μ hw
  unfold wc_X11_isThere_25 at hw
  obtain ⟨hz, hw⟩ := hw
  exact cx_iret C hQ (by omega) (by omega) (mz_n hz) hw dX11_isThere_25
def wc_X11_isThere_24 (X : cX) (Q : Int → CM → Prop) (μ : CM) : Prop := wc_X11_isThere_25 X   Q 0 μ
set_option maxHeartbeats 4000000 in
theorem sc_X11_isThere_24 {Z : zz} {X : cX} {μ0 : CM} {Q : Int → CM → Prop} (C : gC Z cX11_isThere 1 RX11 (some .boolean) 802 17643) (hK : cCt Z X μ0) (hQ : zz_q Z = MQ (zz_b Z) (cQi X μ0 (zz_s Z).heap.size Q) (zz_a Z) (zz_s Z) (zz_R Z).cells (zz_R Z).slots (cA X μ0 (zz_s Z).heap.size))  : ∀ μ, wc_X11_isThere_24 X Q μ → hG Z 1 (cI Z X μ0 μ) 0 0 24 [] [] := by
  intro μ hw
  unfold wc_X11_isThere_24 at hw
  refine hx_iconst C dX11_isThere_24 ?_
  refine hx_L [] rfl ?_
  exact sc_X11_isThere_25 C hK hQ  _ _ hw
def wc_X11_isThere (X : cX) (l0 : Nat) (μ : CM) (Q : Int → CM → Prop) : Prop := (tg μ l0 = 9 ∧ ∃ a2, (oR μ l0 4) = some a2 ∧ tg μ a2 = 10 ∧ wr_X12_isRound X 800 a2 μ (fun r4 μ5 => R32 r4 ∧ ((¬ r4 = 0 → wc_X11_isThere_24 X   Q μ5) ∧ (r4 = 0 → (tg μ5 l0 = 9 ∧ ∃ a9, (oR μ5 l0 3) = some a9 ∧ tg μ5 a9 = 10 ∧ wr_X12_isRound X 800 a9 μ5 (fun r11 μ12 => R32 r11 ∧ ((¬ r11 = 0 → wc_X11_isThere_24 X   Q μ12) ∧ (r11 = 0 → wc_X11_isThere_25 X   Q 1 μ12))))))))
set_option maxHeartbeats 4000000 in
theorem sc_X11_isThere (l : Launch) (X : cX) (sz : Nat) (Q : Int → CM → Prop) (l0 : Nat) (μ : CM) (hw : wc_X11_isThere X l0 μ Q) : Met l yX11_isThere (ws_ yX11_isThere cX11_isThere 1 (some .boolean)) ({ frames := 802, cells := 0, slots := 0, locals := 17643 }) (cPc X (([aR (some l0)] : List AV).map toV) μ sz) (cQi X μ sz Q) 0 (0) (cA X μ sz) := by
  refine cx_met2 (rm := ({ frames := 802, cells := 0, slots := 0, locals := 17643 })) (As := [aR (some l0)]) (L0 := [(0, aR (some l0))]) (by decide) rfl (Nat.le_of_ble_eq_true rfl) rfl ?_
  intro Z C hK hsz hR hl0 hin hQ
  subst hsz
  have C : gC Z cX11_isThere 1 RX11 (some .boolean) 802 17643 := C
  have hQ : zz_q Z = MQ (zz_b Z) (cQi X μ (zz_s Z).heap.size Q) (zz_a Z) (zz_s Z) (zz_R Z).cells (zz_R Z).slots (cA X μ (zz_s Z).heap.size) := by rw [hR]; exact hQ
  unfold wc_X11_isThere at hw
  refine hx_aload_n C dX11_isThere_0 0 rfl rfl ?_
  obtain ⟨ht1, hw⟩ := hw
  refine cx_get (μ := μ) (v := aR (oR μ l0 4)) C hK 8 4 rfl in_X11 (by decide) q1221 rfl (cdE_8 ht1) rfl dX11_isThere_1 ?_
  obtain ⟨a2, ha3, hw⟩ := hw
  rw [ha3]
  obtain ⟨ht6, hw⟩ := hw
  refine fun H locs hI ls hl => cx_ri (S := []) hI hl (fun _ h => h) (dr_V (Cn := RX12) (As := []) (rest := []) C hK hI hl 0 (cv_dyn hK hI (ci := 9) rfl (Or.inr (cdE_9 ht6))) ((rr_X12_isRound _ X 800) _ _ H.size _ hw) (by omega) (by omega) (lw_V q1241 q1242 q1243 q108 q1244) (by decide +kernel) (av_W [] 8 (Nat.le_of_ble_eq_true rfl)) dX11_isThere_4 rfl rfl ⟨by omega, by omega⟩) (fun r4 μ5 hw => ?_)
  obtain ⟨hr7, hw⟩ := hw
  refine hx_if_ne (tgt := 24) C dX11_isThere_7 (by decide) hr7 (fun h => ?_) (fun h => ?_)
  · have hw := hw.1 h
    refine hx_L [] rfl ?_
    exact sc_X11_isThere_24 C hK hQ  _ hw
  · have hw := hw.2 h
    refine hx_aload_n C dX11_isThere_10 0 rfl rfl ?_
    obtain ⟨ht8, hw⟩ := hw
    refine cx_get (μ := μ5) (v := aR (oR μ5 l0 3)) C hK 8 3 rfl in_X11 (by decide) q1220 rfl (cdE_8 ht8) rfl dX11_isThere_11 ?_
    obtain ⟨a9, ha10, hw⟩ := hw
    rw [ha10]
    obtain ⟨ht13, hw⟩ := hw
    refine fun H locs hI ls hl => cx_ri (S := []) hI hl (fun _ h => h) (dr_V (Cn := RX12) (As := []) (rest := []) C hK hI hl 0 (cv_dyn hK hI (ci := 9) rfl (Or.inr (cdE_9 ht13))) ((rr_X12_isRound _ X 800) _ _ H.size _ hw) (by omega) (by omega) (lw_V q1241 q1242 q1243 q108 q1244) (by decide +kernel) (av_W [] 8 (Nat.le_of_ble_eq_true rfl)) dX11_isThere_14 rfl rfl ⟨by omega, by omega⟩) (fun r11 μ12 hw => ?_)
    obtain ⟨hr14, hw⟩ := hw
    refine hx_if_ne (tgt := 24) C dX11_isThere_17 (by decide) hr14 (fun h => ?_) (fun h => ?_)
    · have hw := hw.1 h
      refine hx_L [] rfl ?_
      exact sc_X11_isThere_24 C hK hQ  _ hw
    · have hw := hw.2 h
      refine hx_iconst C dX11_isThere_20 ?_
      refine hx_goto (tgt := 25) C dX11_isThere_21 (by decide) ?_
      refine hx_L [] rfl ?_
      exact sc_X11_isThere_25 C hK hQ  _ _ hw
-- ('BinderPress$TooLong', '<init>', '()V')
def wc_X13_init (X : cX) (l0 : Nat) (μ : CM) (Q : CM → Prop) : Prop := wc_J2_init X l0 none none 0 0 μ (fun μ2 => Q μ2)
set_option maxHeartbeats 4000000 in
theorem sc_X13_init (l : Launch) (X : cX) (sz : Nat) (Q : CM → Prop) (l0 : Nat) (μ : CM) (hw : wc_X13_init X l0 μ Q) : Met l yX13_init (ws_ yX13_init cX13_init 1 none) ({ frames := 3, cells := 0, slots := 0, locals := 78 }) (cPc X (([aR (some l0)] : List AV).map toV) μ sz) (cQv X μ sz Q) 0 (0) (cA X μ sz) := by
  refine cx_met2 (rm := ({ frames := 3, cells := 0, slots := 0, locals := 78 })) (As := [aR (some l0)]) (L0 := [(0, aR (some l0))]) (by decide) rfl (Nat.le_of_ble_eq_true rfl) rfl ?_
  intro Z C hK hsz hR hl0 hin hQ
  subst hsz
  have C : gC Z cX13_init 1 RX13 none 3 78 := C
  have hQ : zz_q Z = MQ (zz_b Z) (cQv X μ (zz_s Z).heap.size Q) (zz_a Z) (zz_s Z) (zz_R Z).cells (zz_R Z).slots (cA X μ (zz_s Z).heap.size) := by rw [hR]; exact hQ
  unfold wc_X13_init at hw
  refine hx_aload_n C dX13_init_0 0 rfl rfl ?_
  refine hx_null C dX13_init_1 ?_
  refine hx_null C dX13_init_2 ?_
  refine hx_iconst C dX13_init_3 ?_
  refine hx_iconst C dX13_init_4 ?_
  refine fun H locs hI ls hl => cx_rv (S := []) hI hl (fun _ h => h) (cr_I (a := l0) (As := [toV (aR none), toV (aR none), toV (aI 0), toV (aI 0)]) (rest := []) C hK hI hl 4 (sc_J2_init _ X H.size _ _ _ _ _ _ _ hw) q1270 q324 q90 q325 rfl (by decide +kernel) ⟨rfl, rfl, Nat.le_of_ble_eq_true rfl, Nat.le_of_ble_eq_true rfl⟩ (av_W [] 8 (Nat.le_of_ble_eq_true rfl)) dX13_init_5 rfl rfl ⟨by omega, by omega⟩) (fun μ2 hw => ?_)
  exact cx_vret C hQ (by omega) (by omega) hw dX13_init_8
-- ('BinderPress$Kinds', 'letterOf', '(LBinderPress$Kind;)I')
def wc_X11_letterOf_2b (X : cX) (P2 : Nat → Option Nat → Int → Nat → CM → Prop) (Q : Int → CM → Prop) (XQ : Nat → CM → Prop) (l0 : Nat) (l1 : Option Nat) (l2 : Int) (b : Nat) (μ : CM) : Prop := tg μ l0 = 9 ∧ R32 l2 ∧ R32 (oI μ l0 2) ∧ (((oI μ l0 2) ≤ l2 → R32 (oI μ l0 2) ∧ ((¬ (oI μ l0 2) = 26 → (∃ a5, (oR μ l0 1) = some a5 ∧ tg μ a5 = 25 ∧ (0 ≤ (oI μ l0 2) ∧ (oI μ l0 2) < ((ln μ a5) : Int)) ∧ (ln μ a5) < 2147483648 ∧ (∀ v, l1 = some v → tg μ v = 10) ∧ Q ((97 + (oI (poI (poR μ a5 ((oI μ l0 2)).toNat l1) l0 2 ((oI μ l0 2) + 1)) l0 2)) - 1) (poI (poR μ a5 ((oI μ l0 2)).toNat l1) l0 2 ((oI μ l0 2) + 1)))) ∧ ((oI μ l0 2) = 26 → 2 ≤ b ∧ ∀ a12, tg μ a12 = 0 → wc_X13_init X a12 (alc μ a12 11 0) (fun μ17 => tg μ17 a12 = 11 ∧ XQ a12 μ17)))) ∧ (l2 < (oI μ l0 2) → (∃ a19, (oR μ l0 1) = some a19 ∧ tg μ a19 = 25 ∧ (0 ≤ l2 ∧ l2 < ((ln μ a19) : Int)) ∧ (ln μ a19) < 2147483648 ∧ ((¬ (oR μ a19 (l2).toNat) = l1 → P2 l0 l1 (l2 + 1) b μ) ∧ ((oR μ a19 (l2).toNat) = l1 → Q (97 + l2) μ)))))
set_option maxHeartbeats 4000000 in
theorem sc_X11_letterOf_2b {Z : zz} {X : cX} {μ0 : CM} {Q : Int → CM → Prop} {XQ : Nat → CM → Prop} (C : gC Z cX11_letterOf 3 RX11 (some .int) 4 98) (hK : cCt Z X μ0) (hX : ∀ x ∈ (zz_c Z).exceptionTable.toList, False) (hQ : zz_q Z = vy_MQ (zz_b Z) (cQi X μ0 (zz_s Z).heap.size Q) (cXQ X μ0 (zz_s Z).heap.size "BinderPress$TooLong" XQ) (zz_a Z) (zz_s Z) (zz_R Z).cells (zz_R Z).slots (cA X μ0 (zz_s Z).heap.size)) {P2 : Nat → Option Nat → Int → Nat → CM → Prop} (hP2 : ∀ l0 l1 l2 b μ, P2 l0 l1 l2 b μ → ∀ kk nn, (kk + b ≤ (zz_R Z).cells ∧ nn + 5 * b ≤ (zz_R Z).slots) → hG Z 3 (cI Z X μ0 μ) kk nn 2 [(0, aR (some l0)), (1, aR l1), (2, aI l2)] [])  : ∀ l0 l1 l2 b μ, wc_X11_letterOf_2b X P2 Q XQ l0 l1 l2 b μ → ∀ kk nn, (kk + b ≤ (zz_R Z).cells ∧ nn + 5 * b ≤ (zz_R Z).slots) → hG Z 3 (cI Z X μ0 μ) kk nn 2 [(0, aR (some l0)), (1, aR l1), (2, aI l2)] [] := by
  intro l0 l1 l2 b μ hw kk nn hb
  unfold wc_X11_letterOf_2b at hw
  refine hx_iload_n C dX11_letterOf_2 2 rfl rfl ?_
  refine hx_aload_n C dX11_letterOf_3 0 rfl rfl ?_
  obtain ⟨ht1, hw⟩ := hw
  refine cx_get (μ := μ) (v := aI (oI μ l0 2)) C hK 8 2 rfl in_X11 (by decide) q1219 rfl (cdE_8 ht1) rfl dX11_letterOf_4 ?_
  obtain ⟨hr2, hw⟩ := hw
  obtain ⟨hr3, hw⟩ := hw
  refine hx_icmp_ge (tgt := 31) C dX11_letterOf_7 (by decide) hr2 hr3 (fun h => ?_) (fun h => ?_)
  · have hw := hw.1 h
    refine hx_aload_n C dX11_letterOf_31 0 rfl rfl ?_
    refine cx_get (μ := μ) (v := aI (oI μ l0 2)) C hK 8 2 rfl in_X11 (by decide) q1219 rfl (cdE_8 ht1) rfl dX11_letterOf_32 ?_
    refine hx_bipush C dX11_letterOf_35 (by decide) ?_
    obtain ⟨hr4, hw⟩ := hw
    refine hx_icmp_ne (tgt := 48) C dX11_letterOf_37 (by decide) hr4 (by decide) (fun h => ?_) (fun h => ?_)
    · have hw := hw.1 h
      refine hx_aload_n C dX11_letterOf_48 0 rfl rfl ?_
      refine cx_get (μ := μ) (v := aR (oR μ l0 1)) C hK 8 1 rfl in_X11 (by decide) q1218 rfl (cdE_8 ht1) rfl dX11_letterOf_49 ?_
      refine hx_aload_n C dX11_letterOf_52 0 rfl rfl ?_
      refine cx_get (μ := μ) (v := aI (oI μ l0 2)) C hK 8 2 rfl in_X11 (by decide) q1219 rfl (cdE_8 ht1) rfl dX11_letterOf_53 ?_
      refine hx_aload_n C dX11_letterOf_56 1 rfl rfl ?_
      obtain ⟨a5, ha6, hw⟩ := hw
      rw [ha6]
      obtain ⟨ht7, hw⟩ := hw
      obtain ⟨hx8, hw⟩ := hw
      obtain ⟨hl9, hw⟩ := hw
      obtain ⟨hy10, hw⟩ := hw
      refine cx_aast (μ := μ) (μ' := (poR μ a5 ((oI μ l0 2)).toNat l1)) (len := (ln μ a5)) C hK 5 rfl (cu_oK ht7) (cany_K hy10) hx8.1 hx8.2 hl9 dX11_letterOf_57 ?_
      refine hx_aload_n C dX11_letterOf_58 0 rfl rfl ?_
      refine hx_dup C dX11_letterOf_59 rfl ?_
      refine cx_get (μ := (poR μ a5 ((oI μ l0 2)).toNat l1)) (v := aI (oI μ l0 2)) C hK 8 2 rfl in_X11 (by decide) q1219 rfl (cdE_8 ht1) rfl dX11_letterOf_60 ?_
      refine hx_iconst C dX11_letterOf_63 ?_
      refine hx_iadd C dX11_letterOf_64 ?_
      refine cx_put (μ := (poR μ a5 ((oI μ l0 2)).toNat l1)) (μ' := (poI (poR μ a5 ((oI μ l0 2)).toNat l1) l0 2 ((oI μ l0 2) + 1))) C hK 8 2 rfl in_X11 tyX11_ok nmX11 (by decide) q1219 rfl rfl (cdE_8 ht1) (Nat.le_of_ble_eq_true rfl) ⟨rfl, rfl⟩ (cset_8_2 (poR μ a5 ((oI μ l0 2)).toNat l1) l0 ((oI μ l0 2) + 1)) (cdE_8 ht1) rfl rfl rfl (fun _ hb => st_o hb) (fun _ _ => rfl) dX11_letterOf_65 ?_
      refine hx_bipush C dX11_letterOf_68 (by decide) ?_
      refine hx_aload_n C dX11_letterOf_70 0 rfl rfl ?_
      refine cx_get (μ := (poI (poR μ a5 ((oI μ l0 2)).toNat l1) l0 2 ((oI μ l0 2) + 1))) (v := aI (oI (poI (poR μ a5 ((oI μ l0 2)).toNat l1) l0 2 ((oI μ l0 2) + 1)) l0 2)) C hK 8 2 rfl in_X11 (by decide) q1219 rfl (cdE_8 ht1) rfl dX11_letterOf_71 ?_
      refine hx_iadd C dX11_letterOf_74 ?_
      refine hx_iconst C dX11_letterOf_75 ?_
      refine hx_isub C dX11_letterOf_76 ?_
      exact cy_iret C hQ (by omega) (by omega) rfl hw dX11_letterOf_77
    · have hw := hw.2 h
      obtain ⟨hu11, hw⟩ := hw
      refine cx_new (fs := fun a => coF_10 (alc μ a 11 0) a) C hK 10 11 rfl in_X13 tyX13_ok q1258 q1259 q109 (by decide) (fun a => cdE_10 alc_t) (cxd_10 _) (by omega) (by omega) dX11_letterOf_40 (fun a12 hf13 => ?_)
      have hw := hw a12 hf13
      obtain hb : (kk + 1) + (b - 2) ≤ (zz_R Z).cells ∧ (nn + 6) + 5 * (b - 2) ≤ (zz_R Z).slots := ⟨by omega, by omega⟩
      have ht14 := alc_kp (t := 11) (m := 0) hf13 ht1 (by decide)
      have ht15 : tg (alc μ a12 11 0) a12 = 11 := alc_t
      refine hx_dup C dX11_letterOf_43 rfl ?_
      refine fun H locs hI ls hl => cx_rv (S := [aR (some a12)]) hI hl (fun _ h => h) (cr_I (a := a12) (As := []) (rest := [toV (aR (some a12))]) C hK hI hl 0 (sc_X13_init _ X H.size _ _ _ hw) q1267 q1268 q109 q1269 rfl (by decide +kernel) ⟨rfl, rfl, Nat.le_of_ble_eq_true rfl, Nat.le_of_ble_eq_true rfl⟩ (av_W [aR (some a12)] 8 (Nat.le_of_ble_eq_true rfl)) dX11_letterOf_44 rfl rfl ⟨by omega, by omega⟩) (fun μ17 hw => ?_)
      obtain ⟨ht18, hw⟩ := hw
      exact cy_athrow C hK (ci := 10) rfl (cdE_10 ht18) dX11_letterOf_47 (cy_out C hX hQ (by omega) (by omega) hw)
  · have hw := hw.2 h
    refine hx_aload_n C dX11_letterOf_10 0 rfl rfl ?_
    refine cx_get (μ := μ) (v := aR (oR μ l0 1)) C hK 8 1 rfl in_X11 (by decide) q1218 rfl (cdE_8 ht1) rfl dX11_letterOf_11 ?_
    refine hx_iload_n C dX11_letterOf_14 2 rfl rfl ?_
    obtain ⟨a19, ha20, hw⟩ := hw
    rw [ha20]
    obtain ⟨ht21, hw⟩ := hw
    obtain ⟨hx22, hw⟩ := hw
    obtain ⟨hl23, hw⟩ := hw
    refine cx_aald (μ := μ) (f := oR μ a19) (len := (ln μ a19)) C hK 5 rfl (Or.inr (cdA_5 ht21)) hx22.1 hx22.2 hl23 dX11_letterOf_15 ?_
    refine hx_aload_n C dX11_letterOf_16 1 rfl rfl ?_
    refine hx_acmp_ne (tgt := 25) C dX11_letterOf_17 (by decide) (fun h => ?_) (fun h => ?_)
    · have hw := hw.1 h
      refine hx_iinc (L' := [(2, aI (l2 + 1)), (0, aR (some l0)), (1, aR l1)]) C dX11_letterOf_25 2 rfl (by decide) rfl ?_
      refine hx_goto (tgt := 2) C dX11_letterOf_28 (by decide) ?_
      refine hx_L [1, 2, 0] rfl ?_
      exact hP2 _ _ _ _ _ hw _ _ hb
    · have hw := hw.2 h
      refine hx_bipush C dX11_letterOf_20 (by decide) ?_
      refine hx_iload_n C dX11_letterOf_22 2 rfl rfl ?_
      refine hx_iadd C dX11_letterOf_23 ?_
      exact cy_iret C hQ (by omega) (by omega) rfl hw dX11_letterOf_24
def wc_X11_letterOf_2 (X : cX) (Q : Int → CM → Prop) (XQ : Nat → CM → Prop) (l0 : Nat) (l1 : Option Nat) (l2 : Int) (b : Nat) (μ : CM) : Prop := ∀ P2 : Nat → Option Nat → Int → Nat → CM → Prop, (∀ l0 l1 l2 b μ, wc_X11_letterOf_2b X P2 Q XQ l0 l1 l2 b μ → P2 l0 l1 l2 b μ) → P2 l0 l1 l2 b μ
set_option maxHeartbeats 4000000 in
theorem sc_X11_letterOf_2 {Z : zz} {X : cX} {μ0 : CM} {Q : Int → CM → Prop} {XQ : Nat → CM → Prop} (C : gC Z cX11_letterOf 3 RX11 (some .int) 4 98) (hK : cCt Z X μ0) (hX : ∀ x ∈ (zz_c Z).exceptionTable.toList, False) (hQ : zz_q Z = vy_MQ (zz_b Z) (cQi X μ0 (zz_s Z).heap.size Q) (cXQ X μ0 (zz_s Z).heap.size "BinderPress$TooLong" XQ) (zz_a Z) (zz_s Z) (zz_R Z).cells (zz_R Z).slots (cA X μ0 (zz_s Z).heap.size))  : ∀ l0 l1 l2 b μ, wc_X11_letterOf_2 X Q XQ l0 l1 l2 b μ → ∀ kk nn, (kk + b ≤ (zz_R Z).cells ∧ nn + 5 * b ≤ (zz_R Z).slots) → hG Z 3 (cI Z X μ0 μ) kk nn 2 [(0, aR (some l0)), (1, aR l1), (2, aI l2)] [] := by
  intro l0 l1 l2 b μ hw
  exact hw (fun l0 l1 l2 b μ => ∀ kk nn, (kk + b ≤ (zz_R Z).cells ∧ nn + 5 * b ≤ (zz_R Z).slots) → hG Z 3 (cI Z X μ0 μ) kk nn 2 [(0, aR (some l0)), (1, aR l1), (2, aI l2)] []) (fun l0 l1 l2 b μ hw => sc_X11_letterOf_2b C hK hX hQ (fun _ _ _ _ _ h => h) l0 l1 l2 b μ hw)
def wc_X11_letterOf (X : cX) (b : Nat) (l0 : Nat) (l1 : Option Nat) (μ : CM) (Q : Int → CM → Prop) (XQ : Nat → CM → Prop) : Prop := wc_X11_letterOf_2 X   Q XQ l0 l1 0 b μ
set_option maxHeartbeats 4000000 in
theorem sc_X11_letterOf (l : Launch) (X : cX) (sz : Nat) (Q : Int → CM → Prop) (XQ : Nat → CM → Prop) (b : Nat) (l0 : Nat) (l1 : Option Nat) (μ : CM) (hw : wc_X11_letterOf X b l0 l1 μ Q XQ) : vy_Met l yX11_letterOf (ws_ yX11_letterOf cX11_letterOf 3 (some .int)) ({ frames := 4, cells := b, slots := 5 * b, locals := 98 }) (cPc X (([aR (some l0), aR l1] : List AV).map toV) μ sz) (cQi X μ sz Q) (cXQ X μ sz "BinderPress$TooLong" XQ) b (5 * b) (cA X μ sz) := by
  refine cy_met2 (rm := ({ frames := 4, cells := b, slots := 5 * b, locals := 98 })) (As := [aR (some l0), aR l1]) (L0 := [(0, aR (some l0)), (1, aR l1)]) (by decide) rfl (Nat.le_of_ble_eq_true rfl) rfl ?_
  intro Z C hK hsz hR hl0 hin hX hQ
  subst hsz
  have C : gC Z cX11_letterOf 3 RX11 (some .int) 4 98 := C
  have hQ : zz_q Z = vy_MQ (zz_b Z) (cQi X μ (zz_s Z).heap.size Q) (cXQ X μ (zz_s Z).heap.size "BinderPress$TooLong" XQ) (zz_a Z) (zz_s Z) (zz_R Z).cells (zz_R Z).slots (cA X μ (zz_s Z).heap.size) := by rw [hR]; exact hQ
  have hb : 0 + b ≤ (zz_R Z).cells ∧ 0 + 5 * b ≤ (zz_R Z).slots := by rw [hR]; exact ⟨by dsimp only; omega, by dsimp only; omega⟩
  unfold wc_X11_letterOf at hw
  refine hx_iconst C dX11_letterOf_0 ?_
  refine hx_istore_n (L' := [(2, aI 0), (0, aR (some l0)), (1, aR l1)]) C dX11_letterOf_1 rfl (by decide) rfl ?_
  refine hx_L [1, 2, 0] rfl ?_
  exact sc_X11_letterOf_2 C hK hX hQ  _ _ _ _ _ hw _ _ hb
