/-! walks of the component (printed by gen_comp) -/
set_option maxRecDepth 100000
-- ('BinderPress$Kinds', 'kept', '(LBinderPress$Kind;)LBinderPress$Kind;')
def wc_X11_kept (X : cX) (b : Nat) (l0 : Nat) (l1 : Option Nat) (μ : CM) (Q : Option Nat → CM → Prop) : Prop := (tg μ l0 = 9 ∧ ∃ b2, b2 ≤ b ∧ wc_X12_arrow X b2 l1 (oR μ l0 3) μ (fun r4 μ5 => tg μ5 l0 = 9 ∧ Q l1 (poR μ5 l0 3 r4)))
set_option maxHeartbeats 4000000 in
theorem sc_X11_kept (l : Launch) (X : cX) (sz : Nat) (Q : Option Nat → CM → Prop) (b : Nat) (l0 : Nat) (l1 : Option Nat) (μ : CM) (hw : wc_X11_kept X b l0 l1 μ Q) : Met l yX11_kept (ws_ yX11_kept cX11_kept 2 (some (.object "BinderPress$Kind"))) ({ frames := 3, cells := b, slots := 5 * b, locals := 72 }) (cPc X (([aR (some l0), aR l1] : List AV).map toV) μ sz) (cQr X μ sz Q) b (5 * b) (cA X μ sz) := by
  refine cx_met2 (rm := ({ frames := 3, cells := b, slots := 5 * b, locals := 72 })) (As := [aR (some l0), aR l1]) (L0 := [(0, aR (some l0)), (1, aR l1)]) (by decide) rfl (Nat.le_of_ble_eq_true rfl) rfl ?_
  intro Z C hK hsz hR hl0 hin hQ
  subst hsz
  have C : gC Z cX11_kept 2 RX11 (some (.object "BinderPress$Kind")) 3 72 := C
  have hQ : zz_q Z = MQ (zz_b Z) (cQr X μ (zz_s Z).heap.size Q) (zz_a Z) (zz_s Z) (zz_R Z).cells (zz_R Z).slots (cA X μ (zz_s Z).heap.size) := by rw [hR]; exact hQ
  have hb : 0 + b ≤ (zz_R Z).cells ∧ 0 + 5 * b ≤ (zz_R Z).slots := by rw [hR]; exact ⟨by dsimp only; omega, by dsimp only; omega⟩
  unfold wc_X11_kept at hw
  refine hx_aload_n C dX11_kept_0 0 rfl rfl ?_
  refine hx_aload_n C dX11_kept_1 1 rfl rfl ?_
  refine hx_aload_n C dX11_kept_2 0 rfl rfl ?_
  obtain ⟨ht1, hw⟩ := hw
  refine cx_get (μ := μ) (v := aR (oR μ l0 3)) C hK 8 3 rfl in_X11 (by decide) q1220 rfl (cdE_8 ht1) rfl dX11_kept_3 ?_
  obtain ⟨b2, hu3, hw⟩ := hw
  refine fun H locs hI ls hl => cx_rr (S := [aR (some l0)]) hI hl (fun _ h => h) (cr_S (As := [toV (aR l1), toV (aR (oR μ l0 3))]) (rest := [toV (aR (some l0))]) C hK hI hl 2 (sc_X12_arrow _ X H.size _ b2 _ _ _ hw) (lw_S q1194 q1195 q108 q1196) (by decide +kernel) ⟨rfl, rfl, Nat.le_of_ble_eq_true rfl, Nat.le_of_ble_eq_true rfl⟩ (av_W [aR (some l0)] 8 (Nat.le_of_ble_eq_true rfl)) dX11_kept_6 rfl rfl ⟨by omega, by omega⟩) (fun r4 μ5 hw => ?_)
  obtain hb : (0 + b2) + (b - b2) ≤ (zz_R Z).cells ∧ (0 + 5 * b2) + 5 * (b - b2) ≤ (zz_R Z).slots := ⟨by omega, by omega⟩
  obtain ⟨ht6, hw⟩ := hw
  refine cx_put (μ := μ5) (μ' := (poR μ5 l0 3 r4)) C hK 8 3 rfl in_X11 tyX11_ok nmX11 (by decide) q1220 rfl rfl (cdE_8 ht6) (Nat.le_of_ble_eq_true rfl) (cz_r (ty := tyX11 3) rfl r4) (cset_8_3 μ5 l0 r4) (cdE_8 ht6) rfl rfl rfl (fun _ _ => rfl) (fun _ hb => stq_o hb) dX11_kept_9 ?_
  refine hx_aload_n C dX11_kept_12 1 rfl rfl ?_
  exact cx_aret C hQ (by omega) (by omega) (Or.inl ⟨_, rfl⟩) hw dX11_kept_13
-- ('BinderPress$Kind', 'self', '()LBinderPress$Kind;')
def wc_X12_self_2b (X : cX) (P2 : Option Nat → CM → Prop) (Q : Option Nat → CM → Prop) (l1 : Option Nat) (μ : CM) : Prop := (∃ a1, l1 = some a1 ∧ tg μ a1 = 10 ∧ (((oR μ a1 0) = none → Q (some a1) μ) ∧ (¬ (oR μ a1 0) = none → P2 (oR μ a1 0) μ)))
set_option maxHeartbeats 4000000 in
theorem sc_X12_self_2b {Z : zz} {X : cX} {μ0 : CM} {Q : Option Nat → CM → Prop} (C : gC Z cX12_self 2 RX12 (some (.object "BinderPress$Kind")) 0 0) (hK : cCt Z X μ0) (hQ : zz_q Z = MQ (zz_b Z) (cQr X μ0 (zz_s Z).heap.size Q) (zz_a Z) (zz_s Z) (zz_R Z).cells (zz_R Z).slots (cA X μ0 (zz_s Z).heap.size)) {P2 : Option Nat → CM → Prop} (hP2 : ∀ l1 μ, P2 l1 μ → hG Z 2 (cI Z X μ0 μ) 0 0 2 [(1, aR l1)] [])  : ∀ l1 μ, wc_X12_self_2b X P2 Q l1 μ → hG Z 2 (cI Z X μ0 μ) 0 0 2 [(1, aR l1)] [] := by
  intro l1 μ hw
  unfold wc_X12_self_2b at hw
  refine hx_aload_n C dX12_self_2 0 rfl rfl ?_
  obtain ⟨a1, ha2, hw⟩ := hw
  rw [ha2]
  obtain ⟨ht3, hw⟩ := hw
  refine cx_get (μ := μ) (v := aR (oR μ a1 0)) C hK 9 0 rfl in_X12 (by decide) q1164 rfl (cdE_9 ht3) rfl dX12_self_3 ?_
  refine hx_ifnull (tgt := 17) C dX12_self_6 (by decide) (fun h => ?_) (fun h => ?_)
  · have hw := hw.1 h
    refine hx_aload_n C dX12_self_17 0 rfl rfl ?_
    exact cx_aret C hQ (by omega) (by omega) (Or.inl ⟨_, rfl⟩) hw dX12_self_18
  · have hw := hw.2 h
    refine hx_aload_n C dX12_self_9 0 rfl rfl ?_
    refine cx_get (μ := μ) (v := aR (oR μ a1 0)) C hK 9 0 rfl in_X12 (by decide) q1164 rfl (cdE_9 ht3) rfl dX12_self_10 ?_
    refine hx_astore_n (L' := [(1, aR (oR μ a1 0))]) C dX12_self_13 rfl (by decide) rfl ?_
    refine hx_goto (tgt := 2) C dX12_self_14 (by decide) ?_
    refine hx_L [0] rfl ?_
    exact hP2 _ _ hw
def wc_X12_self_2 (X : cX) (Q : Option Nat → CM → Prop) (l1 : Option Nat) (μ : CM) : Prop := ∀ P2 : Option Nat → CM → Prop, (∀ l1 μ, wc_X12_self_2b X P2 Q l1 μ → P2 l1 μ) → P2 l1 μ
set_option maxHeartbeats 4000000 in
theorem sc_X12_self_2 {Z : zz} {X : cX} {μ0 : CM} {Q : Option Nat → CM → Prop} (C : gC Z cX12_self 2 RX12 (some (.object "BinderPress$Kind")) 0 0) (hK : cCt Z X μ0) (hQ : zz_q Z = MQ (zz_b Z) (cQr X μ0 (zz_s Z).heap.size Q) (zz_a Z) (zz_s Z) (zz_R Z).cells (zz_R Z).slots (cA X μ0 (zz_s Z).heap.size))  : ∀ l1 μ, wc_X12_self_2 X Q l1 μ → hG Z 2 (cI Z X μ0 μ) 0 0 2 [(1, aR l1)] [] := by
  intro l1 μ hw
  exact hw (fun l1 μ => hG Z 2 (cI Z X μ0 μ) 0 0 2 [(1, aR l1)] []) (fun l1 μ hw => sc_X12_self_2b C hK hQ (fun _ _ h => h) l1 μ hw)
def wc_X12_self (X : cX) (l0 : Nat) (μ : CM) (Q : Option Nat → CM → Prop) : Prop := wc_X12_self_2 X   Q (some l0) μ
set_option maxHeartbeats 4000000 in
theorem sc_X12_self (l : Launch) (X : cX) (sz : Nat) (Q : Option Nat → CM → Prop) (l0 : Nat) (μ : CM) (hw : wc_X12_self X l0 μ Q) : Met l yX12_self (ws_ yX12_self cX12_self 2 (some (.object "BinderPress$Kind"))) ({ frames := 0, cells := 0, slots := 0, locals := 0 }) (cPc X (([aR (some l0)] : List AV).map toV) μ sz) (cQr X μ sz Q) 0 (0) (cA X μ sz) := by
  refine cx_met2 (rm := ({ frames := 0, cells := 0, slots := 0, locals := 0 })) (As := [aR (some l0)]) (L0 := [(0, aR (some l0))]) (by decide) rfl (Nat.le_of_ble_eq_true rfl) rfl ?_
  intro Z C hK hsz hR hl0 hin hQ
  subst hsz
  have C : gC Z cX12_self 2 RX12 (some (.object "BinderPress$Kind")) 0 0 := C
  have hQ : zz_q Z = MQ (zz_b Z) (cQr X μ (zz_s Z).heap.size Q) (zz_a Z) (zz_s Z) (zz_R Z).cells (zz_R Z).slots (cA X μ (zz_s Z).heap.size) := by rw [hR]; exact hQ
  unfold wc_X12_self at hw
  refine hx_aload_n C dX12_self_0 0 rfl rfl ?_
  refine hx_astore_n (L' := [(1, aR (some l0)), (0, aR (some l0))]) C dX12_self_1 rfl (by decide) rfl ?_
  refine hx_L [0] rfl ?_
  exact sc_X12_self_2 C hK hQ  _ _ hw
-- ('BinderPress$Kind', 'join', '(LBinderPress$Kind;LBinderPress$Kind;)V')
def rmet_X12_join (l : Launch) (X : cX) (fr lo : Nat) (rc : Option Nat → Option Nat → CM → (CM → Prop) → Prop) : Prop := ∀ (l0 : Option Nat) (l1 : Option Nat) (μ : CM) (sz : Nat) (Q : CM → Prop), rc l0 l1 μ Q → ∃ rm, crm rm 0 (0) fr lo 4 ∧ Met l yX12_join (ws_ yX12_join cX12_join 4 none) rm (cPc X (([aR l0, aR l1] : List AV).map toV) μ sz) (cQv X μ sz Q) 0 (0) (cA X μ sz)
def wc_X12_join_73 (X : cX) (rc : Option Nat → Option Nat → CM → (CM → Prop) → Prop) (Q : CM → Prop) (μ : CM) : Prop := Q μ
set_option maxHeartbeats 4000000 in
theorem sc_X12_join_73 {Z : zz} {X : cX} {μ0 : CM} {Q : CM → Prop} {rc : Option Nat → Option Nat → CM → (CM → Prop) → Prop} {fr lo : Nat} (hA : 1 ≤ fr) (hB : 30 ≤ lo) (C : gC Z cX12_join 4 RX12 none (fr + 0) (lo + 0)) (hK : cCt Z X μ0) (hrc : rmet_X12_join (zz_l Z) X fr lo rc) (hQ : zz_q Z = MQ (zz_b Z) (cQv X μ0 (zz_s Z).heap.size Q) (zz_a Z) (zz_s Z) (zz_R Z).cells (zz_R Z).slots (cA X μ0 (zz_s Z).heap.size))  : ∀ μ, wc_X12_join_73 X rc Q μ → hG Z 4 (cI Z X μ0 μ) 0 0 73 [] [] := by
  intro μ hw
  unfold wc_X12_join_73 at hw
  exact cx_vret C hQ (by omega) (by omega) hw dX12_join_73
def wc_X12_join (X : cX) (rc : Option Nat → Option Nat → CM → (CM → Prop) → Prop) (l0 : Option Nat) (l1 : Option Nat) (μ : CM) (Q : CM → Prop) : Prop := (∃ a1, l0 = some a1 ∧ tg μ a1 = 10 ∧ wc_X12_self X a1 μ (fun r3 μ4 => (∃ a6, l1 = some a6 ∧ tg μ4 a6 = 10 ∧ wc_X12_self X a6 μ4 (fun r8 μ9 => ((¬ r3 = r8 → (∃ a11, r3 = some a11 ∧ tg μ9 a11 = 10 ∧ ((¬ (oR μ9 a11 1) = none → (∃ a14, r8 = some a14 ∧ tg μ9 a14 = 10 ∧ ((¬ (oR μ9 a14 1) = none → rc (oR (poR μ9 a11 0 (some a14)) a11 1) (oR (poR μ9 a11 0 (some a14)) a14 1) (poR μ9 a11 0 (some a14)) (fun μ18 => tg μ18 a11 = 10 ∧ tg μ18 a14 = 10 ∧ rc (oR μ18 a11 2) (oR μ18 a14 2) μ18 (fun μ22 => wc_X12_join_73 X rc  Q μ22))) ∧ ((oR μ9 a14 1) = none → wc_X12_join_73 X rc  Q (poR μ9 a14 0 (some a11)))))) ∧ ((oR μ9 a11 1) = none → wc_X12_join_73 X rc  Q (poR μ9 a11 0 r8))))) ∧ (r3 = r8 → Q μ9))))))
set_option maxHeartbeats 4000000 in
theorem sc_X12_join (l : Launch) (X : cX) (sz : Nat) (Q : CM → Prop) {rc : Option Nat → Option Nat → CM → (CM → Prop) → Prop} {fr lo : Nat} (hA : 1 ≤ fr) (hB : 30 ≤ lo) (hrc : rmet_X12_join l X fr lo rc) (l0 : Option Nat) (l1 : Option Nat) (μ : CM) (hw : wc_X12_join X rc l0 l1 μ Q) : Met l yX12_join (ws_ yX12_join cX12_join 4 none) ({ frames := (fr + 0), cells := 0, slots := 0, locals := (lo + 0) }) (cPc X (([aR l0, aR l1] : List AV).map toV) μ sz) (cQv X μ sz Q) 0 (0) (cA X μ sz) := by
  refine cx_met2 (rm := ({ frames := (fr + 0), cells := 0, slots := 0, locals := (lo + 0) })) (As := [aR l0, aR l1]) (L0 := [(0, aR l0), (1, aR l1)]) (by decide) rfl (Nat.le_of_ble_eq_true rfl) rfl ?_
  intro Z C hK hsz hR hl0 hin hQ
  subst hsz
  have C : gC Z cX12_join 4 RX12 none (fr + 0) (lo + 0) := C
  rw [← hl0] at hrc
  have hQ : zz_q Z = MQ (zz_b Z) (cQv X μ (zz_s Z).heap.size Q) (zz_a Z) (zz_s Z) (zz_R Z).cells (zz_R Z).slots (cA X μ (zz_s Z).heap.size) := by rw [hR]; exact hQ
  unfold wc_X12_join at hw
  refine hx_aload_n C dX12_join_0 0 rfl rfl ?_
  obtain ⟨a1, ha2, hw⟩ := hw
  rw [ha2]
  obtain ⟨ht5, hw⟩ := hw
  refine fun H locs hI ls hl => cx_rr (S := []) hI hl (fun _ h => h) (cr_V (Cn := RX12) (As := []) (rest := []) C hK hI hl 0 (cv_dyn hK hI (ci := 9) rfl (Or.inr (cdE_9 ht5))) (sc_X12_self _ X H.size _ _ _ hw) (lw_V q1207 q1208 q1209 q108 q1210) (by decide +kernel) ⟨rfl, rfl, by (dsimp only; omega), by (dsimp only; omega)⟩ (av_W [] 8 (Nat.le_of_ble_eq_true rfl)) dX12_join_1 rfl rfl ⟨by omega, by omega⟩) (fun r3 μ4 hw => ?_)
  refine hx_astore_n (L' := [(2, aR r3), (0, aR (some a1)), (1, aR l1)]) C dX12_join_4 rfl (by decide) rfl ?_
  refine hx_aload_n C dX12_join_5 2 rfl rfl ?_
  obtain ⟨a6, ha7, hw⟩ := hw
  rw [ha7]
  obtain ⟨ht10, hw⟩ := hw
  refine fun H locs hI ls hl => cx_rr (S := []) hI hl (fun _ h => h) (cr_V (Cn := RX12) (As := []) (rest := []) C hK hI hl 0 (cv_dyn hK hI (ci := 9) rfl (Or.inr (cdE_9 ht10))) (sc_X12_self _ X H.size _ _ _ hw) (lw_V q1207 q1208 q1209 q108 q1210) (by decide +kernel) ⟨rfl, rfl, by (dsimp only; omega), by (dsimp only; omega)⟩ (av_W [] 8 (Nat.le_of_ble_eq_true rfl)) dX12_join_6 rfl rfl ⟨by omega, by omega⟩) (fun r8 μ9 hw => ?_)
  refine hx_astore_n (L' := [(3, aR r8), (2, aR r3), (0, aR (some a1)), (1, aR (some a6))]) C dX12_join_9 rfl (by decide) rfl ?_
  refine hx_aload_n C dX12_join_10 1 rfl rfl ?_
  refine hx_aload_n C dX12_join_11 0 rfl rfl ?_
  refine hx_acmp_ne (tgt := 16) C dX12_join_12 (by decide) (fun h => ?_) (fun h => ?_)
  · have hw := hw.1 h
    refine hx_aload_n C dX12_join_16 1 rfl rfl ?_
    obtain ⟨a11, ha12, hw⟩ := hw
    rw [ha12]
    obtain ⟨ht13, hw⟩ := hw
    refine cx_get (μ := μ9) (v := aR (oR μ9 a11 1)) C hK 9 1 rfl in_X12 (by decide) q1165 rfl (cdE_9 ht13) rfl dX12_join_17 ?_
    refine hx_ifnonnull (tgt := 31) C dX12_join_20 (by decide) (fun h => ?_) (fun h => ?_)
    · have hw := hw.1 h
      refine hx_aload_n C dX12_join_31 0 rfl rfl ?_
      obtain ⟨a14, ha15, hw⟩ := hw
      rw [ha15]
      obtain ⟨ht16, hw⟩ := hw
      refine cx_get (μ := μ9) (v := aR (oR μ9 a14 1)) C hK 9 1 rfl in_X12 (by decide) q1165 rfl (cdE_9 ht16) rfl dX12_join_32 ?_
      refine hx_ifnonnull (tgt := 46) C dX12_join_35 (by decide) (fun h => ?_) (fun h => ?_)
      · have hw := hw.1 h
        refine hx_aload_n C dX12_join_46 1 rfl rfl ?_
        refine hx_aload_n C dX12_join_47 0 rfl rfl ?_
        refine cx_put (μ := μ9) (μ' := (poR μ9 a11 0 (some a14))) C hK 9 0 rfl in_X12 tyX12_ok nmX12 (by decide) q1164 rfl rfl (cdE_9 ht13) (Nat.le_of_ble_eq_true rfl) (cz_r (ty := tyX12 0) rfl (some a14)) (cset_9_0 μ9 a11 (some a14)) (cdE_9 ht13) rfl rfl rfl (fun _ _ => rfl) (fun _ hb => stq_o hb) dX12_join_48 ?_
        refine hx_aload_n C dX12_join_51 1 rfl rfl ?_
        refine cx_get (μ := (poR μ9 a11 0 (some a14))) (v := aR (oR (poR μ9 a11 0 (some a14)) a11 1)) C hK 9 1 rfl in_X12 (by decide) q1165 rfl (cdE_9 ht13) rfl dX12_join_52 ?_
        refine hx_aload_n C dX12_join_55 0 rfl rfl ?_
        refine cx_get (μ := (poR μ9 a11 0 (some a14))) (v := aR (oR (poR μ9 a11 0 (some a14)) a14 1)) C hK 9 1 rfl in_X12 (by decide) q1165 rfl (cdE_9 ht16) rfl dX12_join_56 ?_
        refine fun H locs hI ls hl => cx_rv (S := []) hI hl (fun _ h => h) (dr_S (As := [toV (aR (oR (poR μ9 a11 0 (some a14)) a11 1)), toV (aR (oR (poR μ9 a11 0 (some a14)) a14 1))]) (rest := []) C hK hI hl 2 (hrc _ _ _ H.size _ hw) (by omega) (by omega) (lw_S q1211 q1205 q108 q1206) (by decide +kernel) (av_W [] 8 (Nat.le_of_ble_eq_true rfl)) dX12_join_59 rfl rfl ⟨by omega, by omega⟩) (fun μ18 hw => ?_)
        refine hx_aload_n C dX12_join_62 1 rfl rfl ?_
        obtain ⟨ht19, hw⟩ := hw
        refine cx_get (μ := μ18) (v := aR (oR μ18 a11 2)) C hK 9 2 rfl in_X12 (by decide) q1167 rfl (cdE_9 ht19) rfl dX12_join_63 ?_
        refine hx_aload_n C dX12_join_66 0 rfl rfl ?_
        obtain ⟨ht20, hw⟩ := hw
        refine cx_get (μ := μ18) (v := aR (oR μ18 a14 2)) C hK 9 2 rfl in_X12 (by decide) q1167 rfl (cdE_9 ht20) rfl dX12_join_67 ?_
        refine fun H locs hI ls hl => cx_rv (S := []) hI hl (fun _ h => h) (dr_S (As := [toV (aR (oR μ18 a11 2)), toV (aR (oR μ18 a14 2))]) (rest := []) C hK hI hl 2 (hrc _ _ _ H.size _ hw) (by omega) (by omega) (lw_S q1211 q1205 q108 q1206) (by decide +kernel) (av_W [] 8 (Nat.le_of_ble_eq_true rfl)) dX12_join_70 rfl rfl ⟨by omega, by omega⟩) (fun μ22 hw => ?_)
        refine hx_L [] rfl ?_
        exact sc_X12_join_73 hA hB C hK hrc hQ  _ hw
      · have hw := hw.2 h
        refine hx_aload_n C dX12_join_38 0 rfl rfl ?_
        refine hx_aload_n C dX12_join_39 1 rfl rfl ?_
        refine cx_put (μ := μ9) (μ' := (poR μ9 a14 0 (some a11))) C hK 9 0 rfl in_X12 tyX12_ok nmX12 (by decide) q1164 rfl rfl (cdE_9 ht16) (Nat.le_of_ble_eq_true rfl) (cz_r (ty := tyX12 0) rfl (some a11)) (cset_9_0 μ9 a14 (some a11)) (cdE_9 ht16) rfl rfl rfl (fun _ _ => rfl) (fun _ hb => stq_o hb) dX12_join_40 ?_
        refine hx_goto (tgt := 73) C dX12_join_43 (by decide) ?_
        refine hx_L [] rfl ?_
        exact sc_X12_join_73 hA hB C hK hrc hQ  _ hw
    · have hw := hw.2 h
      refine hx_aload_n C dX12_join_23 1 rfl rfl ?_
      refine hx_aload_n C dX12_join_24 0 rfl rfl ?_
      refine cx_put (μ := μ9) (μ' := (poR μ9 a11 0 r8)) C hK 9 0 rfl in_X12 tyX12_ok nmX12 (by decide) q1164 rfl rfl (cdE_9 ht13) (Nat.le_of_ble_eq_true rfl) (cz_r (ty := tyX12 0) rfl r8) (cset_9_0 μ9 a11 r8) (cdE_9 ht13) rfl rfl rfl (fun _ _ => rfl) (fun _ hb => stq_o hb) dX12_join_25 ?_
      refine hx_goto (tgt := 73) C dX12_join_28 (by decide) ?_
      refine hx_L [] rfl ?_
      exact sc_X12_join_73 hA hB C hK hrc hQ  _ hw
  · have hw := hw.2 h
    exact cx_vret C hQ (by omega) (by omega) hw dX12_join_15
def wr_X12_join (X : cX) : Nat → Option Nat → Option Nat → CM → (CM → Prop) → Prop
  | 0 => fun _ _ _ _ => False
  | d + 1 => wc_X12_join X (wr_X12_join X d)
set_option maxHeartbeats 4000000 in
theorem rr_X12_join (l : Launch) (X : cX) : ∀ d, rmet_X12_join l X (1 + 1 * d) (30 + 23 * d) (wr_X12_join X d) := by
  intro d
  induction d with
  | zero => intro l0 l1 μ sz Q h; exact h.elim
  | succ d ih =>
    intro l0 l1 μ sz Q h
    exact ⟨_, ⟨rfl, rfl, by first | omega | (dsimp only; omega), by first | omega | (dsimp only; omega)⟩, sc_X12_join l X sz Q (by omega) (by omega) ih l0 l1 μ h⟩
-- ('BinderPress$Kinds', 'ofBinder', '(LBinderPress$Binder;)LBinderPress$Kind;')
def rmet_X11_of (l : Launch) (X : cX) (fr lo : Nat) (rc : Nat → Nat → Option Nat → CM → (Option Nat → CM → Prop) → Prop) : Prop := ∀ (b : Nat) (l0 : Nat) (l1 : Option Nat) (μ : CM) (sz : Nat) (Q : Option Nat → CM → Prop), rc b l0 l1 μ Q → ∃ rm, crm rm b (5 * b) fr lo 5 ∧ Met l yX11_of (ws_ yX11_of cX11_of 5 (some (.object "BinderPress$Kind"))) rm (cPc X (([aR (some l0), aR l1] : List AV).map toV) μ sz) (cQr X μ sz Q) b (5 * b) (cA X μ sz)
def wc_X11_ofBinder (X : cX) (rc : Nat → Nat → Option Nat → CM → (Option Nat → CM → Prop) → Prop) (b : Nat) (l0 : Nat) (l1 : Option Nat) (μ : CM) (Q : Option Nat → CM → Prop) : Prop := (tg μ l0 = 9 ∧ ∃ a2, l1 = some a2 ∧ tg μ a2 = 5 ∧ ∃ a5, (oR μ l0 0) = some a5 ∧ tg μ a5 = 25 ∧ (0 ≤ ((oI μ a2 0) - 97) ∧ ((oI μ a2 0) - 97) < ((ln μ a5) : Int)) ∧ (ln μ a5) < 2147483648 ∧ 1 ≤ b ∧ ∀ a11, tg μ a11 = 0 → wc_X12_init X a11 (alc μ a11 10 0) (fun μ18 => (tg μ18 l0 = 9 ∧ tg μ18 a2 = 5 ∧ ∃ a21, (oR μ18 l0 0) = some a21 ∧ tg μ18 a21 = 25 ∧ (0 ≤ ((oI μ18 a2 0) - 97) ∧ ((oI μ18 a2 0) - 97) < ((ln μ18 a21) : Int)) ∧ (ln μ18 a21) < 2147483648 ∧ (∀ v, (some a11) = some v → tg μ18 v = 10) ∧ ∃ b27, b27 ≤ (b - 1) ∧ rc b27 l0 (oR (poR μ18 a21 (((oI μ18 a2 0) - 97)).toNat (some a11)) a2 1) (poR μ18 a21 (((oI μ18 a2 0) - 97)).toNat (some a11)) (fun r29 μ30 => (tg μ30 l0 = 9 ∧ tg μ30 a2 = 5 ∧ ∃ a33, (oR μ30 l0 0) = some a33 ∧ tg μ30 a33 = 25 ∧ (0 ≤ ((oI μ30 a2 0) - 97) ∧ ((oI μ30 a2 0) - 97) < ((ln μ30 a33) : Int)) ∧ (ln μ30 a33) < 2147483648 ∧ (∀ v, (oR μ a5 (((oI μ a2 0) - 97)).toNat) = some v → tg μ30 v = 10) ∧ ∃ b39, b39 ≤ ((b - 1) - b27) ∧ wc_X12_arrow X b39 (some a11) r29 (poR μ30 a33 (((oI μ30 a2 0) - 97)).toNat (oR μ a5 (((oI μ a2 0) - 97)).toNat)) (fun r41 μ42 => Q r41 μ42))))))
set_option maxHeartbeats 4000000 in
theorem sc_X11_ofBinder (l : Launch) (X : cX) (sz : Nat) (Q : Option Nat → CM → Prop) {rc : Nat → Nat → Option Nat → CM → (Option Nat → CM → Prop) → Prop} {fr lo : Nat} (hA : 802 ≤ fr) (hB : 18453 ≤ lo) (hrc : rmet_X11_of l X fr lo rc) (b : Nat) (l0 : Nat) (l1 : Option Nat) (μ : CM) (hw : wc_X11_ofBinder X rc b l0 l1 μ Q) : Met l yX11_ofBinder (ws_ yX11_ofBinder cX11_ofBinder 5 (some (.object "BinderPress$Kind"))) ({ frames := (fr + 0), cells := b, slots := 5 * b, locals := (lo + 0) }) (cPc X (([aR (some l0), aR l1] : List AV).map toV) μ sz) (cQr X μ sz Q) b (5 * b) (cA X μ sz) := by
  refine cx_met2 (rm := ({ frames := (fr + 0), cells := b, slots := 5 * b, locals := (lo + 0) })) (As := [aR (some l0), aR l1]) (L0 := [(0, aR (some l0)), (1, aR l1)]) (by decide) rfl (Nat.le_of_ble_eq_true rfl) rfl ?_
  intro Z C hK hsz hR hl0 hin hQ
  subst hsz
  have C : gC Z cX11_ofBinder 5 RX11 (some (.object "BinderPress$Kind")) (fr + 0) (lo + 0) := C
  rw [← hl0] at hrc
  have hQ : zz_q Z = MQ (zz_b Z) (cQr X μ (zz_s Z).heap.size Q) (zz_a Z) (zz_s Z) (zz_R Z).cells (zz_R Z).slots (cA X μ (zz_s Z).heap.size) := by rw [hR]; exact hQ
  have hb : 0 + b ≤ (zz_R Z).cells ∧ 0 + 5 * b ≤ (zz_R Z).slots := by rw [hR]; exact ⟨by dsimp only; omega, by dsimp only; omega⟩
  unfold wc_X11_ofBinder at hw
  refine hx_aload_n C dX11_ofBinder_0 0 rfl rfl ?_
  obtain ⟨ht1, hw⟩ := hw
  refine cx_get (μ := μ) (v := aR (oR μ l0 0)) C hK 8 0 rfl in_X11 (by decide) q1217 rfl (cdE_8 ht1) rfl dX11_ofBinder_1 ?_
  refine hx_aload_n C dX11_ofBinder_4 1 rfl rfl ?_
  obtain ⟨a2, ha3, hw⟩ := hw
  rw [ha3]
  obtain ⟨ht4, hw⟩ := hw
  refine cx_getN (μ := μ) (v := aI (oI μ a2 0)) C hK 4 0 rfl in_X6 (by decide) (List.mem_of_getElem? (i := 27) rfl) rfl (cdE_4 ht4) rfl dX11_ofBinder_5 ?_
  refine hx_bipush C dX11_ofBinder_8 (by decide) ?_
  refine hx_isub C dX11_ofBinder_10 ?_
  obtain ⟨a5, ha6, hw⟩ := hw
  rw [ha6]
  obtain ⟨ht7, hw⟩ := hw
  obtain ⟨hx8, hw⟩ := hw
  obtain ⟨hl9, hw⟩ := hw
  refine cx_aald (μ := μ) (f := oR μ a5) (len := (ln μ a5)) C hK 5 rfl (Or.inr (cdA_5 ht7)) hx8.1 hx8.2 hl9 dX11_ofBinder_11 ?_
  refine hx_astore_n (L' := [(2, aR (oR μ a5 (((oI μ a2 0) - 97)).toNat)), (0, aR (some l0)), (1, aR (some a2))]) C dX11_ofBinder_12 rfl (by decide) rfl ?_
  obtain ⟨hu10, hw⟩ := hw
  refine cx_new (fs := fun a => coF_9 (alc μ a 10 0) a) C hK 9 10 rfl in_X12 tyX12_ok q1157 q1159 q108 (by decide) (fun a => cdE_9 alc_t) (cxd_9 _) (by omega) (by omega) dX11_ofBinder_13 (fun a11 hf12 => ?_)
  have hw := hw a11 hf12
  obtain hb : (0 + 1) + (b - 1) ≤ (zz_R Z).cells ∧ (0 + 4) + 5 * (b - 1) ≤ (zz_R Z).slots := ⟨by omega, by omega⟩
  have ht13 := alc_kp (t := 10) (m := 0) hf12 ht1 (by decide)
  have ht14 := alc_kp (t := 10) (m := 0) hf12 ht4 (by decide)
  have ht15 := alc_kp (t := 10) (m := 0) hf12 ht7 (by decide)
  have ht16 : tg (alc μ a11 10 0) a11 = 10 := alc_t
  refine hx_dup C dX11_ofBinder_16 rfl ?_
  refine fun H locs hI ls hl => cx_rv (S := [aR (some a11)]) hI hl (fun _ h => h) (cr_IN (a := a11) (As := []) (rest := [toV (aR (some a11))]) C hK hI hl 0 (sc_X12_init _ X H.size _ _ _ hw) (List.mem_of_getElem? (i := 33) rfl) q1161 q108 q1162 rfl (by decide +kernel) ⟨rfl, rfl, by (dsimp only; omega), by (dsimp only; omega)⟩ (av_W [aR (some a11)] 8 (Nat.le_of_ble_eq_true rfl)) dX11_ofBinder_17 rfl rfl ⟨by omega, by omega⟩) (fun μ18 hw => ?_)
  refine hx_astore_n (L' := [(3, aR (some a11)), (2, aR (oR μ a5 (((oI μ a2 0) - 97)).toNat)), (0, aR (some l0)), (1, aR (some a2))]) C dX11_ofBinder_20 rfl (by decide) rfl ?_
  refine hx_aload_n C dX11_ofBinder_21 2 rfl rfl ?_
  obtain ⟨ht19, hw⟩ := hw
  refine cx_get (μ := μ18) (v := aR (oR μ18 l0 0)) C hK 8 0 rfl in_X11 (by decide) q1217 rfl (cdE_8 ht19) rfl dX11_ofBinder_22 ?_
  refine hx_aload_n C dX11_ofBinder_25 3 rfl rfl ?_
  obtain ⟨ht20, hw⟩ := hw
  refine cx_getN (μ := μ18) (v := aI (oI μ18 a2 0)) C hK 4 0 rfl in_X6 (by decide) (List.mem_of_getElem? (i := 27) rfl) rfl (cdE_4 ht20) rfl dX11_ofBinder_26 ?_
  refine hx_bipush C dX11_ofBinder_29 (by decide) ?_
  refine hx_isub C dX11_ofBinder_31 ?_
  refine hx_aload_n C dX11_ofBinder_32 0 rfl rfl ?_
  obtain ⟨a21, ha22, hw⟩ := hw
  rw [ha22]
  obtain ⟨ht23, hw⟩ := hw
  obtain ⟨hx24, hw⟩ := hw
  obtain ⟨hl25, hw⟩ := hw
  obtain ⟨hy26, hw⟩ := hw
  refine cx_aast (μ := μ18) (μ' := (poR μ18 a21 (((oI μ18 a2 0) - 97)).toNat (some a11))) (len := (ln μ18 a21)) C hK 5 rfl (cu_oK ht23) (cany_K hy26) hx24.1 hx24.2 hl25 dX11_ofBinder_33 ?_
  refine hx_aload_n C dX11_ofBinder_34 2 rfl rfl ?_
  refine hx_aload_n C dX11_ofBinder_35 3 rfl rfl ?_
  refine cx_getN (μ := (poR μ18 a21 (((oI μ18 a2 0) - 97)).toNat (some a11))) (v := aR (oR (poR μ18 a21 (((oI μ18 a2 0) - 97)).toNat (some a11)) a2 1)) C hK 4 1 rfl in_X6 (by decide) (List.mem_of_getElem? (i := 28) rfl) rfl (cdE_4 ht20) rfl dX11_ofBinder_36 ?_
  obtain ⟨b27, hu28, hw⟩ := hw
  refine fun H locs hI ls hl => cx_rr (S := []) hI hl (fun _ h => h) (dr_V (Cn := RX11) (As := [toV (aR (oR (poR μ18 a21 (((oI μ18 a2 0) - 97)).toNat (some a11)) a2 1))]) (rest := []) C hK hI hl 1 (cv_dyn hK hI (ci := 8) rfl (Or.inr (cdE_8 ht19))) (hrc b27 _ _ _ H.size _ hw) (by omega) (by omega) (lw_V q1179 q1181 qs27 q107 q1182) (by decide +kernel) (av_W [] 8 (Nat.le_of_ble_eq_true rfl)) dX11_ofBinder_39 rfl rfl ⟨by omega, by omega⟩) (fun r29 μ30 hw => ?_)
  obtain hb : ((0 + 1) + b27) + ((b - 1) - b27) ≤ (zz_R Z).cells ∧ ((0 + 4) + 5 * b27) + 5 * ((b - 1) - b27) ≤ (zz_R Z).slots := ⟨by omega, by omega⟩
  refine hx_astore (L' := [(4, aR r29), (3, aR (some a11)), (2, aR (oR μ a5 (((oI μ a2 0) - 97)).toNat)), (0, aR (some l0)), (1, aR (some a2))]) C dX11_ofBinder_42 (by decide) rfl ?_
  refine hx_aload_n C dX11_ofBinder_44 3 rfl rfl ?_
  obtain ⟨ht31, hw⟩ := hw
  refine cx_get (μ := μ30) (v := aR (oR μ30 l0 0)) C hK 8 0 rfl in_X11 (by decide) q1217 rfl (cdE_8 ht31) rfl dX11_ofBinder_45 ?_
  refine hx_aload_n C dX11_ofBinder_48 4 rfl rfl ?_
  obtain ⟨ht32, hw⟩ := hw
  refine cx_getN (μ := μ30) (v := aI (oI μ30 a2 0)) C hK 4 0 rfl in_X6 (by decide) (List.mem_of_getElem? (i := 27) rfl) rfl (cdE_4 ht32) rfl dX11_ofBinder_49 ?_
  refine hx_bipush C dX11_ofBinder_52 (by decide) ?_
  refine hx_isub C dX11_ofBinder_54 ?_
  refine hx_aload_n C dX11_ofBinder_55 2 rfl rfl ?_
  obtain ⟨a33, ha34, hw⟩ := hw
  rw [ha34]
  obtain ⟨ht35, hw⟩ := hw
  obtain ⟨hx36, hw⟩ := hw
  obtain ⟨hl37, hw⟩ := hw
  obtain ⟨hy38, hw⟩ := hw
  refine cx_aast (μ := μ30) (μ' := (poR μ30 a33 (((oI μ30 a2 0) - 97)).toNat (oR μ a5 (((oI μ a2 0) - 97)).toNat))) (len := (ln μ30 a33)) C hK 5 rfl (cu_oK ht35) (cany_K hy38) hx36.1 hx36.2 hl37 dX11_ofBinder_56 ?_
  refine hx_aload_n C dX11_ofBinder_57 1 rfl rfl ?_
  refine hx_aload C dX11_ofBinder_58 0 rfl ?_
  obtain ⟨b39, hu40, hw⟩ := hw
  refine fun H locs hI ls hl => cx_rr (S := []) hI hl (fun _ h => h) (cr_S (As := [toV (aR (some a11)), toV (aR r29)]) (rest := []) C hK hI hl 2 (sc_X12_arrow _ X H.size _ b39 _ _ _ hw) (lw_S q1194 q1195 q108 q1196) (by decide +kernel) ⟨rfl, rfl, by (dsimp only; omega), by (dsimp only; omega)⟩ (av_W [] 8 (Nat.le_of_ble_eq_true rfl)) dX11_ofBinder_60 rfl rfl ⟨by omega, by omega⟩) (fun r41 μ42 hw => ?_)
  obtain hb : (((0 + 1) + b27) + b39) + (((b - 1) - b27) - b39) ≤ (zz_R Z).cells ∧ (((0 + 4) + 5 * b27) + 5 * b39) + 5 * (((b - 1) - b27) - b39) ≤ (zz_R Z).slots := ⟨by omega, by omega⟩
  exact cx_aret C hQ (by omega) (by omega) (Or.inl ⟨_, rfl⟩) hw dX11_ofBinder_63
-- ('BinderPress$Kinds', 'of', '(LBinderPress$Term;)LBinderPress$Kind;')
def wc_X11_of (X : cX) (rc : Nat → Nat → Option Nat → CM → (Option Nat → CM → Prop) → Prop) (b : Nat) (l0 : Nat) (l1 : Option Nat) (μ : CM) (Q : Option Nat → CM → Prop) : Prop := (∃ a1, l1 = some a1 ∧ (5 ≤ tg μ a1 ∧ tg μ a1 ≤ 8) ∧ ((tg μ a1 = 6 → (tg μ l0 = 9 ∧ ∃ a6, (oR μ l0 0) = some a6 ∧ tg μ a6 = 25 ∧ (0 ≤ ((oI μ a1 0) - 97) ∧ ((oI μ a1 0) - 97) < ((ln μ a6) : Int)) ∧ (ln μ a6) < 2147483648 ∧ Q (oR μ a6 (((oI μ a1 0) - 97)).toNat) μ)) ∧ (¬ tg μ a1 = 6 → (5 ≤ tg μ a1 ∧ tg μ a1 ≤ 8) ∧ ((tg μ a1 = 7 → (∃ b13, b13 ≤ b ∧ wc_X11_ofSign X b13 (oR μ a1 0) μ (fun r15 μ16 => Q r15 μ16))) ∧ (¬ tg μ a1 = 7 → (5 ≤ tg μ a1 ∧ tg μ a1 ≤ 8) ∧ ((tg μ a1 = 8 → (∃ b19, b19 ≤ b ∧ tg μ l0 = 9 ∧ rc b19 l0 (oR μ a1 0) μ (fun r21 μ22 => 1 ≤ (b - b19) ∧ ∀ a25, tg μ22 a25 = 0 → wc_X12_init X a25 (alc μ22 a25 10 0) (fun μ29 => (∃ b30, b30 ≤ ((b - b19) - 1) ∧ tg μ29 l0 = 9 ∧ wc_X11_kept X b30 l0 r21 μ29 (fun r32 μ33 => (tg μ33 a1 = 8 ∧ ∃ b36, b36 ≤ (((b - b19) - 1) - b30) ∧ tg μ33 l0 = 9 ∧ rc b36 l0 (oR μ33 a1 1) μ33 (fun r38 μ39 => (∃ b41, b41 ≤ ((((b - b19) - 1) - b30) - b36) ∧ wc_X12_arrow X b41 r38 (some a25) μ39 (fun r43 μ44 => (∃ b45, b45 ≤ (((((b - b19) - 1) - b30) - b36) - b41) ∧ tg μ44 l0 = 9 ∧ wc_X11_kept X b45 l0 r43 μ44 (fun r47 μ48 => wr_X12_join X 800 r32 r47 μ48 (fun μ51 => Q (some a25) μ51))))))))))))) ∧ (¬ tg μ a1 = 8 → (tg μ a1 = 5 ∧ ∃ b53, b53 ≤ b ∧ tg μ l0 = 9 ∧ wc_X11_ofBinder X rc b53 l0 (some a1) μ (fun r55 μ56 => Q r55 μ56)))))))))
set_option maxHeartbeats 4000000 in
theorem sc_X11_of (l : Launch) (X : cX) (sz : Nat) (Q : Option Nat → CM → Prop) {rc : Nat → Nat → Option Nat → CM → (Option Nat → CM → Prop) → Prop} {fr lo : Nat} (hA : 802 ≤ fr) (hB : 18453 ≤ lo) (hrc : rmet_X11_of l X fr lo rc) (b : Nat) (l0 : Nat) (l1 : Option Nat) (μ : CM) (hw : wc_X11_of X rc b l0 l1 μ Q) : Met l yX11_of (ws_ yX11_of cX11_of 5 (some (.object "BinderPress$Kind"))) ({ frames := (fr + 1), cells := b, slots := 5 * b, locals := (lo + 24) }) (cPc X (([aR (some l0), aR l1] : List AV).map toV) μ sz) (cQr X μ sz Q) b (5 * b) (cA X μ sz) := by
  refine cx_met2 (rm := ({ frames := (fr + 1), cells := b, slots := 5 * b, locals := (lo + 24) })) (As := [aR (some l0), aR l1]) (L0 := [(0, aR (some l0)), (1, aR l1)]) (by decide) rfl (Nat.le_of_ble_eq_true rfl) rfl ?_
  intro Z C hK hsz hR hl0 hin hQ
  subst hsz
  have C : gC Z cX11_of 5 RX11 (some (.object "BinderPress$Kind")) (fr + 1) (lo + 24) := C
  rw [← hl0] at hrc
  have hQ : zz_q Z = MQ (zz_b Z) (cQr X μ (zz_s Z).heap.size Q) (zz_a Z) (zz_s Z) (zz_R Z).cells (zz_R Z).slots (cA X μ (zz_s Z).heap.size) := by rw [hR]; exact hQ
  have hb : 0 + b ≤ (zz_R Z).cells ∧ 0 + 5 * b ≤ (zz_R Z).slots := by rw [hR]; exact ⟨by dsimp only; omega, by dsimp only; omega⟩
  unfold wc_X11_of at hw
  refine hx_aload_n C dX11_of_0 1 rfl rfl ?_
  obtain ⟨a1, ha2, hw⟩ := hw
  rw [ha2]
  obtain ⟨hi3, hw⟩ := hw
  rcases (show tg μ a1 = 6 ∨ (tg μ a1 = 7 ∨ tg μ a1 = 8 ∨ tg μ a1 = 5) by omega) with h | h | h | h
  · have ht4 := h
    have hw := hw.1 h
    refine cx_instY C hK (ci := 5) rfl (Or.inr (cdE_5 ht4)) q1183 dX11_of_1 ?_
    refine hx_if_eq (tgt := 25) C dX11_of_4 (by decide) (by decide) (fun h => ?_) (fun h => ?_)
    · exact absurd h (by decide)
    · skip
      refine hx_aload_n C dX11_of_7 1 rfl rfl ?_
      refine cx_cast C hK (ci := 5) rfl (Or.inr (cdE_5 ht4)) q1183 dX11_of_8 ?_
      refine hx_astore_n (L' := [(2, aR (some a1)), (0, aR (some l0)), (1, aR (some a1))]) C dX11_of_11 rfl (by decide) rfl ?_
      refine hx_aload_n C dX11_of_12 1 rfl rfl ?_
      obtain ⟨ht5, hw⟩ := hw
      refine cx_get (μ := μ) (v := aR (oR μ l0 0)) C hK 8 0 rfl in_X11 (by decide) q1217 rfl (cdE_8 ht5) rfl dX11_of_13 ?_
      refine hx_aload_n C dX11_of_16 0 rfl rfl ?_
      refine cx_getN (μ := μ) (v := aI (oI μ a1 0)) C hK 5 0 rfl in_X7 (by decide) (List.mem_of_getElem? (i := 29) rfl) rfl (cdE_5 ht4) rfl dX11_of_17 ?_
      refine hx_bipush C dX11_of_20 (by decide) ?_
      refine hx_isub C dX11_of_22 ?_
      obtain ⟨a6, ha7, hw⟩ := hw
      rw [ha7]
      obtain ⟨ht8, hw⟩ := hw
      obtain ⟨hx9, hw⟩ := hw
      obtain ⟨hl10, hw⟩ := hw
      refine cx_aald (μ := μ) (f := oR μ a6) (len := (ln μ a6)) C hK 5 rfl (Or.inr (cdA_5 ht8)) hx9.1 hx9.2 hl10 dX11_of_23 ?_
      exact cx_aret C hQ (by omega) (by omega) (Or.inl ⟨_, rfl⟩) hw dX11_of_24
  · have hw := hw.2 (by omega)
    refine cx_instN C hK (ci := 6) (nm := "BinderPress$Name") rfl (Or.inr (cdE_6 h)) q1183 (List.mem_of_getElem? (i := 3) rfl) dX11_of_1 ?_
    refine hx_if_eq (tgt := 25) C dX11_of_4 (by decide) (by decide) (fun h => ?_) (fun h => ?_)
    · skip
      refine hx_aload_n C dX11_of_25 1 rfl rfl ?_
      obtain ⟨hi11, hw⟩ := hw
      rcases (show tg μ a1 = 7 ∨ (tg μ a1 = 6 ∨ tg μ a1 = 8 ∨ tg μ a1 = 5) by omega) with h | h | h | h
      · have ht12 := h
        have hw := hw.1 h
        refine cx_instY C hK (ci := 6) rfl (Or.inr (cdE_6 ht12)) q1184 dX11_of_26 ?_
        refine hx_if_eq (tgt := 45) C dX11_of_29 (by decide) (by decide) (fun h => ?_) (fun h => ?_)
        · exact absurd h (by decide)
        · skip
          refine hx_aload_n C dX11_of_32 1 rfl rfl ?_
          refine cx_cast C hK (ci := 6) rfl (Or.inr (cdE_6 ht12)) q1184 dX11_of_33 ?_
          refine hx_astore_n (L' := [(2, aR (some a1)), (0, aR (some l0)), (1, aR (some a1))]) C dX11_of_36 rfl (by decide) rfl ?_
          refine hx_aload_n C dX11_of_37 0 rfl rfl ?_
          refine cx_getN (μ := μ) (v := aR (oR μ a1 0)) C hK 6 0 rfl in_X8 (by decide) (List.mem_of_getElem? (i := 30) rfl) rfl (cdE_6 ht12) rfl dX11_of_38 ?_
          obtain ⟨b13, hu14, hw⟩ := hw
          refine fun H locs hI ls hl => cx_rr (S := []) hI hl (fun _ h => h) (cr_S (As := [toV (aR (oR μ a1 0))]) (rest := []) C hK hI hl 1 (sc_X11_ofSign _ X H.size _ b13 _ _ hw) (lw_S q1185 q1186 q107 q1187) (by decide +kernel) ⟨rfl, rfl, by (dsimp only; omega), by (dsimp only; omega)⟩ (av_W [] 8 (Nat.le_of_ble_eq_true rfl)) dX11_of_41 rfl rfl ⟨by omega, by omega⟩) (fun r15 μ16 hw => ?_)
          obtain hb : (0 + b13) + (b - b13) ≤ (zz_R Z).cells ∧ (0 + 5 * b13) + 5 * (b - b13) ≤ (zz_R Z).slots := ⟨by omega, by omega⟩
          exact cx_aret C hQ (by omega) (by omega) (Or.inl ⟨_, rfl⟩) hw dX11_of_44
      · have hw := hw.2 (by omega)
        refine cx_instN C hK (ci := 5) (nm := "BinderPress$Sign") rfl (Or.inr (cdE_5 h)) q1184 (List.mem_of_getElem? (i := 0) rfl) dX11_of_26 ?_
        refine hx_if_eq (tgt := 45) C dX11_of_29 (by decide) (by decide) (fun h => ?_) (fun h => ?_)
        · skip
          refine hx_aload_n C dX11_of_45 1 rfl rfl ?_
          obtain ⟨hi17, hw⟩ := hw
          rcases (show tg μ a1 = 8 ∨ (tg μ a1 = 6 ∨ tg μ a1 = 7 ∨ tg μ a1 = 5) by omega) with h | h | h | h
          · have ht18 := h
            have hw := hw.1 h
            refine cx_instY C hK (ci := 7) rfl (Or.inr (cdE_7 ht18)) q1199 dX11_of_46 ?_
            refine hx_if_eq (tgt := 103) C dX11_of_49 (by decide) (by decide) (fun h => ?_) (fun h => ?_)
            · exact absurd h (by decide)
            · skip
              refine hx_aload_n C dX11_of_52 1 rfl rfl ?_
              refine cx_cast C hK (ci := 7) rfl (Or.inr (cdE_7 ht18)) q1199 dX11_of_53 ?_
              refine hx_astore_n (L' := [(2, aR (some a1)), (0, aR (some l0)), (1, aR (some a1))]) C dX11_of_56 rfl (by decide) rfl ?_
              refine hx_aload_n C dX11_of_57 1 rfl rfl ?_
              refine hx_aload_n C dX11_of_58 0 rfl rfl ?_
              refine cx_getN (μ := μ) (v := aR (oR μ a1 0)) C hK 7 0 rfl in_X9 (by decide) (List.mem_of_getElem? (i := 31) rfl) rfl (cdE_7 ht18) rfl dX11_of_59 ?_
              obtain ⟨b19, hu20, hw⟩ := hw
              obtain ⟨ht23, hw⟩ := hw
              refine fun H locs hI ls hl => cx_rr (S := []) hI hl (fun _ h => h) (dr_V (Cn := RX11) (As := [toV (aR (oR μ a1 0))]) (rest := []) C hK hI hl 1 (cv_dyn hK hI (ci := 8) rfl (Or.inr (cdE_8 ht23))) (hrc b19 _ _ _ H.size _ hw) (by omega) (by omega) (lw_V q1179 q1181 qs27 q107 q1182) (by decide +kernel) (av_W [] 8 (Nat.le_of_ble_eq_true rfl)) dX11_of_62 rfl rfl ⟨by omega, by omega⟩) (fun r21 μ22 hw => ?_)
              obtain hb : (0 + b19) + (b - b19) ≤ (zz_R Z).cells ∧ (0 + 5 * b19) + 5 * (b - b19) ≤ (zz_R Z).slots := ⟨by omega, by omega⟩
              refine hx_astore_n (L' := [(3, aR r21), (2, aR (some a1)), (0, aR (some l0)), (1, aR (some a1))]) C dX11_of_65 rfl (by decide) rfl ?_
              obtain ⟨hu24, hw⟩ := hw
              refine cx_new (fs := fun a => coF_9 (alc μ22 a 10 0) a) C hK 9 10 rfl in_X12 tyX12_ok q1157 q1159 q108 (by decide) (fun a => cdE_9 alc_t) (cxd_9 _) (by omega) (by omega) dX11_of_66 (fun a25 hf26 => ?_)
              have hw := hw a25 hf26
              obtain hb : ((0 + b19) + 1) + ((b - b19) - 1) ≤ (zz_R Z).cells ∧ ((0 + 5 * b19) + 4) + 5 * ((b - b19) - 1) ≤ (zz_R Z).slots := ⟨by omega, by omega⟩
              have ht27 : tg (alc μ22 a25 10 0) a25 = 10 := alc_t
              refine hx_dup C dX11_of_69 rfl ?_
              refine fun H locs hI ls hl => cx_rv (S := [aR (some a25)]) hI hl (fun _ h => h) (cr_IN (a := a25) (As := []) (rest := [toV (aR (some a25))]) C hK hI hl 0 (sc_X12_init _ X H.size _ _ _ hw) (List.mem_of_getElem? (i := 33) rfl) q1161 q108 q1162 rfl (by decide +kernel) ⟨rfl, rfl, by (dsimp only; omega), by (dsimp only; omega)⟩ (av_W [aR (some a25)] 8 (Nat.le_of_ble_eq_true rfl)) dX11_of_70 rfl rfl ⟨by omega, by omega⟩) (fun μ29 hw => ?_)
              refine hx_astore (L' := [(4, aR (some a25)), (3, aR r21), (2, aR (some a1)), (0, aR (some l0)), (1, aR (some a1))]) C dX11_of_73 (by decide) rfl ?_
              refine hx_aload_n C dX11_of_75 3 rfl rfl ?_
              refine hx_aload_n C dX11_of_76 1 rfl rfl ?_
              obtain ⟨b30, hu31, hw⟩ := hw
              obtain ⟨ht34, hw⟩ := hw
              refine fun H locs hI ls hl => cx_rr (S := []) hI hl (fun _ h => h) (cr_V (Cn := RX11) (As := [toV (aR r21)]) (rest := []) C hK hI hl 1 (cv_dyn hK hI (ci := 8) rfl (Or.inr (cdE_8 ht34))) (sc_X11_kept _ X H.size _ b30 _ _ _ hw) (lw_V q1200 q1202 qs28 q107 q1203) (by decide +kernel) ⟨rfl, rfl, by (dsimp only; omega), by (dsimp only; omega)⟩ (av_W [] 8 (Nat.le_of_ble_eq_true rfl)) dX11_of_77 rfl rfl ⟨by omega, by omega⟩) (fun r32 μ33 hw => ?_)
              obtain hb : (((0 + b19) + 1) + b30) + (((b - b19) - 1) - b30) ≤ (zz_R Z).cells ∧ (((0 + 5 * b19) + 4) + 5 * b30) + 5 * (((b - b19) - 1) - b30) ≤ (zz_R Z).slots := ⟨by omega, by omega⟩
              refine hx_aload_n C dX11_of_80 3 rfl rfl ?_
              refine hx_aload_n C dX11_of_81 3 rfl rfl ?_
              refine hx_aload_n C dX11_of_82 2 rfl rfl ?_
              obtain ⟨ht35, hw⟩ := hw
              refine cx_getN (μ := μ33) (v := aR (oR μ33 a1 1)) C hK 7 1 rfl in_X9 (by decide) (List.mem_of_getElem? (i := 32) rfl) rfl (cdE_7 ht35) rfl dX11_of_83 ?_
              obtain ⟨b36, hu37, hw⟩ := hw
              obtain ⟨ht40, hw⟩ := hw
              refine fun H locs hI ls hl => cx_rr (S := [aR (some l0), aR r32]) hI hl (fun _ h => h) (dr_V (Cn := RX11) (As := [toV (aR (oR μ33 a1 1))]) (rest := [toV (aR (some l0)), toV (aR r32)]) C hK hI hl 1 (cv_dyn hK hI (ci := 8) rfl (Or.inr (cdE_8 ht40))) (hrc b36 _ _ _ H.size _ hw) (by omega) (by omega) (lw_V q1179 q1181 qs27 q107 q1182) (by decide +kernel) (av_W [aR (some l0), aR r32] 8 (Nat.le_of_ble_eq_true rfl)) dX11_of_86 rfl rfl ⟨by omega, by omega⟩) (fun r38 μ39 hw => ?_)
              obtain hb : ((((0 + b19) + 1) + b30) + b36) + ((((b - b19) - 1) - b30) - b36) ≤ (zz_R Z).cells ∧ ((((0 + 5 * b19) + 4) + 5 * b30) + 5 * b36) + 5 * ((((b - b19) - 1) - b30) - b36) ≤ (zz_R Z).slots := ⟨by omega, by omega⟩
              refine hx_aload C dX11_of_89 0 rfl ?_
              obtain ⟨b41, hu42, hw⟩ := hw
              refine fun H locs hI ls hl => cx_rr (S := [aR (some l0), aR r32]) hI hl (fun _ h => h) (cr_S (As := [toV (aR r38), toV (aR (some a25))]) (rest := [toV (aR (some l0)), toV (aR r32)]) C hK hI hl 2 (sc_X12_arrow _ X H.size _ b41 _ _ _ hw) (lw_S q1194 q1195 q108 q1196) (by decide +kernel) ⟨rfl, rfl, by (dsimp only; omega), by (dsimp only; omega)⟩ (av_W [aR (some l0), aR r32] 8 (Nat.le_of_ble_eq_true rfl)) dX11_of_91 rfl rfl ⟨by omega, by omega⟩) (fun r43 μ44 hw => ?_)
              obtain hb : (((((0 + b19) + 1) + b30) + b36) + b41) + (((((b - b19) - 1) - b30) - b36) - b41) ≤ (zz_R Z).cells ∧ (((((0 + 5 * b19) + 4) + 5 * b30) + 5 * b36) + 5 * b41) + 5 * (((((b - b19) - 1) - b30) - b36) - b41) ≤ (zz_R Z).slots := ⟨by omega, by omega⟩
              obtain ⟨b45, hu46, hw⟩ := hw
              obtain ⟨ht49, hw⟩ := hw
              refine fun H locs hI ls hl => cx_rr (S := [aR r32]) hI hl (fun _ h => h) (cr_V (Cn := RX11) (As := [toV (aR r43)]) (rest := [toV (aR r32)]) C hK hI hl 1 (cv_dyn hK hI (ci := 8) rfl (Or.inr (cdE_8 ht49))) (sc_X11_kept _ X H.size _ b45 _ _ _ hw) (lw_V q1200 q1202 qs28 q107 q1203) (by decide +kernel) ⟨rfl, rfl, by (dsimp only; omega), by (dsimp only; omega)⟩ (av_W [aR r32] 8 (Nat.le_of_ble_eq_true rfl)) dX11_of_94 rfl rfl ⟨by omega, by omega⟩) (fun r47 μ48 hw => ?_)
              obtain hb : ((((((0 + b19) + 1) + b30) + b36) + b41) + b45) + ((((((b - b19) - 1) - b30) - b36) - b41) - b45) ≤ (zz_R Z).cells ∧ ((((((0 + 5 * b19) + 4) + 5 * b30) + 5 * b36) + 5 * b41) + 5 * b45) + 5 * ((((((b - b19) - 1) - b30) - b36) - b41) - b45) ≤ (zz_R Z).slots := ⟨by omega, by omega⟩
              refine fun H locs hI ls hl => cx_rv (S := []) hI hl (fun _ h => h) (dr_S (As := [toV (aR r32), toV (aR r47)]) (rest := []) C hK hI hl 2 ((rr_X12_join _ X 800) _ _ _ H.size _ hw) (by omega) (by omega) (lw_S q1204 q1205 q108 q1206) (by decide +kernel) (av_W [] 8 (Nat.le_of_ble_eq_true rfl)) dX11_of_97 rfl rfl ⟨by omega, by omega⟩) (fun μ51 hw => ?_)
              refine hx_aload C dX11_of_100 0 rfl ?_
              exact cx_aret C hQ (by omega) (by omega) (Or.inl ⟨_, rfl⟩) hw dX11_of_102
          · have hw := hw.2 (by omega)
            refine cx_instN C hK (ci := 5) (nm := "BinderPress$Put") rfl (Or.inr (cdE_5 h)) q1199 (List.mem_of_getElem? (i := 1) rfl) dX11_of_46 ?_
            refine hx_if_eq (tgt := 103) C dX11_of_49 (by decide) (by decide) (fun h => ?_) (fun h => ?_)
            · skip
              refine hx_aload_n C dX11_of_103 0 rfl rfl ?_
              refine hx_aload_n C dX11_of_104 1 rfl rfl ?_
              obtain ⟨ht52, hw⟩ := hw
              refine cx_cast C hK (ci := 4) rfl (Or.inr (cdE_4 ht52)) q1212 dX11_of_105 ?_
              obtain ⟨b53, hu54, hw⟩ := hw
              obtain ⟨ht57, hw⟩ := hw
              refine fun H locs hI ls hl => cx_rr (S := []) hI hl (fun _ h => h) (cr_V (Cn := RX11) (As := [toV (aR (some a1))]) (rest := []) C hK hI hl 1 (cv_dyn hK hI (ci := 8) rfl (Or.inr (cdE_8 ht57))) (sc_X11_ofBinder _ X H.size _ hA hB hrc b53 _ _ _ hw) (lw_V q1213 q1215 qs29 q107 q1216) (by decide +kernel) ⟨rfl, rfl, by (dsimp only; omega), by (dsimp only; omega)⟩ (av_W [] 8 (Nat.le_of_ble_eq_true rfl)) dX11_of_108 rfl rfl ⟨by omega, by omega⟩) (fun r55 μ56 hw => ?_)
              obtain hb : (0 + b53) + (b - b53) ≤ (zz_R Z).cells ∧ (0 + 5 * b53) + 5 * (b - b53) ≤ (zz_R Z).slots := ⟨by omega, by omega⟩
              exact cx_aret C hQ (by omega) (by omega) (Or.inl ⟨_, rfl⟩) hw dX11_of_111
            · exact absurd h (by decide)
          · have hw := hw.2 (by omega)
            refine cx_instN C hK (ci := 6) (nm := "BinderPress$Put") rfl (Or.inr (cdE_6 h)) q1199 (List.mem_of_getElem? (i := 4) rfl) dX11_of_46 ?_
            refine hx_if_eq (tgt := 103) C dX11_of_49 (by decide) (by decide) (fun h => ?_) (fun h => ?_)
            · skip
              refine hx_aload_n C dX11_of_103 0 rfl rfl ?_
              refine hx_aload_n C dX11_of_104 1 rfl rfl ?_
              obtain ⟨ht52, hw⟩ := hw
              refine cx_cast C hK (ci := 4) rfl (Or.inr (cdE_4 ht52)) q1212 dX11_of_105 ?_
              obtain ⟨b53, hu54, hw⟩ := hw
              obtain ⟨ht57, hw⟩ := hw
              refine fun H locs hI ls hl => cx_rr (S := []) hI hl (fun _ h => h) (cr_V (Cn := RX11) (As := [toV (aR (some a1))]) (rest := []) C hK hI hl 1 (cv_dyn hK hI (ci := 8) rfl (Or.inr (cdE_8 ht57))) (sc_X11_ofBinder _ X H.size _ hA hB hrc b53 _ _ _ hw) (lw_V q1213 q1215 qs29 q107 q1216) (by decide +kernel) ⟨rfl, rfl, by (dsimp only; omega), by (dsimp only; omega)⟩ (av_W [] 8 (Nat.le_of_ble_eq_true rfl)) dX11_of_108 rfl rfl ⟨by omega, by omega⟩) (fun r55 μ56 hw => ?_)
              obtain hb : (0 + b53) + (b - b53) ≤ (zz_R Z).cells ∧ (0 + 5 * b53) + 5 * (b - b53) ≤ (zz_R Z).slots := ⟨by omega, by omega⟩
              exact cx_aret C hQ (by omega) (by omega) (Or.inl ⟨_, rfl⟩) hw dX11_of_111
            · exact absurd h (by decide)
          · have hw := hw.2 (by omega)
            refine cx_instN C hK (ci := 4) (nm := "BinderPress$Put") rfl (Or.inr (cdE_4 h)) q1199 (List.mem_of_getElem? (i := 11) rfl) dX11_of_46 ?_
            refine hx_if_eq (tgt := 103) C dX11_of_49 (by decide) (by decide) (fun h => ?_) (fun h => ?_)
            · skip
              refine hx_aload_n C dX11_of_103 0 rfl rfl ?_
              refine hx_aload_n C dX11_of_104 1 rfl rfl ?_
              obtain ⟨ht52, hw⟩ := hw
              refine cx_cast C hK (ci := 4) rfl (Or.inr (cdE_4 ht52)) q1212 dX11_of_105 ?_
              obtain ⟨b53, hu54, hw⟩ := hw
              obtain ⟨ht57, hw⟩ := hw
              refine fun H locs hI ls hl => cx_rr (S := []) hI hl (fun _ h => h) (cr_V (Cn := RX11) (As := [toV (aR (some a1))]) (rest := []) C hK hI hl 1 (cv_dyn hK hI (ci := 8) rfl (Or.inr (cdE_8 ht57))) (sc_X11_ofBinder _ X H.size _ hA hB hrc b53 _ _ _ hw) (lw_V q1213 q1215 qs29 q107 q1216) (by decide +kernel) ⟨rfl, rfl, by (dsimp only; omega), by (dsimp only; omega)⟩ (av_W [] 8 (Nat.le_of_ble_eq_true rfl)) dX11_of_108 rfl rfl ⟨by omega, by omega⟩) (fun r55 μ56 hw => ?_)
              obtain hb : (0 + b53) + (b - b53) ≤ (zz_R Z).cells ∧ (0 + 5 * b53) + 5 * (b - b53) ≤ (zz_R Z).slots := ⟨by omega, by omega⟩
              exact cx_aret C hQ (by omega) (by omega) (Or.inl ⟨_, rfl⟩) hw dX11_of_111
            · exact absurd h (by decide)
        · exact absurd h (by decide)
      · have hw := hw.2 (by omega)
        refine cx_instN C hK (ci := 7) (nm := "BinderPress$Sign") rfl (Or.inr (cdE_7 h)) q1184 (List.mem_of_getElem? (i := 7) rfl) dX11_of_26 ?_
        refine hx_if_eq (tgt := 45) C dX11_of_29 (by decide) (by decide) (fun h => ?_) (fun h => ?_)
        · skip
          refine hx_aload_n C dX11_of_45 1 rfl rfl ?_
          obtain ⟨hi17, hw⟩ := hw
          rcases (show tg μ a1 = 8 ∨ (tg μ a1 = 6 ∨ tg μ a1 = 7 ∨ tg μ a1 = 5) by omega) with h | h | h | h
          · have ht18 := h
            have hw := hw.1 h
            refine cx_instY C hK (ci := 7) rfl (Or.inr (cdE_7 ht18)) q1199 dX11_of_46 ?_
            refine hx_if_eq (tgt := 103) C dX11_of_49 (by decide) (by decide) (fun h => ?_) (fun h => ?_)
            · exact absurd h (by decide)
            · skip
              refine hx_aload_n C dX11_of_52 1 rfl rfl ?_
              refine cx_cast C hK (ci := 7) rfl (Or.inr (cdE_7 ht18)) q1199 dX11_of_53 ?_
              refine hx_astore_n (L' := [(2, aR (some a1)), (0, aR (some l0)), (1, aR (some a1))]) C dX11_of_56 rfl (by decide) rfl ?_
              refine hx_aload_n C dX11_of_57 1 rfl rfl ?_
              refine hx_aload_n C dX11_of_58 0 rfl rfl ?_
              refine cx_getN (μ := μ) (v := aR (oR μ a1 0)) C hK 7 0 rfl in_X9 (by decide) (List.mem_of_getElem? (i := 31) rfl) rfl (cdE_7 ht18) rfl dX11_of_59 ?_
              obtain ⟨b19, hu20, hw⟩ := hw
              obtain ⟨ht23, hw⟩ := hw
              refine fun H locs hI ls hl => cx_rr (S := []) hI hl (fun _ h => h) (dr_V (Cn := RX11) (As := [toV (aR (oR μ a1 0))]) (rest := []) C hK hI hl 1 (cv_dyn hK hI (ci := 8) rfl (Or.inr (cdE_8 ht23))) (hrc b19 _ _ _ H.size _ hw) (by omega) (by omega) (lw_V q1179 q1181 qs27 q107 q1182) (by decide +kernel) (av_W [] 8 (Nat.le_of_ble_eq_true rfl)) dX11_of_62 rfl rfl ⟨by omega, by omega⟩) (fun r21 μ22 hw => ?_)
              obtain hb : (0 + b19) + (b - b19) ≤ (zz_R Z).cells ∧ (0 + 5 * b19) + 5 * (b - b19) ≤ (zz_R Z).slots := ⟨by omega, by omega⟩
              refine hx_astore_n (L' := [(3, aR r21), (2, aR (some a1)), (0, aR (some l0)), (1, aR (some a1))]) C dX11_of_65 rfl (by decide) rfl ?_
              obtain ⟨hu24, hw⟩ := hw
              refine cx_new (fs := fun a => coF_9 (alc μ22 a 10 0) a) C hK 9 10 rfl in_X12 tyX12_ok q1157 q1159 q108 (by decide) (fun a => cdE_9 alc_t) (cxd_9 _) (by omega) (by omega) dX11_of_66 (fun a25 hf26 => ?_)
              have hw := hw a25 hf26
              obtain hb : ((0 + b19) + 1) + ((b - b19) - 1) ≤ (zz_R Z).cells ∧ ((0 + 5 * b19) + 4) + 5 * ((b - b19) - 1) ≤ (zz_R Z).slots := ⟨by omega, by omega⟩
              have ht27 : tg (alc μ22 a25 10 0) a25 = 10 := alc_t
              refine hx_dup C dX11_of_69 rfl ?_
              refine fun H locs hI ls hl => cx_rv (S := [aR (some a25)]) hI hl (fun _ h => h) (cr_IN (a := a25) (As := []) (rest := [toV (aR (some a25))]) C hK hI hl 0 (sc_X12_init _ X H.size _ _ _ hw) (List.mem_of_getElem? (i := 33) rfl) q1161 q108 q1162 rfl (by decide +kernel) ⟨rfl, rfl, by (dsimp only; omega), by (dsimp only; omega)⟩ (av_W [aR (some a25)] 8 (Nat.le_of_ble_eq_true rfl)) dX11_of_70 rfl rfl ⟨by omega, by omega⟩) (fun μ29 hw => ?_)
              refine hx_astore (L' := [(4, aR (some a25)), (3, aR r21), (2, aR (some a1)), (0, aR (some l0)), (1, aR (some a1))]) C dX11_of_73 (by decide) rfl ?_
              refine hx_aload_n C dX11_of_75 3 rfl rfl ?_
              refine hx_aload_n C dX11_of_76 1 rfl rfl ?_
              obtain ⟨b30, hu31, hw⟩ := hw
              obtain ⟨ht34, hw⟩ := hw
              refine fun H locs hI ls hl => cx_rr (S := []) hI hl (fun _ h => h) (cr_V (Cn := RX11) (As := [toV (aR r21)]) (rest := []) C hK hI hl 1 (cv_dyn hK hI (ci := 8) rfl (Or.inr (cdE_8 ht34))) (sc_X11_kept _ X H.size _ b30 _ _ _ hw) (lw_V q1200 q1202 qs28 q107 q1203) (by decide +kernel) ⟨rfl, rfl, by (dsimp only; omega), by (dsimp only; omega)⟩ (av_W [] 8 (Nat.le_of_ble_eq_true rfl)) dX11_of_77 rfl rfl ⟨by omega, by omega⟩) (fun r32 μ33 hw => ?_)
              obtain hb : (((0 + b19) + 1) + b30) + (((b - b19) - 1) - b30) ≤ (zz_R Z).cells ∧ (((0 + 5 * b19) + 4) + 5 * b30) + 5 * (((b - b19) - 1) - b30) ≤ (zz_R Z).slots := ⟨by omega, by omega⟩
              refine hx_aload_n C dX11_of_80 3 rfl rfl ?_
              refine hx_aload_n C dX11_of_81 3 rfl rfl ?_
              refine hx_aload_n C dX11_of_82 2 rfl rfl ?_
              obtain ⟨ht35, hw⟩ := hw
              refine cx_getN (μ := μ33) (v := aR (oR μ33 a1 1)) C hK 7 1 rfl in_X9 (by decide) (List.mem_of_getElem? (i := 32) rfl) rfl (cdE_7 ht35) rfl dX11_of_83 ?_
              obtain ⟨b36, hu37, hw⟩ := hw
              obtain ⟨ht40, hw⟩ := hw
              refine fun H locs hI ls hl => cx_rr (S := [aR (some l0), aR r32]) hI hl (fun _ h => h) (dr_V (Cn := RX11) (As := [toV (aR (oR μ33 a1 1))]) (rest := [toV (aR (some l0)), toV (aR r32)]) C hK hI hl 1 (cv_dyn hK hI (ci := 8) rfl (Or.inr (cdE_8 ht40))) (hrc b36 _ _ _ H.size _ hw) (by omega) (by omega) (lw_V q1179 q1181 qs27 q107 q1182) (by decide +kernel) (av_W [aR (some l0), aR r32] 8 (Nat.le_of_ble_eq_true rfl)) dX11_of_86 rfl rfl ⟨by omega, by omega⟩) (fun r38 μ39 hw => ?_)
              obtain hb : ((((0 + b19) + 1) + b30) + b36) + ((((b - b19) - 1) - b30) - b36) ≤ (zz_R Z).cells ∧ ((((0 + 5 * b19) + 4) + 5 * b30) + 5 * b36) + 5 * ((((b - b19) - 1) - b30) - b36) ≤ (zz_R Z).slots := ⟨by omega, by omega⟩
              refine hx_aload C dX11_of_89 0 rfl ?_
              obtain ⟨b41, hu42, hw⟩ := hw
              refine fun H locs hI ls hl => cx_rr (S := [aR (some l0), aR r32]) hI hl (fun _ h => h) (cr_S (As := [toV (aR r38), toV (aR (some a25))]) (rest := [toV (aR (some l0)), toV (aR r32)]) C hK hI hl 2 (sc_X12_arrow _ X H.size _ b41 _ _ _ hw) (lw_S q1194 q1195 q108 q1196) (by decide +kernel) ⟨rfl, rfl, by (dsimp only; omega), by (dsimp only; omega)⟩ (av_W [aR (some l0), aR r32] 8 (Nat.le_of_ble_eq_true rfl)) dX11_of_91 rfl rfl ⟨by omega, by omega⟩) (fun r43 μ44 hw => ?_)
              obtain hb : (((((0 + b19) + 1) + b30) + b36) + b41) + (((((b - b19) - 1) - b30) - b36) - b41) ≤ (zz_R Z).cells ∧ (((((0 + 5 * b19) + 4) + 5 * b30) + 5 * b36) + 5 * b41) + 5 * (((((b - b19) - 1) - b30) - b36) - b41) ≤ (zz_R Z).slots := ⟨by omega, by omega⟩
              obtain ⟨b45, hu46, hw⟩ := hw
              obtain ⟨ht49, hw⟩ := hw
              refine fun H locs hI ls hl => cx_rr (S := [aR r32]) hI hl (fun _ h => h) (cr_V (Cn := RX11) (As := [toV (aR r43)]) (rest := [toV (aR r32)]) C hK hI hl 1 (cv_dyn hK hI (ci := 8) rfl (Or.inr (cdE_8 ht49))) (sc_X11_kept _ X H.size _ b45 _ _ _ hw) (lw_V q1200 q1202 qs28 q107 q1203) (by decide +kernel) ⟨rfl, rfl, by (dsimp only; omega), by (dsimp only; omega)⟩ (av_W [aR r32] 8 (Nat.le_of_ble_eq_true rfl)) dX11_of_94 rfl rfl ⟨by omega, by omega⟩) (fun r47 μ48 hw => ?_)
              obtain hb : ((((((0 + b19) + 1) + b30) + b36) + b41) + b45) + ((((((b - b19) - 1) - b30) - b36) - b41) - b45) ≤ (zz_R Z).cells ∧ ((((((0 + 5 * b19) + 4) + 5 * b30) + 5 * b36) + 5 * b41) + 5 * b45) + 5 * ((((((b - b19) - 1) - b30) - b36) - b41) - b45) ≤ (zz_R Z).slots := ⟨by omega, by omega⟩
              refine fun H locs hI ls hl => cx_rv (S := []) hI hl (fun _ h => h) (dr_S (As := [toV (aR r32), toV (aR r47)]) (rest := []) C hK hI hl 2 ((rr_X12_join _ X 800) _ _ _ H.size _ hw) (by omega) (by omega) (lw_S q1204 q1205 q108 q1206) (by decide +kernel) (av_W [] 8 (Nat.le_of_ble_eq_true rfl)) dX11_of_97 rfl rfl ⟨by omega, by omega⟩) (fun μ51 hw => ?_)
              refine hx_aload C dX11_of_100 0 rfl ?_
              exact cx_aret C hQ (by omega) (by omega) (Or.inl ⟨_, rfl⟩) hw dX11_of_102
          · have hw := hw.2 (by omega)
            refine cx_instN C hK (ci := 5) (nm := "BinderPress$Put") rfl (Or.inr (cdE_5 h)) q1199 (List.mem_of_getElem? (i := 1) rfl) dX11_of_46 ?_
            refine hx_if_eq (tgt := 103) C dX11_of_49 (by decide) (by decide) (fun h => ?_) (fun h => ?_)
            · skip
              refine hx_aload_n C dX11_of_103 0 rfl rfl ?_
              refine hx_aload_n C dX11_of_104 1 rfl rfl ?_
              obtain ⟨ht52, hw⟩ := hw
              refine cx_cast C hK (ci := 4) rfl (Or.inr (cdE_4 ht52)) q1212 dX11_of_105 ?_
              obtain ⟨b53, hu54, hw⟩ := hw
              obtain ⟨ht57, hw⟩ := hw
              refine fun H locs hI ls hl => cx_rr (S := []) hI hl (fun _ h => h) (cr_V (Cn := RX11) (As := [toV (aR (some a1))]) (rest := []) C hK hI hl 1 (cv_dyn hK hI (ci := 8) rfl (Or.inr (cdE_8 ht57))) (sc_X11_ofBinder _ X H.size _ hA hB hrc b53 _ _ _ hw) (lw_V q1213 q1215 qs29 q107 q1216) (by decide +kernel) ⟨rfl, rfl, by (dsimp only; omega), by (dsimp only; omega)⟩ (av_W [] 8 (Nat.le_of_ble_eq_true rfl)) dX11_of_108 rfl rfl ⟨by omega, by omega⟩) (fun r55 μ56 hw => ?_)
              obtain hb : (0 + b53) + (b - b53) ≤ (zz_R Z).cells ∧ (0 + 5 * b53) + 5 * (b - b53) ≤ (zz_R Z).slots := ⟨by omega, by omega⟩
              exact cx_aret C hQ (by omega) (by omega) (Or.inl ⟨_, rfl⟩) hw dX11_of_111
            · exact absurd h (by decide)
          · have hw := hw.2 (by omega)
            refine cx_instN C hK (ci := 6) (nm := "BinderPress$Put") rfl (Or.inr (cdE_6 h)) q1199 (List.mem_of_getElem? (i := 4) rfl) dX11_of_46 ?_
            refine hx_if_eq (tgt := 103) C dX11_of_49 (by decide) (by decide) (fun h => ?_) (fun h => ?_)
            · skip
              refine hx_aload_n C dX11_of_103 0 rfl rfl ?_
              refine hx_aload_n C dX11_of_104 1 rfl rfl ?_
              obtain ⟨ht52, hw⟩ := hw
              refine cx_cast C hK (ci := 4) rfl (Or.inr (cdE_4 ht52)) q1212 dX11_of_105 ?_
              obtain ⟨b53, hu54, hw⟩ := hw
              obtain ⟨ht57, hw⟩ := hw
              refine fun H locs hI ls hl => cx_rr (S := []) hI hl (fun _ h => h) (cr_V (Cn := RX11) (As := [toV (aR (some a1))]) (rest := []) C hK hI hl 1 (cv_dyn hK hI (ci := 8) rfl (Or.inr (cdE_8 ht57))) (sc_X11_ofBinder _ X H.size _ hA hB hrc b53 _ _ _ hw) (lw_V q1213 q1215 qs29 q107 q1216) (by decide +kernel) ⟨rfl, rfl, by (dsimp only; omega), by (dsimp only; omega)⟩ (av_W [] 8 (Nat.le_of_ble_eq_true rfl)) dX11_of_108 rfl rfl ⟨by omega, by omega⟩) (fun r55 μ56 hw => ?_)
              obtain hb : (0 + b53) + (b - b53) ≤ (zz_R Z).cells ∧ (0 + 5 * b53) + 5 * (b - b53) ≤ (zz_R Z).slots := ⟨by omega, by omega⟩
              exact cx_aret C hQ (by omega) (by omega) (Or.inl ⟨_, rfl⟩) hw dX11_of_111
            · exact absurd h (by decide)
          · have hw := hw.2 (by omega)
            refine cx_instN C hK (ci := 4) (nm := "BinderPress$Put") rfl (Or.inr (cdE_4 h)) q1199 (List.mem_of_getElem? (i := 11) rfl) dX11_of_46 ?_
            refine hx_if_eq (tgt := 103) C dX11_of_49 (by decide) (by decide) (fun h => ?_) (fun h => ?_)
            · skip
              refine hx_aload_n C dX11_of_103 0 rfl rfl ?_
              refine hx_aload_n C dX11_of_104 1 rfl rfl ?_
              obtain ⟨ht52, hw⟩ := hw
              refine cx_cast C hK (ci := 4) rfl (Or.inr (cdE_4 ht52)) q1212 dX11_of_105 ?_
              obtain ⟨b53, hu54, hw⟩ := hw
              obtain ⟨ht57, hw⟩ := hw
              refine fun H locs hI ls hl => cx_rr (S := []) hI hl (fun _ h => h) (cr_V (Cn := RX11) (As := [toV (aR (some a1))]) (rest := []) C hK hI hl 1 (cv_dyn hK hI (ci := 8) rfl (Or.inr (cdE_8 ht57))) (sc_X11_ofBinder _ X H.size _ hA hB hrc b53 _ _ _ hw) (lw_V q1213 q1215 qs29 q107 q1216) (by decide +kernel) ⟨rfl, rfl, by (dsimp only; omega), by (dsimp only; omega)⟩ (av_W [] 8 (Nat.le_of_ble_eq_true rfl)) dX11_of_108 rfl rfl ⟨by omega, by omega⟩) (fun r55 μ56 hw => ?_)
              obtain hb : (0 + b53) + (b - b53) ≤ (zz_R Z).cells ∧ (0 + 5 * b53) + 5 * (b - b53) ≤ (zz_R Z).slots := ⟨by omega, by omega⟩
              exact cx_aret C hQ (by omega) (by omega) (Or.inl ⟨_, rfl⟩) hw dX11_of_111
            · exact absurd h (by decide)
        · exact absurd h (by decide)
      · have hw := hw.2 (by omega)
        refine cx_instN C hK (ci := 4) (nm := "BinderPress$Sign") rfl (Or.inr (cdE_4 h)) q1184 (List.mem_of_getElem? (i := 10) rfl) dX11_of_26 ?_
        refine hx_if_eq (tgt := 45) C dX11_of_29 (by decide) (by decide) (fun h => ?_) (fun h => ?_)
        · skip
          refine hx_aload_n C dX11_of_45 1 rfl rfl ?_
          obtain ⟨hi17, hw⟩ := hw
          rcases (show tg μ a1 = 8 ∨ (tg μ a1 = 6 ∨ tg μ a1 = 7 ∨ tg μ a1 = 5) by omega) with h | h | h | h
          · have ht18 := h
            have hw := hw.1 h
            refine cx_instY C hK (ci := 7) rfl (Or.inr (cdE_7 ht18)) q1199 dX11_of_46 ?_
            refine hx_if_eq (tgt := 103) C dX11_of_49 (by decide) (by decide) (fun h => ?_) (fun h => ?_)
            · exact absurd h (by decide)
            · skip
              refine hx_aload_n C dX11_of_52 1 rfl rfl ?_
              refine cx_cast C hK (ci := 7) rfl (Or.inr (cdE_7 ht18)) q1199 dX11_of_53 ?_
              refine hx_astore_n (L' := [(2, aR (some a1)), (0, aR (some l0)), (1, aR (some a1))]) C dX11_of_56 rfl (by decide) rfl ?_
              refine hx_aload_n C dX11_of_57 1 rfl rfl ?_
              refine hx_aload_n C dX11_of_58 0 rfl rfl ?_
              refine cx_getN (μ := μ) (v := aR (oR μ a1 0)) C hK 7 0 rfl in_X9 (by decide) (List.mem_of_getElem? (i := 31) rfl) rfl (cdE_7 ht18) rfl dX11_of_59 ?_
              obtain ⟨b19, hu20, hw⟩ := hw
              obtain ⟨ht23, hw⟩ := hw
              refine fun H locs hI ls hl => cx_rr (S := []) hI hl (fun _ h => h) (dr_V (Cn := RX11) (As := [toV (aR (oR μ a1 0))]) (rest := []) C hK hI hl 1 (cv_dyn hK hI (ci := 8) rfl (Or.inr (cdE_8 ht23))) (hrc b19 _ _ _ H.size _ hw) (by omega) (by omega) (lw_V q1179 q1181 qs27 q107 q1182) (by decide +kernel) (av_W [] 8 (Nat.le_of_ble_eq_true rfl)) dX11_of_62 rfl rfl ⟨by omega, by omega⟩) (fun r21 μ22 hw => ?_)
              obtain hb : (0 + b19) + (b - b19) ≤ (zz_R Z).cells ∧ (0 + 5 * b19) + 5 * (b - b19) ≤ (zz_R Z).slots := ⟨by omega, by omega⟩
              refine hx_astore_n (L' := [(3, aR r21), (2, aR (some a1)), (0, aR (some l0)), (1, aR (some a1))]) C dX11_of_65 rfl (by decide) rfl ?_
              obtain ⟨hu24, hw⟩ := hw
              refine cx_new (fs := fun a => coF_9 (alc μ22 a 10 0) a) C hK 9 10 rfl in_X12 tyX12_ok q1157 q1159 q108 (by decide) (fun a => cdE_9 alc_t) (cxd_9 _) (by omega) (by omega) dX11_of_66 (fun a25 hf26 => ?_)
              have hw := hw a25 hf26
              obtain hb : ((0 + b19) + 1) + ((b - b19) - 1) ≤ (zz_R Z).cells ∧ ((0 + 5 * b19) + 4) + 5 * ((b - b19) - 1) ≤ (zz_R Z).slots := ⟨by omega, by omega⟩
              have ht27 : tg (alc μ22 a25 10 0) a25 = 10 := alc_t
              refine hx_dup C dX11_of_69 rfl ?_
              refine fun H locs hI ls hl => cx_rv (S := [aR (some a25)]) hI hl (fun _ h => h) (cr_IN (a := a25) (As := []) (rest := [toV (aR (some a25))]) C hK hI hl 0 (sc_X12_init _ X H.size _ _ _ hw) (List.mem_of_getElem? (i := 33) rfl) q1161 q108 q1162 rfl (by decide +kernel) ⟨rfl, rfl, by (dsimp only; omega), by (dsimp only; omega)⟩ (av_W [aR (some a25)] 8 (Nat.le_of_ble_eq_true rfl)) dX11_of_70 rfl rfl ⟨by omega, by omega⟩) (fun μ29 hw => ?_)
              refine hx_astore (L' := [(4, aR (some a25)), (3, aR r21), (2, aR (some a1)), (0, aR (some l0)), (1, aR (some a1))]) C dX11_of_73 (by decide) rfl ?_
              refine hx_aload_n C dX11_of_75 3 rfl rfl ?_
              refine hx_aload_n C dX11_of_76 1 rfl rfl ?_
              obtain ⟨b30, hu31, hw⟩ := hw
              obtain ⟨ht34, hw⟩ := hw
              refine fun H locs hI ls hl => cx_rr (S := []) hI hl (fun _ h => h) (cr_V (Cn := RX11) (As := [toV (aR r21)]) (rest := []) C hK hI hl 1 (cv_dyn hK hI (ci := 8) rfl (Or.inr (cdE_8 ht34))) (sc_X11_kept _ X H.size _ b30 _ _ _ hw) (lw_V q1200 q1202 qs28 q107 q1203) (by decide +kernel) ⟨rfl, rfl, by (dsimp only; omega), by (dsimp only; omega)⟩ (av_W [] 8 (Nat.le_of_ble_eq_true rfl)) dX11_of_77 rfl rfl ⟨by omega, by omega⟩) (fun r32 μ33 hw => ?_)
              obtain hb : (((0 + b19) + 1) + b30) + (((b - b19) - 1) - b30) ≤ (zz_R Z).cells ∧ (((0 + 5 * b19) + 4) + 5 * b30) + 5 * (((b - b19) - 1) - b30) ≤ (zz_R Z).slots := ⟨by omega, by omega⟩
              refine hx_aload_n C dX11_of_80 3 rfl rfl ?_
              refine hx_aload_n C dX11_of_81 3 rfl rfl ?_
              refine hx_aload_n C dX11_of_82 2 rfl rfl ?_
              obtain ⟨ht35, hw⟩ := hw
              refine cx_getN (μ := μ33) (v := aR (oR μ33 a1 1)) C hK 7 1 rfl in_X9 (by decide) (List.mem_of_getElem? (i := 32) rfl) rfl (cdE_7 ht35) rfl dX11_of_83 ?_
              obtain ⟨b36, hu37, hw⟩ := hw
              obtain ⟨ht40, hw⟩ := hw
              refine fun H locs hI ls hl => cx_rr (S := [aR (some l0), aR r32]) hI hl (fun _ h => h) (dr_V (Cn := RX11) (As := [toV (aR (oR μ33 a1 1))]) (rest := [toV (aR (some l0)), toV (aR r32)]) C hK hI hl 1 (cv_dyn hK hI (ci := 8) rfl (Or.inr (cdE_8 ht40))) (hrc b36 _ _ _ H.size _ hw) (by omega) (by omega) (lw_V q1179 q1181 qs27 q107 q1182) (by decide +kernel) (av_W [aR (some l0), aR r32] 8 (Nat.le_of_ble_eq_true rfl)) dX11_of_86 rfl rfl ⟨by omega, by omega⟩) (fun r38 μ39 hw => ?_)
              obtain hb : ((((0 + b19) + 1) + b30) + b36) + ((((b - b19) - 1) - b30) - b36) ≤ (zz_R Z).cells ∧ ((((0 + 5 * b19) + 4) + 5 * b30) + 5 * b36) + 5 * ((((b - b19) - 1) - b30) - b36) ≤ (zz_R Z).slots := ⟨by omega, by omega⟩
              refine hx_aload C dX11_of_89 0 rfl ?_
              obtain ⟨b41, hu42, hw⟩ := hw
              refine fun H locs hI ls hl => cx_rr (S := [aR (some l0), aR r32]) hI hl (fun _ h => h) (cr_S (As := [toV (aR r38), toV (aR (some a25))]) (rest := [toV (aR (some l0)), toV (aR r32)]) C hK hI hl 2 (sc_X12_arrow _ X H.size _ b41 _ _ _ hw) (lw_S q1194 q1195 q108 q1196) (by decide +kernel) ⟨rfl, rfl, by (dsimp only; omega), by (dsimp only; omega)⟩ (av_W [aR (some l0), aR r32] 8 (Nat.le_of_ble_eq_true rfl)) dX11_of_91 rfl rfl ⟨by omega, by omega⟩) (fun r43 μ44 hw => ?_)
              obtain hb : (((((0 + b19) + 1) + b30) + b36) + b41) + (((((b - b19) - 1) - b30) - b36) - b41) ≤ (zz_R Z).cells ∧ (((((0 + 5 * b19) + 4) + 5 * b30) + 5 * b36) + 5 * b41) + 5 * (((((b - b19) - 1) - b30) - b36) - b41) ≤ (zz_R Z).slots := ⟨by omega, by omega⟩
              obtain ⟨b45, hu46, hw⟩ := hw
              obtain ⟨ht49, hw⟩ := hw
              refine fun H locs hI ls hl => cx_rr (S := [aR r32]) hI hl (fun _ h => h) (cr_V (Cn := RX11) (As := [toV (aR r43)]) (rest := [toV (aR r32)]) C hK hI hl 1 (cv_dyn hK hI (ci := 8) rfl (Or.inr (cdE_8 ht49))) (sc_X11_kept _ X H.size _ b45 _ _ _ hw) (lw_V q1200 q1202 qs28 q107 q1203) (by decide +kernel) ⟨rfl, rfl, by (dsimp only; omega), by (dsimp only; omega)⟩ (av_W [aR r32] 8 (Nat.le_of_ble_eq_true rfl)) dX11_of_94 rfl rfl ⟨by omega, by omega⟩) (fun r47 μ48 hw => ?_)
              obtain hb : ((((((0 + b19) + 1) + b30) + b36) + b41) + b45) + ((((((b - b19) - 1) - b30) - b36) - b41) - b45) ≤ (zz_R Z).cells ∧ ((((((0 + 5 * b19) + 4) + 5 * b30) + 5 * b36) + 5 * b41) + 5 * b45) + 5 * ((((((b - b19) - 1) - b30) - b36) - b41) - b45) ≤ (zz_R Z).slots := ⟨by omega, by omega⟩
              refine fun H locs hI ls hl => cx_rv (S := []) hI hl (fun _ h => h) (dr_S (As := [toV (aR r32), toV (aR r47)]) (rest := []) C hK hI hl 2 ((rr_X12_join _ X 800) _ _ _ H.size _ hw) (by omega) (by omega) (lw_S q1204 q1205 q108 q1206) (by decide +kernel) (av_W [] 8 (Nat.le_of_ble_eq_true rfl)) dX11_of_97 rfl rfl ⟨by omega, by omega⟩) (fun μ51 hw => ?_)
              refine hx_aload C dX11_of_100 0 rfl ?_
              exact cx_aret C hQ (by omega) (by omega) (Or.inl ⟨_, rfl⟩) hw dX11_of_102
          · have hw := hw.2 (by omega)
            refine cx_instN C hK (ci := 5) (nm := "BinderPress$Put") rfl (Or.inr (cdE_5 h)) q1199 (List.mem_of_getElem? (i := 1) rfl) dX11_of_46 ?_
            refine hx_if_eq (tgt := 103) C dX11_of_49 (by decide) (by decide) (fun h => ?_) (fun h => ?_)
            · skip
              refine hx_aload_n C dX11_of_103 0 rfl rfl ?_
              refine hx_aload_n C dX11_of_104 1 rfl rfl ?_
              obtain ⟨ht52, hw⟩ := hw
              refine cx_cast C hK (ci := 4) rfl (Or.inr (cdE_4 ht52)) q1212 dX11_of_105 ?_
              obtain ⟨b53, hu54, hw⟩ := hw
              obtain ⟨ht57, hw⟩ := hw
              refine fun H locs hI ls hl => cx_rr (S := []) hI hl (fun _ h => h) (cr_V (Cn := RX11) (As := [toV (aR (some a1))]) (rest := []) C hK hI hl 1 (cv_dyn hK hI (ci := 8) rfl (Or.inr (cdE_8 ht57))) (sc_X11_ofBinder _ X H.size _ hA hB hrc b53 _ _ _ hw) (lw_V q1213 q1215 qs29 q107 q1216) (by decide +kernel) ⟨rfl, rfl, by (dsimp only; omega), by (dsimp only; omega)⟩ (av_W [] 8 (Nat.le_of_ble_eq_true rfl)) dX11_of_108 rfl rfl ⟨by omega, by omega⟩) (fun r55 μ56 hw => ?_)
              obtain hb : (0 + b53) + (b - b53) ≤ (zz_R Z).cells ∧ (0 + 5 * b53) + 5 * (b - b53) ≤ (zz_R Z).slots := ⟨by omega, by omega⟩
              exact cx_aret C hQ (by omega) (by omega) (Or.inl ⟨_, rfl⟩) hw dX11_of_111
            · exact absurd h (by decide)
          · have hw := hw.2 (by omega)
            refine cx_instN C hK (ci := 6) (nm := "BinderPress$Put") rfl (Or.inr (cdE_6 h)) q1199 (List.mem_of_getElem? (i := 4) rfl) dX11_of_46 ?_
            refine hx_if_eq (tgt := 103) C dX11_of_49 (by decide) (by decide) (fun h => ?_) (fun h => ?_)
            · skip
              refine hx_aload_n C dX11_of_103 0 rfl rfl ?_
              refine hx_aload_n C dX11_of_104 1 rfl rfl ?_
              obtain ⟨ht52, hw⟩ := hw
              refine cx_cast C hK (ci := 4) rfl (Or.inr (cdE_4 ht52)) q1212 dX11_of_105 ?_
              obtain ⟨b53, hu54, hw⟩ := hw
              obtain ⟨ht57, hw⟩ := hw
              refine fun H locs hI ls hl => cx_rr (S := []) hI hl (fun _ h => h) (cr_V (Cn := RX11) (As := [toV (aR (some a1))]) (rest := []) C hK hI hl 1 (cv_dyn hK hI (ci := 8) rfl (Or.inr (cdE_8 ht57))) (sc_X11_ofBinder _ X H.size _ hA hB hrc b53 _ _ _ hw) (lw_V q1213 q1215 qs29 q107 q1216) (by decide +kernel) ⟨rfl, rfl, by (dsimp only; omega), by (dsimp only; omega)⟩ (av_W [] 8 (Nat.le_of_ble_eq_true rfl)) dX11_of_108 rfl rfl ⟨by omega, by omega⟩) (fun r55 μ56 hw => ?_)
              obtain hb : (0 + b53) + (b - b53) ≤ (zz_R Z).cells ∧ (0 + 5 * b53) + 5 * (b - b53) ≤ (zz_R Z).slots := ⟨by omega, by omega⟩
              exact cx_aret C hQ (by omega) (by omega) (Or.inl ⟨_, rfl⟩) hw dX11_of_111
            · exact absurd h (by decide)
          · have hw := hw.2 (by omega)
            refine cx_instN C hK (ci := 4) (nm := "BinderPress$Put") rfl (Or.inr (cdE_4 h)) q1199 (List.mem_of_getElem? (i := 11) rfl) dX11_of_46 ?_
            refine hx_if_eq (tgt := 103) C dX11_of_49 (by decide) (by decide) (fun h => ?_) (fun h => ?_)
            · skip
              refine hx_aload_n C dX11_of_103 0 rfl rfl ?_
              refine hx_aload_n C dX11_of_104 1 rfl rfl ?_
              obtain ⟨ht52, hw⟩ := hw
              refine cx_cast C hK (ci := 4) rfl (Or.inr (cdE_4 ht52)) q1212 dX11_of_105 ?_
              obtain ⟨b53, hu54, hw⟩ := hw
              obtain ⟨ht57, hw⟩ := hw
              refine fun H locs hI ls hl => cx_rr (S := []) hI hl (fun _ h => h) (cr_V (Cn := RX11) (As := [toV (aR (some a1))]) (rest := []) C hK hI hl 1 (cv_dyn hK hI (ci := 8) rfl (Or.inr (cdE_8 ht57))) (sc_X11_ofBinder _ X H.size _ hA hB hrc b53 _ _ _ hw) (lw_V q1213 q1215 qs29 q107 q1216) (by decide +kernel) ⟨rfl, rfl, by (dsimp only; omega), by (dsimp only; omega)⟩ (av_W [] 8 (Nat.le_of_ble_eq_true rfl)) dX11_of_108 rfl rfl ⟨by omega, by omega⟩) (fun r55 μ56 hw => ?_)
              obtain hb : (0 + b53) + (b - b53) ≤ (zz_R Z).cells ∧ (0 + 5 * b53) + 5 * (b - b53) ≤ (zz_R Z).slots := ⟨by omega, by omega⟩
              exact cx_aret C hQ (by omega) (by omega) (Or.inl ⟨_, rfl⟩) hw dX11_of_111
            · exact absurd h (by decide)
        · exact absurd h (by decide)
    · exact absurd h (by decide)
  · have hw := hw.2 (by omega)
    refine cx_instN C hK (ci := 7) (nm := "BinderPress$Name") rfl (Or.inr (cdE_7 h)) q1183 (List.mem_of_getElem? (i := 6) rfl) dX11_of_1 ?_
    refine hx_if_eq (tgt := 25) C dX11_of_4 (by decide) (by decide) (fun h => ?_) (fun h => ?_)
    · skip
      refine hx_aload_n C dX11_of_25 1 rfl rfl ?_
      obtain ⟨hi11, hw⟩ := hw
      rcases (show tg μ a1 = 7 ∨ (tg μ a1 = 6 ∨ tg μ a1 = 8 ∨ tg μ a1 = 5) by omega) with h | h | h | h
      · have ht12 := h
        have hw := hw.1 h
        refine cx_instY C hK (ci := 6) rfl (Or.inr (cdE_6 ht12)) q1184 dX11_of_26 ?_
        refine hx_if_eq (tgt := 45) C dX11_of_29 (by decide) (by decide) (fun h => ?_) (fun h => ?_)
        · exact absurd h (by decide)
        · skip
          refine hx_aload_n C dX11_of_32 1 rfl rfl ?_
          refine cx_cast C hK (ci := 6) rfl (Or.inr (cdE_6 ht12)) q1184 dX11_of_33 ?_
          refine hx_astore_n (L' := [(2, aR (some a1)), (0, aR (some l0)), (1, aR (some a1))]) C dX11_of_36 rfl (by decide) rfl ?_
          refine hx_aload_n C dX11_of_37 0 rfl rfl ?_
          refine cx_getN (μ := μ) (v := aR (oR μ a1 0)) C hK 6 0 rfl in_X8 (by decide) (List.mem_of_getElem? (i := 30) rfl) rfl (cdE_6 ht12) rfl dX11_of_38 ?_
          obtain ⟨b13, hu14, hw⟩ := hw
          refine fun H locs hI ls hl => cx_rr (S := []) hI hl (fun _ h => h) (cr_S (As := [toV (aR (oR μ a1 0))]) (rest := []) C hK hI hl 1 (sc_X11_ofSign _ X H.size _ b13 _ _ hw) (lw_S q1185 q1186 q107 q1187) (by decide +kernel) ⟨rfl, rfl, by (dsimp only; omega), by (dsimp only; omega)⟩ (av_W [] 8 (Nat.le_of_ble_eq_true rfl)) dX11_of_41 rfl rfl ⟨by omega, by omega⟩) (fun r15 μ16 hw => ?_)
          obtain hb : (0 + b13) + (b - b13) ≤ (zz_R Z).cells ∧ (0 + 5 * b13) + 5 * (b - b13) ≤ (zz_R Z).slots := ⟨by omega, by omega⟩
          exact cx_aret C hQ (by omega) (by omega) (Or.inl ⟨_, rfl⟩) hw dX11_of_44
      · have hw := hw.2 (by omega)
        refine cx_instN C hK (ci := 5) (nm := "BinderPress$Sign") rfl (Or.inr (cdE_5 h)) q1184 (List.mem_of_getElem? (i := 0) rfl) dX11_of_26 ?_
        refine hx_if_eq (tgt := 45) C dX11_of_29 (by decide) (by decide) (fun h => ?_) (fun h => ?_)
        · skip
          refine hx_aload_n C dX11_of_45 1 rfl rfl ?_
          obtain ⟨hi17, hw⟩ := hw
          rcases (show tg μ a1 = 8 ∨ (tg μ a1 = 6 ∨ tg μ a1 = 7 ∨ tg μ a1 = 5) by omega) with h | h | h | h
          · have ht18 := h
            have hw := hw.1 h
            refine cx_instY C hK (ci := 7) rfl (Or.inr (cdE_7 ht18)) q1199 dX11_of_46 ?_
            refine hx_if_eq (tgt := 103) C dX11_of_49 (by decide) (by decide) (fun h => ?_) (fun h => ?_)
            · exact absurd h (by decide)
            · skip
              refine hx_aload_n C dX11_of_52 1 rfl rfl ?_
              refine cx_cast C hK (ci := 7) rfl (Or.inr (cdE_7 ht18)) q1199 dX11_of_53 ?_
              refine hx_astore_n (L' := [(2, aR (some a1)), (0, aR (some l0)), (1, aR (some a1))]) C dX11_of_56 rfl (by decide) rfl ?_
              refine hx_aload_n C dX11_of_57 1 rfl rfl ?_
              refine hx_aload_n C dX11_of_58 0 rfl rfl ?_
              refine cx_getN (μ := μ) (v := aR (oR μ a1 0)) C hK 7 0 rfl in_X9 (by decide) (List.mem_of_getElem? (i := 31) rfl) rfl (cdE_7 ht18) rfl dX11_of_59 ?_
              obtain ⟨b19, hu20, hw⟩ := hw
              obtain ⟨ht23, hw⟩ := hw
              refine fun H locs hI ls hl => cx_rr (S := []) hI hl (fun _ h => h) (dr_V (Cn := RX11) (As := [toV (aR (oR μ a1 0))]) (rest := []) C hK hI hl 1 (cv_dyn hK hI (ci := 8) rfl (Or.inr (cdE_8 ht23))) (hrc b19 _ _ _ H.size _ hw) (by omega) (by omega) (lw_V q1179 q1181 qs27 q107 q1182) (by decide +kernel) (av_W [] 8 (Nat.le_of_ble_eq_true rfl)) dX11_of_62 rfl rfl ⟨by omega, by omega⟩) (fun r21 μ22 hw => ?_)
              obtain hb : (0 + b19) + (b - b19) ≤ (zz_R Z).cells ∧ (0 + 5 * b19) + 5 * (b - b19) ≤ (zz_R Z).slots := ⟨by omega, by omega⟩
              refine hx_astore_n (L' := [(3, aR r21), (2, aR (some a1)), (0, aR (some l0)), (1, aR (some a1))]) C dX11_of_65 rfl (by decide) rfl ?_
              obtain ⟨hu24, hw⟩ := hw
              refine cx_new (fs := fun a => coF_9 (alc μ22 a 10 0) a) C hK 9 10 rfl in_X12 tyX12_ok q1157 q1159 q108 (by decide) (fun a => cdE_9 alc_t) (cxd_9 _) (by omega) (by omega) dX11_of_66 (fun a25 hf26 => ?_)
              have hw := hw a25 hf26
              obtain hb : ((0 + b19) + 1) + ((b - b19) - 1) ≤ (zz_R Z).cells ∧ ((0 + 5 * b19) + 4) + 5 * ((b - b19) - 1) ≤ (zz_R Z).slots := ⟨by omega, by omega⟩
              have ht27 : tg (alc μ22 a25 10 0) a25 = 10 := alc_t
              refine hx_dup C dX11_of_69 rfl ?_
              refine fun H locs hI ls hl => cx_rv (S := [aR (some a25)]) hI hl (fun _ h => h) (cr_IN (a := a25) (As := []) (rest := [toV (aR (some a25))]) C hK hI hl 0 (sc_X12_init _ X H.size _ _ _ hw) (List.mem_of_getElem? (i := 33) rfl) q1161 q108 q1162 rfl (by decide +kernel) ⟨rfl, rfl, by (dsimp only; omega), by (dsimp only; omega)⟩ (av_W [aR (some a25)] 8 (Nat.le_of_ble_eq_true rfl)) dX11_of_70 rfl rfl ⟨by omega, by omega⟩) (fun μ29 hw => ?_)
              refine hx_astore (L' := [(4, aR (some a25)), (3, aR r21), (2, aR (some a1)), (0, aR (some l0)), (1, aR (some a1))]) C dX11_of_73 (by decide) rfl ?_
              refine hx_aload_n C dX11_of_75 3 rfl rfl ?_
              refine hx_aload_n C dX11_of_76 1 rfl rfl ?_
              obtain ⟨b30, hu31, hw⟩ := hw
              obtain ⟨ht34, hw⟩ := hw
              refine fun H locs hI ls hl => cx_rr (S := []) hI hl (fun _ h => h) (cr_V (Cn := RX11) (As := [toV (aR r21)]) (rest := []) C hK hI hl 1 (cv_dyn hK hI (ci := 8) rfl (Or.inr (cdE_8 ht34))) (sc_X11_kept _ X H.size _ b30 _ _ _ hw) (lw_V q1200 q1202 qs28 q107 q1203) (by decide +kernel) ⟨rfl, rfl, by (dsimp only; omega), by (dsimp only; omega)⟩ (av_W [] 8 (Nat.le_of_ble_eq_true rfl)) dX11_of_77 rfl rfl ⟨by omega, by omega⟩) (fun r32 μ33 hw => ?_)
              obtain hb : (((0 + b19) + 1) + b30) + (((b - b19) - 1) - b30) ≤ (zz_R Z).cells ∧ (((0 + 5 * b19) + 4) + 5 * b30) + 5 * (((b - b19) - 1) - b30) ≤ (zz_R Z).slots := ⟨by omega, by omega⟩
              refine hx_aload_n C dX11_of_80 3 rfl rfl ?_
              refine hx_aload_n C dX11_of_81 3 rfl rfl ?_
              refine hx_aload_n C dX11_of_82 2 rfl rfl ?_
              obtain ⟨ht35, hw⟩ := hw
              refine cx_getN (μ := μ33) (v := aR (oR μ33 a1 1)) C hK 7 1 rfl in_X9 (by decide) (List.mem_of_getElem? (i := 32) rfl) rfl (cdE_7 ht35) rfl dX11_of_83 ?_
              obtain ⟨b36, hu37, hw⟩ := hw
              obtain ⟨ht40, hw⟩ := hw
              refine fun H locs hI ls hl => cx_rr (S := [aR (some l0), aR r32]) hI hl (fun _ h => h) (dr_V (Cn := RX11) (As := [toV (aR (oR μ33 a1 1))]) (rest := [toV (aR (some l0)), toV (aR r32)]) C hK hI hl 1 (cv_dyn hK hI (ci := 8) rfl (Or.inr (cdE_8 ht40))) (hrc b36 _ _ _ H.size _ hw) (by omega) (by omega) (lw_V q1179 q1181 qs27 q107 q1182) (by decide +kernel) (av_W [aR (some l0), aR r32] 8 (Nat.le_of_ble_eq_true rfl)) dX11_of_86 rfl rfl ⟨by omega, by omega⟩) (fun r38 μ39 hw => ?_)
              obtain hb : ((((0 + b19) + 1) + b30) + b36) + ((((b - b19) - 1) - b30) - b36) ≤ (zz_R Z).cells ∧ ((((0 + 5 * b19) + 4) + 5 * b30) + 5 * b36) + 5 * ((((b - b19) - 1) - b30) - b36) ≤ (zz_R Z).slots := ⟨by omega, by omega⟩
              refine hx_aload C dX11_of_89 0 rfl ?_
              obtain ⟨b41, hu42, hw⟩ := hw
              refine fun H locs hI ls hl => cx_rr (S := [aR (some l0), aR r32]) hI hl (fun _ h => h) (cr_S (As := [toV (aR r38), toV (aR (some a25))]) (rest := [toV (aR (some l0)), toV (aR r32)]) C hK hI hl 2 (sc_X12_arrow _ X H.size _ b41 _ _ _ hw) (lw_S q1194 q1195 q108 q1196) (by decide +kernel) ⟨rfl, rfl, by (dsimp only; omega), by (dsimp only; omega)⟩ (av_W [aR (some l0), aR r32] 8 (Nat.le_of_ble_eq_true rfl)) dX11_of_91 rfl rfl ⟨by omega, by omega⟩) (fun r43 μ44 hw => ?_)
              obtain hb : (((((0 + b19) + 1) + b30) + b36) + b41) + (((((b - b19) - 1) - b30) - b36) - b41) ≤ (zz_R Z).cells ∧ (((((0 + 5 * b19) + 4) + 5 * b30) + 5 * b36) + 5 * b41) + 5 * (((((b - b19) - 1) - b30) - b36) - b41) ≤ (zz_R Z).slots := ⟨by omega, by omega⟩
              obtain ⟨b45, hu46, hw⟩ := hw
              obtain ⟨ht49, hw⟩ := hw
              refine fun H locs hI ls hl => cx_rr (S := [aR r32]) hI hl (fun _ h => h) (cr_V (Cn := RX11) (As := [toV (aR r43)]) (rest := [toV (aR r32)]) C hK hI hl 1 (cv_dyn hK hI (ci := 8) rfl (Or.inr (cdE_8 ht49))) (sc_X11_kept _ X H.size _ b45 _ _ _ hw) (lw_V q1200 q1202 qs28 q107 q1203) (by decide +kernel) ⟨rfl, rfl, by (dsimp only; omega), by (dsimp only; omega)⟩ (av_W [aR r32] 8 (Nat.le_of_ble_eq_true rfl)) dX11_of_94 rfl rfl ⟨by omega, by omega⟩) (fun r47 μ48 hw => ?_)
              obtain hb : ((((((0 + b19) + 1) + b30) + b36) + b41) + b45) + ((((((b - b19) - 1) - b30) - b36) - b41) - b45) ≤ (zz_R Z).cells ∧ ((((((0 + 5 * b19) + 4) + 5 * b30) + 5 * b36) + 5 * b41) + 5 * b45) + 5 * ((((((b - b19) - 1) - b30) - b36) - b41) - b45) ≤ (zz_R Z).slots := ⟨by omega, by omega⟩
              refine fun H locs hI ls hl => cx_rv (S := []) hI hl (fun _ h => h) (dr_S (As := [toV (aR r32), toV (aR r47)]) (rest := []) C hK hI hl 2 ((rr_X12_join _ X 800) _ _ _ H.size _ hw) (by omega) (by omega) (lw_S q1204 q1205 q108 q1206) (by decide +kernel) (av_W [] 8 (Nat.le_of_ble_eq_true rfl)) dX11_of_97 rfl rfl ⟨by omega, by omega⟩) (fun μ51 hw => ?_)
              refine hx_aload C dX11_of_100 0 rfl ?_
              exact cx_aret C hQ (by omega) (by omega) (Or.inl ⟨_, rfl⟩) hw dX11_of_102
          · have hw := hw.2 (by omega)
            refine cx_instN C hK (ci := 5) (nm := "BinderPress$Put") rfl (Or.inr (cdE_5 h)) q1199 (List.mem_of_getElem? (i := 1) rfl) dX11_of_46 ?_
            refine hx_if_eq (tgt := 103) C dX11_of_49 (by decide) (by decide) (fun h => ?_) (fun h => ?_)
            · skip
              refine hx_aload_n C dX11_of_103 0 rfl rfl ?_
              refine hx_aload_n C dX11_of_104 1 rfl rfl ?_
              obtain ⟨ht52, hw⟩ := hw
              refine cx_cast C hK (ci := 4) rfl (Or.inr (cdE_4 ht52)) q1212 dX11_of_105 ?_
              obtain ⟨b53, hu54, hw⟩ := hw
              obtain ⟨ht57, hw⟩ := hw
              refine fun H locs hI ls hl => cx_rr (S := []) hI hl (fun _ h => h) (cr_V (Cn := RX11) (As := [toV (aR (some a1))]) (rest := []) C hK hI hl 1 (cv_dyn hK hI (ci := 8) rfl (Or.inr (cdE_8 ht57))) (sc_X11_ofBinder _ X H.size _ hA hB hrc b53 _ _ _ hw) (lw_V q1213 q1215 qs29 q107 q1216) (by decide +kernel) ⟨rfl, rfl, by (dsimp only; omega), by (dsimp only; omega)⟩ (av_W [] 8 (Nat.le_of_ble_eq_true rfl)) dX11_of_108 rfl rfl ⟨by omega, by omega⟩) (fun r55 μ56 hw => ?_)
              obtain hb : (0 + b53) + (b - b53) ≤ (zz_R Z).cells ∧ (0 + 5 * b53) + 5 * (b - b53) ≤ (zz_R Z).slots := ⟨by omega, by omega⟩
              exact cx_aret C hQ (by omega) (by omega) (Or.inl ⟨_, rfl⟩) hw dX11_of_111
            · exact absurd h (by decide)
          · have hw := hw.2 (by omega)
            refine cx_instN C hK (ci := 6) (nm := "BinderPress$Put") rfl (Or.inr (cdE_6 h)) q1199 (List.mem_of_getElem? (i := 4) rfl) dX11_of_46 ?_
            refine hx_if_eq (tgt := 103) C dX11_of_49 (by decide) (by decide) (fun h => ?_) (fun h => ?_)
            · skip
              refine hx_aload_n C dX11_of_103 0 rfl rfl ?_
              refine hx_aload_n C dX11_of_104 1 rfl rfl ?_
              obtain ⟨ht52, hw⟩ := hw
              refine cx_cast C hK (ci := 4) rfl (Or.inr (cdE_4 ht52)) q1212 dX11_of_105 ?_
              obtain ⟨b53, hu54, hw⟩ := hw
              obtain ⟨ht57, hw⟩ := hw
              refine fun H locs hI ls hl => cx_rr (S := []) hI hl (fun _ h => h) (cr_V (Cn := RX11) (As := [toV (aR (some a1))]) (rest := []) C hK hI hl 1 (cv_dyn hK hI (ci := 8) rfl (Or.inr (cdE_8 ht57))) (sc_X11_ofBinder _ X H.size _ hA hB hrc b53 _ _ _ hw) (lw_V q1213 q1215 qs29 q107 q1216) (by decide +kernel) ⟨rfl, rfl, by (dsimp only; omega), by (dsimp only; omega)⟩ (av_W [] 8 (Nat.le_of_ble_eq_true rfl)) dX11_of_108 rfl rfl ⟨by omega, by omega⟩) (fun r55 μ56 hw => ?_)
              obtain hb : (0 + b53) + (b - b53) ≤ (zz_R Z).cells ∧ (0 + 5 * b53) + 5 * (b - b53) ≤ (zz_R Z).slots := ⟨by omega, by omega⟩
              exact cx_aret C hQ (by omega) (by omega) (Or.inl ⟨_, rfl⟩) hw dX11_of_111
            · exact absurd h (by decide)
          · have hw := hw.2 (by omega)
            refine cx_instN C hK (ci := 4) (nm := "BinderPress$Put") rfl (Or.inr (cdE_4 h)) q1199 (List.mem_of_getElem? (i := 11) rfl) dX11_of_46 ?_
            refine hx_if_eq (tgt := 103) C dX11_of_49 (by decide) (by decide) (fun h => ?_) (fun h => ?_)
            · skip
              refine hx_aload_n C dX11_of_103 0 rfl rfl ?_
              refine hx_aload_n C dX11_of_104 1 rfl rfl ?_
              obtain ⟨ht52, hw⟩ := hw
              refine cx_cast C hK (ci := 4) rfl (Or.inr (cdE_4 ht52)) q1212 dX11_of_105 ?_
              obtain ⟨b53, hu54, hw⟩ := hw
              obtain ⟨ht57, hw⟩ := hw
              refine fun H locs hI ls hl => cx_rr (S := []) hI hl (fun _ h => h) (cr_V (Cn := RX11) (As := [toV (aR (some a1))]) (rest := []) C hK hI hl 1 (cv_dyn hK hI (ci := 8) rfl (Or.inr (cdE_8 ht57))) (sc_X11_ofBinder _ X H.size _ hA hB hrc b53 _ _ _ hw) (lw_V q1213 q1215 qs29 q107 q1216) (by decide +kernel) ⟨rfl, rfl, by (dsimp only; omega), by (dsimp only; omega)⟩ (av_W [] 8 (Nat.le_of_ble_eq_true rfl)) dX11_of_108 rfl rfl ⟨by omega, by omega⟩) (fun r55 μ56 hw => ?_)
              obtain hb : (0 + b53) + (b - b53) ≤ (zz_R Z).cells ∧ (0 + 5 * b53) + 5 * (b - b53) ≤ (zz_R Z).slots := ⟨by omega, by omega⟩
              exact cx_aret C hQ (by omega) (by omega) (Or.inl ⟨_, rfl⟩) hw dX11_of_111
            · exact absurd h (by decide)
        · exact absurd h (by decide)
      · have hw := hw.2 (by omega)
        refine cx_instN C hK (ci := 7) (nm := "BinderPress$Sign") rfl (Or.inr (cdE_7 h)) q1184 (List.mem_of_getElem? (i := 7) rfl) dX11_of_26 ?_
        refine hx_if_eq (tgt := 45) C dX11_of_29 (by decide) (by decide) (fun h => ?_) (fun h => ?_)
        · skip
          refine hx_aload_n C dX11_of_45 1 rfl rfl ?_
          obtain ⟨hi17, hw⟩ := hw
          rcases (show tg μ a1 = 8 ∨ (tg μ a1 = 6 ∨ tg μ a1 = 7 ∨ tg μ a1 = 5) by omega) with h | h | h | h
          · have ht18 := h
            have hw := hw.1 h
            refine cx_instY C hK (ci := 7) rfl (Or.inr (cdE_7 ht18)) q1199 dX11_of_46 ?_
            refine hx_if_eq (tgt := 103) C dX11_of_49 (by decide) (by decide) (fun h => ?_) (fun h => ?_)
            · exact absurd h (by decide)
            · skip
              refine hx_aload_n C dX11_of_52 1 rfl rfl ?_
              refine cx_cast C hK (ci := 7) rfl (Or.inr (cdE_7 ht18)) q1199 dX11_of_53 ?_
              refine hx_astore_n (L' := [(2, aR (some a1)), (0, aR (some l0)), (1, aR (some a1))]) C dX11_of_56 rfl (by decide) rfl ?_
              refine hx_aload_n C dX11_of_57 1 rfl rfl ?_
              refine hx_aload_n C dX11_of_58 0 rfl rfl ?_
              refine cx_getN (μ := μ) (v := aR (oR μ a1 0)) C hK 7 0 rfl in_X9 (by decide) (List.mem_of_getElem? (i := 31) rfl) rfl (cdE_7 ht18) rfl dX11_of_59 ?_
              obtain ⟨b19, hu20, hw⟩ := hw
              obtain ⟨ht23, hw⟩ := hw
              refine fun H locs hI ls hl => cx_rr (S := []) hI hl (fun _ h => h) (dr_V (Cn := RX11) (As := [toV (aR (oR μ a1 0))]) (rest := []) C hK hI hl 1 (cv_dyn hK hI (ci := 8) rfl (Or.inr (cdE_8 ht23))) (hrc b19 _ _ _ H.size _ hw) (by omega) (by omega) (lw_V q1179 q1181 qs27 q107 q1182) (by decide +kernel) (av_W [] 8 (Nat.le_of_ble_eq_true rfl)) dX11_of_62 rfl rfl ⟨by omega, by omega⟩) (fun r21 μ22 hw => ?_)
              obtain hb : (0 + b19) + (b - b19) ≤ (zz_R Z).cells ∧ (0 + 5 * b19) + 5 * (b - b19) ≤ (zz_R Z).slots := ⟨by omega, by omega⟩
              refine hx_astore_n (L' := [(3, aR r21), (2, aR (some a1)), (0, aR (some l0)), (1, aR (some a1))]) C dX11_of_65 rfl (by decide) rfl ?_
              obtain ⟨hu24, hw⟩ := hw
              refine cx_new (fs := fun a => coF_9 (alc μ22 a 10 0) a) C hK 9 10 rfl in_X12 tyX12_ok q1157 q1159 q108 (by decide) (fun a => cdE_9 alc_t) (cxd_9 _) (by omega) (by omega) dX11_of_66 (fun a25 hf26 => ?_)
              have hw := hw a25 hf26
              obtain hb : ((0 + b19) + 1) + ((b - b19) - 1) ≤ (zz_R Z).cells ∧ ((0 + 5 * b19) + 4) + 5 * ((b - b19) - 1) ≤ (zz_R Z).slots := ⟨by omega, by omega⟩
              have ht27 : tg (alc μ22 a25 10 0) a25 = 10 := alc_t
              refine hx_dup C dX11_of_69 rfl ?_
              refine fun H locs hI ls hl => cx_rv (S := [aR (some a25)]) hI hl (fun _ h => h) (cr_IN (a := a25) (As := []) (rest := [toV (aR (some a25))]) C hK hI hl 0 (sc_X12_init _ X H.size _ _ _ hw) (List.mem_of_getElem? (i := 33) rfl) q1161 q108 q1162 rfl (by decide +kernel) ⟨rfl, rfl, by (dsimp only; omega), by (dsimp only; omega)⟩ (av_W [aR (some a25)] 8 (Nat.le_of_ble_eq_true rfl)) dX11_of_70 rfl rfl ⟨by omega, by omega⟩) (fun μ29 hw => ?_)
              refine hx_astore (L' := [(4, aR (some a25)), (3, aR r21), (2, aR (some a1)), (0, aR (some l0)), (1, aR (some a1))]) C dX11_of_73 (by decide) rfl ?_
              refine hx_aload_n C dX11_of_75 3 rfl rfl ?_
              refine hx_aload_n C dX11_of_76 1 rfl rfl ?_
              obtain ⟨b30, hu31, hw⟩ := hw
              obtain ⟨ht34, hw⟩ := hw
              refine fun H locs hI ls hl => cx_rr (S := []) hI hl (fun _ h => h) (cr_V (Cn := RX11) (As := [toV (aR r21)]) (rest := []) C hK hI hl 1 (cv_dyn hK hI (ci := 8) rfl (Or.inr (cdE_8 ht34))) (sc_X11_kept _ X H.size _ b30 _ _ _ hw) (lw_V q1200 q1202 qs28 q107 q1203) (by decide +kernel) ⟨rfl, rfl, by (dsimp only; omega), by (dsimp only; omega)⟩ (av_W [] 8 (Nat.le_of_ble_eq_true rfl)) dX11_of_77 rfl rfl ⟨by omega, by omega⟩) (fun r32 μ33 hw => ?_)
              obtain hb : (((0 + b19) + 1) + b30) + (((b - b19) - 1) - b30) ≤ (zz_R Z).cells ∧ (((0 + 5 * b19) + 4) + 5 * b30) + 5 * (((b - b19) - 1) - b30) ≤ (zz_R Z).slots := ⟨by omega, by omega⟩
              refine hx_aload_n C dX11_of_80 3 rfl rfl ?_
              refine hx_aload_n C dX11_of_81 3 rfl rfl ?_
              refine hx_aload_n C dX11_of_82 2 rfl rfl ?_
              obtain ⟨ht35, hw⟩ := hw
              refine cx_getN (μ := μ33) (v := aR (oR μ33 a1 1)) C hK 7 1 rfl in_X9 (by decide) (List.mem_of_getElem? (i := 32) rfl) rfl (cdE_7 ht35) rfl dX11_of_83 ?_
              obtain ⟨b36, hu37, hw⟩ := hw
              obtain ⟨ht40, hw⟩ := hw
              refine fun H locs hI ls hl => cx_rr (S := [aR (some l0), aR r32]) hI hl (fun _ h => h) (dr_V (Cn := RX11) (As := [toV (aR (oR μ33 a1 1))]) (rest := [toV (aR (some l0)), toV (aR r32)]) C hK hI hl 1 (cv_dyn hK hI (ci := 8) rfl (Or.inr (cdE_8 ht40))) (hrc b36 _ _ _ H.size _ hw) (by omega) (by omega) (lw_V q1179 q1181 qs27 q107 q1182) (by decide +kernel) (av_W [aR (some l0), aR r32] 8 (Nat.le_of_ble_eq_true rfl)) dX11_of_86 rfl rfl ⟨by omega, by omega⟩) (fun r38 μ39 hw => ?_)
              obtain hb : ((((0 + b19) + 1) + b30) + b36) + ((((b - b19) - 1) - b30) - b36) ≤ (zz_R Z).cells ∧ ((((0 + 5 * b19) + 4) + 5 * b30) + 5 * b36) + 5 * ((((b - b19) - 1) - b30) - b36) ≤ (zz_R Z).slots := ⟨by omega, by omega⟩
              refine hx_aload C dX11_of_89 0 rfl ?_
              obtain ⟨b41, hu42, hw⟩ := hw
              refine fun H locs hI ls hl => cx_rr (S := [aR (some l0), aR r32]) hI hl (fun _ h => h) (cr_S (As := [toV (aR r38), toV (aR (some a25))]) (rest := [toV (aR (some l0)), toV (aR r32)]) C hK hI hl 2 (sc_X12_arrow _ X H.size _ b41 _ _ _ hw) (lw_S q1194 q1195 q108 q1196) (by decide +kernel) ⟨rfl, rfl, by (dsimp only; omega), by (dsimp only; omega)⟩ (av_W [aR (some l0), aR r32] 8 (Nat.le_of_ble_eq_true rfl)) dX11_of_91 rfl rfl ⟨by omega, by omega⟩) (fun r43 μ44 hw => ?_)
              obtain hb : (((((0 + b19) + 1) + b30) + b36) + b41) + (((((b - b19) - 1) - b30) - b36) - b41) ≤ (zz_R Z).cells ∧ (((((0 + 5 * b19) + 4) + 5 * b30) + 5 * b36) + 5 * b41) + 5 * (((((b - b19) - 1) - b30) - b36) - b41) ≤ (zz_R Z).slots := ⟨by omega, by omega⟩
              obtain ⟨b45, hu46, hw⟩ := hw
              obtain ⟨ht49, hw⟩ := hw
              refine fun H locs hI ls hl => cx_rr (S := [aR r32]) hI hl (fun _ h => h) (cr_V (Cn := RX11) (As := [toV (aR r43)]) (rest := [toV (aR r32)]) C hK hI hl 1 (cv_dyn hK hI (ci := 8) rfl (Or.inr (cdE_8 ht49))) (sc_X11_kept _ X H.size _ b45 _ _ _ hw) (lw_V q1200 q1202 qs28 q107 q1203) (by decide +kernel) ⟨rfl, rfl, by (dsimp only; omega), by (dsimp only; omega)⟩ (av_W [aR r32] 8 (Nat.le_of_ble_eq_true rfl)) dX11_of_94 rfl rfl ⟨by omega, by omega⟩) (fun r47 μ48 hw => ?_)
              obtain hb : ((((((0 + b19) + 1) + b30) + b36) + b41) + b45) + ((((((b - b19) - 1) - b30) - b36) - b41) - b45) ≤ (zz_R Z).cells ∧ ((((((0 + 5 * b19) + 4) + 5 * b30) + 5 * b36) + 5 * b41) + 5 * b45) + 5 * ((((((b - b19) - 1) - b30) - b36) - b41) - b45) ≤ (zz_R Z).slots := ⟨by omega, by omega⟩
              refine fun H locs hI ls hl => cx_rv (S := []) hI hl (fun _ h => h) (dr_S (As := [toV (aR r32), toV (aR r47)]) (rest := []) C hK hI hl 2 ((rr_X12_join _ X 800) _ _ _ H.size _ hw) (by omega) (by omega) (lw_S q1204 q1205 q108 q1206) (by decide +kernel) (av_W [] 8 (Nat.le_of_ble_eq_true rfl)) dX11_of_97 rfl rfl ⟨by omega, by omega⟩) (fun μ51 hw => ?_)
              refine hx_aload C dX11_of_100 0 rfl ?_
              exact cx_aret C hQ (by omega) (by omega) (Or.inl ⟨_, rfl⟩) hw dX11_of_102
          · have hw := hw.2 (by omega)
            refine cx_instN C hK (ci := 5) (nm := "BinderPress$Put") rfl (Or.inr (cdE_5 h)) q1199 (List.mem_of_getElem? (i := 1) rfl) dX11_of_46 ?_
            refine hx_if_eq (tgt := 103) C dX11_of_49 (by decide) (by decide) (fun h => ?_) (fun h => ?_)
            · skip
              refine hx_aload_n C dX11_of_103 0 rfl rfl ?_
              refine hx_aload_n C dX11_of_104 1 rfl rfl ?_
              obtain ⟨ht52, hw⟩ := hw
              refine cx_cast C hK (ci := 4) rfl (Or.inr (cdE_4 ht52)) q1212 dX11_of_105 ?_
              obtain ⟨b53, hu54, hw⟩ := hw
              obtain ⟨ht57, hw⟩ := hw
              refine fun H locs hI ls hl => cx_rr (S := []) hI hl (fun _ h => h) (cr_V (Cn := RX11) (As := [toV (aR (some a1))]) (rest := []) C hK hI hl 1 (cv_dyn hK hI (ci := 8) rfl (Or.inr (cdE_8 ht57))) (sc_X11_ofBinder _ X H.size _ hA hB hrc b53 _ _ _ hw) (lw_V q1213 q1215 qs29 q107 q1216) (by decide +kernel) ⟨rfl, rfl, by (dsimp only; omega), by (dsimp only; omega)⟩ (av_W [] 8 (Nat.le_of_ble_eq_true rfl)) dX11_of_108 rfl rfl ⟨by omega, by omega⟩) (fun r55 μ56 hw => ?_)
              obtain hb : (0 + b53) + (b - b53) ≤ (zz_R Z).cells ∧ (0 + 5 * b53) + 5 * (b - b53) ≤ (zz_R Z).slots := ⟨by omega, by omega⟩
              exact cx_aret C hQ (by omega) (by omega) (Or.inl ⟨_, rfl⟩) hw dX11_of_111
            · exact absurd h (by decide)
          · have hw := hw.2 (by omega)
            refine cx_instN C hK (ci := 6) (nm := "BinderPress$Put") rfl (Or.inr (cdE_6 h)) q1199 (List.mem_of_getElem? (i := 4) rfl) dX11_of_46 ?_
            refine hx_if_eq (tgt := 103) C dX11_of_49 (by decide) (by decide) (fun h => ?_) (fun h => ?_)
            · skip
              refine hx_aload_n C dX11_of_103 0 rfl rfl ?_
              refine hx_aload_n C dX11_of_104 1 rfl rfl ?_
              obtain ⟨ht52, hw⟩ := hw
              refine cx_cast C hK (ci := 4) rfl (Or.inr (cdE_4 ht52)) q1212 dX11_of_105 ?_
              obtain ⟨b53, hu54, hw⟩ := hw
              obtain ⟨ht57, hw⟩ := hw
              refine fun H locs hI ls hl => cx_rr (S := []) hI hl (fun _ h => h) (cr_V (Cn := RX11) (As := [toV (aR (some a1))]) (rest := []) C hK hI hl 1 (cv_dyn hK hI (ci := 8) rfl (Or.inr (cdE_8 ht57))) (sc_X11_ofBinder _ X H.size _ hA hB hrc b53 _ _ _ hw) (lw_V q1213 q1215 qs29 q107 q1216) (by decide +kernel) ⟨rfl, rfl, by (dsimp only; omega), by (dsimp only; omega)⟩ (av_W [] 8 (Nat.le_of_ble_eq_true rfl)) dX11_of_108 rfl rfl ⟨by omega, by omega⟩) (fun r55 μ56 hw => ?_)
              obtain hb : (0 + b53) + (b - b53) ≤ (zz_R Z).cells ∧ (0 + 5 * b53) + 5 * (b - b53) ≤ (zz_R Z).slots := ⟨by omega, by omega⟩
              exact cx_aret C hQ (by omega) (by omega) (Or.inl ⟨_, rfl⟩) hw dX11_of_111
            · exact absurd h (by decide)
          · have hw := hw.2 (by omega)
            refine cx_instN C hK (ci := 4) (nm := "BinderPress$Put") rfl (Or.inr (cdE_4 h)) q1199 (List.mem_of_getElem? (i := 11) rfl) dX11_of_46 ?_
            refine hx_if_eq (tgt := 103) C dX11_of_49 (by decide) (by decide) (fun h => ?_) (fun h => ?_)
            · skip
              refine hx_aload_n C dX11_of_103 0 rfl rfl ?_
              refine hx_aload_n C dX11_of_104 1 rfl rfl ?_
              obtain ⟨ht52, hw⟩ := hw
              refine cx_cast C hK (ci := 4) rfl (Or.inr (cdE_4 ht52)) q1212 dX11_of_105 ?_
              obtain ⟨b53, hu54, hw⟩ := hw
              obtain ⟨ht57, hw⟩ := hw
              refine fun H locs hI ls hl => cx_rr (S := []) hI hl (fun _ h => h) (cr_V (Cn := RX11) (As := [toV (aR (some a1))]) (rest := []) C hK hI hl 1 (cv_dyn hK hI (ci := 8) rfl (Or.inr (cdE_8 ht57))) (sc_X11_ofBinder _ X H.size _ hA hB hrc b53 _ _ _ hw) (lw_V q1213 q1215 qs29 q107 q1216) (by decide +kernel) ⟨rfl, rfl, by (dsimp only; omega), by (dsimp only; omega)⟩ (av_W [] 8 (Nat.le_of_ble_eq_true rfl)) dX11_of_108 rfl rfl ⟨by omega, by omega⟩) (fun r55 μ56 hw => ?_)
              obtain hb : (0 + b53) + (b - b53) ≤ (zz_R Z).cells ∧ (0 + 5 * b53) + 5 * (b - b53) ≤ (zz_R Z).slots := ⟨by omega, by omega⟩
              exact cx_aret C hQ (by omega) (by omega) (Or.inl ⟨_, rfl⟩) hw dX11_of_111
            · exact absurd h (by decide)
        · exact absurd h (by decide)
      · have hw := hw.2 (by omega)
        refine cx_instN C hK (ci := 4) (nm := "BinderPress$Sign") rfl (Or.inr (cdE_4 h)) q1184 (List.mem_of_getElem? (i := 10) rfl) dX11_of_26 ?_
        refine hx_if_eq (tgt := 45) C dX11_of_29 (by decide) (by decide) (fun h => ?_) (fun h => ?_)
        · skip
          refine hx_aload_n C dX11_of_45 1 rfl rfl ?_
          obtain ⟨hi17, hw⟩ := hw
          rcases (show tg μ a1 = 8 ∨ (tg μ a1 = 6 ∨ tg μ a1 = 7 ∨ tg μ a1 = 5) by omega) with h | h | h | h
          · have ht18 := h
            have hw := hw.1 h
            refine cx_instY C hK (ci := 7) rfl (Or.inr (cdE_7 ht18)) q1199 dX11_of_46 ?_
            refine hx_if_eq (tgt := 103) C dX11_of_49 (by decide) (by decide) (fun h => ?_) (fun h => ?_)
            · exact absurd h (by decide)
            · skip
              refine hx_aload_n C dX11_of_52 1 rfl rfl ?_
              refine cx_cast C hK (ci := 7) rfl (Or.inr (cdE_7 ht18)) q1199 dX11_of_53 ?_
              refine hx_astore_n (L' := [(2, aR (some a1)), (0, aR (some l0)), (1, aR (some a1))]) C dX11_of_56 rfl (by decide) rfl ?_
              refine hx_aload_n C dX11_of_57 1 rfl rfl ?_
              refine hx_aload_n C dX11_of_58 0 rfl rfl ?_
              refine cx_getN (μ := μ) (v := aR (oR μ a1 0)) C hK 7 0 rfl in_X9 (by decide) (List.mem_of_getElem? (i := 31) rfl) rfl (cdE_7 ht18) rfl dX11_of_59 ?_
              obtain ⟨b19, hu20, hw⟩ := hw
              obtain ⟨ht23, hw⟩ := hw
              refine fun H locs hI ls hl => cx_rr (S := []) hI hl (fun _ h => h) (dr_V (Cn := RX11) (As := [toV (aR (oR μ a1 0))]) (rest := []) C hK hI hl 1 (cv_dyn hK hI (ci := 8) rfl (Or.inr (cdE_8 ht23))) (hrc b19 _ _ _ H.size _ hw) (by omega) (by omega) (lw_V q1179 q1181 qs27 q107 q1182) (by decide +kernel) (av_W [] 8 (Nat.le_of_ble_eq_true rfl)) dX11_of_62 rfl rfl ⟨by omega, by omega⟩) (fun r21 μ22 hw => ?_)
              obtain hb : (0 + b19) + (b - b19) ≤ (zz_R Z).cells ∧ (0 + 5 * b19) + 5 * (b - b19) ≤ (zz_R Z).slots := ⟨by omega, by omega⟩
              refine hx_astore_n (L' := [(3, aR r21), (2, aR (some a1)), (0, aR (some l0)), (1, aR (some a1))]) C dX11_of_65 rfl (by decide) rfl ?_
              obtain ⟨hu24, hw⟩ := hw
              refine cx_new (fs := fun a => coF_9 (alc μ22 a 10 0) a) C hK 9 10 rfl in_X12 tyX12_ok q1157 q1159 q108 (by decide) (fun a => cdE_9 alc_t) (cxd_9 _) (by omega) (by omega) dX11_of_66 (fun a25 hf26 => ?_)
              have hw := hw a25 hf26
              obtain hb : ((0 + b19) + 1) + ((b - b19) - 1) ≤ (zz_R Z).cells ∧ ((0 + 5 * b19) + 4) + 5 * ((b - b19) - 1) ≤ (zz_R Z).slots := ⟨by omega, by omega⟩
              have ht27 : tg (alc μ22 a25 10 0) a25 = 10 := alc_t
              refine hx_dup C dX11_of_69 rfl ?_
              refine fun H locs hI ls hl => cx_rv (S := [aR (some a25)]) hI hl (fun _ h => h) (cr_IN (a := a25) (As := []) (rest := [toV (aR (some a25))]) C hK hI hl 0 (sc_X12_init _ X H.size _ _ _ hw) (List.mem_of_getElem? (i := 33) rfl) q1161 q108 q1162 rfl (by decide +kernel) ⟨rfl, rfl, by (dsimp only; omega), by (dsimp only; omega)⟩ (av_W [aR (some a25)] 8 (Nat.le_of_ble_eq_true rfl)) dX11_of_70 rfl rfl ⟨by omega, by omega⟩) (fun μ29 hw => ?_)
              refine hx_astore (L' := [(4, aR (some a25)), (3, aR r21), (2, aR (some a1)), (0, aR (some l0)), (1, aR (some a1))]) C dX11_of_73 (by decide) rfl ?_
              refine hx_aload_n C dX11_of_75 3 rfl rfl ?_
              refine hx_aload_n C dX11_of_76 1 rfl rfl ?_
              obtain ⟨b30, hu31, hw⟩ := hw
              obtain ⟨ht34, hw⟩ := hw
              refine fun H locs hI ls hl => cx_rr (S := []) hI hl (fun _ h => h) (cr_V (Cn := RX11) (As := [toV (aR r21)]) (rest := []) C hK hI hl 1 (cv_dyn hK hI (ci := 8) rfl (Or.inr (cdE_8 ht34))) (sc_X11_kept _ X H.size _ b30 _ _ _ hw) (lw_V q1200 q1202 qs28 q107 q1203) (by decide +kernel) ⟨rfl, rfl, by (dsimp only; omega), by (dsimp only; omega)⟩ (av_W [] 8 (Nat.le_of_ble_eq_true rfl)) dX11_of_77 rfl rfl ⟨by omega, by omega⟩) (fun r32 μ33 hw => ?_)
              obtain hb : (((0 + b19) + 1) + b30) + (((b - b19) - 1) - b30) ≤ (zz_R Z).cells ∧ (((0 + 5 * b19) + 4) + 5 * b30) + 5 * (((b - b19) - 1) - b30) ≤ (zz_R Z).slots := ⟨by omega, by omega⟩
              refine hx_aload_n C dX11_of_80 3 rfl rfl ?_
              refine hx_aload_n C dX11_of_81 3 rfl rfl ?_
              refine hx_aload_n C dX11_of_82 2 rfl rfl ?_
              obtain ⟨ht35, hw⟩ := hw
              refine cx_getN (μ := μ33) (v := aR (oR μ33 a1 1)) C hK 7 1 rfl in_X9 (by decide) (List.mem_of_getElem? (i := 32) rfl) rfl (cdE_7 ht35) rfl dX11_of_83 ?_
              obtain ⟨b36, hu37, hw⟩ := hw
              obtain ⟨ht40, hw⟩ := hw
              refine fun H locs hI ls hl => cx_rr (S := [aR (some l0), aR r32]) hI hl (fun _ h => h) (dr_V (Cn := RX11) (As := [toV (aR (oR μ33 a1 1))]) (rest := [toV (aR (some l0)), toV (aR r32)]) C hK hI hl 1 (cv_dyn hK hI (ci := 8) rfl (Or.inr (cdE_8 ht40))) (hrc b36 _ _ _ H.size _ hw) (by omega) (by omega) (lw_V q1179 q1181 qs27 q107 q1182) (by decide +kernel) (av_W [aR (some l0), aR r32] 8 (Nat.le_of_ble_eq_true rfl)) dX11_of_86 rfl rfl ⟨by omega, by omega⟩) (fun r38 μ39 hw => ?_)
              obtain hb : ((((0 + b19) + 1) + b30) + b36) + ((((b - b19) - 1) - b30) - b36) ≤ (zz_R Z).cells ∧ ((((0 + 5 * b19) + 4) + 5 * b30) + 5 * b36) + 5 * ((((b - b19) - 1) - b30) - b36) ≤ (zz_R Z).slots := ⟨by omega, by omega⟩
              refine hx_aload C dX11_of_89 0 rfl ?_
              obtain ⟨b41, hu42, hw⟩ := hw
              refine fun H locs hI ls hl => cx_rr (S := [aR (some l0), aR r32]) hI hl (fun _ h => h) (cr_S (As := [toV (aR r38), toV (aR (some a25))]) (rest := [toV (aR (some l0)), toV (aR r32)]) C hK hI hl 2 (sc_X12_arrow _ X H.size _ b41 _ _ _ hw) (lw_S q1194 q1195 q108 q1196) (by decide +kernel) ⟨rfl, rfl, by (dsimp only; omega), by (dsimp only; omega)⟩ (av_W [aR (some l0), aR r32] 8 (Nat.le_of_ble_eq_true rfl)) dX11_of_91 rfl rfl ⟨by omega, by omega⟩) (fun r43 μ44 hw => ?_)
              obtain hb : (((((0 + b19) + 1) + b30) + b36) + b41) + (((((b - b19) - 1) - b30) - b36) - b41) ≤ (zz_R Z).cells ∧ (((((0 + 5 * b19) + 4) + 5 * b30) + 5 * b36) + 5 * b41) + 5 * (((((b - b19) - 1) - b30) - b36) - b41) ≤ (zz_R Z).slots := ⟨by omega, by omega⟩
              obtain ⟨b45, hu46, hw⟩ := hw
              obtain ⟨ht49, hw⟩ := hw
              refine fun H locs hI ls hl => cx_rr (S := [aR r32]) hI hl (fun _ h => h) (cr_V (Cn := RX11) (As := [toV (aR r43)]) (rest := [toV (aR r32)]) C hK hI hl 1 (cv_dyn hK hI (ci := 8) rfl (Or.inr (cdE_8 ht49))) (sc_X11_kept _ X H.size _ b45 _ _ _ hw) (lw_V q1200 q1202 qs28 q107 q1203) (by decide +kernel) ⟨rfl, rfl, by (dsimp only; omega), by (dsimp only; omega)⟩ (av_W [aR r32] 8 (Nat.le_of_ble_eq_true rfl)) dX11_of_94 rfl rfl ⟨by omega, by omega⟩) (fun r47 μ48 hw => ?_)
              obtain hb : ((((((0 + b19) + 1) + b30) + b36) + b41) + b45) + ((((((b - b19) - 1) - b30) - b36) - b41) - b45) ≤ (zz_R Z).cells ∧ ((((((0 + 5 * b19) + 4) + 5 * b30) + 5 * b36) + 5 * b41) + 5 * b45) + 5 * ((((((b - b19) - 1) - b30) - b36) - b41) - b45) ≤ (zz_R Z).slots := ⟨by omega, by omega⟩
              refine fun H locs hI ls hl => cx_rv (S := []) hI hl (fun _ h => h) (dr_S (As := [toV (aR r32), toV (aR r47)]) (rest := []) C hK hI hl 2 ((rr_X12_join _ X 800) _ _ _ H.size _ hw) (by omega) (by omega) (lw_S q1204 q1205 q108 q1206) (by decide +kernel) (av_W [] 8 (Nat.le_of_ble_eq_true rfl)) dX11_of_97 rfl rfl ⟨by omega, by omega⟩) (fun μ51 hw => ?_)
              refine hx_aload C dX11_of_100 0 rfl ?_
              exact cx_aret C hQ (by omega) (by omega) (Or.inl ⟨_, rfl⟩) hw dX11_of_102
          · have hw := hw.2 (by omega)
            refine cx_instN C hK (ci := 5) (nm := "BinderPress$Put") rfl (Or.inr (cdE_5 h)) q1199 (List.mem_of_getElem? (i := 1) rfl) dX11_of_46 ?_
            refine hx_if_eq (tgt := 103) C dX11_of_49 (by decide) (by decide) (fun h => ?_) (fun h => ?_)
            · skip
              refine hx_aload_n C dX11_of_103 0 rfl rfl ?_
              refine hx_aload_n C dX11_of_104 1 rfl rfl ?_
              obtain ⟨ht52, hw⟩ := hw
              refine cx_cast C hK (ci := 4) rfl (Or.inr (cdE_4 ht52)) q1212 dX11_of_105 ?_
              obtain ⟨b53, hu54, hw⟩ := hw
              obtain ⟨ht57, hw⟩ := hw
              refine fun H locs hI ls hl => cx_rr (S := []) hI hl (fun _ h => h) (cr_V (Cn := RX11) (As := [toV (aR (some a1))]) (rest := []) C hK hI hl 1 (cv_dyn hK hI (ci := 8) rfl (Or.inr (cdE_8 ht57))) (sc_X11_ofBinder _ X H.size _ hA hB hrc b53 _ _ _ hw) (lw_V q1213 q1215 qs29 q107 q1216) (by decide +kernel) ⟨rfl, rfl, by (dsimp only; omega), by (dsimp only; omega)⟩ (av_W [] 8 (Nat.le_of_ble_eq_true rfl)) dX11_of_108 rfl rfl ⟨by omega, by omega⟩) (fun r55 μ56 hw => ?_)
              obtain hb : (0 + b53) + (b - b53) ≤ (zz_R Z).cells ∧ (0 + 5 * b53) + 5 * (b - b53) ≤ (zz_R Z).slots := ⟨by omega, by omega⟩
              exact cx_aret C hQ (by omega) (by omega) (Or.inl ⟨_, rfl⟩) hw dX11_of_111
            · exact absurd h (by decide)
          · have hw := hw.2 (by omega)
            refine cx_instN C hK (ci := 6) (nm := "BinderPress$Put") rfl (Or.inr (cdE_6 h)) q1199 (List.mem_of_getElem? (i := 4) rfl) dX11_of_46 ?_
            refine hx_if_eq (tgt := 103) C dX11_of_49 (by decide) (by decide) (fun h => ?_) (fun h => ?_)
            · skip
              refine hx_aload_n C dX11_of_103 0 rfl rfl ?_
              refine hx_aload_n C dX11_of_104 1 rfl rfl ?_
              obtain ⟨ht52, hw⟩ := hw
              refine cx_cast C hK (ci := 4) rfl (Or.inr (cdE_4 ht52)) q1212 dX11_of_105 ?_
              obtain ⟨b53, hu54, hw⟩ := hw
              obtain ⟨ht57, hw⟩ := hw
              refine fun H locs hI ls hl => cx_rr (S := []) hI hl (fun _ h => h) (cr_V (Cn := RX11) (As := [toV (aR (some a1))]) (rest := []) C hK hI hl 1 (cv_dyn hK hI (ci := 8) rfl (Or.inr (cdE_8 ht57))) (sc_X11_ofBinder _ X H.size _ hA hB hrc b53 _ _ _ hw) (lw_V q1213 q1215 qs29 q107 q1216) (by decide +kernel) ⟨rfl, rfl, by (dsimp only; omega), by (dsimp only; omega)⟩ (av_W [] 8 (Nat.le_of_ble_eq_true rfl)) dX11_of_108 rfl rfl ⟨by omega, by omega⟩) (fun r55 μ56 hw => ?_)
              obtain hb : (0 + b53) + (b - b53) ≤ (zz_R Z).cells ∧ (0 + 5 * b53) + 5 * (b - b53) ≤ (zz_R Z).slots := ⟨by omega, by omega⟩
              exact cx_aret C hQ (by omega) (by omega) (Or.inl ⟨_, rfl⟩) hw dX11_of_111
            · exact absurd h (by decide)
          · have hw := hw.2 (by omega)
            refine cx_instN C hK (ci := 4) (nm := "BinderPress$Put") rfl (Or.inr (cdE_4 h)) q1199 (List.mem_of_getElem? (i := 11) rfl) dX11_of_46 ?_
            refine hx_if_eq (tgt := 103) C dX11_of_49 (by decide) (by decide) (fun h => ?_) (fun h => ?_)
            · skip
              refine hx_aload_n C dX11_of_103 0 rfl rfl ?_
              refine hx_aload_n C dX11_of_104 1 rfl rfl ?_
              obtain ⟨ht52, hw⟩ := hw
              refine cx_cast C hK (ci := 4) rfl (Or.inr (cdE_4 ht52)) q1212 dX11_of_105 ?_
              obtain ⟨b53, hu54, hw⟩ := hw
              obtain ⟨ht57, hw⟩ := hw
              refine fun H locs hI ls hl => cx_rr (S := []) hI hl (fun _ h => h) (cr_V (Cn := RX11) (As := [toV (aR (some a1))]) (rest := []) C hK hI hl 1 (cv_dyn hK hI (ci := 8) rfl (Or.inr (cdE_8 ht57))) (sc_X11_ofBinder _ X H.size _ hA hB hrc b53 _ _ _ hw) (lw_V q1213 q1215 qs29 q107 q1216) (by decide +kernel) ⟨rfl, rfl, by (dsimp only; omega), by (dsimp only; omega)⟩ (av_W [] 8 (Nat.le_of_ble_eq_true rfl)) dX11_of_108 rfl rfl ⟨by omega, by omega⟩) (fun r55 μ56 hw => ?_)
              obtain hb : (0 + b53) + (b - b53) ≤ (zz_R Z).cells ∧ (0 + 5 * b53) + 5 * (b - b53) ≤ (zz_R Z).slots := ⟨by omega, by omega⟩
              exact cx_aret C hQ (by omega) (by omega) (Or.inl ⟨_, rfl⟩) hw dX11_of_111
            · exact absurd h (by decide)
        · exact absurd h (by decide)
    · exact absurd h (by decide)
  · have hw := hw.2 (by omega)
    refine cx_instN C hK (ci := 4) (nm := "BinderPress$Name") rfl (Or.inr (cdE_4 h)) q1183 (List.mem_of_getElem? (i := 9) rfl) dX11_of_1 ?_
    refine hx_if_eq (tgt := 25) C dX11_of_4 (by decide) (by decide) (fun h => ?_) (fun h => ?_)
    · skip
      refine hx_aload_n C dX11_of_25 1 rfl rfl ?_
      obtain ⟨hi11, hw⟩ := hw
      rcases (show tg μ a1 = 7 ∨ (tg μ a1 = 6 ∨ tg μ a1 = 8 ∨ tg μ a1 = 5) by omega) with h | h | h | h
      · have ht12 := h
        have hw := hw.1 h
        refine cx_instY C hK (ci := 6) rfl (Or.inr (cdE_6 ht12)) q1184 dX11_of_26 ?_
        refine hx_if_eq (tgt := 45) C dX11_of_29 (by decide) (by decide) (fun h => ?_) (fun h => ?_)
        · exact absurd h (by decide)
        · skip
          refine hx_aload_n C dX11_of_32 1 rfl rfl ?_
          refine cx_cast C hK (ci := 6) rfl (Or.inr (cdE_6 ht12)) q1184 dX11_of_33 ?_
          refine hx_astore_n (L' := [(2, aR (some a1)), (0, aR (some l0)), (1, aR (some a1))]) C dX11_of_36 rfl (by decide) rfl ?_
          refine hx_aload_n C dX11_of_37 0 rfl rfl ?_
          refine cx_getN (μ := μ) (v := aR (oR μ a1 0)) C hK 6 0 rfl in_X8 (by decide) (List.mem_of_getElem? (i := 30) rfl) rfl (cdE_6 ht12) rfl dX11_of_38 ?_
          obtain ⟨b13, hu14, hw⟩ := hw
          refine fun H locs hI ls hl => cx_rr (S := []) hI hl (fun _ h => h) (cr_S (As := [toV (aR (oR μ a1 0))]) (rest := []) C hK hI hl 1 (sc_X11_ofSign _ X H.size _ b13 _ _ hw) (lw_S q1185 q1186 q107 q1187) (by decide +kernel) ⟨rfl, rfl, by (dsimp only; omega), by (dsimp only; omega)⟩ (av_W [] 8 (Nat.le_of_ble_eq_true rfl)) dX11_of_41 rfl rfl ⟨by omega, by omega⟩) (fun r15 μ16 hw => ?_)
          obtain hb : (0 + b13) + (b - b13) ≤ (zz_R Z).cells ∧ (0 + 5 * b13) + 5 * (b - b13) ≤ (zz_R Z).slots := ⟨by omega, by omega⟩
          exact cx_aret C hQ (by omega) (by omega) (Or.inl ⟨_, rfl⟩) hw dX11_of_44
      · have hw := hw.2 (by omega)
        refine cx_instN C hK (ci := 5) (nm := "BinderPress$Sign") rfl (Or.inr (cdE_5 h)) q1184 (List.mem_of_getElem? (i := 0) rfl) dX11_of_26 ?_
        refine hx_if_eq (tgt := 45) C dX11_of_29 (by decide) (by decide) (fun h => ?_) (fun h => ?_)
        · skip
          refine hx_aload_n C dX11_of_45 1 rfl rfl ?_
          obtain ⟨hi17, hw⟩ := hw
          rcases (show tg μ a1 = 8 ∨ (tg μ a1 = 6 ∨ tg μ a1 = 7 ∨ tg μ a1 = 5) by omega) with h | h | h | h
          · have ht18 := h
            have hw := hw.1 h
            refine cx_instY C hK (ci := 7) rfl (Or.inr (cdE_7 ht18)) q1199 dX11_of_46 ?_
            refine hx_if_eq (tgt := 103) C dX11_of_49 (by decide) (by decide) (fun h => ?_) (fun h => ?_)
            · exact absurd h (by decide)
            · skip
              refine hx_aload_n C dX11_of_52 1 rfl rfl ?_
              refine cx_cast C hK (ci := 7) rfl (Or.inr (cdE_7 ht18)) q1199 dX11_of_53 ?_
              refine hx_astore_n (L' := [(2, aR (some a1)), (0, aR (some l0)), (1, aR (some a1))]) C dX11_of_56 rfl (by decide) rfl ?_
              refine hx_aload_n C dX11_of_57 1 rfl rfl ?_
              refine hx_aload_n C dX11_of_58 0 rfl rfl ?_
              refine cx_getN (μ := μ) (v := aR (oR μ a1 0)) C hK 7 0 rfl in_X9 (by decide) (List.mem_of_getElem? (i := 31) rfl) rfl (cdE_7 ht18) rfl dX11_of_59 ?_
              obtain ⟨b19, hu20, hw⟩ := hw
              obtain ⟨ht23, hw⟩ := hw
              refine fun H locs hI ls hl => cx_rr (S := []) hI hl (fun _ h => h) (dr_V (Cn := RX11) (As := [toV (aR (oR μ a1 0))]) (rest := []) C hK hI hl 1 (cv_dyn hK hI (ci := 8) rfl (Or.inr (cdE_8 ht23))) (hrc b19 _ _ _ H.size _ hw) (by omega) (by omega) (lw_V q1179 q1181 qs27 q107 q1182) (by decide +kernel) (av_W [] 8 (Nat.le_of_ble_eq_true rfl)) dX11_of_62 rfl rfl ⟨by omega, by omega⟩) (fun r21 μ22 hw => ?_)
              obtain hb : (0 + b19) + (b - b19) ≤ (zz_R Z).cells ∧ (0 + 5 * b19) + 5 * (b - b19) ≤ (zz_R Z).slots := ⟨by omega, by omega⟩
              refine hx_astore_n (L' := [(3, aR r21), (2, aR (some a1)), (0, aR (some l0)), (1, aR (some a1))]) C dX11_of_65 rfl (by decide) rfl ?_
              obtain ⟨hu24, hw⟩ := hw
              refine cx_new (fs := fun a => coF_9 (alc μ22 a 10 0) a) C hK 9 10 rfl in_X12 tyX12_ok q1157 q1159 q108 (by decide) (fun a => cdE_9 alc_t) (cxd_9 _) (by omega) (by omega) dX11_of_66 (fun a25 hf26 => ?_)
              have hw := hw a25 hf26
              obtain hb : ((0 + b19) + 1) + ((b - b19) - 1) ≤ (zz_R Z).cells ∧ ((0 + 5 * b19) + 4) + 5 * ((b - b19) - 1) ≤ (zz_R Z).slots := ⟨by omega, by omega⟩
              have ht27 : tg (alc μ22 a25 10 0) a25 = 10 := alc_t
              refine hx_dup C dX11_of_69 rfl ?_
              refine fun H locs hI ls hl => cx_rv (S := [aR (some a25)]) hI hl (fun _ h => h) (cr_IN (a := a25) (As := []) (rest := [toV (aR (some a25))]) C hK hI hl 0 (sc_X12_init _ X H.size _ _ _ hw) (List.mem_of_getElem? (i := 33) rfl) q1161 q108 q1162 rfl (by decide +kernel) ⟨rfl, rfl, by (dsimp only; omega), by (dsimp only; omega)⟩ (av_W [aR (some a25)] 8 (Nat.le_of_ble_eq_true rfl)) dX11_of_70 rfl rfl ⟨by omega, by omega⟩) (fun μ29 hw => ?_)
              refine hx_astore (L' := [(4, aR (some a25)), (3, aR r21), (2, aR (some a1)), (0, aR (some l0)), (1, aR (some a1))]) C dX11_of_73 (by decide) rfl ?_
              refine hx_aload_n C dX11_of_75 3 rfl rfl ?_
              refine hx_aload_n C dX11_of_76 1 rfl rfl ?_
              obtain ⟨b30, hu31, hw⟩ := hw
              obtain ⟨ht34, hw⟩ := hw
              refine fun H locs hI ls hl => cx_rr (S := []) hI hl (fun _ h => h) (cr_V (Cn := RX11) (As := [toV (aR r21)]) (rest := []) C hK hI hl 1 (cv_dyn hK hI (ci := 8) rfl (Or.inr (cdE_8 ht34))) (sc_X11_kept _ X H.size _ b30 _ _ _ hw) (lw_V q1200 q1202 qs28 q107 q1203) (by decide +kernel) ⟨rfl, rfl, by (dsimp only; omega), by (dsimp only; omega)⟩ (av_W [] 8 (Nat.le_of_ble_eq_true rfl)) dX11_of_77 rfl rfl ⟨by omega, by omega⟩) (fun r32 μ33 hw => ?_)
              obtain hb : (((0 + b19) + 1) + b30) + (((b - b19) - 1) - b30) ≤ (zz_R Z).cells ∧ (((0 + 5 * b19) + 4) + 5 * b30) + 5 * (((b - b19) - 1) - b30) ≤ (zz_R Z).slots := ⟨by omega, by omega⟩
              refine hx_aload_n C dX11_of_80 3 rfl rfl ?_
              refine hx_aload_n C dX11_of_81 3 rfl rfl ?_
              refine hx_aload_n C dX11_of_82 2 rfl rfl ?_
              obtain ⟨ht35, hw⟩ := hw
              refine cx_getN (μ := μ33) (v := aR (oR μ33 a1 1)) C hK 7 1 rfl in_X9 (by decide) (List.mem_of_getElem? (i := 32) rfl) rfl (cdE_7 ht35) rfl dX11_of_83 ?_
              obtain ⟨b36, hu37, hw⟩ := hw
              obtain ⟨ht40, hw⟩ := hw
              refine fun H locs hI ls hl => cx_rr (S := [aR (some l0), aR r32]) hI hl (fun _ h => h) (dr_V (Cn := RX11) (As := [toV (aR (oR μ33 a1 1))]) (rest := [toV (aR (some l0)), toV (aR r32)]) C hK hI hl 1 (cv_dyn hK hI (ci := 8) rfl (Or.inr (cdE_8 ht40))) (hrc b36 _ _ _ H.size _ hw) (by omega) (by omega) (lw_V q1179 q1181 qs27 q107 q1182) (by decide +kernel) (av_W [aR (some l0), aR r32] 8 (Nat.le_of_ble_eq_true rfl)) dX11_of_86 rfl rfl ⟨by omega, by omega⟩) (fun r38 μ39 hw => ?_)
              obtain hb : ((((0 + b19) + 1) + b30) + b36) + ((((b - b19) - 1) - b30) - b36) ≤ (zz_R Z).cells ∧ ((((0 + 5 * b19) + 4) + 5 * b30) + 5 * b36) + 5 * ((((b - b19) - 1) - b30) - b36) ≤ (zz_R Z).slots := ⟨by omega, by omega⟩
              refine hx_aload C dX11_of_89 0 rfl ?_
              obtain ⟨b41, hu42, hw⟩ := hw
              refine fun H locs hI ls hl => cx_rr (S := [aR (some l0), aR r32]) hI hl (fun _ h => h) (cr_S (As := [toV (aR r38), toV (aR (some a25))]) (rest := [toV (aR (some l0)), toV (aR r32)]) C hK hI hl 2 (sc_X12_arrow _ X H.size _ b41 _ _ _ hw) (lw_S q1194 q1195 q108 q1196) (by decide +kernel) ⟨rfl, rfl, by (dsimp only; omega), by (dsimp only; omega)⟩ (av_W [aR (some l0), aR r32] 8 (Nat.le_of_ble_eq_true rfl)) dX11_of_91 rfl rfl ⟨by omega, by omega⟩) (fun r43 μ44 hw => ?_)
              obtain hb : (((((0 + b19) + 1) + b30) + b36) + b41) + (((((b - b19) - 1) - b30) - b36) - b41) ≤ (zz_R Z).cells ∧ (((((0 + 5 * b19) + 4) + 5 * b30) + 5 * b36) + 5 * b41) + 5 * (((((b - b19) - 1) - b30) - b36) - b41) ≤ (zz_R Z).slots := ⟨by omega, by omega⟩
              obtain ⟨b45, hu46, hw⟩ := hw
              obtain ⟨ht49, hw⟩ := hw
              refine fun H locs hI ls hl => cx_rr (S := [aR r32]) hI hl (fun _ h => h) (cr_V (Cn := RX11) (As := [toV (aR r43)]) (rest := [toV (aR r32)]) C hK hI hl 1 (cv_dyn hK hI (ci := 8) rfl (Or.inr (cdE_8 ht49))) (sc_X11_kept _ X H.size _ b45 _ _ _ hw) (lw_V q1200 q1202 qs28 q107 q1203) (by decide +kernel) ⟨rfl, rfl, by (dsimp only; omega), by (dsimp only; omega)⟩ (av_W [aR r32] 8 (Nat.le_of_ble_eq_true rfl)) dX11_of_94 rfl rfl ⟨by omega, by omega⟩) (fun r47 μ48 hw => ?_)
              obtain hb : ((((((0 + b19) + 1) + b30) + b36) + b41) + b45) + ((((((b - b19) - 1) - b30) - b36) - b41) - b45) ≤ (zz_R Z).cells ∧ ((((((0 + 5 * b19) + 4) + 5 * b30) + 5 * b36) + 5 * b41) + 5 * b45) + 5 * ((((((b - b19) - 1) - b30) - b36) - b41) - b45) ≤ (zz_R Z).slots := ⟨by omega, by omega⟩
              refine fun H locs hI ls hl => cx_rv (S := []) hI hl (fun _ h => h) (dr_S (As := [toV (aR r32), toV (aR r47)]) (rest := []) C hK hI hl 2 ((rr_X12_join _ X 800) _ _ _ H.size _ hw) (by omega) (by omega) (lw_S q1204 q1205 q108 q1206) (by decide +kernel) (av_W [] 8 (Nat.le_of_ble_eq_true rfl)) dX11_of_97 rfl rfl ⟨by omega, by omega⟩) (fun μ51 hw => ?_)
              refine hx_aload C dX11_of_100 0 rfl ?_
              exact cx_aret C hQ (by omega) (by omega) (Or.inl ⟨_, rfl⟩) hw dX11_of_102
          · have hw := hw.2 (by omega)
            refine cx_instN C hK (ci := 5) (nm := "BinderPress$Put") rfl (Or.inr (cdE_5 h)) q1199 (List.mem_of_getElem? (i := 1) rfl) dX11_of_46 ?_
            refine hx_if_eq (tgt := 103) C dX11_of_49 (by decide) (by decide) (fun h => ?_) (fun h => ?_)
            · skip
              refine hx_aload_n C dX11_of_103 0 rfl rfl ?_
              refine hx_aload_n C dX11_of_104 1 rfl rfl ?_
              obtain ⟨ht52, hw⟩ := hw
              refine cx_cast C hK (ci := 4) rfl (Or.inr (cdE_4 ht52)) q1212 dX11_of_105 ?_
              obtain ⟨b53, hu54, hw⟩ := hw
              obtain ⟨ht57, hw⟩ := hw
              refine fun H locs hI ls hl => cx_rr (S := []) hI hl (fun _ h => h) (cr_V (Cn := RX11) (As := [toV (aR (some a1))]) (rest := []) C hK hI hl 1 (cv_dyn hK hI (ci := 8) rfl (Or.inr (cdE_8 ht57))) (sc_X11_ofBinder _ X H.size _ hA hB hrc b53 _ _ _ hw) (lw_V q1213 q1215 qs29 q107 q1216) (by decide +kernel) ⟨rfl, rfl, by (dsimp only; omega), by (dsimp only; omega)⟩ (av_W [] 8 (Nat.le_of_ble_eq_true rfl)) dX11_of_108 rfl rfl ⟨by omega, by omega⟩) (fun r55 μ56 hw => ?_)
              obtain hb : (0 + b53) + (b - b53) ≤ (zz_R Z).cells ∧ (0 + 5 * b53) + 5 * (b - b53) ≤ (zz_R Z).slots := ⟨by omega, by omega⟩
              exact cx_aret C hQ (by omega) (by omega) (Or.inl ⟨_, rfl⟩) hw dX11_of_111
            · exact absurd h (by decide)
          · have hw := hw.2 (by omega)
            refine cx_instN C hK (ci := 6) (nm := "BinderPress$Put") rfl (Or.inr (cdE_6 h)) q1199 (List.mem_of_getElem? (i := 4) rfl) dX11_of_46 ?_
            refine hx_if_eq (tgt := 103) C dX11_of_49 (by decide) (by decide) (fun h => ?_) (fun h => ?_)
            · skip
              refine hx_aload_n C dX11_of_103 0 rfl rfl ?_
              refine hx_aload_n C dX11_of_104 1 rfl rfl ?_
              obtain ⟨ht52, hw⟩ := hw
              refine cx_cast C hK (ci := 4) rfl (Or.inr (cdE_4 ht52)) q1212 dX11_of_105 ?_
              obtain ⟨b53, hu54, hw⟩ := hw
              obtain ⟨ht57, hw⟩ := hw
              refine fun H locs hI ls hl => cx_rr (S := []) hI hl (fun _ h => h) (cr_V (Cn := RX11) (As := [toV (aR (some a1))]) (rest := []) C hK hI hl 1 (cv_dyn hK hI (ci := 8) rfl (Or.inr (cdE_8 ht57))) (sc_X11_ofBinder _ X H.size _ hA hB hrc b53 _ _ _ hw) (lw_V q1213 q1215 qs29 q107 q1216) (by decide +kernel) ⟨rfl, rfl, by (dsimp only; omega), by (dsimp only; omega)⟩ (av_W [] 8 (Nat.le_of_ble_eq_true rfl)) dX11_of_108 rfl rfl ⟨by omega, by omega⟩) (fun r55 μ56 hw => ?_)
              obtain hb : (0 + b53) + (b - b53) ≤ (zz_R Z).cells ∧ (0 + 5 * b53) + 5 * (b - b53) ≤ (zz_R Z).slots := ⟨by omega, by omega⟩
              exact cx_aret C hQ (by omega) (by omega) (Or.inl ⟨_, rfl⟩) hw dX11_of_111
            · exact absurd h (by decide)
          · have hw := hw.2 (by omega)
            refine cx_instN C hK (ci := 4) (nm := "BinderPress$Put") rfl (Or.inr (cdE_4 h)) q1199 (List.mem_of_getElem? (i := 11) rfl) dX11_of_46 ?_
            refine hx_if_eq (tgt := 103) C dX11_of_49 (by decide) (by decide) (fun h => ?_) (fun h => ?_)
            · skip
              refine hx_aload_n C dX11_of_103 0 rfl rfl ?_
              refine hx_aload_n C dX11_of_104 1 rfl rfl ?_
              obtain ⟨ht52, hw⟩ := hw
              refine cx_cast C hK (ci := 4) rfl (Or.inr (cdE_4 ht52)) q1212 dX11_of_105 ?_
              obtain ⟨b53, hu54, hw⟩ := hw
              obtain ⟨ht57, hw⟩ := hw
              refine fun H locs hI ls hl => cx_rr (S := []) hI hl (fun _ h => h) (cr_V (Cn := RX11) (As := [toV (aR (some a1))]) (rest := []) C hK hI hl 1 (cv_dyn hK hI (ci := 8) rfl (Or.inr (cdE_8 ht57))) (sc_X11_ofBinder _ X H.size _ hA hB hrc b53 _ _ _ hw) (lw_V q1213 q1215 qs29 q107 q1216) (by decide +kernel) ⟨rfl, rfl, by (dsimp only; omega), by (dsimp only; omega)⟩ (av_W [] 8 (Nat.le_of_ble_eq_true rfl)) dX11_of_108 rfl rfl ⟨by omega, by omega⟩) (fun r55 μ56 hw => ?_)
              obtain hb : (0 + b53) + (b - b53) ≤ (zz_R Z).cells ∧ (0 + 5 * b53) + 5 * (b - b53) ≤ (zz_R Z).slots := ⟨by omega, by omega⟩
              exact cx_aret C hQ (by omega) (by omega) (Or.inl ⟨_, rfl⟩) hw dX11_of_111
            · exact absurd h (by decide)
        · exact absurd h (by decide)
      · have hw := hw.2 (by omega)
        refine cx_instN C hK (ci := 7) (nm := "BinderPress$Sign") rfl (Or.inr (cdE_7 h)) q1184 (List.mem_of_getElem? (i := 7) rfl) dX11_of_26 ?_
        refine hx_if_eq (tgt := 45) C dX11_of_29 (by decide) (by decide) (fun h => ?_) (fun h => ?_)
        · skip
          refine hx_aload_n C dX11_of_45 1 rfl rfl ?_
          obtain ⟨hi17, hw⟩ := hw
          rcases (show tg μ a1 = 8 ∨ (tg μ a1 = 6 ∨ tg μ a1 = 7 ∨ tg μ a1 = 5) by omega) with h | h | h | h
          · have ht18 := h
            have hw := hw.1 h
            refine cx_instY C hK (ci := 7) rfl (Or.inr (cdE_7 ht18)) q1199 dX11_of_46 ?_
            refine hx_if_eq (tgt := 103) C dX11_of_49 (by decide) (by decide) (fun h => ?_) (fun h => ?_)
            · exact absurd h (by decide)
            · skip
              refine hx_aload_n C dX11_of_52 1 rfl rfl ?_
              refine cx_cast C hK (ci := 7) rfl (Or.inr (cdE_7 ht18)) q1199 dX11_of_53 ?_
              refine hx_astore_n (L' := [(2, aR (some a1)), (0, aR (some l0)), (1, aR (some a1))]) C dX11_of_56 rfl (by decide) rfl ?_
              refine hx_aload_n C dX11_of_57 1 rfl rfl ?_
              refine hx_aload_n C dX11_of_58 0 rfl rfl ?_
              refine cx_getN (μ := μ) (v := aR (oR μ a1 0)) C hK 7 0 rfl in_X9 (by decide) (List.mem_of_getElem? (i := 31) rfl) rfl (cdE_7 ht18) rfl dX11_of_59 ?_
              obtain ⟨b19, hu20, hw⟩ := hw
              obtain ⟨ht23, hw⟩ := hw
              refine fun H locs hI ls hl => cx_rr (S := []) hI hl (fun _ h => h) (dr_V (Cn := RX11) (As := [toV (aR (oR μ a1 0))]) (rest := []) C hK hI hl 1 (cv_dyn hK hI (ci := 8) rfl (Or.inr (cdE_8 ht23))) (hrc b19 _ _ _ H.size _ hw) (by omega) (by omega) (lw_V q1179 q1181 qs27 q107 q1182) (by decide +kernel) (av_W [] 8 (Nat.le_of_ble_eq_true rfl)) dX11_of_62 rfl rfl ⟨by omega, by omega⟩) (fun r21 μ22 hw => ?_)
              obtain hb : (0 + b19) + (b - b19) ≤ (zz_R Z).cells ∧ (0 + 5 * b19) + 5 * (b - b19) ≤ (zz_R Z).slots := ⟨by omega, by omega⟩
              refine hx_astore_n (L' := [(3, aR r21), (2, aR (some a1)), (0, aR (some l0)), (1, aR (some a1))]) C dX11_of_65 rfl (by decide) rfl ?_
              obtain ⟨hu24, hw⟩ := hw
              refine cx_new (fs := fun a => coF_9 (alc μ22 a 10 0) a) C hK 9 10 rfl in_X12 tyX12_ok q1157 q1159 q108 (by decide) (fun a => cdE_9 alc_t) (cxd_9 _) (by omega) (by omega) dX11_of_66 (fun a25 hf26 => ?_)
              have hw := hw a25 hf26
              obtain hb : ((0 + b19) + 1) + ((b - b19) - 1) ≤ (zz_R Z).cells ∧ ((0 + 5 * b19) + 4) + 5 * ((b - b19) - 1) ≤ (zz_R Z).slots := ⟨by omega, by omega⟩
              have ht27 : tg (alc μ22 a25 10 0) a25 = 10 := alc_t
              refine hx_dup C dX11_of_69 rfl ?_
              refine fun H locs hI ls hl => cx_rv (S := [aR (some a25)]) hI hl (fun _ h => h) (cr_IN (a := a25) (As := []) (rest := [toV (aR (some a25))]) C hK hI hl 0 (sc_X12_init _ X H.size _ _ _ hw) (List.mem_of_getElem? (i := 33) rfl) q1161 q108 q1162 rfl (by decide +kernel) ⟨rfl, rfl, by (dsimp only; omega), by (dsimp only; omega)⟩ (av_W [aR (some a25)] 8 (Nat.le_of_ble_eq_true rfl)) dX11_of_70 rfl rfl ⟨by omega, by omega⟩) (fun μ29 hw => ?_)
              refine hx_astore (L' := [(4, aR (some a25)), (3, aR r21), (2, aR (some a1)), (0, aR (some l0)), (1, aR (some a1))]) C dX11_of_73 (by decide) rfl ?_
              refine hx_aload_n C dX11_of_75 3 rfl rfl ?_
              refine hx_aload_n C dX11_of_76 1 rfl rfl ?_
              obtain ⟨b30, hu31, hw⟩ := hw
              obtain ⟨ht34, hw⟩ := hw
              refine fun H locs hI ls hl => cx_rr (S := []) hI hl (fun _ h => h) (cr_V (Cn := RX11) (As := [toV (aR r21)]) (rest := []) C hK hI hl 1 (cv_dyn hK hI (ci := 8) rfl (Or.inr (cdE_8 ht34))) (sc_X11_kept _ X H.size _ b30 _ _ _ hw) (lw_V q1200 q1202 qs28 q107 q1203) (by decide +kernel) ⟨rfl, rfl, by (dsimp only; omega), by (dsimp only; omega)⟩ (av_W [] 8 (Nat.le_of_ble_eq_true rfl)) dX11_of_77 rfl rfl ⟨by omega, by omega⟩) (fun r32 μ33 hw => ?_)
              obtain hb : (((0 + b19) + 1) + b30) + (((b - b19) - 1) - b30) ≤ (zz_R Z).cells ∧ (((0 + 5 * b19) + 4) + 5 * b30) + 5 * (((b - b19) - 1) - b30) ≤ (zz_R Z).slots := ⟨by omega, by omega⟩
              refine hx_aload_n C dX11_of_80 3 rfl rfl ?_
              refine hx_aload_n C dX11_of_81 3 rfl rfl ?_
              refine hx_aload_n C dX11_of_82 2 rfl rfl ?_
              obtain ⟨ht35, hw⟩ := hw
              refine cx_getN (μ := μ33) (v := aR (oR μ33 a1 1)) C hK 7 1 rfl in_X9 (by decide) (List.mem_of_getElem? (i := 32) rfl) rfl (cdE_7 ht35) rfl dX11_of_83 ?_
              obtain ⟨b36, hu37, hw⟩ := hw
              obtain ⟨ht40, hw⟩ := hw
              refine fun H locs hI ls hl => cx_rr (S := [aR (some l0), aR r32]) hI hl (fun _ h => h) (dr_V (Cn := RX11) (As := [toV (aR (oR μ33 a1 1))]) (rest := [toV (aR (some l0)), toV (aR r32)]) C hK hI hl 1 (cv_dyn hK hI (ci := 8) rfl (Or.inr (cdE_8 ht40))) (hrc b36 _ _ _ H.size _ hw) (by omega) (by omega) (lw_V q1179 q1181 qs27 q107 q1182) (by decide +kernel) (av_W [aR (some l0), aR r32] 8 (Nat.le_of_ble_eq_true rfl)) dX11_of_86 rfl rfl ⟨by omega, by omega⟩) (fun r38 μ39 hw => ?_)
              obtain hb : ((((0 + b19) + 1) + b30) + b36) + ((((b - b19) - 1) - b30) - b36) ≤ (zz_R Z).cells ∧ ((((0 + 5 * b19) + 4) + 5 * b30) + 5 * b36) + 5 * ((((b - b19) - 1) - b30) - b36) ≤ (zz_R Z).slots := ⟨by omega, by omega⟩
              refine hx_aload C dX11_of_89 0 rfl ?_
              obtain ⟨b41, hu42, hw⟩ := hw
              refine fun H locs hI ls hl => cx_rr (S := [aR (some l0), aR r32]) hI hl (fun _ h => h) (cr_S (As := [toV (aR r38), toV (aR (some a25))]) (rest := [toV (aR (some l0)), toV (aR r32)]) C hK hI hl 2 (sc_X12_arrow _ X H.size _ b41 _ _ _ hw) (lw_S q1194 q1195 q108 q1196) (by decide +kernel) ⟨rfl, rfl, by (dsimp only; omega), by (dsimp only; omega)⟩ (av_W [aR (some l0), aR r32] 8 (Nat.le_of_ble_eq_true rfl)) dX11_of_91 rfl rfl ⟨by omega, by omega⟩) (fun r43 μ44 hw => ?_)
              obtain hb : (((((0 + b19) + 1) + b30) + b36) + b41) + (((((b - b19) - 1) - b30) - b36) - b41) ≤ (zz_R Z).cells ∧ (((((0 + 5 * b19) + 4) + 5 * b30) + 5 * b36) + 5 * b41) + 5 * (((((b - b19) - 1) - b30) - b36) - b41) ≤ (zz_R Z).slots := ⟨by omega, by omega⟩
              obtain ⟨b45, hu46, hw⟩ := hw
              obtain ⟨ht49, hw⟩ := hw
              refine fun H locs hI ls hl => cx_rr (S := [aR r32]) hI hl (fun _ h => h) (cr_V (Cn := RX11) (As := [toV (aR r43)]) (rest := [toV (aR r32)]) C hK hI hl 1 (cv_dyn hK hI (ci := 8) rfl (Or.inr (cdE_8 ht49))) (sc_X11_kept _ X H.size _ b45 _ _ _ hw) (lw_V q1200 q1202 qs28 q107 q1203) (by decide +kernel) ⟨rfl, rfl, by (dsimp only; omega), by (dsimp only; omega)⟩ (av_W [aR r32] 8 (Nat.le_of_ble_eq_true rfl)) dX11_of_94 rfl rfl ⟨by omega, by omega⟩) (fun r47 μ48 hw => ?_)
              obtain hb : ((((((0 + b19) + 1) + b30) + b36) + b41) + b45) + ((((((b - b19) - 1) - b30) - b36) - b41) - b45) ≤ (zz_R Z).cells ∧ ((((((0 + 5 * b19) + 4) + 5 * b30) + 5 * b36) + 5 * b41) + 5 * b45) + 5 * ((((((b - b19) - 1) - b30) - b36) - b41) - b45) ≤ (zz_R Z).slots := ⟨by omega, by omega⟩
              refine fun H locs hI ls hl => cx_rv (S := []) hI hl (fun _ h => h) (dr_S (As := [toV (aR r32), toV (aR r47)]) (rest := []) C hK hI hl 2 ((rr_X12_join _ X 800) _ _ _ H.size _ hw) (by omega) (by omega) (lw_S q1204 q1205 q108 q1206) (by decide +kernel) (av_W [] 8 (Nat.le_of_ble_eq_true rfl)) dX11_of_97 rfl rfl ⟨by omega, by omega⟩) (fun μ51 hw => ?_)
              refine hx_aload C dX11_of_100 0 rfl ?_
              exact cx_aret C hQ (by omega) (by omega) (Or.inl ⟨_, rfl⟩) hw dX11_of_102
          · have hw := hw.2 (by omega)
            refine cx_instN C hK (ci := 5) (nm := "BinderPress$Put") rfl (Or.inr (cdE_5 h)) q1199 (List.mem_of_getElem? (i := 1) rfl) dX11_of_46 ?_
            refine hx_if_eq (tgt := 103) C dX11_of_49 (by decide) (by decide) (fun h => ?_) (fun h => ?_)
            · skip
              refine hx_aload_n C dX11_of_103 0 rfl rfl ?_
              refine hx_aload_n C dX11_of_104 1 rfl rfl ?_
              obtain ⟨ht52, hw⟩ := hw
              refine cx_cast C hK (ci := 4) rfl (Or.inr (cdE_4 ht52)) q1212 dX11_of_105 ?_
              obtain ⟨b53, hu54, hw⟩ := hw
              obtain ⟨ht57, hw⟩ := hw
              refine fun H locs hI ls hl => cx_rr (S := []) hI hl (fun _ h => h) (cr_V (Cn := RX11) (As := [toV (aR (some a1))]) (rest := []) C hK hI hl 1 (cv_dyn hK hI (ci := 8) rfl (Or.inr (cdE_8 ht57))) (sc_X11_ofBinder _ X H.size _ hA hB hrc b53 _ _ _ hw) (lw_V q1213 q1215 qs29 q107 q1216) (by decide +kernel) ⟨rfl, rfl, by (dsimp only; omega), by (dsimp only; omega)⟩ (av_W [] 8 (Nat.le_of_ble_eq_true rfl)) dX11_of_108 rfl rfl ⟨by omega, by omega⟩) (fun r55 μ56 hw => ?_)
              obtain hb : (0 + b53) + (b - b53) ≤ (zz_R Z).cells ∧ (0 + 5 * b53) + 5 * (b - b53) ≤ (zz_R Z).slots := ⟨by omega, by omega⟩
              exact cx_aret C hQ (by omega) (by omega) (Or.inl ⟨_, rfl⟩) hw dX11_of_111
            · exact absurd h (by decide)
          · have hw := hw.2 (by omega)
            refine cx_instN C hK (ci := 6) (nm := "BinderPress$Put") rfl (Or.inr (cdE_6 h)) q1199 (List.mem_of_getElem? (i := 4) rfl) dX11_of_46 ?_
            refine hx_if_eq (tgt := 103) C dX11_of_49 (by decide) (by decide) (fun h => ?_) (fun h => ?_)
            · skip
              refine hx_aload_n C dX11_of_103 0 rfl rfl ?_
              refine hx_aload_n C dX11_of_104 1 rfl rfl ?_
              obtain ⟨ht52, hw⟩ := hw
              refine cx_cast C hK (ci := 4) rfl (Or.inr (cdE_4 ht52)) q1212 dX11_of_105 ?_
              obtain ⟨b53, hu54, hw⟩ := hw
              obtain ⟨ht57, hw⟩ := hw
              refine fun H locs hI ls hl => cx_rr (S := []) hI hl (fun _ h => h) (cr_V (Cn := RX11) (As := [toV (aR (some a1))]) (rest := []) C hK hI hl 1 (cv_dyn hK hI (ci := 8) rfl (Or.inr (cdE_8 ht57))) (sc_X11_ofBinder _ X H.size _ hA hB hrc b53 _ _ _ hw) (lw_V q1213 q1215 qs29 q107 q1216) (by decide +kernel) ⟨rfl, rfl, by (dsimp only; omega), by (dsimp only; omega)⟩ (av_W [] 8 (Nat.le_of_ble_eq_true rfl)) dX11_of_108 rfl rfl ⟨by omega, by omega⟩) (fun r55 μ56 hw => ?_)
              obtain hb : (0 + b53) + (b - b53) ≤ (zz_R Z).cells ∧ (0 + 5 * b53) + 5 * (b - b53) ≤ (zz_R Z).slots := ⟨by omega, by omega⟩
              exact cx_aret C hQ (by omega) (by omega) (Or.inl ⟨_, rfl⟩) hw dX11_of_111
            · exact absurd h (by decide)
          · have hw := hw.2 (by omega)
            refine cx_instN C hK (ci := 4) (nm := "BinderPress$Put") rfl (Or.inr (cdE_4 h)) q1199 (List.mem_of_getElem? (i := 11) rfl) dX11_of_46 ?_
            refine hx_if_eq (tgt := 103) C dX11_of_49 (by decide) (by decide) (fun h => ?_) (fun h => ?_)
            · skip
              refine hx_aload_n C dX11_of_103 0 rfl rfl ?_
              refine hx_aload_n C dX11_of_104 1 rfl rfl ?_
              obtain ⟨ht52, hw⟩ := hw
              refine cx_cast C hK (ci := 4) rfl (Or.inr (cdE_4 ht52)) q1212 dX11_of_105 ?_
              obtain ⟨b53, hu54, hw⟩ := hw
              obtain ⟨ht57, hw⟩ := hw
              refine fun H locs hI ls hl => cx_rr (S := []) hI hl (fun _ h => h) (cr_V (Cn := RX11) (As := [toV (aR (some a1))]) (rest := []) C hK hI hl 1 (cv_dyn hK hI (ci := 8) rfl (Or.inr (cdE_8 ht57))) (sc_X11_ofBinder _ X H.size _ hA hB hrc b53 _ _ _ hw) (lw_V q1213 q1215 qs29 q107 q1216) (by decide +kernel) ⟨rfl, rfl, by (dsimp only; omega), by (dsimp only; omega)⟩ (av_W [] 8 (Nat.le_of_ble_eq_true rfl)) dX11_of_108 rfl rfl ⟨by omega, by omega⟩) (fun r55 μ56 hw => ?_)
              obtain hb : (0 + b53) + (b - b53) ≤ (zz_R Z).cells ∧ (0 + 5 * b53) + 5 * (b - b53) ≤ (zz_R Z).slots := ⟨by omega, by omega⟩
              exact cx_aret C hQ (by omega) (by omega) (Or.inl ⟨_, rfl⟩) hw dX11_of_111
            · exact absurd h (by decide)
        · exact absurd h (by decide)
      · have hw := hw.2 (by omega)
        refine cx_instN C hK (ci := 4) (nm := "BinderPress$Sign") rfl (Or.inr (cdE_4 h)) q1184 (List.mem_of_getElem? (i := 10) rfl) dX11_of_26 ?_
        refine hx_if_eq (tgt := 45) C dX11_of_29 (by decide) (by decide) (fun h => ?_) (fun h => ?_)
        · skip
          refine hx_aload_n C dX11_of_45 1 rfl rfl ?_
          obtain ⟨hi17, hw⟩ := hw
          rcases (show tg μ a1 = 8 ∨ (tg μ a1 = 6 ∨ tg μ a1 = 7 ∨ tg μ a1 = 5) by omega) with h | h | h | h
          · have ht18 := h
            have hw := hw.1 h
            refine cx_instY C hK (ci := 7) rfl (Or.inr (cdE_7 ht18)) q1199 dX11_of_46 ?_
            refine hx_if_eq (tgt := 103) C dX11_of_49 (by decide) (by decide) (fun h => ?_) (fun h => ?_)
            · exact absurd h (by decide)
            · skip
              refine hx_aload_n C dX11_of_52 1 rfl rfl ?_
              refine cx_cast C hK (ci := 7) rfl (Or.inr (cdE_7 ht18)) q1199 dX11_of_53 ?_
              refine hx_astore_n (L' := [(2, aR (some a1)), (0, aR (some l0)), (1, aR (some a1))]) C dX11_of_56 rfl (by decide) rfl ?_
              refine hx_aload_n C dX11_of_57 1 rfl rfl ?_
              refine hx_aload_n C dX11_of_58 0 rfl rfl ?_
              refine cx_getN (μ := μ) (v := aR (oR μ a1 0)) C hK 7 0 rfl in_X9 (by decide) (List.mem_of_getElem? (i := 31) rfl) rfl (cdE_7 ht18) rfl dX11_of_59 ?_
              obtain ⟨b19, hu20, hw⟩ := hw
              obtain ⟨ht23, hw⟩ := hw
              refine fun H locs hI ls hl => cx_rr (S := []) hI hl (fun _ h => h) (dr_V (Cn := RX11) (As := [toV (aR (oR μ a1 0))]) (rest := []) C hK hI hl 1 (cv_dyn hK hI (ci := 8) rfl (Or.inr (cdE_8 ht23))) (hrc b19 _ _ _ H.size _ hw) (by omega) (by omega) (lw_V q1179 q1181 qs27 q107 q1182) (by decide +kernel) (av_W [] 8 (Nat.le_of_ble_eq_true rfl)) dX11_of_62 rfl rfl ⟨by omega, by omega⟩) (fun r21 μ22 hw => ?_)
              obtain hb : (0 + b19) + (b - b19) ≤ (zz_R Z).cells ∧ (0 + 5 * b19) + 5 * (b - b19) ≤ (zz_R Z).slots := ⟨by omega, by omega⟩
              refine hx_astore_n (L' := [(3, aR r21), (2, aR (some a1)), (0, aR (some l0)), (1, aR (some a1))]) C dX11_of_65 rfl (by decide) rfl ?_
              obtain ⟨hu24, hw⟩ := hw
              refine cx_new (fs := fun a => coF_9 (alc μ22 a 10 0) a) C hK 9 10 rfl in_X12 tyX12_ok q1157 q1159 q108 (by decide) (fun a => cdE_9 alc_t) (cxd_9 _) (by omega) (by omega) dX11_of_66 (fun a25 hf26 => ?_)
              have hw := hw a25 hf26
              obtain hb : ((0 + b19) + 1) + ((b - b19) - 1) ≤ (zz_R Z).cells ∧ ((0 + 5 * b19) + 4) + 5 * ((b - b19) - 1) ≤ (zz_R Z).slots := ⟨by omega, by omega⟩
              have ht27 : tg (alc μ22 a25 10 0) a25 = 10 := alc_t
              refine hx_dup C dX11_of_69 rfl ?_
              refine fun H locs hI ls hl => cx_rv (S := [aR (some a25)]) hI hl (fun _ h => h) (cr_IN (a := a25) (As := []) (rest := [toV (aR (some a25))]) C hK hI hl 0 (sc_X12_init _ X H.size _ _ _ hw) (List.mem_of_getElem? (i := 33) rfl) q1161 q108 q1162 rfl (by decide +kernel) ⟨rfl, rfl, by (dsimp only; omega), by (dsimp only; omega)⟩ (av_W [aR (some a25)] 8 (Nat.le_of_ble_eq_true rfl)) dX11_of_70 rfl rfl ⟨by omega, by omega⟩) (fun μ29 hw => ?_)
              refine hx_astore (L' := [(4, aR (some a25)), (3, aR r21), (2, aR (some a1)), (0, aR (some l0)), (1, aR (some a1))]) C dX11_of_73 (by decide) rfl ?_
              refine hx_aload_n C dX11_of_75 3 rfl rfl ?_
              refine hx_aload_n C dX11_of_76 1 rfl rfl ?_
              obtain ⟨b30, hu31, hw⟩ := hw
              obtain ⟨ht34, hw⟩ := hw
              refine fun H locs hI ls hl => cx_rr (S := []) hI hl (fun _ h => h) (cr_V (Cn := RX11) (As := [toV (aR r21)]) (rest := []) C hK hI hl 1 (cv_dyn hK hI (ci := 8) rfl (Or.inr (cdE_8 ht34))) (sc_X11_kept _ X H.size _ b30 _ _ _ hw) (lw_V q1200 q1202 qs28 q107 q1203) (by decide +kernel) ⟨rfl, rfl, by (dsimp only; omega), by (dsimp only; omega)⟩ (av_W [] 8 (Nat.le_of_ble_eq_true rfl)) dX11_of_77 rfl rfl ⟨by omega, by omega⟩) (fun r32 μ33 hw => ?_)
              obtain hb : (((0 + b19) + 1) + b30) + (((b - b19) - 1) - b30) ≤ (zz_R Z).cells ∧ (((0 + 5 * b19) + 4) + 5 * b30) + 5 * (((b - b19) - 1) - b30) ≤ (zz_R Z).slots := ⟨by omega, by omega⟩
              refine hx_aload_n C dX11_of_80 3 rfl rfl ?_
              refine hx_aload_n C dX11_of_81 3 rfl rfl ?_
              refine hx_aload_n C dX11_of_82 2 rfl rfl ?_
              obtain ⟨ht35, hw⟩ := hw
              refine cx_getN (μ := μ33) (v := aR (oR μ33 a1 1)) C hK 7 1 rfl in_X9 (by decide) (List.mem_of_getElem? (i := 32) rfl) rfl (cdE_7 ht35) rfl dX11_of_83 ?_
              obtain ⟨b36, hu37, hw⟩ := hw
              obtain ⟨ht40, hw⟩ := hw
              refine fun H locs hI ls hl => cx_rr (S := [aR (some l0), aR r32]) hI hl (fun _ h => h) (dr_V (Cn := RX11) (As := [toV (aR (oR μ33 a1 1))]) (rest := [toV (aR (some l0)), toV (aR r32)]) C hK hI hl 1 (cv_dyn hK hI (ci := 8) rfl (Or.inr (cdE_8 ht40))) (hrc b36 _ _ _ H.size _ hw) (by omega) (by omega) (lw_V q1179 q1181 qs27 q107 q1182) (by decide +kernel) (av_W [aR (some l0), aR r32] 8 (Nat.le_of_ble_eq_true rfl)) dX11_of_86 rfl rfl ⟨by omega, by omega⟩) (fun r38 μ39 hw => ?_)
              obtain hb : ((((0 + b19) + 1) + b30) + b36) + ((((b - b19) - 1) - b30) - b36) ≤ (zz_R Z).cells ∧ ((((0 + 5 * b19) + 4) + 5 * b30) + 5 * b36) + 5 * ((((b - b19) - 1) - b30) - b36) ≤ (zz_R Z).slots := ⟨by omega, by omega⟩
              refine hx_aload C dX11_of_89 0 rfl ?_
              obtain ⟨b41, hu42, hw⟩ := hw
              refine fun H locs hI ls hl => cx_rr (S := [aR (some l0), aR r32]) hI hl (fun _ h => h) (cr_S (As := [toV (aR r38), toV (aR (some a25))]) (rest := [toV (aR (some l0)), toV (aR r32)]) C hK hI hl 2 (sc_X12_arrow _ X H.size _ b41 _ _ _ hw) (lw_S q1194 q1195 q108 q1196) (by decide +kernel) ⟨rfl, rfl, by (dsimp only; omega), by (dsimp only; omega)⟩ (av_W [aR (some l0), aR r32] 8 (Nat.le_of_ble_eq_true rfl)) dX11_of_91 rfl rfl ⟨by omega, by omega⟩) (fun r43 μ44 hw => ?_)
              obtain hb : (((((0 + b19) + 1) + b30) + b36) + b41) + (((((b - b19) - 1) - b30) - b36) - b41) ≤ (zz_R Z).cells ∧ (((((0 + 5 * b19) + 4) + 5 * b30) + 5 * b36) + 5 * b41) + 5 * (((((b - b19) - 1) - b30) - b36) - b41) ≤ (zz_R Z).slots := ⟨by omega, by omega⟩
              obtain ⟨b45, hu46, hw⟩ := hw
              obtain ⟨ht49, hw⟩ := hw
              refine fun H locs hI ls hl => cx_rr (S := [aR r32]) hI hl (fun _ h => h) (cr_V (Cn := RX11) (As := [toV (aR r43)]) (rest := [toV (aR r32)]) C hK hI hl 1 (cv_dyn hK hI (ci := 8) rfl (Or.inr (cdE_8 ht49))) (sc_X11_kept _ X H.size _ b45 _ _ _ hw) (lw_V q1200 q1202 qs28 q107 q1203) (by decide +kernel) ⟨rfl, rfl, by (dsimp only; omega), by (dsimp only; omega)⟩ (av_W [aR r32] 8 (Nat.le_of_ble_eq_true rfl)) dX11_of_94 rfl rfl ⟨by omega, by omega⟩) (fun r47 μ48 hw => ?_)
              obtain hb : ((((((0 + b19) + 1) + b30) + b36) + b41) + b45) + ((((((b - b19) - 1) - b30) - b36) - b41) - b45) ≤ (zz_R Z).cells ∧ ((((((0 + 5 * b19) + 4) + 5 * b30) + 5 * b36) + 5 * b41) + 5 * b45) + 5 * ((((((b - b19) - 1) - b30) - b36) - b41) - b45) ≤ (zz_R Z).slots := ⟨by omega, by omega⟩
              refine fun H locs hI ls hl => cx_rv (S := []) hI hl (fun _ h => h) (dr_S (As := [toV (aR r32), toV (aR r47)]) (rest := []) C hK hI hl 2 ((rr_X12_join _ X 800) _ _ _ H.size _ hw) (by omega) (by omega) (lw_S q1204 q1205 q108 q1206) (by decide +kernel) (av_W [] 8 (Nat.le_of_ble_eq_true rfl)) dX11_of_97 rfl rfl ⟨by omega, by omega⟩) (fun μ51 hw => ?_)
              refine hx_aload C dX11_of_100 0 rfl ?_
              exact cx_aret C hQ (by omega) (by omega) (Or.inl ⟨_, rfl⟩) hw dX11_of_102
          · have hw := hw.2 (by omega)
            refine cx_instN C hK (ci := 5) (nm := "BinderPress$Put") rfl (Or.inr (cdE_5 h)) q1199 (List.mem_of_getElem? (i := 1) rfl) dX11_of_46 ?_
            refine hx_if_eq (tgt := 103) C dX11_of_49 (by decide) (by decide) (fun h => ?_) (fun h => ?_)
            · skip
              refine hx_aload_n C dX11_of_103 0 rfl rfl ?_
              refine hx_aload_n C dX11_of_104 1 rfl rfl ?_
              obtain ⟨ht52, hw⟩ := hw
              refine cx_cast C hK (ci := 4) rfl (Or.inr (cdE_4 ht52)) q1212 dX11_of_105 ?_
              obtain ⟨b53, hu54, hw⟩ := hw
              obtain ⟨ht57, hw⟩ := hw
              refine fun H locs hI ls hl => cx_rr (S := []) hI hl (fun _ h => h) (cr_V (Cn := RX11) (As := [toV (aR (some a1))]) (rest := []) C hK hI hl 1 (cv_dyn hK hI (ci := 8) rfl (Or.inr (cdE_8 ht57))) (sc_X11_ofBinder _ X H.size _ hA hB hrc b53 _ _ _ hw) (lw_V q1213 q1215 qs29 q107 q1216) (by decide +kernel) ⟨rfl, rfl, by (dsimp only; omega), by (dsimp only; omega)⟩ (av_W [] 8 (Nat.le_of_ble_eq_true rfl)) dX11_of_108 rfl rfl ⟨by omega, by omega⟩) (fun r55 μ56 hw => ?_)
              obtain hb : (0 + b53) + (b - b53) ≤ (zz_R Z).cells ∧ (0 + 5 * b53) + 5 * (b - b53) ≤ (zz_R Z).slots := ⟨by omega, by omega⟩
              exact cx_aret C hQ (by omega) (by omega) (Or.inl ⟨_, rfl⟩) hw dX11_of_111
            · exact absurd h (by decide)
          · have hw := hw.2 (by omega)
            refine cx_instN C hK (ci := 6) (nm := "BinderPress$Put") rfl (Or.inr (cdE_6 h)) q1199 (List.mem_of_getElem? (i := 4) rfl) dX11_of_46 ?_
            refine hx_if_eq (tgt := 103) C dX11_of_49 (by decide) (by decide) (fun h => ?_) (fun h => ?_)
            · skip
              refine hx_aload_n C dX11_of_103 0 rfl rfl ?_
              refine hx_aload_n C dX11_of_104 1 rfl rfl ?_
              obtain ⟨ht52, hw⟩ := hw
              refine cx_cast C hK (ci := 4) rfl (Or.inr (cdE_4 ht52)) q1212 dX11_of_105 ?_
              obtain ⟨b53, hu54, hw⟩ := hw
              obtain ⟨ht57, hw⟩ := hw
              refine fun H locs hI ls hl => cx_rr (S := []) hI hl (fun _ h => h) (cr_V (Cn := RX11) (As := [toV (aR (some a1))]) (rest := []) C hK hI hl 1 (cv_dyn hK hI (ci := 8) rfl (Or.inr (cdE_8 ht57))) (sc_X11_ofBinder _ X H.size _ hA hB hrc b53 _ _ _ hw) (lw_V q1213 q1215 qs29 q107 q1216) (by decide +kernel) ⟨rfl, rfl, by (dsimp only; omega), by (dsimp only; omega)⟩ (av_W [] 8 (Nat.le_of_ble_eq_true rfl)) dX11_of_108 rfl rfl ⟨by omega, by omega⟩) (fun r55 μ56 hw => ?_)
              obtain hb : (0 + b53) + (b - b53) ≤ (zz_R Z).cells ∧ (0 + 5 * b53) + 5 * (b - b53) ≤ (zz_R Z).slots := ⟨by omega, by omega⟩
              exact cx_aret C hQ (by omega) (by omega) (Or.inl ⟨_, rfl⟩) hw dX11_of_111
            · exact absurd h (by decide)
          · have hw := hw.2 (by omega)
            refine cx_instN C hK (ci := 4) (nm := "BinderPress$Put") rfl (Or.inr (cdE_4 h)) q1199 (List.mem_of_getElem? (i := 11) rfl) dX11_of_46 ?_
            refine hx_if_eq (tgt := 103) C dX11_of_49 (by decide) (by decide) (fun h => ?_) (fun h => ?_)
            · skip
              refine hx_aload_n C dX11_of_103 0 rfl rfl ?_
              refine hx_aload_n C dX11_of_104 1 rfl rfl ?_
              obtain ⟨ht52, hw⟩ := hw
              refine cx_cast C hK (ci := 4) rfl (Or.inr (cdE_4 ht52)) q1212 dX11_of_105 ?_
              obtain ⟨b53, hu54, hw⟩ := hw
              obtain ⟨ht57, hw⟩ := hw
              refine fun H locs hI ls hl => cx_rr (S := []) hI hl (fun _ h => h) (cr_V (Cn := RX11) (As := [toV (aR (some a1))]) (rest := []) C hK hI hl 1 (cv_dyn hK hI (ci := 8) rfl (Or.inr (cdE_8 ht57))) (sc_X11_ofBinder _ X H.size _ hA hB hrc b53 _ _ _ hw) (lw_V q1213 q1215 qs29 q107 q1216) (by decide +kernel) ⟨rfl, rfl, by (dsimp only; omega), by (dsimp only; omega)⟩ (av_W [] 8 (Nat.le_of_ble_eq_true rfl)) dX11_of_108 rfl rfl ⟨by omega, by omega⟩) (fun r55 μ56 hw => ?_)
              obtain hb : (0 + b53) + (b - b53) ≤ (zz_R Z).cells ∧ (0 + 5 * b53) + 5 * (b - b53) ≤ (zz_R Z).slots := ⟨by omega, by omega⟩
              exact cx_aret C hQ (by omega) (by omega) (Or.inl ⟨_, rfl⟩) hw dX11_of_111
            · exact absurd h (by decide)
        · exact absurd h (by decide)
    · exact absurd h (by decide)
def wr_X11_of (X : cX) : Nat → Nat → Nat → Option Nat → CM → (Option Nat → CM → Prop) → Prop
  | 0 => fun _ _ _ _ _ => False
  | d + 1 => wc_X11_of X (wr_X11_of X d)
set_option maxHeartbeats 4000000 in
theorem rr_X11_of (l : Launch) (X : cX) : ∀ d, rmet_X11_of l X (802 + 2 * d) (18453 + 48 * d) (wr_X11_of X d) := by
  intro d
  induction d with
  | zero => intro b l0 l1 μ sz Q h; exact h.elim
  | succ d ih =>
    intro b l0 l1 μ sz Q h
    exact ⟨_, ⟨rfl, rfl, by first | omega | (dsimp only; omega), by first | omega | (dsimp only; omega)⟩, sc_X11_of l X sz Q (by omega) (by omega) ih b l0 l1 μ h⟩
