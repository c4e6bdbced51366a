/-! new cells (printed by gen_comp) -/
theorem cx_putTh_0 {Z : zz} {X : cX} {μ0 μ : CM} {cc : ByteArray} {nL : Nat} {own : String} {ret : Option FieldType} {F N kk nn pc : Nat} {L : List (Nat × AV)} {S : List AV} {a : Nat} (C : gC Z cc nL own ret F N) (hK : cCt Z X μ0) {r : Option Nat} (ht : tg μ a = 4 ∨ tg μ a = 11) {index : Nat} (hq : Cond.fieldLink own index "java/lang/Throwable" "cause" "Ljava/lang/Throwable;" ∈ lw_all) (d : decode cc pc = .ok (.putfield index, 3)) (K : hG Z nL (cI Z X μ0 (poR μ a 0 r)) kk nn (pc + 3) L S) : hG Z nL (cI Z X μ0 μ) kk nn pc L (aR r :: aR (some a) :: S) := by
  rcases ht with h | h
  · exact cx_put (μ := μ) (μ' := poR μ a 0 r) C hK 3 0 rfl in_X4 tyX4_ok nmX4 (by decide) hq rfl rfl (cdE_3 h) (Nat.le_of_ble_eq_true rfl) (cz_r (ty := tyX4 0) rfl r) (cset_3_0 μ a r) (cdE_3 h) rfl rfl rfl (fun _ _ => rfl) (fun _ hb => stq_o hb) d K
  · exact cx_put (μ := μ) (μ' := poR μ a 0 r) C hK 10 0 rfl in_X13 tyX13_ok nmX13 (by decide) hq rfl rfl (cdE_10 h) (Nat.le_of_ble_eq_true rfl) (cz_r (ty := tyX13 0) rfl r) (cset_10_0 μ a r) (cdE_10 h) rfl rfl rfl (fun _ _ => rfl) (fun _ hb => stq_o hb) d K
theorem cx_putTh_1 {Z : zz} {X : cX} {μ0 μ : CM} {cc : ByteArray} {nL : Nat} {own : String} {ret : Option FieldType} {F N kk nn pc : Nat} {L : List (Nat × AV)} {S : List AV} {a : Nat} (C : gC Z cc nL own ret F N) (hK : cCt Z X μ0) {r : Option Nat} (ht : tg μ a = 4 ∨ tg μ a = 11) {index : Nat} (hq : Cond.fieldLink own index "java/lang/Throwable" "stackTrace" "[Ljava/lang/StackTraceElement;" ∈ lw_all) (d : decode cc pc = .ok (.putfield index, 3)) (K : hG Z nL (cI Z X μ0 (poR μ a 1 r)) kk nn (pc + 3) L S) : hG Z nL (cI Z X μ0 μ) kk nn pc L (aR r :: aR (some a) :: S) := by
  rcases ht with h | h
  · exact cx_put (μ := μ) (μ' := poR μ a 1 r) C hK 3 1 rfl in_X4 tyX4_ok nmX4 (by decide) hq rfl rfl (cdE_3 h) (Nat.le_of_ble_eq_true rfl) (cz_r (ty := tyX4 1) rfl r) (cset_3_1 μ a r) (cdE_3 h) rfl rfl rfl (fun _ _ => rfl) (fun _ hb => stq_o hb) d K
  · exact cx_put (μ := μ) (μ' := poR μ a 1 r) C hK 10 1 rfl in_X13 tyX13_ok nmX13 (by decide) hq rfl rfl (cdE_10 h) (Nat.le_of_ble_eq_true rfl) (cz_r (ty := tyX13 1) rfl r) (cset_10_1 μ a r) (cdE_10 h) rfl rfl rfl (fun _ _ => rfl) (fun _ hb => stq_o hb) d K
theorem cx_putTh_2 {Z : zz} {X : cX} {μ0 μ : CM} {cc : ByteArray} {nL : Nat} {own : String} {ret : Option FieldType} {F N kk nn pc : Nat} {L : List (Nat × AV)} {S : List AV} {a : Nat} (C : gC Z cc nL own ret F N) (hK : cCt Z X μ0) {r : Option Nat} (ht : tg μ a = 4 ∨ tg μ a = 11) {index : Nat} (hq : Cond.fieldLink own index "java/lang/Throwable" "suppressedExceptions" "Ljava/util/List;" ∈ lw_all) (d : decode cc pc = .ok (.putfield index, 3)) (K : hG Z nL (cI Z X μ0 (poR μ a 2 r)) kk nn (pc + 3) L S) : hG Z nL (cI Z X μ0 μ) kk nn pc L (aR r :: aR (some a) :: S) := by
  rcases ht with h | h
  · exact cx_put (μ := μ) (μ' := poR μ a 2 r) C hK 3 2 rfl in_X4 tyX4_ok nmX4 (by decide) hq rfl rfl (cdE_3 h) (Nat.le_of_ble_eq_true rfl) (cz_r (ty := tyX4 2) rfl r) (cset_3_2 μ a r) (cdE_3 h) rfl rfl rfl (fun _ _ => rfl) (fun _ hb => stq_o hb) d K
  · exact cx_put (μ := μ) (μ' := poR μ a 2 r) C hK 10 2 rfl in_X13 tyX13_ok nmX13 (by decide) hq rfl rfl (cdE_10 h) (Nat.le_of_ble_eq_true rfl) (cz_r (ty := tyX13 2) rfl r) (cset_10_2 μ a r) (cdE_10 h) rfl rfl rfl (fun _ _ => rfl) (fun _ hb => stq_o hb) d K
theorem cx_putTh_3 {Z : zz} {X : cX} {μ0 μ : CM} {cc : ByteArray} {nL : Nat} {own : String} {ret : Option FieldType} {F N kk nn pc : Nat} {L : List (Nat × AV)} {S : List AV} {a : Nat} (C : gC Z cc nL own ret F N) (hK : cCt Z X μ0) {r : Option Nat} (ht : tg μ a = 4 ∨ tg μ a = 11) {index : Nat} (hq : Cond.fieldLink own index "java/lang/Throwable" "detailMessage" "Ljava/lang/String;" ∈ lw_all) (d : decode cc pc = .ok (.putfield index, 3)) (K : hG Z nL (cI Z X μ0 (poR μ a 3 r)) kk nn (pc + 3) L S) : hG Z nL (cI Z X μ0 μ) kk nn pc L (aR r :: aR (some a) :: S) := by
  rcases ht with h | h
  · exact cx_put (μ := μ) (μ' := poR μ a 3 r) C hK 3 3 rfl in_X4 tyX4_ok nmX4 (by decide) hq rfl rfl (cdE_3 h) (Nat.le_of_ble_eq_true rfl) (cz_r (ty := tyX4 3) rfl r) (cset_3_3 μ a r) (cdE_3 h) rfl rfl rfl (fun _ _ => rfl) (fun _ hb => stq_o hb) d K
  · exact cx_put (μ := μ) (μ' := poR μ a 3 r) C hK 10 3 rfl in_X13 tyX13_ok nmX13 (by decide) hq rfl rfl (cdE_10 h) (Nat.le_of_ble_eq_true rfl) (cz_r (ty := tyX13 3) rfl r) (cset_10_3 μ a r) (cdE_10 h) rfl rfl rfl (fun _ _ => rfl) (fun _ hb => stq_o hb) d K
theorem cxd_2 (μ : CM) : ∀ a j, j < 4 → defaultValue (tyX3 j) = vp_V (coF_2 (alc μ a 3 0) a) j := by
  intro a j hj
  unfold coF_2
  try rw [alc_I]
  try rw [alc_R]
  rcases (show j = 0 ∨ j = 1 ∨ j = 2 ∨ j = 3 by omega) with rfl | rfl | rfl | rfl <;> rfl
theorem cxd_3 (μ : CM) : ∀ a j, j < 8 → defaultValue (tyX4 j) = vp_V (coF_3 (alc μ a 4 0) a) j := by
  intro a j hj
  unfold coF_3
  try rw [alc_I]
  try rw [alc_R]
  rcases (show j = 0 ∨ j = 1 ∨ j = 2 ∨ j = 3 ∨ j = 4 ∨ j = 5 ∨ j = 6 ∨ j = 7 by omega) with rfl | rfl | rfl | rfl | rfl | rfl | rfl | rfl <;> rfl
theorem cxd_4 (μ : CM) : ∀ a j, j < 3 → defaultValue (tyX6 j) = vp_V (coF_4 (alc μ a 5 0) a) j := by
  intro a j hj
  unfold coF_4
  try rw [alc_I]
  try rw [alc_R]
  rcases (show j = 0 ∨ j = 1 ∨ j = 2 by omega) with rfl | rfl | rfl <;> rfl
theorem cxd_5 (μ : CM) : ∀ a j, j < 1 → defaultValue (tyX7 j) = vp_V (coF_5 (alc μ a 6 0) a) j := by
  intro a j hj
  unfold coF_5
  try rw [alc_I]
  try rw [alc_R]
  rcases (show j = 0 by omega) with rfl <;> rfl
theorem cxd_6 (μ : CM) : ∀ a j, j < 1 → defaultValue (tyX8 j) = vp_V (coF_6 (alc μ a 7 0) a) j := by
  intro a j hj
  unfold coF_6
  try rw [alc_I]
  try rw [alc_R]
  rcases (show j = 0 by omega) with rfl <;> rfl
theorem cxd_7 (μ : CM) : ∀ a j, j < 5 → defaultValue (tyX9 j) = vp_V (coF_7 (alc μ a 8 0) a) j := by
  intro a j hj
  unfold coF_7
  try rw [alc_I]
  try rw [alc_R]
  rcases (show j = 0 ∨ j = 1 ∨ j = 2 ∨ j = 3 ∨ j = 4 by omega) with rfl | rfl | rfl | rfl | rfl <;> rfl
theorem cxd_8 (μ : CM) : ∀ a j, j < 5 → defaultValue (tyX11 j) = vp_V (coF_8 (alc μ a 9 0) a) j := by
  intro a j hj
  unfold coF_8
  try rw [alc_I]
  try rw [alc_R]
  rcases (show j = 0 ∨ j = 1 ∨ j = 2 ∨ j = 3 ∨ j = 4 by omega) with rfl | rfl | rfl | rfl | rfl <;> rfl
theorem cxd_9 (μ : CM) : ∀ a j, j < 4 → defaultValue (tyX12 j) = vp_V (coF_9 (alc μ a 10 0) a) j := by
  intro a j hj
  unfold coF_9
  try rw [alc_I]
  try rw [alc_R]
  rcases (show j = 0 ∨ j = 1 ∨ j = 2 ∨ j = 3 by omega) with rfl | rfl | rfl | rfl <;> rfl
theorem cxd_10 (μ : CM) : ∀ a j, j < 6 → defaultValue (tyX13 j) = vp_V (coF_10 (alc μ a 11 0) a) j := by
  intro a j hj
  unfold coF_10
  try rw [alc_I]
  try rw [alc_R]
  rcases (show j = 0 ∨ j = 1 ∨ j = 2 ∨ j = 3 ∨ j = 4 ∨ j = 5 by omega) with rfl | rfl | rfl | rfl | rfl | rfl <;> rfl
theorem cxd_11 (μ : CM) : ∀ a j, j < 4 → defaultValue (tyJ9 j) = vp_V (coF_11 (alc μ a 12 0) a) j := by
  intro a j hj
  unfold coF_11
  try rw [alc_I]
  try rw [alc_R]
  rcases (show j = 0 ∨ j = 1 ∨ j = 2 ∨ j = 3 by omega) with rfl | rfl | rfl | rfl <;> rfl
theorem cxd_12 (μ : CM) : ∀ a j, j < 4 → defaultValue (tyJ0 j) = vp_V (coF_12 (alc μ a 13 0) a) j := by
  intro a j hj
  unfold coF_12
  try rw [alc_I]
  try rw [alc_R]
  rcases (show j = 0 ∨ j = 1 ∨ j = 2 ∨ j = 3 by omega) with rfl | rfl | rfl | rfl <;> rfl
