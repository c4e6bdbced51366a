/-! the cells of a BinderPress and of all that it makes (printed by ctab.py) -/
set_option maxRecDepth 100000
abbrev cCl : List vw_C := [(RX0, TX0, 11), (RX1, TX1, 10), (RX3, TX3, 4), (RX4, TX4, 8), (RX6, TX6, 3), (RX7, TX7, 1), (RX8, TX8, 1), (RX9, TX9, 5), (RX11, TX11, 5), (RX12, TX12, 4), (RX13, TX13, 6), (RJ9, TJ9, 4), (RJ0, TJ0, 4)]
abbrev cTy (X : cX) : List (ClassId × FieldType) := [(cX_c X 0, .int), (cX_c X 1, .byte), (cX_c X 2, .object "BinderPress$Term"), (cX_c X 3, .object "java/lang/String"), (cX_c X 4, .array (.object "BinderPress$Term")), (cX_c X 5, .object "BinderPress$Kind")]
def cbF (X : cX) (μ : CM) : List Value := [.ref (cX_a X 0), .ref (cX_a X 1), .ref (cX_a X 2), .ref (cX_a X 3), .ref (cX_a X 4), .int (i32 (kI μ 5 0)), .ref (cX_a X 6), .int (i32 (kI μ 7 0)), .int (i32 (kI μ 8 0)), .long (i64 (kI μ 9 0)), .ref (cX_a X 10)]
def cwF (X : cX) (μ : CM) : List Value := [.ref (cX_a X 20), .ref (cX_a X 21), .ref (cX_a X 22), .ref (cX_a X 23), .int (i32 (kI μ 24 0)), .int (i32 (kI μ 25 0)), .int (i32 (kI μ 26 0)), .int (i32 (kI μ 27 0)), .int (i32 (kI μ 28 0)), .int (i32 (kI μ 29 0))]
def csW (X : cX) (μ : CM) : va_W := [(cX_h X, .inr (0, cbF X μ)), (cX_a X 0, .inr (1, cwF X μ)), (cX_a X 1, .inl (cX_c X 2, 4, .inr (.inr (.inr (.inr (fun j => kR μ 1 j)))))), (cX_a X 2, .inl (cX_c X 3, 4, .inr (.inr (.inr (.inr (fun j => kR μ 2 j)))))), (cX_a X 3, .inl (cX_c X 2, 10, .inr (.inr (.inr (.inr (fun j => kR μ 3 j)))))), (cX_a X 4, .inl (cX_c X 0, 10, .inl (fun j => i32 (kI μ 4 j)))), (cX_a X 6, .inl (cX_c X 1, 240, .inl (fun j => i32 (kI μ 6 j)))), (cX_a X 10, .inl (cX_c X 4, 2, .inr (.inr (.inr (.inr (fun j => kR μ 10 j)))))), (cX_a X 20, .inl (cX_c X 0, 62000, .inl (fun j => i32 (kI μ 20 j)))), (cX_a X 21, .inl (cX_c X 0, 62000, .inl (fun j => i32 (kI μ 21 j)))), (cX_a X 22, .inl (cX_c X 0, 62000, .inl (fun j => i32 (kI μ 22 j)))), (cX_a X 23, .inl (cX_c X 0, 62000, .inl (fun j => i32 (kI μ 23 j))))]
def csL (X : cX) : List Nat := [cX_h X, cX_a X 0, cX_a X 1, cX_a X 2, cX_a X 3, cX_a X 4, cX_a X 6, cX_a X 10, cX_a X 20, cX_a X 21, cX_a X 22, cX_a X 23]
theorem csW_L (X : cX) (μ : CM) : (csW X μ).map (fun q => q.1) = csL X := rfl
def coF_2 (μ : CM) (a : Nat) : List Value := [va_rf (oR μ a 0), .int (i32 (oI μ a 1)), .int (i32 (oI μ a 2)), .int (i32 (oI μ a 3))]
def coF_3 (μ : CM) (a : Nat) : List Value := [va_rf (oR μ a 0), va_rf (oR μ a 1), va_rf (oR μ a 2), va_rf (oR μ a 3), va_rf (oR μ a 4), .int (i32 (oI μ a 5)), .int (i32 (oI μ a 6)), .int (i32 (oI μ a 7))]
def coF_4 (μ : CM) (a : Nat) : List Value := [.int (i32 (oI μ a 0)), va_rf (oR μ a 1), va_rf (oR μ a 2)]
def coF_5 (μ : CM) (a : Nat) : List Value := [.int (i32 (oI μ a 0))]
def coF_6 (μ : CM) (a : Nat) : List Value := [va_rf (oR μ a 0)]
def coF_7 (μ : CM) (a : Nat) : List Value := [va_rf (oR μ a 0), va_rf (oR μ a 1), .int (i32 (oI μ a 2)), .int (i32 (oI μ a 3)), va_rf (oR μ a 4)]
def coF_8 (μ : CM) (a : Nat) : List Value := [va_rf (oR μ a 0), va_rf (oR μ a 1), .int (i32 (oI μ a 2)), va_rf (oR μ a 3), va_rf (oR μ a 4)]
def coF_9 (μ : CM) (a : Nat) : List Value := [va_rf (oR μ a 0), va_rf (oR μ a 1), va_rf (oR μ a 2), .int (i32 (oI μ a 3))]
def coF_10 (μ : CM) (a : Nat) : List Value := [va_rf (oR μ a 0), va_rf (oR μ a 1), va_rf (oR μ a 2), va_rf (oR μ a 3), va_rf (oR μ a 4), .int (i32 (oI μ a 5))]
def coF_11 (μ : CM) (a : Nat) : List Value := [va_rf (oR μ a 0), .int (i32 (oI μ a 1)), .int (i32 (oI μ a 2)), .int (i32 (oI μ a 3))]
def coF_12 (μ : CM) (a : Nat) : List Value := [va_rf (oR μ a 0), .int (i32 (oI μ a 1)), .int (i32 (oI μ a 2)), .int (i32 (oI μ a 3))]
/-- what is at a made cell, by its tag -/
def cdE (X : cX) (μ : CM) (a : Nat) : Option va_E := match tg μ a with
  | 3 => some (.inr (2, coF_2 μ a))
  | 4 => some (.inr (3, coF_3 μ a))
  | 5 => some (.inr (4, coF_4 μ a))
  | 6 => some (.inr (5, coF_5 μ a))
  | 7 => some (.inr (6, coF_6 μ a))
  | 8 => some (.inr (7, coF_7 μ a))
  | 9 => some (.inr (8, coF_8 μ a))
  | 10 => some (.inr (9, coF_9 μ a))
  | 11 => some (.inr (10, coF_10 μ a))
  | 12 => some (.inr (11, coF_11 μ a))
  | 13 => some (.inr (12, coF_12 μ a))
  | 20 => some (.inl (cX_c X 0, ln μ a, .inl (fun j => i32 (oI μ a j))))
  | 21 => some (.inl (cX_c X 1, ln μ a, .inl (fun j => i32 (oI μ a j))))
  | 22 => some (.inl (cX_c X 2, ln μ a, .inr (.inr (.inr (.inr (fun j => oR μ a j))))))
  | 23 => some (.inl (cX_c X 3, ln μ a, .inr (.inr (.inr (.inr (fun j => oR μ a j))))))
  | 24 => some (.inl (cX_c X 4, ln μ a, .inr (.inr (.inr (.inr (fun j => oR μ a j))))))
  | 25 => some (.inl (cX_c X 5, ln μ a, .inr (.inr (.inr (.inr (fun j => oR μ a j))))))
  | _ => none
theorem cdE_2 {X : cX} {μ : CM} {a : Nat} (h : tg μ a = 3) : cdE X μ a = some (.inr (2, coF_2 μ a)) := by simp [cdE, h]
theorem cdE_3 {X : cX} {μ : CM} {a : Nat} (h : tg μ a = 4) : cdE X μ a = some (.inr (3, coF_3 μ a)) := by simp [cdE, h]
theorem cdE_4 {X : cX} {μ : CM} {a : Nat} (h : tg μ a = 5) : cdE X μ a = some (.inr (4, coF_4 μ a)) := by simp [cdE, h]
theorem cdE_5 {X : cX} {μ : CM} {a : Nat} (h : tg μ a = 6) : cdE X μ a = some (.inr (5, coF_5 μ a)) := by simp [cdE, h]
theorem cdE_6 {X : cX} {μ : CM} {a : Nat} (h : tg μ a = 7) : cdE X μ a = some (.inr (6, coF_6 μ a)) := by simp [cdE, h]
theorem cdE_7 {X : cX} {μ : CM} {a : Nat} (h : tg μ a = 8) : cdE X μ a = some (.inr (7, coF_7 μ a)) := by simp [cdE, h]
theorem cdE_8 {X : cX} {μ : CM} {a : Nat} (h : tg μ a = 9) : cdE X μ a = some (.inr (8, coF_8 μ a)) := by simp [cdE, h]
theorem cdE_9 {X : cX} {μ : CM} {a : Nat} (h : tg μ a = 10) : cdE X μ a = some (.inr (9, coF_9 μ a)) := by simp [cdE, h]
theorem cdE_10 {X : cX} {μ : CM} {a : Nat} (h : tg μ a = 11) : cdE X μ a = some (.inr (10, coF_10 μ a)) := by simp [cdE, h]
theorem cdE_11 {X : cX} {μ : CM} {a : Nat} (h : tg μ a = 12) : cdE X μ a = some (.inr (11, coF_11 μ a)) := by simp [cdE, h]
theorem cdE_12 {X : cX} {μ : CM} {a : Nat} (h : tg μ a = 13) : cdE X μ a = some (.inr (12, coF_12 μ a)) := by simp [cdE, h]
theorem cdA_0 {X : cX} {μ : CM} {a : Nat} (h : tg μ a = 20) : cdE X μ a = some (.inl (cX_c X 0, ln μ a, .inl (fun j => i32 (oI μ a j)))) := by simp [cdE, h]
theorem cdA_1 {X : cX} {μ : CM} {a : Nat} (h : tg μ a = 21) : cdE X μ a = some (.inl (cX_c X 1, ln μ a, .inl (fun j => i32 (oI μ a j)))) := by simp [cdE, h]
theorem cdA_2 {X : cX} {μ : CM} {a : Nat} (h : tg μ a = 22) : cdE X μ a = some (.inl (cX_c X 2, ln μ a, .inr (.inr (.inr (.inr (fun j => oR μ a j)))))) := by simp [cdE, h]
theorem cdA_3 {X : cX} {μ : CM} {a : Nat} (h : tg μ a = 23) : cdE X μ a = some (.inl (cX_c X 3, ln μ a, .inr (.inr (.inr (.inr (fun j => oR μ a j)))))) := by simp [cdE, h]
theorem cdA_4 {X : cX} {μ : CM} {a : Nat} (h : tg μ a = 24) : cdE X μ a = some (.inl (cX_c X 4, ln μ a, .inr (.inr (.inr (.inr (fun j => oR μ a j)))))) := by simp [cdE, h]
theorem cdA_5 {X : cX} {μ : CM} {a : Nat} (h : tg μ a = 25) : cdE X μ a = some (.inl (cX_c X 5, ln μ a, .inr (.inr (.inr (.inr (fun j => oR μ a j)))))) := by simp [cdE, h]
theorem cset_2_0 (μ : CM) (a : Nat) (r : Option Nat) : (coF_2 μ a).set 0 (va_rf r) = coF_2 (poR μ a 0 r) a := by simp [coF_2, poR, oR, oI, stq]
theorem cset_2_1 (μ : CM) (a : Nat) (v : Int) : (coF_2 μ a).set 1 (.int (i32 v)) = coF_2 (poI μ a 1 v) a := by simp [coF_2, poI, oR, oI, st]
theorem cset_2_2 (μ : CM) (a : Nat) (v : Int) : (coF_2 μ a).set 2 (.int (i32 v)) = coF_2 (poI μ a 2 v) a := by simp [coF_2, poI, oR, oI, st]
theorem cset_2_3 (μ : CM) (a : Nat) (v : Int) : (coF_2 μ a).set 3 (.int (i32 v)) = coF_2 (poI μ a 3 v) a := by simp [coF_2, poI, oR, oI, st]
theorem cset_3_0 (μ : CM) (a : Nat) (r : Option Nat) : (coF_3 μ a).set 0 (va_rf r) = coF_3 (poR μ a 0 r) a := by simp [coF_3, poR, oR, oI, stq]
theorem cset_3_1 (μ : CM) (a : Nat) (r : Option Nat) : (coF_3 μ a).set 1 (va_rf r) = coF_3 (poR μ a 1 r) a := by simp [coF_3, poR, oR, oI, stq]
theorem cset_3_2 (μ : CM) (a : Nat) (r : Option Nat) : (coF_3 μ a).set 2 (va_rf r) = coF_3 (poR μ a 2 r) a := by simp [coF_3, poR, oR, oI, stq]
theorem cset_3_3 (μ : CM) (a : Nat) (r : Option Nat) : (coF_3 μ a).set 3 (va_rf r) = coF_3 (poR μ a 3 r) a := by simp [coF_3, poR, oR, oI, stq]
theorem cset_3_4 (μ : CM) (a : Nat) (r : Option Nat) : (coF_3 μ a).set 4 (va_rf r) = coF_3 (poR μ a 4 r) a := by simp [coF_3, poR, oR, oI, stq]
theorem cset_3_5 (μ : CM) (a : Nat) (v : Int) : (coF_3 μ a).set 5 (.int (i32 v)) = coF_3 (poI μ a 5 v) a := by simp [coF_3, poI, oR, oI, st]
theorem cset_3_6 (μ : CM) (a : Nat) (v : Int) : (coF_3 μ a).set 6 (.int (i32 v)) = coF_3 (poI μ a 6 v) a := by simp [coF_3, poI, oR, oI, st]
theorem cset_3_7 (μ : CM) (a : Nat) (v : Int) : (coF_3 μ a).set 7 (.int (i32 v)) = coF_3 (poI μ a 7 v) a := by simp [coF_3, poI, oR, oI, st]
theorem cset_4_0 (μ : CM) (a : Nat) (v : Int) : (coF_4 μ a).set 0 (.int (i32 v)) = coF_4 (poI μ a 0 v) a := by simp [coF_4, poI, oR, oI, st]
theorem cset_4_1 (μ : CM) (a : Nat) (r : Option Nat) : (coF_4 μ a).set 1 (va_rf r) = coF_4 (poR μ a 1 r) a := by simp [coF_4, poR, oR, oI, stq]
theorem cset_4_2 (μ : CM) (a : Nat) (r : Option Nat) : (coF_4 μ a).set 2 (va_rf r) = coF_4 (poR μ a 2 r) a := by simp [coF_4, poR, oR, oI, stq]
theorem cset_5_0 (μ : CM) (a : Nat) (v : Int) : (coF_5 μ a).set 0 (.int (i32 v)) = coF_5 (poI μ a 0 v) a := by simp [coF_5, poI, oR, oI, st]
theorem cset_6_0 (μ : CM) (a : Nat) (r : Option Nat) : (coF_6 μ a).set 0 (va_rf r) = coF_6 (poR μ a 0 r) a := by simp [coF_6, poR, oR, oI, stq]
theorem cset_7_0 (μ : CM) (a : Nat) (r : Option Nat) : (coF_7 μ a).set 0 (va_rf r) = coF_7 (poR μ a 0 r) a := by simp [coF_7, poR, oR, oI, stq]
theorem cset_7_1 (μ : CM) (a : Nat) (r : Option Nat) : (coF_7 μ a).set 1 (va_rf r) = coF_7 (poR μ a 1 r) a := by simp [coF_7, poR, oR, oI, stq]
theorem cset_7_2 (μ : CM) (a : Nat) (v : Int) : (coF_7 μ a).set 2 (.int (i32 v)) = coF_7 (poI μ a 2 v) a := by simp [coF_7, poI, oR, oI, st]
theorem cset_7_3 (μ : CM) (a : Nat) (v : Int) : (coF_7 μ a).set 3 (.int (i32 v)) = coF_7 (poI μ a 3 v) a := by simp [coF_7, poI, oR, oI, st]
theorem cset_7_4 (μ : CM) (a : Nat) (r : Option Nat) : (coF_7 μ a).set 4 (va_rf r) = coF_7 (poR μ a 4 r) a := by simp [coF_7, poR, oR, oI, stq]
theorem cset_8_0 (μ : CM) (a : Nat) (r : Option Nat) : (coF_8 μ a).set 0 (va_rf r) = coF_8 (poR μ a 0 r) a := by simp [coF_8, poR, oR, oI, stq]
theorem cset_8_1 (μ : CM) (a : Nat) (r : Option Nat) : (coF_8 μ a).set 1 (va_rf r) = coF_8 (poR μ a 1 r) a := by simp [coF_8, poR, oR, oI, stq]
theorem cset_8_2 (μ : CM) (a : Nat) (v : Int) : (coF_8 μ a).set 2 (.int (i32 v)) = coF_8 (poI μ a 2 v) a := by simp [coF_8, poI, oR, oI, st]
theorem cset_8_3 (μ : CM) (a : Nat) (r : Option Nat) : (coF_8 μ a).set 3 (va_rf r) = coF_8 (poR μ a 3 r) a := by simp [coF_8, poR, oR, oI, stq]
theorem cset_8_4 (μ : CM) (a : Nat) (r : Option Nat) : (coF_8 μ a).set 4 (va_rf r) = coF_8 (poR μ a 4 r) a := by simp [coF_8, poR, oR, oI, stq]
theorem cset_9_0 (μ : CM) (a : Nat) (r : Option Nat) : (coF_9 μ a).set 0 (va_rf r) = coF_9 (poR μ a 0 r) a := by simp [coF_9, poR, oR, oI, stq]
theorem cset_9_1 (μ : CM) (a : Nat) (r : Option Nat) : (coF_9 μ a).set 1 (va_rf r) = coF_9 (poR μ a 1 r) a := by simp [coF_9, poR, oR, oI, stq]
theorem cset_9_2 (μ : CM) (a : Nat) (r : Option Nat) : (coF_9 μ a).set 2 (va_rf r) = coF_9 (poR μ a 2 r) a := by simp [coF_9, poR, oR, oI, stq]
theorem cset_9_3 (μ : CM) (a : Nat) (v : Int) : (coF_9 μ a).set 3 (.int (i32 v)) = coF_9 (poI μ a 3 v) a := by simp [coF_9, poI, oR, oI, st]
theorem cset_10_0 (μ : CM) (a : Nat) (r : Option Nat) : (coF_10 μ a).set 0 (va_rf r) = coF_10 (poR μ a 0 r) a := by simp [coF_10, poR, oR, oI, stq]
theorem cset_10_1 (μ : CM) (a : Nat) (r : Option Nat) : (coF_10 μ a).set 1 (va_rf r) = coF_10 (poR μ a 1 r) a := by simp [coF_10, poR, oR, oI, stq]
theorem cset_10_2 (μ : CM) (a : Nat) (r : Option Nat) : (coF_10 μ a).set 2 (va_rf r) = coF_10 (poR μ a 2 r) a := by simp [coF_10, poR, oR, oI, stq]
theorem cset_10_3 (μ : CM) (a : Nat) (r : Option Nat) : (coF_10 μ a).set 3 (va_rf r) = coF_10 (poR μ a 3 r) a := by simp [coF_10, poR, oR, oI, stq]
theorem cset_10_4 (μ : CM) (a : Nat) (r : Option Nat) : (coF_10 μ a).set 4 (va_rf r) = coF_10 (poR μ a 4 r) a := by simp [coF_10, poR, oR, oI, stq]
theorem cset_10_5 (μ : CM) (a : Nat) (v : Int) : (coF_10 μ a).set 5 (.int (i32 v)) = coF_10 (poI μ a 5 v) a := by simp [coF_10, poI, oR, oI, st]
theorem cset_11_0 (μ : CM) (a : Nat) (r : Option Nat) : (coF_11 μ a).set 0 (va_rf r) = coF_11 (poR μ a 0 r) a := by simp [coF_11, poR, oR, oI, stq]
theorem cset_11_1 (μ : CM) (a : Nat) (v : Int) : (coF_11 μ a).set 1 (.int (i32 v)) = coF_11 (poI μ a 1 v) a := by simp [coF_11, poI, oR, oI, st]
theorem cset_11_2 (μ : CM) (a : Nat) (v : Int) : (coF_11 μ a).set 2 (.int (i32 v)) = coF_11 (poI μ a 2 v) a := by simp [coF_11, poI, oR, oI, st]
theorem cset_11_3 (μ : CM) (a : Nat) (v : Int) : (coF_11 μ a).set 3 (.int (i32 v)) = coF_11 (poI μ a 3 v) a := by simp [coF_11, poI, oR, oI, st]
theorem cset_12_0 (μ : CM) (a : Nat) (r : Option Nat) : (coF_12 μ a).set 0 (va_rf r) = coF_12 (poR μ a 0 r) a := by simp [coF_12, poR, oR, oI, stq]
theorem cset_12_1 (μ : CM) (a : Nat) (v : Int) : (coF_12 μ a).set 1 (.int (i32 v)) = coF_12 (poI μ a 1 v) a := by simp [coF_12, poI, oR, oI, st]
theorem cset_12_2 (μ : CM) (a : Nat) (v : Int) : (coF_12 μ a).set 2 (.int (i32 v)) = coF_12 (poI μ a 2 v) a := by simp [coF_12, poI, oR, oI, st]
theorem cset_12_3 (μ : CM) (a : Nat) (v : Int) : (coF_12 μ a).set 3 (.int (i32 v)) = coF_12 (poI μ a 3 v) a := by simp [coF_12, poI, oR, oI, st]
theorem csb_5 (X : cX) (μ : CM) (v : Int) : (csW X μ).set 0 (cX_h X, .inr (0, (cbF X μ).set 5 (.int (i32 v)))) = csW X (pkI μ 5 0 v) := rfl
theorem csb_7 (X : cX) (μ : CM) (v : Int) : (csW X μ).set 0 (cX_h X, .inr (0, (cbF X μ).set 7 (.int (i32 v)))) = csW X (pkI μ 7 0 v) := rfl
theorem csb_8 (X : cX) (μ : CM) (v : Int) : (csW X μ).set 0 (cX_h X, .inr (0, (cbF X μ).set 8 (.int (i32 v)))) = csW X (pkI μ 8 0 v) := rfl
theorem csb_9 (X : cX) (μ : CM) (v : Int) : (csW X μ).set 0 (cX_h X, .inr (0, (cbF X μ).set 9 (.long (i64 v)))) = csW X (pkI μ 9 0 v) := rfl
theorem csb_24 (X : cX) (μ : CM) (v : Int) : (csW X μ).set 1 (cX_a X 0, .inr (1, (cwF X μ).set 4 (.int (i32 v)))) = csW X (pkI μ 24 0 v) := rfl
theorem csb_25 (X : cX) (μ : CM) (v : Int) : (csW X μ).set 1 (cX_a X 0, .inr (1, (cwF X μ).set 5 (.int (i32 v)))) = csW X (pkI μ 25 0 v) := rfl
theorem csb_26 (X : cX) (μ : CM) (v : Int) : (csW X μ).set 1 (cX_a X 0, .inr (1, (cwF X μ).set 6 (.int (i32 v)))) = csW X (pkI μ 26 0 v) := rfl
theorem csb_27 (X : cX) (μ : CM) (v : Int) : (csW X μ).set 1 (cX_a X 0, .inr (1, (cwF X μ).set 7 (.int (i32 v)))) = csW X (pkI μ 27 0 v) := rfl
theorem csb_28 (X : cX) (μ : CM) (v : Int) : (csW X μ).set 1 (cX_a X 0, .inr (1, (cwF X μ).set 8 (.int (i32 v)))) = csW X (pkI μ 28 0 v) := rfl
theorem csb_29 (X : cX) (μ : CM) (v : Int) : (csW X μ).set 1 (cX_a X 0, .inr (1, (cwF X μ).set 9 (.int (i32 v)))) = csW X (pkI μ 29 0 v) := rfl
theorem csb_1 (X : cX) (μ : CM) (i : Nat) (r : Option Nat) : (csW X μ).set 2 (cX_a X 1, .inl (cX_c X 2, 4, .inr (.inr (.inr (.inr (va_up (fun j => kR μ 1 j) i r)))))) = csW X (pkR μ 1 i r) := by rw [up_kR]; rfl
theorem csb_2 (X : cX) (μ : CM) (i : Nat) (r : Option Nat) : (csW X μ).set 3 (cX_a X 2, .inl (cX_c X 3, 4, .inr (.inr (.inr (.inr (va_up (fun j => kR μ 2 j) i r)))))) = csW X (pkR μ 2 i r) := by rw [up_kR]; rfl
theorem csb_3 (X : cX) (μ : CM) (i : Nat) (r : Option Nat) : (csW X μ).set 4 (cX_a X 3, .inl (cX_c X 2, 10, .inr (.inr (.inr (.inr (va_up (fun j => kR μ 3 j) i r)))))) = csW X (pkR μ 3 i r) := by rw [up_kR]; rfl
theorem csb_4 (X : cX) (μ : CM) (i : Nat) (v : Int) : (csW X μ).set 5 (cX_a X 4, .inl (cX_c X 0, 10, .inl (upd (fun j => i32 (kI μ 4 j)) i (i32 v)))) = csW X (pkI μ 4 i v) := by rw [up_kI]; rfl
theorem csb_6 (X : cX) (μ : CM) (i : Nat) (v : Int) : (csW X μ).set 6 (cX_a X 6, .inl (cX_c X 1, 240, .inl (upd (fun j => i32 (kI μ 6 j)) i (i32 v)))) = csW X (pkI μ 6 i v) := by rw [up_kI]; rfl
theorem csb_10 (X : cX) (μ : CM) (i : Nat) (r : Option Nat) : (csW X μ).set 7 (cX_a X 10, .inl (cX_c X 4, 2, .inr (.inr (.inr (.inr (va_up (fun j => kR μ 10 j) i r)))))) = csW X (pkR μ 10 i r) := by rw [up_kR]; rfl
theorem csb_20 (X : cX) (μ : CM) (i : Nat) (v : Int) : (csW X μ).set 8 (cX_a X 20, .inl (cX_c X 0, 62000, .inl (upd (fun j => i32 (kI μ 20 j)) i (i32 v)))) = csW X (pkI μ 20 i v) := by rw [up_kI]; rfl
theorem csb_21 (X : cX) (μ : CM) (i : Nat) (v : Int) : (csW X μ).set 9 (cX_a X 21, .inl (cX_c X 0, 62000, .inl (upd (fun j => i32 (kI μ 21 j)) i (i32 v)))) = csW X (pkI μ 21 i v) := by rw [up_kI]; rfl
theorem csb_22 (X : cX) (μ : CM) (i : Nat) (v : Int) : (csW X μ).set 10 (cX_a X 22, .inl (cX_c X 0, 62000, .inl (upd (fun j => i32 (kI μ 22 j)) i (i32 v)))) = csW X (pkI μ 22 i v) := by rw [up_kI]; rfl
theorem csb_23 (X : cX) (μ : CM) (i : Nat) (v : Int) : (csW X μ).set 11 (cX_a X 23, .inl (cX_c X 0, 62000, .inl (upd (fun j => i32 (kI μ 23 j)) i (i32 v)))) = csW X (pkI μ 23 i v) := by rw [up_kI]; rfl
