/-! stores into the cells of a BinderPressModel (printed by gen_model.py) -/
set_option maxRecDepth 100000
theorem mset_1 (X : mX) (σ : MS) (v : Int) : (mW X σ).set 0 (mX_h X, .inr (0, (mF X σ).set 1 (.int (i32 v)))) = mW X (st σ 1 0 v) := rfl
theorem mset_4 (X : mX) (σ : MS) (v : Int) : (mW X σ).set 0 (mX_h X, .inr (0, (mF X σ).set 4 (.int (i32 v)))) = mW X (st σ 4 0 v) := rfl
theorem mset_5 (X : mX) (σ : MS) (v : Int) : (mW X σ).set 0 (mX_h X, .inr (0, (mF X σ).set 5 (.int (i32 v)))) = mW X (st σ 5 0 v) := rfl
theorem mset_7 (X : mX) (σ : MS) (v : Int) : (mW X σ).set 0 (mX_h X, .inr (0, (mF X σ).set 7 (.int (i32 v)))) = mW X (st σ 7 0 v) := rfl
theorem mset_9 (X : mX) (σ : MS) (v : Int) : (mW X σ).set 0 (mX_h X, .inr (0, (mF X σ).set 9 (.int (i32 v)))) = mW X (st σ 9 0 v) := rfl
theorem mset_11 (X : mX) (σ : MS) (v : Int) : (mW X σ).set 0 (mX_h X, .inr (0, (mF X σ).set 11 (.int (i32 v)))) = mW X (st σ 11 0 v) := rfl
theorem mset_14 (X : mX) (σ : MS) (v : Int) : (mW X σ).set 0 (mX_h X, .inr (0, (mF X σ).set 14 (.int (i32 v)))) = mW X (st σ 14 0 v) := rfl
theorem mset_15 (X : mX) (σ : MS) (v : Int) : (mW X σ).set 0 (mX_h X, .inr (0, (mF X σ).set 15 (.int (i32 v)))) = mW X (st σ 15 0 v) := rfl
theorem mset_16 (X : mX) (σ : MS) (v : Int) : (mW X σ).set 0 (mX_h X, .inr (0, (mF X σ).set 16 (.int (i32 v)))) = mW X (st σ 16 0 v) := rfl
theorem mset_18 (X : mX) (σ : MS) (v : Int) : (mW X σ).set 0 (mX_h X, .inr (0, (mF X σ).set 18 (.int (i32 v)))) = mW X (st σ 18 0 v) := rfl
theorem mset_19 (X : mX) (σ : MS) (v : Int) : (mW X σ).set 0 (mX_h X, .inr (0, (mF X σ).set 19 (.int (i32 v)))) = mW X (st σ 19 0 v) := rfl
theorem mset_23 (X : mX) (σ : MS) (v : Int) : (mW X σ).set 0 (mX_h X, .inr (0, (mF X σ).set 23 (.int (i32 v)))) = mW X (st σ 23 0 v) := rfl
theorem mset_29 (X : mX) (σ : MS) (v : Int) : (mW X σ).set 0 (mX_h X, .inr (0, (mF X σ).set 29 (.int (i32 v)))) = mW X (st σ 29 0 v) := rfl
theorem mset_34 (X : mX) (σ : MS) (v : Int) : (mW X σ).set 0 (mX_h X, .inr (0, (mF X σ).set 34 (.int (i32 v)))) = mW X (st σ 34 0 v) := rfl
theorem mset_0 (X : mX) (σ : MS) (i : Nat) (v : Int) : (mW X σ).set 1 (mX_a X 0, .inl (mX_I X, 6292, .inl (upd (fun j => i32 (σ 0 j)) i (i32 v)))) = mW X (st σ 0 i v) := by rw [up_st]; rfl
theorem mset_2 (X : mX) (σ : MS) (i : Nat) (v : Int) : (mW X σ).set 2 (mX_a X 2, .inl (mX_Z X, 2, .inl (upd (fun j => i32 (σ 2 j)) i (i32 v)))) = mW X (st σ 2 i v) := by rw [up_st]; rfl
theorem mset_3 (X : mX) (σ : MS) (i : Nat) (v : Int) : (mW X σ).set 3 (mX_a X 3, .inl (mX_I X, 240, .inl (upd (fun j => i32 (σ 3 j)) i (i32 v)))) = mW X (st σ 3 i v) := by rw [up_st]; rfl
theorem mset_6 (X : mX) (σ : MS) (i : Nat) (v : Int) : (mW X σ).set 4 (mX_a X 6, .inl (mX_I X, 2200, .inl (upd (fun j => i32 (σ 6 j)) i (i32 v)))) = mW X (st σ 6 i v) := by rw [up_st]; rfl
theorem mset_8 (X : mX) (σ : MS) (i : Nat) (v : Int) : (mW X σ).set 5 (mX_a X 8, .inl (mX_I X, 2200, .inl (upd (fun j => i32 (σ 8 j)) i (i32 v)))) = mW X (st σ 8 i v) := by rw [up_st]; rfl
theorem mset_10 (X : mX) (σ : MS) (i : Nat) (v : Int) : (mW X σ).set 6 (mX_a X 10, .inl (mX_I X, 2200, .inl (upd (fun j => i32 (σ 10 j)) i (i32 v)))) = mW X (st σ 10 i v) := by rw [up_st]; rfl
theorem mset_12 (X : mX) (σ : MS) (i : Nat) (v : Int) : (mW X σ).set 7 (mX_a X 12, .inl (mX_I X, 242, .inl (upd (fun j => i32 (σ 12 j)) i (i32 v)))) = mW X (st σ 12 i v) := by rw [up_st]; rfl
theorem mset_13 (X : mX) (σ : MS) (i : Nat) (v : Int) : (mW X σ).set 8 (mX_a X 13, .inl (mX_Z X, 242, .inl (upd (fun j => i32 (σ 13 j)) i (i32 v)))) = mW X (st σ 13 i v) := by rw [up_st]; rfl
theorem mset_17 (X : mX) (σ : MS) (i : Nat) (v : Int) : (mW X σ).set 9 (mX_a X 17, .inl (mX_I X, 4, .inl (upd (fun j => i32 (σ 17 j)) i (i32 v)))) = mW X (st σ 17 i v) := by rw [up_st]; rfl
theorem mset_20 (X : mX) (σ : MS) (i : Nat) (v : Int) : (mW X σ).set 10 (mX_a X 20, .inl (mX_I X, 640, .inl (upd (fun j => i32 (σ 20 j)) i (i32 v)))) = mW X (st σ 20 i v) := by rw [up_st]; rfl
theorem mset_21 (X : mX) (σ : MS) (i : Nat) (v : Int) : (mW X σ).set 11 (mX_a X 21, .inl (mX_I X, 640, .inl (upd (fun j => i32 (σ 21 j)) i (i32 v)))) = mW X (st σ 21 i v) := by rw [up_st]; rfl
theorem mset_22 (X : mX) (σ : MS) (i : Nat) (v : Int) : (mW X σ).set 12 (mX_a X 22, .inl (mX_I X, 640, .inl (upd (fun j => i32 (σ 22 j)) i (i32 v)))) = mW X (st σ 22 i v) := by rw [up_st]; rfl
theorem mset_24 (X : mX) (σ : MS) (i : Nat) (v : Int) : (mW X σ).set 13 (mX_a X 24, .inl (mX_I X, 640, .inl (upd (fun j => i32 (σ 24 j)) i (i32 v)))) = mW X (st σ 24 i v) := by rw [up_st]; rfl
theorem mset_25 (X : mX) (σ : MS) (i : Nat) (v : Int) : (mW X σ).set 14 (mX_a X 25, .inl (mX_I X, 1600, .inl (upd (fun j => i32 (σ 25 j)) i (i32 v)))) = mW X (st σ 25 i v) := by rw [up_st]; rfl
theorem mset_26 (X : mX) (σ : MS) (i : Nat) (v : Int) : (mW X σ).set 15 (mX_a X 26, .inl (mX_I X, 1600, .inl (upd (fun j => i32 (σ 26 j)) i (i32 v)))) = mW X (st σ 26 i v) := by rw [up_st]; rfl
theorem mset_27 (X : mX) (σ : MS) (i : Nat) (v : Int) : (mW X σ).set 16 (mX_a X 27, .inl (mX_I X, 1600, .inl (upd (fun j => i32 (σ 27 j)) i (i32 v)))) = mW X (st σ 27 i v) := by rw [up_st]; rfl
theorem mset_28 (X : mX) (σ : MS) (i : Nat) (v : Int) : (mW X σ).set 17 (mX_a X 28, .inl (mX_Z X, 1600, .inl (upd (fun j => i32 (σ 28 j)) i (i32 v)))) = mW X (st σ 28 i v) := by rw [up_st]; rfl
theorem mset_30 (X : mX) (σ : MS) (i : Nat) (v : Int) : (mW X σ).set 18 (mX_a X 30, .inl (mX_I X, 26, .inl (upd (fun j => i32 (σ 30 j)) i (i32 v)))) = mW X (st σ 30 i v) := by rw [up_st]; rfl
theorem mset_31 (X : mX) (σ : MS) (i : Nat) (v : Int) : (mW X σ).set 19 (mX_a X 31, .inl (mX_I X, 120, .inl (upd (fun j => i32 (σ 31 j)) i (i32 v)))) = mW X (st σ 31 i v) := by rw [up_st]; rfl
theorem mset_32 (X : mX) (σ : MS) (i : Nat) (v : Int) : (mW X σ).set 20 (mX_a X 32, .inl (mX_I X, 4000, .inl (upd (fun j => i32 (σ 32 j)) i (i32 v)))) = mW X (st σ 32 i v) := by rw [up_st]; rfl
theorem mset_33 (X : mX) (σ : MS) (i : Nat) (v : Int) : (mW X σ).set 21 (mX_a X 33, .inl (mX_I X, 800, .inl (upd (fun j => i32 (σ 33 j)) i (i32 v)))) = mW X (st σ 33 i v) := by rw [up_st]; rfl
theorem mset_35 (X : mX) (σ : MS) (i : Nat) (v : Int) : (mW X σ).set 22 (mX_a X 35, .inl (mX_I X, 1600, .inl (upd (fun j => i32 (σ 35 j)) i (i32 v)))) = mW X (st σ 35 i v) := by rw [up_st]; rfl
theorem mset_36 (X : mX) (σ : MS) (i : Nat) (v : Int) : (mW X σ).set 23 (mX_a X 36, .inl (mX_I X, 200, .inl (upd (fun j => i32 (σ 36 j)) i (i32 v)))) = mW X (st σ 36 i v) := by rw [up_st]; rfl
