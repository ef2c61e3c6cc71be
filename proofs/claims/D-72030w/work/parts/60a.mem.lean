/-! READS BEHIND WRITES (by gen/memlem.py) -/
section
variable {M : ev_M}
theorem r_K_wI (a k : Nat) (v : Int32) : mK (wI M a k v) = mK M := rfl
theorem r_N_wI (a k : Nat) (v : Int32) : mN (wI M a k v) = mN M := rfl
theorem r_I_wI (a k : Nat) (v : Int32) (b j : Nat) : mI (wI M a k v) b j = if b = a ∧ j = k then v else mI M b j := rfl
theorem r_L_wI (a k : Nat) (v : Int32) : mL (wI M a k v) = mL M := rfl
theorem r_F_wI (a k : Nat) (v : Int32) : mF (wI M a k v) = mF M := rfl
theorem r_D_wI (a k : Nat) (v : Int32) : mD (wI M a k v) = mD M := rfl
theorem r_A_wI (a k : Nat) (v : Int32) : mA (wI M a k v) = mA M := rfl
theorem r_x_wI (a k : Nat) (v : Int32) : nx (wI M a k v) = nx M := rfl
theorem r_c_wI (a k : Nat) (v : Int32) : ncl (wI M a k v) = ncl M := rfl
theorem r_s_wI (a k : Nat) (v : Int32) : nsl (wI M a k v) = nsl M := rfl
theorem r_S_wI (a k : Nat) (v : Int32) : mS (wI M a k v) = mS M := rfl
theorem r_K_wL (a k : Nat) (v : Int64) : mK (wL M a k v) = mK M := rfl
theorem r_N_wL (a k : Nat) (v : Int64) : mN (wL M a k v) = mN M := rfl
theorem r_I_wL (a k : Nat) (v : Int64) : mI (wL M a k v) = mI M := rfl
theorem r_L_wL (a k : Nat) (v : Int64) (b j : Nat) : mL (wL M a k v) b j = if b = a ∧ j = k then v else mL M b j := rfl
theorem r_F_wL (a k : Nat) (v : Int64) : mF (wL M a k v) = mF M := rfl
theorem r_D_wL (a k : Nat) (v : Int64) : mD (wL M a k v) = mD M := rfl
theorem r_A_wL (a k : Nat) (v : Int64) : mA (wL M a k v) = mA M := rfl
theorem r_x_wL (a k : Nat) (v : Int64) : nx (wL M a k v) = nx M := rfl
theorem r_c_wL (a k : Nat) (v : Int64) : ncl (wL M a k v) = ncl M := rfl
theorem r_s_wL (a k : Nat) (v : Int64) : nsl (wL M a k v) = nsl M := rfl
theorem r_S_wL (a k : Nat) (v : Int64) : mS (wL M a k v) = mS M := rfl
theorem r_K_wF (a k : Nat) (v : UInt32) : mK (wF M a k v) = mK M := rfl
theorem r_N_wF (a k : Nat) (v : UInt32) : mN (wF M a k v) = mN M := rfl
theorem r_I_wF (a k : Nat) (v : UInt32) : mI (wF M a k v) = mI M := rfl
theorem r_L_wF (a k : Nat) (v : UInt32) : mL (wF M a k v) = mL M := rfl
theorem r_F_wF (a k : Nat) (v : UInt32) (b j : Nat) : mF (wF M a k v) b j = if b = a ∧ j = k then v else mF M b j := rfl
theorem r_D_wF (a k : Nat) (v : UInt32) : mD (wF M a k v) = mD M := rfl
theorem r_A_wF (a k : Nat) (v : UInt32) : mA (wF M a k v) = mA M := rfl
theorem r_x_wF (a k : Nat) (v : UInt32) : nx (wF M a k v) = nx M := rfl
theorem r_c_wF (a k : Nat) (v : UInt32) : ncl (wF M a k v) = ncl M := rfl
theorem r_s_wF (a k : Nat) (v : UInt32) : nsl (wF M a k v) = nsl M := rfl
theorem r_S_wF (a k : Nat) (v : UInt32) : mS (wF M a k v) = mS M := rfl
theorem r_K_wD (a k : Nat) (v : UInt64) : mK (wD M a k v) = mK M := rfl
theorem r_N_wD (a k : Nat) (v : UInt64) : mN (wD M a k v) = mN M := rfl
theorem r_I_wD (a k : Nat) (v : UInt64) : mI (wD M a k v) = mI M := rfl
theorem r_L_wD (a k : Nat) (v : UInt64) : mL (wD M a k v) = mL M := rfl
theorem r_F_wD (a k : Nat) (v : UInt64) : mF (wD M a k v) = mF M := rfl
theorem r_D_wD (a k : Nat) (v : UInt64) (b j : Nat) : mD (wD M a k v) b j = if b = a ∧ j = k then v else mD M b j := rfl
theorem r_A_wD (a k : Nat) (v : UInt64) : mA (wD M a k v) = mA M := rfl
theorem r_x_wD (a k : Nat) (v : UInt64) : nx (wD M a k v) = nx M := rfl
theorem r_c_wD (a k : Nat) (v : UInt64) : ncl (wD M a k v) = ncl M := rfl
theorem r_s_wD (a k : Nat) (v : UInt64) : nsl (wD M a k v) = nsl M := rfl
theorem r_S_wD (a k : Nat) (v : UInt64) : mS (wD M a k v) = mS M := rfl
theorem r_K_wA (a k : Nat) (v : Nat) : mK (wA M a k v) = mK M := rfl
theorem r_N_wA (a k : Nat) (v : Nat) : mN (wA M a k v) = mN M := rfl
theorem r_I_wA (a k : Nat) (v : Nat) : mI (wA M a k v) = mI M := rfl
theorem r_L_wA (a k : Nat) (v : Nat) : mL (wA M a k v) = mL M := rfl
theorem r_F_wA (a k : Nat) (v : Nat) : mF (wA M a k v) = mF M := rfl
theorem r_D_wA (a k : Nat) (v : Nat) : mD (wA M a k v) = mD M := rfl
theorem r_A_wA (a k : Nat) (v : Nat) (b j : Nat) : mA (wA M a k v) b j = if b = a ∧ j = k then v else mA M b j := rfl
theorem r_x_wA (a k : Nat) (v : Nat) : nx (wA M a k v) = nx M := rfl
theorem r_c_wA (a k : Nat) (v : Nat) : ncl (wA M a k v) = ncl M := rfl
theorem r_s_wA (a k : Nat) (v : Nat) : nsl (wA M a k v) = nsl M := rfl
theorem r_S_wA (a k : Nat) (v : Nat) : mS (wA M a k v) = mS M := rfl
theorem r_K_wN (t n s b : Nat) : mK (wN M t n s) b = if b = nx M then t else mK M b := rfl
theorem r_N_wN (t n s b : Nat) : mN (wN M t n s) b = if b = nx M then n else mN M b := rfl
theorem r_I_wN (t n s b j : Nat) : mI (wN M t n s) b j = if b = nx M then 0 else mI M b j := by
  show up1 (mI M) (nx M) (fun _ => 0) b j = _
  unfold up1
  split <;> rfl
theorem r_L_wN (t n s b j : Nat) : mL (wN M t n s) b j = if b = nx M then 0 else mL M b j := by
  show up1 (mL M) (nx M) (fun _ => 0) b j = _
  unfold up1
  split <;> rfl
theorem r_F_wN (t n s b j : Nat) : mF (wN M t n s) b j = if b = nx M then 0 else mF M b j := by
  show up1 (mF M) (nx M) (fun _ => 0) b j = _
  unfold up1
  split <;> rfl
theorem r_D_wN (t n s b j : Nat) : mD (wN M t n s) b j = if b = nx M then 0 else mD M b j := by
  show up1 (mD M) (nx M) (fun _ => 0) b j = _
  unfold up1
  split <;> rfl
theorem r_A_wN (t n s b j : Nat) : mA (wN M t n s) b j = if b = nx M then 0 else mA M b j := by
  show up1 (mA M) (nx M) (fun _ => 0) b j = _
  unfold up1
  split <;> rfl
theorem r_x_wN (t n s : Nat) : nx (wN M t n s) = nx M + 1 := rfl
theorem r_c_wN (t n s : Nat) : ncl (wN M t n s) = ncl M + 1 := rfl
theorem r_s_wN (t n s : Nat) : nsl (wN M t n s) = nsl M + s := rfl
theorem r_S_wN (t n s : Nat) : mS (wN M t n s) = mS M := rfl
theorem r_K_wX (k n : Nat) : mK (wX M k n) = mK M := rfl
theorem r_N_wX (k n : Nat) : mN (wX M k n) = mN M := rfl
theorem r_I_wX (k n : Nat) : mI (wX M k n) = mI M := rfl
theorem r_L_wX (k n : Nat) : mL (wX M k n) = mL M := rfl
theorem r_F_wX (k n : Nat) : mF (wX M k n) = mF M := rfl
theorem r_D_wX (k n : Nat) : mD (wX M k n) = mD M := rfl
theorem r_A_wX (k n : Nat) : mA (wX M k n) = mA M := rfl
theorem r_x_wX (k n : Nat) : nx (wX M k n) = nx M := rfl
theorem r_c_wX (k n : Nat) : ncl (wX M k n) = ncl M + k := rfl
theorem r_s_wX (k n : Nat) : nsl (wX M k n) = nsl M + n := rfl
theorem r_S_wX (k n : Nat) : mS (wX M k n) = mS M := rfl
end
