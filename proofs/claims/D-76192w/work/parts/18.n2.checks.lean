/-! the bounds of all minors, counted by the kernel -/
set_option maxRecDepth 100000
theorem w_c1 : w_chk w_BP [0, 1, 2, 3, 4, 5] [0, 1, 2, 3, 4, 5, 9] (w_M w_N1) = true := by decide +kernel
theorem w_c2 : w_chk w_BE [0, 1, 2, 3, 4, 5, 6, 7, 8] [0, 1, 2, 4, 5, 8, 9] (w_M w_N1) = true := by decide +kernel
theorem w_c1' : w_chk w_BP [0, 1, 3, 4, 6, 7] [0, 1, 3, 4, 6, 7, 9] (w_M w_N1) = true := by decide +kernel
theorem w_c3 : w_chk (w_BT w_BP) [0, 1, 2, 3, 4, 5, 9] [0, 1, 2, 3, 4, 5, 9] (w_M w_N2) = true := by decide +kernel
theorem w_c3' : w_chk (w_BT w_BP) [0, 1, 3, 4, 6, 7, 9] [0, 1, 3, 4, 6, 7, 9] (w_M w_N2) = true := by decide +kernel
theorem w_c4 : w_chk (w_BT w_BE) [0, 1, 2, 4, 5, 8, 9] [0, 1, 2, 3, 4, 5, 6, 7, 8, 9] (w_M w_N2) = true := by decide +kernel
