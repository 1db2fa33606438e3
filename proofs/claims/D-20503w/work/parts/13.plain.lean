/-! ## methods of java.lang.Math that no entry of the natives runs -/
set_option maxRecDepth 100000
theorem pl_J12_max : plainFor yJ12_max = true := by decide +kernel
theorem pl_J12_min : plainFor yJ12_min = true := by decide +kernel
theorem pl_J12_getExponent : plainFor yJ12_getExponent = true := by decide +kernel
theorem pl_J12_max_2 : plainFor yJ12_max_2 = true := by decide +kernel
theorem pl_J12_scalb : plainFor yJ12_scalb = true := by decide +kernel
theorem pl_J12_powerOfTwoD : plainFor yJ12_powerOfTwoD = true := by decide +kernel
theorem pl_J12_min_2 : plainFor yJ12_min_2 = true := by decide +kernel
theorem pl_J12_nextUp : plainFor yJ12_nextUp = true := by decide +kernel
theorem pl_J12_nextDown : plainFor yJ12_nextDown = true := by decide +kernel
theorem pl_J12_nextAfter : plainFor yJ12_nextAfter = true := by decide +kernel
theorem pl_J12_ulp : plainFor yJ12_ulp = true := by decide +kernel
