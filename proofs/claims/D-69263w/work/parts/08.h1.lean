set_option maxRecDepth 100000
set_option linter.unusedVariables false
set_option maxHeartbeats 200000
/-! PLAIN 2: the house's small words; what is thrown -/
theorem c_within (x a b : Int) (h : z_M) : f201_0 x a b h = z_ri (z_bi (a ≤ x ∧ x ≤ b)) h := by
  simp only [e201_0, e201_17, e201_18, gb_0, gb_1, lc_lt, lc_gt, if_b1, if_bb]
  rw [bi_cg]
  omega
theorem t_isIn (x a b : Int) (h : z_M) : f885_0 x a b h = z_ri (z_bi (a ≤ x ∧ x ≤ b)) h := by
  simp only [e885_0, e885_14, e885_15, gb_0, gb_1, if_b1, if_bb]
  rw [bi_cg]
  omega
theorem t_isPicture (x : Int) (h : z_M) : f888_0 x h = z_ri (z_bi (0 ≤ x ∧ x ≤ 7)) h := by
  simp only [e888_0, t_isIn, z_ki_ri, gb_b]
theorem t_isSheet (x : Int) (h : z_M) : f890_0 x h = z_ri (z_bi (0 ≤ x ∧ x ≤ 3)) h := by
  simp only [e890_0, t_isIn, z_ki_ri, gb_b]
theorem t_isFile (x : Int) (h : z_M) : f883_0 x h = z_ri (z_bi (0 ≤ x ∧ x ≤ 11)) h := by
  simp only [e883_0, t_isIn, z_ki_ri, gb_b]
