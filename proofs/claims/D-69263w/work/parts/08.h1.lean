set_option maxRecDepth 100000
set_option linter.unusedVariables false
set_option maxHeartbeats 200000
/-! PLAIN 2: the house's small words; what is thrown -/
theorem c_within (x a b : Int) (h : z_M) : f201_0 x a b h = z_ri (z_bi (a ≤ x ∧ x ≤ b)) h := sorry
theorem t_isIn (x a b : Int) (h : z_M) : f885_0 x a b h = z_ri (z_bi (a ≤ x ∧ x ≤ b)) h := sorry
theorem t_isPicture (x : Int) (h : z_M) : f888_0 x h = z_ri (z_bi (0 ≤ x ∧ x ≤ 7)) h := sorry
theorem t_isSheet (x : Int) (h : z_M) : f890_0 x h = z_ri (z_bi (0 ≤ x ∧ x ≤ 3)) h := sorry
theorem t_isFile (x : Int) (h : z_M) : f883_0 x h = z_ri (z_bi (0 ≤ x ∧ x ≤ 11)) h := sorry
