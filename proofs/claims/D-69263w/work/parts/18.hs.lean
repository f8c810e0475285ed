set_option maxRecDepth 100000
set_option linter.unusedVariables false
set_option maxHeartbeats 200000
/-! PLAIN: the calls on sheets (printed) -/
theorem ink_loop {s x y n d : Int} (hk : 0 ≤ s ∧ s ≤ 3) (hx : 0 ≤ x) (hy : 0 ≤ y ∧ y ≤ 23) (hn : 0 < n ∧ n ≤ 2147483647) (hd : d = 0 ∨ d = 1) : ∀ (m : Nat) (o c : Int) (hc ht : z_M), z_shs hc → R_sh hc ht → y < hI ht 1070 (Int.toNat s) → x ≤ c → c ≤ 24 → (0 ≤ o ∧ o ≤ c) → (24 - c).toNat = m →
    ∃ o' hc' ht', f138_36 x y n d (127 + 2 * (Int.toNat s)) o c hc = z_ri o' hc' ∧ f880_38 s x y n d o c ht = z_ri o' ht' ∧ z_shs hc' ∧ R_sh hc' ht' ∧ z_fr z_sc0 0 0 hc hc' ∧ hI ht' 1064 0 = hI ht 1064 0 := sorry
theorem call_sheet {hc ht : z_M} (S : z_shs hc) (O : z_out hc) (R : R_sh hc ht) (s : Int) (w : Int) (g : Int)  : z_cv (f90_0 1 s w g hc) (f971_0 s w g ht) (z_q (z_sch hc) hc ht) := sorry
theorem call_ink {hc ht : z_M} (S : z_shs hc) (O : z_out hc) (R : R_sh hc ht) (s : Int) (x : Int) (y : Int) (n : Int) (d : Int) (hn : n ≤ 2147483647) (hd : d = 0 ∨ d = 1) : z_ci (f75_0 1 s x y n d 1272 hc) (f880_0 s x y n d ht) (z_q (z_sch hc) hc ht) := sorry
theorem call_isDark {hc ht : z_M} (S : z_shs hc) (O : z_out hc) (R : R_sh hc ht) (s : Int) (x : Int) (y : Int)  : z_ci (f76_0 1 s x y 1272 hc) (f882_0 s x y ht) (z_q (z_rd hc ht) hc ht) := sorry
