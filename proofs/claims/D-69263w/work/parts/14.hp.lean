set_option maxRecDepth 100000
set_option linter.unusedVariables false
set_option maxHeartbeats 200000
/-! PLAIN: the calls on pictures (printed) -/
theorem put_loop {k x y n v : Int} (hk : 0 ≤ k ∧ k ≤ 7) (hx : 0 ≤ x) (hy : 0 ≤ y ∧ y ≤ 11) (hn : 0 < n ∧ n ≤ 2147483647) (hv : 0 ≤ v ∧ v ≤ 255) : ∀ (m : Nat) (o c : Int) (hc ht : z_M), z_shp hc → R_pic hc ht → x ≤ c → c ≤ 12 → (0 ≤ o ∧ o ≤ c) → (12 - c).toNat = m →
    ∃ o' hc' ht', f161_49 x y n v (103 + 3 * (Int.toNat k)) o c hc = z_ri o' hc' ∧ f964_50 k x y n v o c ht = z_ri o' ht' ∧ z_shp hc' ∧ R_pic hc' ht' ∧ z_fr z_pc0 0 0 hc hc' ∧ hI ht' 1064 0 = hI ht 1064 0 := sorry
theorem shape_loop {k x y n v : Int} (hk : 0 ≤ k ∧ k ≤ 7) (hx : 0 ≤ x) (hy : 0 ≤ y ∧ y ≤ 11) (hn : 0 < n ∧ n ≤ 2147483647) (hv : v = 0 ∨ v = 1) : ∀ (m : Nat) (o c : Int) (hc ht : z_M), z_shp hc → R_pic hc ht → x ≤ c → c ≤ 12 → (0 ≤ o ∧ o ≤ c) → (12 - c).toNat = m →
    ∃ o' hc' ht', f165_36 x y n v (103 + 3 * (Int.toNat k)) o c hc = z_ri o' hc' ∧ f970_38 k x y n v o c ht = z_ri o' ht' ∧ z_shp hc' ∧ R_pic hc' ht' ∧ z_fr z_pc0 0 0 hc hc' ∧ hI ht' 1064 0 = hI ht 1064 0 := sorry
theorem call_picture {hc ht : z_M} (S : z_shp hc) (O : z_out hc) (R : R_pic hc ht) (k : Int) (w : Int) (g : Int)  : z_cv (f84_0 1 k w g hc) (f961_0 k w g ht) (z_q (z_pch hc) hc ht) := sorry
theorem call_put {hc ht : z_M} (S : z_shp hc) (O : z_out hc) (R : R_pic hc ht) (k : Int) (x : Int) (y : Int) (n : Int) (v : Int) (hn : n ≤ 2147483647) : z_ci (f86_0 1 k x y n v 1272 hc) (f964_0 k x y n v ht) (z_q (z_pch hc) hc ht) := sorry
theorem call_shape {hc ht : z_M} (S : z_shp hc) (O : z_out hc) (R : R_pic hc ht) (k : Int) (x : Int) (y : Int) (n : Int) (v : Int) (hn : n ≤ 2147483647) (hv : v = 0 ∨ v = 1) : z_ci (f89_0 1 k x y n v 1272 hc) (f970_0 k x y n v ht) (z_q (z_pch hc) hc ht) := sorry
theorem call_copy {hc ht : z_M} (S : z_shp hc) (O : z_out hc) (R : R_pic hc ht) (k : Int) (m : Int)  : z_cv (f65_0 1 k m hc) (f807_0 k m ht) (z_q (z_pch hc) hc ht) := sorry
theorem call_at {hc ht : z_M} (S : z_shp hc) (O : z_out hc) (R : R_pic hc ht) (k : Int) (x : Int) (y : Int)  : z_ci (f59_0 1 k x y 1272 hc) (f693_0 k x y ht) (z_q (z_rd hc ht) hc ht) := sorry
theorem call_isInside {hc ht : z_M} (S : z_shp hc) (O : z_out hc) (R : R_pic hc ht) (k : Int) (x : Int) (y : Int)  : z_ci (f77_0 1 k x y 1272 hc) (f887_0 k x y ht) (z_q (z_rd hc ht) hc ht) := sorry
