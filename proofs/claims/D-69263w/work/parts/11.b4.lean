set_option maxRecDepth 100000
set_option linter.unusedVariables false
set_option maxHeartbeats 200000
/-! PLAIN: how many bits (24 of them) are set; sums -/
theorem land16 (a b c d : Nat) (hb : b < 16) (hd : d < 16) : (b + 16 * a) &&& (d + 16 * c) = (b &&& d) + 16 * (a &&& c) := sorry
theorem land6 (m : Nat) {a0 a1 a2 a3 a4 a5 : Nat} (h0 : a0 < 16) (h1 : a1 < 16) (h2 : a2 < 16) (h3 : a3 < 16) (h4 : a4 < 16) (h5 : a5 < 16) :
    (a0 + 16 * (a1 + 16 * (a2 + 16 * (a3 + 16 * (a4 + 16 * (a5 + 16 * 0)))))) &&& m = (a0 &&& m % 16) + 16 * ((a1 &&& m / 16 % 16) + 16 * ((a2 &&& m / 256 % 16) + 16 * ((a3 &&& m / 4096 % 16) + 16 * ((a4 &&& m / 65536 % 16) + 16 * (a5 &&& m / 1048576 % 16))))) := sorry
def z_p4 (d : Nat) : Nat := d % 2 + d / 2 % 2 + d / 4 % 2 + d / 8 % 2
theorem p4_1 : ∀ d, d < 16 → (d / 2 &&& 5) ≤ d ∧ d - (d / 2 &&& 5) < 16 ∧ ((d - (d / 2 &&& 5)) &&& 3) + ((d - (d / 2 &&& 5)) / 4 &&& 3) = z_p4 d := sorry
theorem and5 : ∀ d b, d < 8 → b < 2 → (d + 8 * b) &&& 5 = d &&& 5 := sorry
theorem and3 : ∀ d b, d < 4 → b < 4 → (d + 4 * b) &&& 3 = d &&& 3 := sorry
theorem and15 : ∀ d, d < 16 → d &&& 15 = d := sorry
theorem p4_le (d : Nat) : z_p4 d ≤ 4 := sorry
/-- the JDK's way to count them -/
def z_bc (n : Nat) : Nat :=
  let x1 := n - (n / 2 &&& 1431655765)
  let x2 := (x1 &&& 858993459) + (x1 / 4 &&& 858993459)
  let x3 := (x2 + x2 / 16) &&& 252645135
  let x4 := x3 + x3 / 256
  (x4 + x4 / 65536) &&& 63
theorem bc_6 {a0 a1 a2 a3 a4 a5 : Nat} (h0 : a0 < 16) (h1 : a1 < 16) (h2 : a2 < 16) (h3 : a3 < 16) (h4 : a4 < 16) (h5 : a5 < 16) :
    z_bc (a0 + 16 * (a1 + 16 * (a2 + 16 * (a3 + 16 * (a4 + 16 * (a5 + 16 * 0)))))) = z_p4 a0 + z_p4 a1 + z_p4 a2 + z_p4 a3 + z_p4 a4 + z_p4 a5 := sorry
/-- the sum of the low 24 bits -/
def z_b24 (n : Nat) : Nat → Nat
  | 0 => 0
  | k + 1 => z_b24 n k + n / 2 ^ k % 2
theorem bc_24 {n : Nat} (h : n < 16777216) : z_bc n = z_b24 n 24 := sorry
