set_option maxRecDepth 100000
set_option linter.unusedVariables false
set_option maxHeartbeats 200000
/-! PLAIN: bits -/
theorem i32_nat {x : Int} (a : 0 ≤ x) (b : x < 2147483648) : (Int32.ofInt x).toBitVec.toNat = x.toNat := sorry
theorem i32_mod (x : Int) : ((Int32.ofInt x).toBitVec.toNat : Int) = x % 4294967296 := sorry
theorem i32_int {v : Int32} (b : v.toBitVec.toNat < 2147483648) : v.toInt = (v.toBitVec.toNat : Int) := sorry
theorem and_nat {a b : Int} (a0 : 0 ≤ a) (a1 : a < 2147483648) (b0 : 0 ≤ b) (b1 : b < 2147483648) : z_and a b = ((a.toNat &&& b.toNat : Nat) : Int) := sorry
theorem or_nat {a b : Int} (a0 : 0 ≤ a) (a1 : a < 2147483648) (b0 : 0 ≤ b) (b1 : b < 2147483648) : z_or a b = ((a.toNat ||| b.toNat : Nat) : Int) := sorry
theorem xor_nat {a b : Int} (a0 : 0 ≤ a) (a1 : a < 2147483648) (b0 : 0 ≤ b) (b1 : b < 2147483648) : z_xor a b = ((a.toNat ^^^ b.toNat : Nat) : Int) := sorry
/-- the low k bits -/
theorem and_mask (a : Int) {k : Nat} {m : Int} (hk : k < 32) (hm : m = ((2 ^ k - 1 : Nat) : Int)) (hm2 : m < 2147483648) : z_and a m = a % (2 ^ k : Nat) := sorry
theorem and_1 (a : Int) : z_and a 1 = a % 2 := sorry
theorem and_63 (a : Int) : z_and a 63 = a % 64 := sorry
theorem and_255 (a : Int) : z_and a 255 = a % 256 := sorry
