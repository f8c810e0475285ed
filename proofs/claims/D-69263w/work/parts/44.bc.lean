set_option maxRecDepth 100000
set_option linter.unusedVariables false
set_option maxHeartbeats 200000
/-! SUMS AND BITS -/
def z_sm (f : Nat → Int) : Nat → Int
  | 0 => 0
  | n + 1 => z_sm f n + f n
theorem sm_cg {f g : Nat → Int} {n : Nat} (h : ∀ i, i < n → f i = g i) : z_sm f n = z_sm g n := sorry
theorem sm_z {f : Nat → Int} {n m : Nat} (h : ∀ i, n ≤ i → i < n + m → f i = 0) : z_sm f (n + m) = z_sm f n := sorry
theorem sm_ad {f : Nat → Int} (n m : Nat) : z_sm f (n + m) = z_sm f n + z_sm (fun i => f (n + i)) m := sorry
theorem sm_rw {f : Nat → Int} (w n : Nat) : z_sm f (w * n) = z_sm (fun y => z_sm (fun x => f (w * y + x)) w) n := sorry
theorem acc_sum {F : Int → Int → z_Z} {v : Nat → Int} {n : Nat} {m : Int} (stp : ∀ (c : Int) (i : Nat), i < n → 0 ≤ c ∧ c ≤ m * (i : Int) → F c (i : Int) = F (c + v i) ((i + 1 : Nat) : Int) ∧ 0 ≤ v i ∧ v i ≤ m) : F 0 0 = F (z_sm v n) (n : Int) ∧ 0 ≤ z_sm v n ∧ z_sm v n ≤ m * (n : Int) := sorry
theorem b24_sm (n : Nat) (k : Nat) : ((z_b24 n k : Nat) : Int) = z_sm (fun x => ((n / 2 ^ x % 2 : Nat) : Int)) k := sorry
set_option maxHeartbeats 2000000 in
theorem bcI {n : Nat} {h : z_M} (hn : n < 16777216) : f31_0 ((n : Nat) : Int) h = z_ri (z_sm (fun x => ((n / 2 ^ x % 2 : Nat) : Int)) 24) h := sorry
theorem bit_x (a b x : Nat) : (a ^^^ b) / 2 ^ x % 2 = if a / 2 ^ x % 2 = b / 2 ^ x % 2 then 0 else 1 := sorry
/-- the bits in which two rows differ -/
def z_xb (a b : Int) : Int := z_sm (fun x => if a / 2 ^ x % 2 = b / 2 ^ x % 2 then 0 else 1) 24
theorem xb_e {a b : Int} {h : z_M} (ha : 0 ≤ a ∧ a < 16777216) (hb : 0 ≤ b ∧ b < 16777216) : f31_0 (z_xor a b) h = z_ri (z_xb a b) h := sorry
theorem xb_b {a b : Int} : 0 ≤ z_xb a b ∧ z_xb a b ≤ 24 := sorry
