set_option maxRecDepth 100000
set_option linter.unusedVariables false
set_option maxHeartbeats 200000
/-! SUMS AND BITS -/
def z_sm (f : Nat → Int) : Nat → Int
  | 0 => 0
  | n + 1 => z_sm f n + f n
theorem sm_cg {f g : Nat → Int} {n : Nat} (h : ∀ i, i < n → f i = g i) : z_sm f n = z_sm g n := by
  induction n with
  | zero => rfl
  | succ n ih => show z_sm f n + f n = z_sm g n + g n; rw [ih (fun i q => h i (by omega)), h n (by omega)]
theorem sm_z {f : Nat → Int} {n m : Nat} (h : ∀ i, n ≤ i → i < n + m → f i = 0) : z_sm f (n + m) = z_sm f n := by
  induction m with
  | zero => rfl
  | succ m ih => show z_sm f (n + m) + f (n + m) = z_sm f n; rw [ih (fun i a b => h i a (by omega)), h (n + m) (by omega) (by omega)]; omega
theorem sm_ad {f : Nat → Int} (n m : Nat) : z_sm f (n + m) = z_sm f n + z_sm (fun i => f (n + i)) m := by
  induction m with
  | zero => show z_sm f n = z_sm f n + 0; omega
  | succ m ih => show z_sm f (n + m) + f (n + m) = z_sm f n + (z_sm (fun i => f (n + i)) m + f (n + m)); rw [ih]; omega
theorem sm_rw {f : Nat → Int} (w n : Nat) : z_sm f (w * n) = z_sm (fun y => z_sm (fun x => f (w * y + x)) w) n := by
  induction n with
  | zero => rfl
  | succ n ih => show z_sm f (w * n + w) = z_sm (fun y => z_sm (fun x => f (w * y + x)) w) n + z_sm (fun x => f (w * n + x)) w; rw [sm_ad, ih]
theorem acc_sum {F : Int → Int → z_Z} {v : Nat → Int} {n : Nat} {m : Int} (stp : ∀ (c : Int) (i : Nat), i < n → 0 ≤ c ∧ c ≤ m * (i : Int) → F c (i : Int) = F (c + v i) ((i + 1 : Nat) : Int) ∧ 0 ≤ v i ∧ v i ≤ m) : F 0 0 = F (z_sm v n) (n : Int) ∧ 0 ≤ z_sm v n ∧ z_sm v n ≤ m * (n : Int) := by
  induction n with
  | zero => exact ⟨rfl, by show (0 : Int) ≤ 0; omega, by show (0 : Int) ≤ m * 0; omega⟩
  | succ n ih =>
    obtain ⟨a, b, c⟩ := ih (fun c i hi hc => stp c i (by omega) hc)
    obtain ⟨d, e, f⟩ := stp (z_sm v n) n (by omega) ⟨b, c⟩
    have q : m * ((n + 1 : Nat) : Int) = m * (n : Int) + m := by rw [Int.natCast_succ, Int.mul_add, Int.mul_one]
    exact ⟨a.trans d, by show 0 ≤ z_sm v n + v n; omega, by show z_sm v n + v n ≤ m * ((n + 1 : Nat) : Int); rw [q]; omega⟩
theorem b24_sm (n : Nat) (k : Nat) : ((z_b24 n k : Nat) : Int) = z_sm (fun x => ((n / 2 ^ x % 2 : Nat) : Int)) k := by
  induction k with
  | zero => rfl
  | succ k ih => show ((z_b24 n k + n / 2 ^ k % 2 : Nat) : Int) = z_sm (fun x => ((n / 2 ^ x % 2 : Nat) : Int)) k + ((n / 2 ^ k % 2 : Nat) : Int); rw [← ih]; omega
set_option maxHeartbeats 2000000 in
theorem bcI {n : Nat} {h : z_M} (hn : n < 16777216) : f31_0 ((n : Nat) : Int) h = z_ri (z_sm (fun x => ((n / 2 ^ x % 2 : Nat) : Int)) 24) h := by
  have us1 : ∀ a : Nat, a < 2147483648 → z_ushr ((a : Nat) : Int) 1 = ((a / 2 : Nat) : Int) := fun a q => by
    unfold z_ushr
    rw [show (((1 : Int) % 32).toNat) = 1 from rfl, show (2 : Int) ^ 1 = 2 from rfl, show ((a : Nat) : Int) % 4294967296 = ((a : Nat) : Int) by omega, w_id (by omega) (by omega)]; omega
  have us2 : ∀ a : Nat, a < 2147483648 → z_ushr ((a : Nat) : Int) 2 = ((a / 4 : Nat) : Int) := fun a q => by
    unfold z_ushr
    rw [show (((2 : Int) % 32).toNat) = 2 from rfl, show (2 : Int) ^ 2 = 4 from rfl, show ((a : Nat) : Int) % 4294967296 = ((a : Nat) : Int) by omega, w_id (by omega) (by omega)]; omega
  have us4 : ∀ a : Nat, a < 2147483648 → z_ushr ((a : Nat) : Int) 4 = ((a / 16 : Nat) : Int) := fun a q => by
    unfold z_ushr
    rw [show (((4 : Int) % 32).toNat) = 4 from rfl, show (2 : Int) ^ 4 = 16 from rfl, show ((a : Nat) : Int) % 4294967296 = ((a : Nat) : Int) by omega, w_id (by omega) (by omega)]; omega
  have us8 : ∀ a : Nat, a < 2147483648 → z_ushr ((a : Nat) : Int) 8 = ((a / 256 : Nat) : Int) := fun a q => by
    unfold z_ushr
    rw [show (((8 : Int) % 32).toNat) = 8 from rfl, show (2 : Int) ^ 8 = 256 from rfl, show ((a : Nat) : Int) % 4294967296 = ((a : Nat) : Int) by omega, w_id (by omega) (by omega)]; omega
  have us16 : ∀ a : Nat, a < 2147483648 → z_ushr ((a : Nat) : Int) 16 = ((a / 65536 : Nat) : Int) := fun a q => by
    unfold z_ushr
    rw [show (((16 : Int) % 32).toNat) = 16 from rfl, show (2 : Int) ^ 16 = 65536 from rfl, show ((a : Nat) : Int) % 4294967296 = ((a : Nat) : Int) by omega, w_id (by omega) (by omega)]; omega
  have an0 : ∀ a : Nat, a < 2147483648 → z_and ((a : Nat) : Int) 1431655765 = ((a &&& 1431655765 : Nat) : Int) := fun a q => by
    rw [and_nat (by omega) (by omega) (by decide) (by decide)]; rfl
  have an1 : ∀ a : Nat, a < 2147483648 → z_and ((a : Nat) : Int) 858993459 = ((a &&& 858993459 : Nat) : Int) := fun a q => by
    rw [and_nat (by omega) (by omega) (by decide) (by decide)]; rfl
  have an2 : ∀ a : Nat, a < 2147483648 → z_and ((a : Nat) : Int) 252645135 = ((a &&& 252645135 : Nat) : Int) := fun a q => by
    rw [and_nat (by omega) (by omega) (by decide) (by decide)]; rfl
  have an3 : ∀ a : Nat, a < 2147483648 → z_and ((a : Nat) : Int) 63 = ((a &&& 63 : Nat) : Int) := fun a q => by
    rw [and_nat (by omega) (by omega) (by decide) (by decide)]; rfl
  have l1 : n / 2 &&& 1431655765 ≤ n / 2 := Nat.and_le_left
  obtain ⟨a, ha⟩ : ∃ a, n / 2 &&& 1431655765 = a := ⟨_, rfl⟩
  obtain ⟨x1, hx1⟩ : ∃ x, n - a = x := ⟨_, rfl⟩
  obtain ⟨p, hp⟩ : ∃ p, x1 &&& 858993459 = p := ⟨_, rfl⟩
  obtain ⟨q, hq⟩ : ∃ p, x1 / 4 &&& 858993459 = p := ⟨_, rfl⟩
  have l2 : p ≤ x1 := by rw [← hp]; exact Nat.and_le_left
  have l3 : q ≤ x1 / 4 := by rw [← hq]; exact Nat.and_le_left
  obtain ⟨x2, hx2⟩ : ∃ x, p + q = x := ⟨_, rfl⟩
  obtain ⟨x3, hx3⟩ : ∃ x, (x2 + x2 / 16) &&& 252645135 = x := ⟨_, rfl⟩
  have l4 : x3 ≤ x2 + x2 / 16 := by rw [← hx3]; exact Nat.and_le_left
  obtain ⟨x4, hx4⟩ : ∃ x, x3 + x3 / 256 = x := ⟨_, rfl⟩
  rw [ha] at l1
  have e : z_bc n = (x4 + x4 / 65536) &&& 63 := by
    show (((((n - (n / 2 &&& 1431655765)) &&& 858993459) + ((n - (n / 2 &&& 1431655765)) / 4 &&& 858993459) + (((n - (n / 2 &&& 1431655765)) &&& 858993459) + ((n - (n / 2 &&& 1431655765)) / 4 &&& 858993459)) / 16) &&& 252645135) + (((((n - (n / 2 &&& 1431655765)) &&& 858993459) + ((n - (n / 2 &&& 1431655765)) / 4 &&& 858993459) + (((n - (n / 2 &&& 1431655765)) &&& 858993459) + ((n - (n / 2 &&& 1431655765)) / 4 &&& 858993459)) / 16) &&& 252645135) / 256) + ((((((n - (n / 2 &&& 1431655765)) &&& 858993459) + ((n - (n / 2 &&& 1431655765)) / 4 &&& 858993459) + (((n - (n / 2 &&& 1431655765)) &&& 858993459) + ((n - (n / 2 &&& 1431655765)) / 4 &&& 858993459)) / 16) &&& 252645135) + (((((n - (n / 2 &&& 1431655765)) &&& 858993459) + ((n - (n / 2 &&& 1431655765)) / 4 &&& 858993459) + (((n - (n / 2 &&& 1431655765)) &&& 858993459) + ((n - (n / 2 &&& 1431655765)) / 4 &&& 858993459)) / 16) &&& 252645135) / 256)) / 65536)) &&& 63 = _
    rw [ha, hx1, hp, hq, hx2, hx3, hx4]
  rw [e31_0, us1 n (by omega), an0 _ (by omega), ha, show ((n : Nat) : Int) - ((a : Nat) : Int) = ((x1 : Nat) : Int) by omega, w_id (x := ((x1 : Nat) : Int)) (by omega) (by omega), us2 x1 (by omega), an1 _ (by omega), an1 _ (by omega), hp, hq, show ((p : Nat) : Int) + ((q : Nat) : Int) = ((x2 : Nat) : Int) by omega, w_id (x := ((x2 : Nat) : Int)) (by omega) (by omega), us4 x2 (by omega), show ((x2 : Nat) : Int) + ((x2 / 16 : Nat) : Int) = ((x2 + x2 / 16 : Nat) : Int) by omega, w_id (x := ((x2 + x2 / 16 : Nat) : Int)) (by omega) (by omega), an2 _ (by omega), hx3, us8 x3 (by omega), show ((x3 : Nat) : Int) + ((x3 / 256 : Nat) : Int) = ((x4 : Nat) : Int) by omega, w_id (x := ((x4 : Nat) : Int)) (by omega) (by omega), us16 x4 (by omega), show ((x4 : Nat) : Int) + ((x4 / 65536 : Nat) : Int) = ((x4 + x4 / 65536 : Nat) : Int) by omega, w_id (x := ((x4 + x4 / 65536 : Nat) : Int)) (by omega) (by omega), an3 _ (by omega), ← e, bc_24 hn, b24_sm]
theorem bit_x (a b x : Nat) : (a ^^^ b) / 2 ^ x % 2 = if a / 2 ^ x % 2 = b / 2 ^ x % 2 then 0 else 1 := by
  have e : ∀ n : Nat, n / 2 ^ x % 2 = (Nat.testBit n x).toNat := fun n => by rw [Nat.testBit_eq_decide_div_mod_eq]; rcases Nat.mod_two_eq_zero_or_one (n / 2 ^ x) with q | q <;> simp [q]
  rw [e, e, e, Nat.testBit_xor]
  cases Nat.testBit a x <;> cases Nat.testBit b x <;> rfl
/-- the bits in which two rows differ -/
def z_xb (a b : Int) : Int := z_sm (fun x => if a / 2 ^ x % 2 = b / 2 ^ x % 2 then 0 else 1) 24
theorem xb_e {a b : Int} {h : z_M} (ha : 0 ≤ a ∧ a < 16777216) (hb : 0 ≤ b ∧ b < 16777216) : f31_0 (z_xor a b) h = z_ri (z_xb a b) h := by
  rw [xor_nat ha.1 (by omega) hb.1 (by omega), bcI (Nat.xor_lt_two_pow (n := 24) (by omega) (by omega))]
  refine congrArg (fun v => z_ri v h) (sm_cg fun x _ => ?_)
  rw [bit_x]
  obtain ⟨n, rfl⟩ : ∃ n : Nat, a = (n : Int) := ⟨a.toNat, by omega⟩
  obtain ⟨m, rfl⟩ : ∃ m : Nat, b = (m : Int) := ⟨b.toNat, by omega⟩
  have p : ∀ n : Nat, ((n : Nat) : Int) / 2 ^ x % 2 = ((n / 2 ^ x % 2 : Nat) : Int) := fun n => by rw [show (2 : Int) ^ x = ((2 ^ x : Nat) : Int) from (Int.natCast_pow 2 x).symm]; omega
  rw [p, p, show ((n : Nat) : Int).toNat = n from rfl, show ((m : Nat) : Int).toNat = m from rfl]
  by_cases q : n / 2 ^ x % 2 = m / 2 ^ x % 2
  · rw [if_pos q, if_pos (by omega)]; rfl
  · rw [if_neg q, if_neg (by omega)]; rfl
theorem xb_b {a b : Int} : 0 ≤ z_xb a b ∧ z_xb a b ≤ 24 := by
  have q : ∀ (f : Nat → Int) (n : Nat), (∀ i, 0 ≤ f i ∧ f i ≤ 1) → 0 ≤ z_sm f n ∧ z_sm f n ≤ (n : Int) := fun f n hf => by
    induction n with
    | zero => exact ⟨by show (0 : Int) ≤ 0; omega, by show (0 : Int) ≤ 0; omega⟩
    | succ n ih => have := hf n; exact ⟨by show 0 ≤ z_sm f n + f n; omega, by show z_sm f n + f n ≤ ((n + 1 : Nat) : Int); omega⟩
  exact q _ 24 (fun i => by show 0 ≤ (if a / 2 ^ i % 2 = b / 2 ^ i % 2 then (0 : Int) else 1) ∧ (if a / 2 ^ i % 2 = b / 2 ^ i % 2 then (0 : Int) else 1) ≤ 1; split <;> omega)
