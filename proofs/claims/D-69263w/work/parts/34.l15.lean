set_option maxRecDepth 100000
set_option linter.unusedVariables false
set_option maxHeartbeats 200000
/-! PLAIN, LINES: the samples are put -/
theorem mul_b {w g : Int} (a : 0 ≤ w ∧ w ≤ 12) (b : 0 ≤ g ∧ g ≤ 12) : 0 ≤ w * g ∧ w * g ≤ 144 := sorry
theorem dm_b {w g i : Int} (a : 1 ≤ w ∧ w ≤ 12) (b : 0 ≤ i ∧ i < w * g) : (0 ≤ i % w ∧ i % w < w) ∧ (0 ≤ i / w ∧ i / w < g) := sorry
/-- every place has its number -/
theorem dm_at {w g x y : Int} (a : 1 ≤ w) (hx : 0 ≤ x ∧ x < w) (hy : 0 ≤ y ∧ y < g) : (0 ≤ y * w + x ∧ y * w + x < w * g) ∧ (y * w + x) / w = y ∧ (y * w + x) % w = x := sorry
theorem c_smp {r6 pc ps F P AL co sm : Nat} {kp c n nr rs w g : Int} (hb : 1 ≤ w ∧ w ≤ 12) (hg : 1 ≤ g ∧ g ≤ 12) (hcn : (0 ≤ c ∧ c < n) ∧ n ≤ 4 ∧ 0 ≤ kp ∧ kp + n ≤ 8) : ∀ (q : Nat) (i : Int) (h : z_M), i + q = w * g → 0 ≤ i → (∀ j, 0 ≤ j ∧ j < i → hI h sm (Int.toNat ((12 * (j / w)) + (j % w))) = hI h ps (Int.toNat ((12 * (j / w)) + (j % w)))) →
    hK h 1 = 10 → hP h 1 0 = 2 → (hK h 2 = 1112 ∧ hN h 2 = 8) → hP h 2 (Int.toNat (kp + c)) = pc → (hK h pc = 11 ∧ hP h pc 2 = ps) → (hK h ps = 1000 ∧ hN h ps = 144) → hK h r6 = 11 → (hK h F = 39 ∧ hP h F 1 = P) → (hK h P = 40 ∧ hP h P 0 = AL) → (hK h AL = 1109 ∧ hN h AL = 4) → hP h AL (Int.toNat c) = co → (hK h co = 41 ∧ hP h co 0 = sm) → (hK h sm = 1000 ∧ hN h sm = 144) →
    (¬ sm = ps ∧ ¬ sm = r6 ∧ ¬ sm = P ∧ ¬ sm = F ∧ sm < 4294967296) → (hI h r6 0 = w ∧ hI h r6 1 = g) → (hI h P 2 = w ∧ hI h P 3 = g ∧ hI h P 4 = 8 ∧ hI h P 5 = n ∧ hI h F 3 = 1) → (∀ j, j < 144 → 0 ≤ hI h ps j ∧ hI h ps j ≤ 255) →
    ∃ h', f148_47 1 kp n nr rs r6 F c i h = f148_121 1 kp n nr rs r6 F c h' ∧ (∀ j, 0 ≤ j ∧ j < w * g → hI h' sm (Int.toNat ((12 * (j / w)) + (j % w))) = hI h ps (Int.toNat ((12 * (j / w)) + (j % w)))) ∧ z_ix (fun a _ => a = sm) h h' := sorry
