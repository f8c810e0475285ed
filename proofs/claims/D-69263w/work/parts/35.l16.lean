set_option maxRecDepth 100000
set_option linter.unusedVariables false
set_option maxHeartbeats 200000
/-! PLAIN: frames of a call: ints of V, references of R; new cells, slots -/
def z_fp (V R : Nat → Nat → Prop) (z s : Nat) (h h' : z_M) : Prop := (∀ a, (a ≤ hZ h ∨ 4294967296 ≤ a) → (h'.1 a = h.1 a ∧ h'.2.2.1 a = h.2.2.1 a) ∧ (∀ i, ¬ V a i → hI h' a i = hI h a i) ∧ ∀ i, ¬ R a i → hP h' a i = hP h a i) ∧ (hX h' = hX h ∧ hG h' = hG h ∧ hW h' = hW h) ∧ hZ h ≤ hZ h' ∧ hZ h' ≤ hZ h + z ∧ hS h' ≤ hS h + s
theorem fp_tr {V R : Nat → Nat → Prop} {z z' s s' : Nat} {h h1 h2 : z_M} (p : z_fp V R z s h h1) (q : z_fp V R z' s' h1 h2) : z_fp V R (z + z') (s + s') h h2 := sorry
theorem fp_le {V R V' R' : Nat → Nat → Prop} {z z' s s' : Nat} {h h' : z_M} (p : z_fp V R z s h h') (v : ∀ a i, V a i → (a ≤ hZ h ∨ 4294967296 ≤ a) → V' a i) (r : ∀ a i, R a i → R' a i) (hz : z ≤ z') (hs : s ≤ s') : z_fp V' R' z' s' h h' := sorry
theorem fp_fi {V R : Nat → Nat → Prop} {z s : Nat} {h h' : z_M} (p : z_fi V z s h h') : z_fp V R z s h h' := sorry
theorem fp_xp {V R : Nat → Nat → Prop} {h h' : z_M} (p : z_xp V R h h') : z_fp V R 0 0 h h' := sorry
theorem fp_ix {V R : Nat → Nat → Prop} {h h' : z_M} (p : z_ix V h h') : z_fp V R 0 0 h h' := sorry
theorem fp_K {V R : Nat → Nat → Prop} {z s : Nat} {h h' : z_M} (p : z_fp V R z s h h') {a : Nat} (ha : a ≤ hZ h) : hK h' a = hK h a := sorry
theorem fp_N {V R : Nat → Nat → Prop} {z s : Nat} {h h' : z_M} (p : z_fp V R z s h h') {a : Nat} (ha : a ≤ hZ h) : hN h' a = hN h a := sorry
theorem fp_P {V R : Nat → Nat → Prop} {z s : Nat} {h h' : z_M} (p : z_fp V R z s h h') {a i : Nat} (ha : a ≤ hZ h) (n : ¬ R a i) : hP h' a i = hP h a i := sorry
theorem fp_I {V R : Nat → Nat → Prop} {z s : Nat} {h h' : z_M} (p : z_fp V R z s h h') {a i : Nat} (ha : a ≤ hZ h) (n : ¬ V a i) : hI h' a i = hI h a i := sorry
/-! PLAIN, LINES: all samples -/
theorem shp_ix {V : Nat → Nat → Prop} {h h' : z_M} (p : z_ix V h h') (S : z_shp h) : z_shp h' := sorry
theorem S_ln_ix {V : Nat → Nat → Prop} {k : Nat} {h h' : z_M} (p : z_ix V h h') (S : S_ln k h) : S_ln k h' := sorry
theorem c_smps {k kp n : Nat} {nr rs w g : Int} (hb : 1 ≤ w ∧ w ≤ 12) (hg : 1 ≤ g ∧ g ≤ 12) (hn : n ≤ 4 ∧ kp + n ≤ 8) : ∀ (q c : Nat) (h : z_M), c + q = n → S_ln k h → z_shp h → (hI h (103 + 3 * kp) 0 = w ∧ hI h (103 + 3 * kp) 1 = g) → (hI h (658 + 62 * k) 2 = w ∧ hI h (658 + 62 * k) 3 = g ∧ hI h (658 + 62 * k) 4 = 8 ∧ hI h (658 + 62 * k) 5 = ((n : Nat) : Int) ∧ hI h (657 + 62 * k) 3 = 1) → (∀ c j, c < n → j < 144 → 0 ≤ hI h (104 + 3 * (kp + c)) j ∧ hI h (104 + 3 * (kp + c)) j ≤ 255) →
    ∃ h', f148_38 1 ((kp : Nat) : Int) ((n : Nat) : Int) nr rs (103 + 3 * kp) (657 + 62 * k) ((c : Nat) : Int) h = f148_127 1 nr rs (657 + 62 * k) h' ∧ (∀ (d : Nat) (j : Int), c ≤ d → d < n → 0 ≤ j ∧ j < w * g → hI h' (662 + 62 * k + 2 * d) (Int.toNat ((12 * (j / w)) + (j % w))) = hI h (104 + 3 * (kp + d)) (Int.toNat ((12 * (j / w)) + (j % w)))) ∧ z_ix (fun a _ => 662 + 62 * k + 2 * c ≤ a ∧ a ≤ 668 + 62 * k) h h' := sorry
theorem t_cop {kp n : Nat} {nr rs : Int} (hn : n ≤ 4 ∧ kp + n ≤ 8) : ∀ (q i : Nat) (h : z_M), i + q = 144 * n →
    ∃ h', f949_39 ((kp : Nat) : Int) ((n : Nat) : Int) nr rs ((i : Nat) : Int) h = f949_75 nr rs h' ∧ (∀ j, i ≤ j → j < 144 * n → hI h' 1088 j = hI h 1067 (144 * kp + j)) ∧ z_ix (fun a j => a = 1088 ∧ i ≤ j) h h' := sorry
theorem t_tabs {nr rs : Int} (h : z_M) : ∃ h', f949_75 nr rs h = f949_98 nr rs h' ∧ (∀ c, c < 4 → hI h' 1089 c = 0) ∧ z_ix (fun a _ => a = 1089) h h' := sorry
