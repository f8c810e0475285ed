set_option maxRecDepth 100000
set_option linter.unusedVariables false
set_option maxHeartbeats 200000
/-! PLAIN, LINES: a picture of lines begins -/
def z_xp (V R : Nat → Nat → Prop) (h h' : z_M) : Prop := (h'.1 = h.1 ∧ h'.2.2.1 = h.2.2.1 ∧ h'.2.2.2.2 = h.2.2.2.2) ∧ (∀ a i, ¬ V a i → hI h' a i = hI h a i) ∧ ∀ a i, ¬ R a i → hP h' a i = hP h a i
theorem xp_rfl {V R : Nat → Nat → Prop} {h : z_M} : z_xp V R h h := sorry
theorem xp_tr {V R : Nat → Nat → Prop} {h h1 h2 : z_M} (p : z_xp V R h h1) (q : z_xp V R h1 h2) : z_xp V R h h2 := sorry
theorem xp_le {V R V' R' : Nat → Nat → Prop} {h h' : z_M} (p : z_xp V R h h') (v : ∀ a i, V a i → V' a i) (r : ∀ a i, R a i → R' a i) : z_xp V' R' h h' := sorry
theorem xp_ix {V R : Nat → Nat → Prop} {h h' : z_M} (p : z_ix V h h') : z_xp V R h h' := sorry
theorem xp_sP {V R : Nat → Nat → Prop} {h h1 : z_M} {a i v : Nat} (p : z_xp V R h h1) (r : R a i) : z_xp V R h (sP h1 a i v) := sorry
theorem xp_sI {V R : Nat → Nat → Prop} {h h1 : z_M} {a i : Nat} {v : Int} (p : z_xp V R h h1) (r : V a i) : z_xp V R h (sI h1 a i v) := sorry
theorem xp_K {V R : Nat → Nat → Prop} {h h' : z_M} (p : z_xp V R h h') (a : Nat) : hK h' a = hK h a := sorry
theorem xp_N {V R : Nat → Nat → Prop} {h h' : z_M} (p : z_xp V R h h') (a : Nat) : hN h' a = hN h a := sorry
theorem xp_Z {V R : Nat → Nat → Prop} {h h' : z_M} (p : z_xp V R h h') : hZ h' = hZ h := sorry
theorem xp_S {V R : Nat → Nat → Prop} {h h' : z_M} (p : z_xp V R h h') : hS h' = hS h := sorry
/-- frames of lines: what never changes -/
def S_ln (k : Nat) (h : z_M) : Prop := S_fr (657 + 62 * k) (680 + 62 * k) h ∧ (hP h (657 + 62 * k) 1 = 658 + 62 * k ∧ hK h (658 + 62 * k) = 40 ∧ hP h (658 + 62 * k) 0 = 659 + 62 * k ∧ hK h (659 + 62 * k) = 1109 ∧ hN h (659 + 62 * k) = 4) ∧
  (∀ c, c < 4 → hP h (659 + 62 * k) c = 661 + 62 * k + 2 * c ∧ hK h (661 + 62 * k + 2 * c) = 41 ∧ hP h (661 + 62 * k + 2 * c) 0 = 662 + 62 * k + 2 * c ∧ hK h (662 + 62 * k + 2 * c) = 1000 ∧ hN h (662 + 62 * k + 2 * c) = 144) ∧ k ≤ 2
theorem S_ln_xp {V R : Nat → Nat → Prop} {k : Nat} {h h' : z_M} (p : z_xp V R h h') (r : ∀ a i, R a i → (661 + 62 * k ≤ a ∧ a ≤ 667 + 62 * k) ∧ i = 1) (S : S_ln k h) : S_ln k h' := sorry
theorem c_clear_l {co sm : Nat} (ls : sm < 4294967296) : ∀ (q : Nat) (x : Int) (h : z_M), hK h co = 41 → hP h co 0 = sm → hK h sm = 1000 → hN h sm = 144 → x + q = 144 → 0 ≤ x →
    ∃ h', f549_2 co x h = f549_22 co h' ∧ z_ix (fun a _ => a = sm) h h' := sorry
theorem c_clear {co sm : Nat} {h : z_M} (ls : sm < 4294967296) (k1 : hK h co = 41) (p1 : hP h co 0 = sm) (k2 : hK h sm = 1000) (n2 : hN h sm = 144) :
    ∃ h', f549_0 co h = z_rv h' ∧ hP h' co 1 = 0 ∧ z_xp (fun a _ => a = sm ∨ a = co) (fun a i => a = co ∧ i = 1) h h' := sorry
theorem c_beg {k : Nat} : ∀ (q c : Nat) (h : z_M), S_ln k h → c + q = 4 →
    ∃ h', f544_10 (658 + 62 * k) (659 + 62 * k) 4 ((c : Nat) : Int) h = f544_31 (658 + 62 * k) h' ∧ (∀ j, c ≤ j → j < 4 → hP h' (661 + 62 * k + 2 * j) 1 = 0) ∧ z_xp (fun a _ => 661 + 62 * k ≤ a ∧ a ≤ 668 + 62 * k) (fun a i => (661 + 62 * k + 2 * c ≤ a ∧ a ≤ 667 + 62 * k) ∧ i = 1) h h' := sorry
/-- what a new picture of lines holds -/
theorem c_picture {k : Nat} {w g n : Int} {h : z_M} (S : S_ln k h) (hw : 1 ≤ w ∧ w ≤ 12) (hg : 1 ≤ g ∧ g ≤ 12) (hn : 1 ≤ n ∧ n ≤ 4) :
    ∃ v h', f522_0 (657 + 62 * k) w g 8 n h = z_ri v h' ∧ (∀ j, j < 4 → hP h' (661 + 62 * k + 2 * j) 1 = 0) ∧ (hI h' (658 + 62 * k) 2 = w ∧ hI h' (658 + 62 * k) 3 = g ∧ hI h' (658 + 62 * k) 4 = 8 ∧ hI h' (658 + 62 * k) 5 = n ∧ hI h' (658 + 62 * k) 6 = 0 ∧ hI h' (658 + 62 * k) 7 = 64 ∧ hI h' (658 + 62 * k) 8 = 4 ∧ hI h' (657 + 62 * k) 3 = 1) ∧
      z_xp (fun a i => (658 + 62 * k ≤ a ∧ a ≤ 668 + 62 * k) ∨ (a = 657 + 62 * k ∧ i = 3)) (fun a i => (661 + 62 * k ≤ a ∧ a ≤ 667 + 62 * k) ∧ i = 1) h h' := sorry
