set_option maxRecDepth 100000
set_option linter.unusedVariables false
set_option maxHeartbeats 200000
/-! PLAIN, LINES: the whole of layLines and makeLines -/
def R_md (hc ht : z_M) : Prop := hI hc 1 4 = hI ht 1064 14 ∧ (0 ≤ hI ht 1064 14 ∧ hI ht 1064 14 ≤ 6400) ∧ ∀ j : Nat, (j : Int) < hI ht 1064 14 → hI hc 5 j % 256 = hI ht 1074 j
/-- the house's own cells for lines -/
def S_hl (k : Nat) (h : z_M) : Prop := S_ln k h ∧ (hK h 1 = 10 ∧ hP h 1 3 = 5 ∧ hP h 1 10 = 17) ∧ (hK h 5 = 1002 ∧ hN h 5 = 6400) ∧ (hK h 17 = 1108 ∧ hN h 17 = 3 ∧ hP h 17 k = 657 + 62 * k) ∧ 1272 ≤ hZ h
/-- what lines change of the component's cells -/
def z_lV (k a i : Nat) : Prop := (658 + 62 * k ≤ a ∧ a ≤ 668 + 62 * k) ∨ (a = 657 + 62 * k ∧ (i = 3 ∨ i = 6)) ∨ a = 680 + 62 * k ∨ (a = 1 ∧ i = 4) ∨ a = 5
def z_lR (k a i : Nat) : Prop := (661 + 62 * k ≤ a ∧ a ≤ 667 + 62 * k) ∧ i = 1
/-- what lines change of the twin's -/
def z_lT (a i : Nat) : Prop := (a = 1064 ∧ ((43 ≤ i ∧ i ≤ 55) ∨ i = 60 ∨ (97 ≤ i ∧ i ≤ 102) ∨ i = 14)) ∨ a = 1094 ∨ a = 1110 ∨ a = 1111 ∨ a = 1112 ∨ a = 1088 ∨ a = 1089 ∨ a = 1074
theorem p_lay {k kp n : Nat} {nr rs w g : Int} {hc ht : z_M} (S : S_hl k hc) (turnk : hI hc (657 + 62 * k) 0 = ((k : Nat) : Int)) (Sp : z_shp hc) (hz : hZ hc < 2999999000) (hn : 1 ≤ n ∧ n ≤ 4 ∧ kp + n ≤ 8) (hr : 0 ≤ nr ∧ nr ≤ 3) (hs : 0 ≤ rs ∧ rs ≤ 12) (hw : hI hc (103 + 3 * kp) 0 = w ∧ hI ht 1065 kp = w ∧ 1 ≤ w ∧ w ≤ 12) (hg : hI hc (103 + 3 * kp) 1 = g ∧ hI ht 1066 kp = g ∧ 1 ≤ g ∧ g ≤ 12)
    (Rs : ∀ c j : Nat, c < n → j < 144 → hI hc (104 + 3 * (kp + c)) j = hI ht 1067 (144 * (kp + c) + j) ∧ 0 ≤ hI ht 1067 (144 * (kp + c) + j) ∧ hI ht 1067 (144 * (kp + c) + j) ≤ 255) :
    ∃ hc' ht', f148_0 1 ((kp : Nat) : Int) ((n : Nat) : Int) ((k : Nat) : Int) nr rs hc = z_rv hc' ∧ f949_0 ((kp : Nat) : Int) ((n : Nat) : Int) ((k : Nat) : Int) nr rs ht = z_rv ht' ∧ R_md hc' ht' ∧ z_fp (z_lV k) (z_lR k) (2 + 4 * n) (17 + 165 * n) hc hc' ∧ z_ix z_lT ht ht' := sorry
