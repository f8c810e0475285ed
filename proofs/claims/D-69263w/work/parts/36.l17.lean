set_option maxRecDepth 100000
set_option linter.unusedVariables false
set_option maxHeartbeats 200000
/-! PLAIN, LINES: lines are laid -/
theorem c_preset {h : z_M} {F P : Nat} {rs : Int} (kF : hK h F = 39) (pP : hP h F 1 = P) (kP : hK h P = 40) (v6 : hI h F 3 = 1) (hr : 0 ≤ rs ∧ rs ≤ 12) : f523_0 F 2 rs h = z_ri (hI h P 9) (sI (sI (sI h P 7 (hI h P 7)) P 8 (hI h P 8)) P 9 rs) := sorry
theorem p_cop {F W : Nat} {v : Int} (hv : 0 ≤ v ∧ v ≤ 5000) (lF : (¬ F = 1 ∧ ¬ F = 5) ∧ ¬ W = 1 ∧ ¬ W = 5) : ∀ (q : Nat) (i : Int) (hc ht : z_M), i + q = v → 0 ≤ i → (hK hc 1 = 10 ∧ hP hc 1 3 = 5) → (hK hc 5 = 1002 ∧ hN hc 5 = 6400) → (hK hc F = 39 ∧ hP hc F 5 = W) → (hK hc W = 1002 ∧ hN hc W = 6000) → hI hc F 6 = v → (∀ j : Nat, (j : Int) < v → hI hc W j % 256 = hI ht 1094 j ∧ 0 ≤ hI ht 1094 j ∧ hI ht 1094 j ≤ 255) → hI hc 1 4 = i → hI ht 1064 14 = v → (∀ j : Nat, (j : Int) < i → hI hc 5 j % 256 = hI ht 1074 j) →
    ∃ hc' ht', f148_152 1 F v i hc = z_rv hc' ∧ f949_133 i ht = z_rv ht' ∧ hI hc' 1 4 = v ∧ (∀ j : Nat, (j : Int) < v → hI hc' 5 j % 256 = hI ht' 1074 j) ∧ z_ix (fun a j => (a = 1 ∧ j = 4) ∨ a = 5) hc hc' ∧ z_ix (fun a _ => a = 1074) ht ht' := sorry
