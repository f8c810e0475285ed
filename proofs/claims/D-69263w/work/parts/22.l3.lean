set_option maxRecDepth 100000
set_option linter.unusedVariables false
set_option maxHeartbeats 200000
/-! PLAIN, LINES: an error is told -/
theorem eb_le {t F W : Nat} {n m : Int} {hc ht hc' ht' : z_M} (p : z_ebt t F W n hc ht hc' ht') (h : n ≤ m) : z_ebt t F W m hc ht hc' ht' := sorry
theorem shr_nn {x k : Int} (a : 0 ≤ x) : 0 ≤ z_shr x k := sorry
theorem p_108 {hc ht : z_M} {t F W c : Nat} {m e mm : Int} (kc : hK hc c = 53) (hm : 0 ≤ m ∧ m ≤ 3) (hmm : 0 ≤ mm) (R : R_cx c m hc ht) (L : z_LS t F W hc ht) (r : z_PH ht + 40 ≤ 41990) :
    ∃ hc' ht', f1062_108 t c e mm hc = z_ri e hc' ∧ f942_156 m e mm ht = f942_239 m e ht' ∧ z_ebt t F W 33 hc ht hc' ht' := sorry
