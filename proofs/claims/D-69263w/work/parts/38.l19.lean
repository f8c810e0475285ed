set_option maxRecDepth 100000
set_option linter.unusedVariables false
set_option maxHeartbeats 200000
/-! PLAIN: what was made is kept in a file; pictures are alike -/
theorem t_tof {f : Nat} {s : Int} (hf : f < 12) (hs : 0 ≤ s ∧ s ≤ 1500) : ∀ (q i : Nat) (h : z_M), ((i : Nat) : Int) + q = s → hI h 1064 14 = s →
    ∃ h', f982_14 ((f : Nat) : Int) ((i : Nat) : Int) h = f982_46 ((f : Nat) : Int) h' ∧ (∀ j : Nat, i ≤ j → (j : Int) < s → hI h' 1073 (1500 * f + j) = hI h 1074 j) ∧ z_ix (fun a j => a = 1073 ∧ 1500 * f + i ≤ j ∧ (j : Int) < 1500 * f + s) h h' := sorry
theorem c_kept {f : Nat} {s : Int} {hc : z_M} (hf : f < 12) (k1 : hK hc 1 = 10) (p5 : hP hc 1 3 = 5) (k5 : hK hc 5 = 1002) (n5 : hN hc 5 = 6400) (kB : hK hc (135 + (2 * f)) = 29) (pB : hP hc (135 + (2 * f)) 0 = 136 + (2 * f)) (kb : hK hc (136 + (2 * f)) = 1002) (nb : hN hc (136 + (2 * f)) = 1500) (m1 : hI hc 1 4 = s) (hs : 0 ≤ s ∧ s ≤ 1500) :
    f143_12 1 (135 + (2 * f)) hc = z_ri s (sI (z_cpy hc 5 0 (136 + (2 * f)) 0 (Int.toNat s)) (135 + (2 * f)) 1 s) := sorry
theorem p_keep {f : Nat} {hc ht : z_M} (hf : f < 12) (S : z_shf hc) (p5 : hP hc 1 3 = 5) (k5 : hK hc 5 = 1002 ∧ hN hc 5 = 6400) (M : R_md hc ht) (R : R_fil hc ht) :
    ∃ v hc' ht', f143_0 1 (135 + 2 * f) hc = z_ri v hc' ∧ f982_0 ((f : Nat) : Int) ht = z_ri v ht' ∧ R_fil hc' ht' ∧ (hc' = hc ∨ hc' = sI (z_cpy hc 5 0 (136 + 2 * f) 0 (Int.toNat (hI hc 1 4))) (135 + 2 * f) 1 (hI hc 1 4)) ∧ z_ix (fun a _ => a = 1073 ∨ a = 1072) ht ht' := sorry
/-! alike -/
def z_al (k n : Int) (ht : z_M) (i : Int) : Prop := ∀ j, i ≤ j → j < k + n → j ≤ 7 ∧ 0 < hI ht 1065 (Int.toNat j) ∧ hI ht 1065 (Int.toNat j) = hI ht 1065 (Int.toNat k) ∧ hI ht 1066 (Int.toNat j) = hI ht 1066 (Int.toNat k)
theorem al_s {k n i : Int} {ht : z_M} (h : i < k + n) : z_al k n ht i ↔ (i ≤ 7 ∧ 0 < hI ht 1065 (Int.toNat i) ∧ hI ht 1065 (Int.toNat i) = hI ht 1065 (Int.toNat k) ∧ hI ht 1066 (Int.toNat i) = hI ht 1066 (Int.toNat k)) ∧ z_al k n ht (i + 1) := sorry
theorem t_al {k n : Int} {ht : z_M} (hk : 0 ≤ k ∧ k ≤ 7) (hn : 1 ≤ n ∧ n ≤ 3) : ∀ (q : Nat) (i : Int), i + q = k + n → k ≤ i → f691_5 k n 1 i ht = z_ri (z_bi (z_al k n ht i)) ht := sorry
theorem c_al {k n tr nr rs : Int} {r8 : Nat} {hc ht : z_M} (S : z_shp hc) (R : R_pic hc ht) (hk : 0 ≤ k ∧ k + n ≤ 8) (hn : 1 ≤ n ∧ n ≤ 3) : ∀ (q : Nat) (i : Int), i + q = n → 0 ≤ i → f151_46 1 k n tr nr rs (103 + 3 * (Int.toNat k)) r8 i hc = z_if (z_al k n ht (k + i)) (f151_98 1 k n tr nr rs r8 hc) (z_ex (hZ hc + 1) (sN hc 6 6)) := sorry
