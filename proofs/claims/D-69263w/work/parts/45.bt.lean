set_option maxRecDepth 100000
set_option linter.unusedVariables false
set_option maxHeartbeats 200000
/-! SHARES -/
theorem c_shar {h : z_M} {X : Nat → Nat → Int} {k : Int} {r : Nat} (S : S0 h) (e : r = 71 + 4 * Int.toNat k) : f413_0 68 k (sZ h X) = z_if (0 ≤ k ∧ k ≤ 7) (z_rr r (sZ h X)) (z_ex (hZ (sZ h X) + 1) (sN (sZ h X) 2 6)) := by
  rw [e413_0, gk1 (by exact sk S 68), show hP (sZ h X) 68 1 = 70 from sp S 68 1 70, gle (k := 1117) (by exact sk S 70) (by decide), show ((hN (sZ h X) 70 : Nat) : Int) = 8 by rw [show hN (sZ h X) 70 = 8 from sn S 70]; rfl, show z_w (8 - 1) = 7 from rfl, e419_0]
  by_cases q : 0 ≤ k ∧ k ≤ 7
  · rw [z_if_f (by omega), z_if_f (by omega), e419_15, gb_1, z_ki_ri, z_if_t (by decide), e413_23, gk1 (by exact sk S 68), show hP (sZ h X) 68 1 = 70 from sp S 68 1 70, gir_n (k := 1117) (n := 8) (by exact sk S 70) (by exact sn S 70) (by omega) (by omega) (by omega), z_if_t q]
    have qq : k = 0 ∨ k = 1 ∨ k = 2 ∨ k = 3 ∨ k = 4 ∨ k = 5 ∨ k = 6 ∨ k = 7 := by omega
    rcases qq with z | z | z | z | z | z | z | z <;> subst z <;> subst e
    · exact congrArg (fun r => z_rr r (sZ h X)) (sp S 70 0 71)
    · exact congrArg (fun r => z_rr r (sZ h X)) (sp S 70 1 75)
    · exact congrArg (fun r => z_rr r (sZ h X)) (sp S 70 2 79)
    · exact congrArg (fun r => z_rr r (sZ h X)) (sp S 70 3 83)
    · exact congrArg (fun r => z_rr r (sZ h X)) (sp S 70 4 87)
    · exact congrArg (fun r => z_rr r (sZ h X)) (sp S 70 5 91)
    · exact congrArg (fun r => z_rr r (sZ h X)) (sp S 70 6 95)
    · exact congrArg (fun r => z_rr r (sZ h X)) (sp S 70 7 99)
  · have ex : z_g (z_isk (hZ (sZ h X) + 1) (sN (sZ h X) 2 6) [2, 3]) (z_kv (f27_0 (hZ (sZ h X) + 1) (sN (sZ h X) 2 6)) (fun h2 => z_g (0 < (hZ (sZ h X) + 1) ∧ z_isk (hZ (sZ h X) + 1) h2 z_exk) (z_ex (hZ (sZ h X) + 1) h2)) z_ex) = z_ex (hZ (sZ h X) + 1) (sN (sZ h X) 2 6) := by
      rw [z_g_t (isk_new rfl), e27_0, z_g_t (isk_new rfl), x_rt rfl]
      simp only [z_kv_rv]
      rw [z_g_t ⟨by omega, isk_new rfl⟩]
    rw [z_if_f q]
    rcases Int.lt_or_le k 0 with u | u
    · rw [z_if_t (by omega), e419_14, e419_15, gb_0, z_ki_ri, z_if_f (by decide)]; exact ex
    · rw [z_if_f (by omega), z_if_t (by omega), e419_14, e419_15, gb_0, z_ki_ri, z_if_f (by decide)]; exact ex
theorem s_shr {h : z_M} {k : Int} {r n : Nat} (S : S0 h) (e : r = 71 + 4 * Int.toNat k) (e2 : n = 72 + 4 * Int.toNat k) (hk : 0 ≤ k ∧ k ≤ 7) : hK h r = 27 ∧ hK h n = 0 ∧ hP h r 1 = n := by
  have q : k = 0 ∨ k = 1 ∨ k = 2 ∨ k = 3 ∨ k = 4 ∨ k = 5 ∨ k = 6 ∨ k = 7 := by omega
  rcases q with z | z | z | z | z | z | z | z <;> subst z <;> subst e <;> subst e2
  · exact ⟨sk S 71, sk S 72, sp S 71 1 72⟩
  · exact ⟨sk S 75, sk S 76, sp S 75 1 76⟩
  · exact ⟨sk S 79, sk S 80, sp S 79 1 80⟩
  · exact ⟨sk S 83, sk S 84, sp S 83 1 84⟩
  · exact ⟨sk S 87, sk S 88, sp S 87 1 88⟩
  · exact ⟨sk S 91, sk S 92, sp S 91 1 92⟩
  · exact ⟨sk S 95, sk S 96, sp S 95 1 96⟩
  · exact ⟨sk S 99, sk S 100, sp S 99 1 100⟩
theorem t_isShare (k : Int) (m : z_M) : f752_0 k m = z_ri (z_bi (0 ≤ k ∧ k ≤ 7)) m := by
  rw [e752_0]
  by_cases q : 0 ≤ k ∧ k ≤ 7
  · rw [z_if_f (by omega), z_if_f (by omega), e752_15, gb_1, bi_t q]
  · rw [bi_f q]
    rcases Int.lt_or_le k 0 with u | u
    · rw [z_if_t (by omega), e752_14, e752_15, gb_0]
    · rw [z_if_f (by omega), z_if_t (by omega), e752_14, e752_15, gb_0]
def R_bs (hc ht : z_M) : Prop := hI hc 68 3 = hI ht 1064 356 ∧ ∀ k, k < 8 → hI hc (71 + 4 * k) 0 = (k : Int)
def Q_k_stop (h g : z_M) (k : Int) (X : Nat → Nat → Int) (Y : Nat → Nat → Int) (x_ y_ : z_Z) : Prop := (∃ (v : Int) (X1 : Nat → Nat → Int) (Y1 : Nat → Nat → Int), (x_ = z_ri 0 (sL (sZ h X1) 1272 0 v)) ∧ (y_ = z_ri v (sZ g Y1)) ∧ (Y1 1064 0 = 0) ∧ (R_bs (sZ h X1) (sZ g Y1)) ∧ (∀ a i : Nat, ¬ ((a = 68 ∧ i = 3)) → X1 a i = X a i) ∧ (∀ a i : Nat, ¬ ((a = 1064 ∧ i = 0) ∨ (a = 1064 ∧ i = 342) ∨ (a = 1064 ∧ i = 356)) → Y1 a i = Y a i)) ∨ (∃ (c : Int) (K : Nat), (x_ = z_ri c (sN (sZ h X) K 6)) ∧ (y_ = z_ri 0 (sI (sI (sZ g Y) 1064 342 c) 1064 0 c)) ∧ (1 ≤ c))
set_option maxHeartbeats 4000000 in
theorem k_stop {h g : z_M} {k : Int} {X : Nat → Nat → Int} {Y : Nat → Nat → Int} (S : S0 h) (ou : hK h 1272 = 1003 ∧ hN h 1272 = 1) (Rb : R_bs (sZ h X) (sZ g Y)) : Q_k_stop h g k X Y (f93_0 1 k 1272 (sZ h X)) (f975_0 k (sZ g Y)) := by
  obtain ⟨r71, er71⟩ : ∃ r : Nat, r = 71 + 4 * Int.toNat k := ⟨_, rfl⟩
  obtain ⟨r72, er72⟩ : ∃ r : Nat, r = 72 + 4 * Int.toNat k := ⟨_, rfl⟩
  have Rb1 : X 68 3 = Y 1064 356 := Rb.1
  rw [e93_0, gk1 (by exact (sk S 1)), e175_0, gk1 (by exact (sk S 1)), show hP (sZ h X) 1 18 = 68 from sp S 1 18 68, gk1 (by exact (sk S 68)), e414_0]
  by_cases q1 : ¬ (k = (-1))
  · rw [z_if_t q1, e414_9, gk1 (by exact (sk S 68)), show f413_0 68 k (sZ h X) = z_if (0 ≤ k ∧ k ≤ 7) (z_rr r71 (sZ h X)) (z_ex (hZ (sZ h X) + 1) (sN (sZ h X) 2 6)) from c_shar S er71]
    by_cases q2 : (0 ≤ k) ∧ (k ≤ 7)
    · obtain ⟨kr71, kr72, pr71⟩ := s_shr S er71 er72 (show 0 ≤ k ∧ k ≤ 7 by omega)
      have hrr71 : 71 ≤ r71 ∧ r72 ≤ 100 ∧ r72 = r71 + 1 := by omega
      have x0r71 : X r71 0 = k := by have q_ : X (71 + 4 * Int.toNat k) 0 = ((Int.toNat k : Nat) : Int) := Rb.2 (Int.toNat k) (by omega); rw [← er71] at q_; omega
      rw [z_if_t q2, z_kr_rr, gk1 (by exact kr71), show hI (sZ h X) r71 0 = X r71 0 from rfl, show X r71 0 = k from x0r71, e414_17, gk1 (by exact (sk S 68)), gk1 (by exact (sk S 68)), z_ki_ri, z_ki_ri, gian_n (n := 1) (by exact ou.1) (by exact ou.2) (by omega) (by omega) (by omega), show Int.toNat 0 = 0 from rfl, show hI (sZ h X) 68 3 = X 68 3 from rfl, show X 68 3 = Y 1064 356 from Rb1, e93_9, e93_15, e975_0, e756_0, z_if_f q1, t_isShare _ _, z_ki_ri, if_bi, z_if_t q2, e756_14, e756_19, show hI (sI (sZ g Y) 1064 342 0) 1064 342 = 0 from hI_s1, z_if_t (by decide), e756_31, z_ki_ri, show hI (sI (sZ g Y) 1064 342 0) 1064 356 = hI (sZ g Y) 1064 356 from hI_s0 (fun z => absurd z.2 (by decide)), show hI (sZ g Y) 1064 356 = Y 1064 356 from rfl, show hI (sI (sI (sZ g Y) 1064 342 0) 1064 356 k) 1064 342 = hI (sI (sZ g Y) 1064 342 0) 1064 342 from hI_s0 (fun z => absurd z.2 (by decide)), show hI (sI (sZ g Y) 1064 342 0) 1064 342 = 0 from hI_s1]
      exact .inl ⟨(Y 1064 356), (z_up X 68 3 k), (z_up (z_up (z_up Y 1064 342 0) 1064 356 k) 1064 0 0), rfl, rfl, (by simp (disch := first | decide | omega) only [true_and, and_true, or_true, true_or, up_a, up_i, up_1]; first | done | omega), (⟨(show (z_up X 68 3 k) 68 3 = (z_up (z_up (z_up Y 1064 342 0) 1064 356 k) 1064 0 0) 1064 356 by (try simp (disch := decide) only [up_i, up_1]); first | done | omega), fun n hn => (up_a (by omega)).trans (Rb.2 n hn)⟩), (fun a i w => by simp (disch := omega) only [up_n]), (fun a i w => by simp (disch := omega) only [up_n])⟩
    · rw [z_if_f q2, z_kr_ex, z_ki_ex, z_ki_ex, nq1 rfl, e93_12, e975_0, e756_0, z_if_f q1, t_isShare _ _, z_ki_ri, if_bi, z_if_f q2, e756_18, e756_19, show hI (sI (sZ g Y) 1064 342 1) 1064 342 = 1 from hI_s1, z_if_f (by decide), z_ki_ri, show hI (sI (sZ g Y) 1064 342 1) 1064 342 = 1 from hI_s1]
      exact .inr (⟨1, 2, rfl, rfl, (by omega)⟩)
  · rw [z_if_f q1, e414_17, gk1 (by exact (sk S 68)), gk1 (by exact (sk S 68)), z_ki_ri, z_ki_ri, gian_n (n := 1) (by exact ou.1) (by exact ou.2) (by omega) (by omega) (by omega), show Int.toNat 0 = 0 from rfl, show hI (sZ h X) 68 3 = X 68 3 from rfl, show X 68 3 = Y 1064 356 from Rb1, e93_9, e93_15, e975_0, e756_0, z_if_t (by omega), e756_14, e756_19, show hI (sI (sZ g Y) 1064 342 0) 1064 342 = 0 from hI_s1, z_if_t (by decide), e756_31, z_ki_ri, show hI (sI (sZ g Y) 1064 342 0) 1064 356 = hI (sZ g Y) 1064 356 from hI_s0 (fun z => absurd z.2 (by decide)), show hI (sZ g Y) 1064 356 = Y 1064 356 from rfl, show hI (sI (sI (sZ g Y) 1064 342 0) 1064 356 k) 1064 342 = hI (sI (sZ g Y) 1064 342 0) 1064 342 from hI_s0 (fun z => absurd z.2 (by decide)), show hI (sI (sZ g Y) 1064 342 0) 1064 342 = 0 from hI_s1]
    exact .inl ⟨(Y 1064 356), (z_up X 68 3 (-1)), (z_up (z_up (z_up Y 1064 342 0) 1064 356 k) 1064 0 0), rfl, rfl, (by simp (disch := first | decide | omega) only [true_and, and_true, or_true, true_or, up_a, up_i, up_1]; first | done | omega), (⟨(show (z_up X 68 3 (-1)) 68 3 = (z_up (z_up (z_up Y 1064 342 0) 1064 356 k) 1064 0 0) 1064 356 by (try simp (disch := decide) only [up_i, up_1]); first | done | omega), fun n hn => (up_a (by omega)).trans (Rb.2 n hn)⟩), (fun a i w => by simp (disch := omega) only [up_n]), (fun a i w => by simp (disch := omega) only [up_n])⟩
