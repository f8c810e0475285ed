set_option maxRecDepth 100000
set_option linter.unusedVariables false
set_option maxHeartbeats 200000
/-! GREYS: reading, the head -/
def Q_c_cnt (h g : z_M) (w : Int) (q : Int) (wq : Int) (X : Nat → Nat → Int) (x_ : z_Z) : Prop := ((x_ = f349_65 52 wq (sZ h X)) ∧ (0 ≤ wq ∧ wq ≤ 144))
set_option maxHeartbeats 4000000 in
theorem c_cnt {h g : z_M} {w : Int} {q : Int} {wq : Int} {X : Nat → Nat → Int} (S : S0 h) (c1 : X 35 5 = w) (c2 : X 35 6 = q) (c3 : 1 ≤ w ∧ w ≤ 12) (c4 : 1 ≤ q ∧ q ≤ 12) (c5 : X 35 15 = 0) (hwq : w * q = wq) : ∀ (nu : Nat) (x : Int) (y : Int), (wq - x).toNat = nu → (0 ≤ x ∧ x ≤ wq) → (y = x) → Q_c_cnt h g w q wq X (f349_4 52 y x (sZ h X)) := by
  intro nu
  induction nu using Nat.strongRecOn with
  | ind nu ih =>
    intro x y  hn hx hy
    subst hn
    have n4 : wq ≤ 144 := mu_4 hwq c3 c4
    rw [e349_4, gk1 (by exact (sk S 52)), show hP (sZ h X) 52 9 = 35 from sp S 52 9 35, gk1 (by exact (sk S 35)), gk1 (by exact (sk S 52)), gk1 (by exact (sk S 35)), show hI (sZ h X) 35 5 = X 35 5 from rfl, show X 35 5 = w from c1, show hI (sZ h X) 35 6 = X 35 6 from rfl, show X 35 6 = q from c2, show w * q = wq from hwq, show z_w wq = wq from w_id (by omega) (by omega)]
    by_cases q1 : wq ≤ x
    · rw [z_if_t q1]
      rw [show y = wq by omega]
      exact ⟨rfl, (by omega)⟩
    · rw [z_if_f q1, gk1 (by exact (sk S 52)), gk1 (by exact (sk S 52)), gk1 (by exact (sk S 35)), z_g_t (by first | decide | omega), gk1 (by exact (sk S 52)), gk1 (by exact (sk S 35)), z_g_t (by first | decide | omega), gk1 (by exact (sk S 35)), e306_0, gk1 (by exact (sk S 35)), show hI (sZ h X) 35 15 = X 35 15 from rfl, show X 35 15 = 0 from c5, z_if_t (by decide), e306_20, e306_21, gb_0, z_ki_ri, z_if_t (by decide), e349_56, e349_57, show z_w (y + 1) = y + 1 from w_id (by omega) (by omega), show z_w (x + 1) = x + 1 from w_id (by omega) (by omega)]
      exact ih ((wq - (x + 1)).toNat) (by omega) (x + 1) (y + 1) rfl (by omega) (by omega) 
def R_k1 (x : Int) (X0 : Nat → Nat → Int) (X : Nat → Nat → Int) (Y : Nat → Nat → Int) : Prop := (∀ i : Nat, (i : Int) < x → X 55 i = 0) ∧ (z_iw (fun a _ => a = 55) X0 X)
def R_k2 (x : Int) (Y0 : Nat → Nat → Int) (X : Nat → Nat → Int) (Y : Nat → Nat → Int) : Prop := (∀ i : Nat, (i : Int) < x → Y 1075 i = 0) ∧ (z_iw (fun a _ => a = 1075) Y0 Y)
def Q_ck_1 (h g : z_M) (X0 : Nat → Nat → Int) (y : Int) (x_ : z_Z) : Prop := (∃ (X1 : Nat → Nat → Int), (x_ = f349_89 52 y (sZ h X1)) ∧ (R_k1 256 X0 X1 X1))
set_option maxHeartbeats 4000000 in
theorem ck_1 {h g : z_M} {X0 : Nat → Nat → Int} {y : Int} (S : S0 h) : ∀ (nu : Nat) (x : Int) (X : Nat → Nat → Int), (256 - x).toNat = nu → (0 ≤ x ∧ x ≤ 256) → R_k1 x X0 X X → Q_ck_1 h g X0 y (f349_67 52 y x (sZ h X)) := by
  intro nu
  induction nu using Nat.strongRecOn with
  | ind nu ih =>
    intro x X hn hx R
    subst hn
    obtain ⟨a1, f1⟩ := id R
    rw [e349_67, gk1 (by exact (sk S 52)), show hP (sZ h X) 52 3 = 55 from sp S 52 3 55, gle (by exact (sk S 55)) (by decide), show ((hN (sZ h X) 55) : Int) = 256 from by rw [show hN (sZ h X) 55 = 256 by exact (sn S 55)]; rfl]
    by_cases q1 : 256 ≤ x
    · rw [z_if_t q1]
      exact ⟨X, rfl, ⟨(by intro i_ hi_; have q_ := a1 i_ (by omega); exact q_), f1⟩⟩
    · rw [z_if_f q1, gk1 (by exact (sk S 52)), gian_n (n := 256) (by exact (sk S 55)) (by exact (sn S 55)) (by omega) (by omega) (by omega), show z_w (x + 1) = x + 1 from w_id (by omega) (by omega)]
      exact ih ((256 - (x + 1)).toNat) (by omega) (x + 1) (z_up X 55 (Int.toNat x) 0) rfl (by omega) ⟨(by
        intro i_ hi_
        by_cases z_ : i_ = Int.toNat x
        · simp (disch := first | decide | omega) only [up_a, up_1e]; first | done | omega | exact ⟨by omega, by omega⟩ | exact ⟨trivial, by omega⟩ | exact ⟨by omega, trivial⟩
        · have q_ := a1 i_ (by omega); simp (disch := first | decide | omega) only [up_a, up_i]; exact q_), (iw_to f1 (by first | exact rfl | exact .inl rfl | exact .inr rfl))⟩
def Q_tk_1 (h g : z_M) (Y0 : Nat → Nat → Int) (x1 : Int) (x2 : Int) (y_ : z_Z) : Prop := (∃ (Y1 : Nat → Nat → Int), (y_ = f1023_180 x1 x2 (sZ g Y1)) ∧ (R_k2 144 Y0 Y1 Y1))
set_option maxHeartbeats 4000000 in
theorem tk_1 {h g : z_M} {Y0 : Nat → Nat → Int} {x1 : Int} {x2 : Int} : ∀ (nu : Nat) (x : Int) (Y : Nat → Nat → Int), (144 - x).toNat = nu → (0 ≤ x ∧ x ≤ 144) → R_k2 x Y0 Y Y → Q_tk_1 h g Y0 x1 x2 (f1023_158 x1 x2 x (sZ g Y)) := by
  intro nu
  induction nu using Nat.strongRecOn with
  | ind nu ih =>
    intro x Y hn hx R
    subst hn
    obtain ⟨a1, f1⟩ := id R
    rw [e1023_158]
    by_cases q1 : 144 ≤ x
    · rw [z_if_t q1]
      exact ⟨Y, rfl, ⟨(by intro i_ hi_; have q_ := a1 i_ (by omega); exact q_), f1⟩⟩
    · rw [z_if_f q1, gin (by omega) (by omega), show z_w (x + 1) = x + 1 from w_id (by omega) (by omega)]
      exact ih ((144 - (x + 1)).toNat) (by omega) (x + 1) (z_up Y 1075 (Int.toNat x) 0) rfl (by omega) ⟨(by
        intro i_ hi_
        by_cases z_ : i_ = Int.toNat x
        · simp (disch := first | decide | omega) only [up_a, up_1e]; first | done | omega | exact ⟨by omega, by omega⟩ | exact ⟨trivial, by omega⟩ | exact ⟨by omega, trivial⟩
        · have q_ := a1 i_ (by omega); simp (disch := first | decide | omega) only [up_a, up_i]; exact q_), (iw_to f1 (by first | exact rfl | exact .inl rfl | exact .inr rfl))⟩
