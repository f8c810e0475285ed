set_option maxRecDepth 100000
set_option linter.unusedVariables false
set_option maxHeartbeats 200000
/-! GREYS: reading, the planes -/
def R_gd (w : Int) (q : Int) (sd : Int) (f : Int) (n : Int) (wt : Int) (D : Int) (T : Int) (X0 : Nat → Nat → Int) (Y0 : Nat → Nat → Int) (X : Nat → Nat → Int) (Y : Nat → Nat → Int) : Prop := (R_gq w q sd f n X0 Y0 X Y) ∧ (X 52 8 = 0 ∧ Y 1064 30 = 0) ∧ (X 44 0 = Y 1064 23) ∧ (X 44 1 = Y 1064 24) ∧ (0 ≤ Y 1064 23) ∧ (1 ≤ Y 1064 24 ∧ Y 1064 24 ≤ 31) ∧ (Y 1064 23 ≤ 450 * Y 1064 24 + 7000) ∧ (∀ i : Nat, i < 144 → 0 ≤ Y 1076 i ∧ Y 1076 i ≤ 1) ∧ (∀ i : Nat, i < 144 → 0 ≤ Y 1077 i ∧ Y 1077 i ≤ 1) ∧ (Y 1064 27 = X 52 4 + 32) ∧ (0 ≤ X 52 4 ∧ X 52 4 ≤ 8 * n) ∧ (X 52 6 = Y 1064 26) ∧ (0 ≤ Y 1064 26 ∧ Y 1064 26 ≤ 1) ∧ (Y 1064 26 = 0 ∨ (X 52 5 = Y 1064 25 ∧ 0 ≤ X 52 5 ∧ X 52 5 ≤ 8191)) ∧ (X 52 7 = wt) ∧ (wt ≤ 432) ∧ (∀ i : Nat, i < 256 → 0 ≤ X 53 i ∧ X 53 i ≤ 1) ∧ (∀ i : Nat, i < 256 → 0 ≤ X 54 i ∧ X 54 i ≤ 1) ∧ (∀ i j : Nat, i < 12 ∧ j < 12 → X 53 (16 * j + i) = Y 1077 (12 * j + i) ∧ 0 ≤ Y 1077 (12 * j + i) ∧ Y 1077 (12 * j + i) ≤ 1) ∧ (∀ i j : Nat, (i : Int) < w ∧ (j : Int) < q → X 55 (16 * j + i) = Y 1075 (12 * j + i) * D ∧ 0 ≤ Y 1075 (12 * j + i) ∧ Y 1075 (12 * j + i) < T) ∧ (∀ i j : Nat, i < 16 ∧ j < 16 ∧ ¬ ((i : Int) < w ∧ (j : Int) < q) → X 55 (16 * j + i) = 0) ∧ (∀ i j : Nat, i < 12 ∧ j < 12 ∧ ¬ ((i : Int) < w ∧ (j : Int) < q) → Y 1075 (12 * j + i) = 0)
def R_bq2 (x : Int) (X0 : Nat → Nat → Int) (X : Nat → Nat → Int) (Y : Nat → Nat → Int) : Prop := (∀ i : Nat, (i : Int) < x → X 54 i = X0 53 i ∧ X 53 i = 0) ∧ (∀ i : Nat, x ≤ (i : Int) → X 53 i = X0 53 i) ∧ (z_iw (fun a _ => a = 53 ∨ a = 54) X0 X)
def Q_bq_1 (h g : z_M) (X0 : Nat → Nat → Int) (x_ : z_Z) : Prop := (∃ (X1 : Nat → Nat → Int), (x_ = f335_34 52 (sZ h X1)) ∧ (R_bp1 64 X0 X1 X1))
set_option maxHeartbeats 4000000 in
theorem bq_1 {h g : z_M} {X0 : Nat → Nat → Int} (S : S0 h) : ∀ (nu : Nat) (x : Int) (X : Nat → Nat → Int), (64 - x).toNat = nu → (0 ≤ x ∧ x ≤ 64) → R_bp1 x X0 X X → Q_bq_1 h g X0 (f335_2 52 x (sZ h X)) := by
  intro nu
  induction nu using Nat.strongRecOn with
  | ind nu ih =>
    intro x X hn hx R
    subst hn
    obtain ⟨a1, f1⟩ := id R
    rw [e335_2]
    by_cases q1 : 64 ≤ x
    · rw [z_if_t q1]
      exact ⟨X, rfl, ⟨(by intro i_ hi_; have q_ := a1 i_ (by omega); exact q_), f1⟩⟩
    · rw [z_if_f q1, gks (by exact (sk S 52)) rfl, show hP (sZ h X) 52 2 = 35 from sp S 52 2 35, gk1 (by exact (sk S 35)), show hP (sZ h X) 35 17 = 45 from sp S 35 17 45, gian_n (n := 64) (by exact (sk S 45)) (by exact (sn S 45)) (by omega) (by omega) (by omega), gks (by exact (sk S 52)) rfl, show hP (sI (sZ h X) 45 (Int.toNat x) (-1)) 52 2 = 35 from sp S 52 2 35, gk1 (by exact (sk S 35)), show hP (sI (sZ h X) 45 (Int.toNat x) (-1)) 35 18 = 46 from sp S 35 18 46, gian_n (n := 64) (by exact (sk S 46)) (by exact (sn S 46)) (by omega) (by omega) (by omega), show z_w (x + 1) = x + 1 from w_id (by omega) (by omega)]
      exact ih ((64 - (x + 1)).toNat) (by omega) (x + 1) (z_up (z_up X 45 (Int.toNat x) (-1)) 46 (Int.toNat x) 0) rfl (by omega) ⟨(by
        intro i_ hi_
        by_cases z_ : i_ = Int.toNat x
        · simp (disch := first | decide | omega) only [up_a, up_1e]; first | done | omega | exact ⟨by omega, by omega⟩ | exact ⟨trivial, by omega⟩ | exact ⟨by omega, trivial⟩
        · have q_ := a1 i_ (by omega); simp (disch := first | decide | omega) only [up_a, up_i]; exact q_), (iw_to (iw_to f1 (by first | exact rfl | exact .inl rfl | exact .inr rfl)) (by first | exact rfl | exact .inl rfl | exact .inr rfl))⟩
def Q_bq_2 (h g : z_M) (X0 : Nat → Nat → Int) (x_ : z_Z) : Prop := (∃ (X1 : Nat → Nat → Int), (x_ = z_rv (sZ h X1)) ∧ (R_bq2 256 X0 X1 X1))
set_option maxHeartbeats 4000000 in
theorem bq_2 {h g : z_M} {X0 : Nat → Nat → Int} (S : S0 h) : ∀ (nu : Nat) (x : Int) (X : Nat → Nat → Int), (256 - x).toNat = nu → (0 ≤ x ∧ x ≤ 256) → R_bq2 x X0 X X → Q_bq_2 h g X0 (f335_36 52 x (sZ h X)) := by
  intro nu
  induction nu using Nat.strongRecOn with
  | ind nu ih =>
    intro x X hn hx R
    subst hn
    obtain ⟨a1, a2, f1⟩ := id R
    rw [e335_36, gks (by exact (sk S 52)) rfl, show hP (sZ h X) 52 0 = 53 from sp S 52 0 53, gle (by exact (sk S 53)) (by decide), show ((hN (sZ h X) 53) : Int) = 256 from by rw [show hN (sZ h X) 53 = 256 by exact (sn S 53)]; rfl]
    by_cases q1 : 256 ≤ x
    · rw [z_if_t q1, e335_70]
      exact ⟨X, rfl, ⟨(by intro i_ hi_; have q_ := a1 i_ (by omega); exact q_), (by intro i_ hi_; have q_ := a2 i_ (by omega); exact q_), f1⟩⟩
    · rw [z_if_f q1, gks (by exact (sk S 52)) rfl, gks (by exact (sk S 52)) rfl, gia_n (n := 256) (by exact (sk S 53)) (by exact (sn S 53)) (by omega) (by omega), show hP (sZ h X) 52 1 = 54 from sp S 52 1 54, gian_n (n := 256) (by exact (sk S 54)) (by exact (sn S 54)) (by omega) (by omega) (by omega), show hI (sZ h X) 53 (Int.toNat x) = X 53 (Int.toNat x) from rfl, gks (by exact (sk S 52)) rfl, show hP (sI (sZ h X) 54 (Int.toNat x) (X 53 (Int.toNat x))) 52 0 = 53 from sp S 52 0 53, gian_n (n := 256) (by exact (sk S 53)) (by exact (sn S 53)) (by omega) (by omega) (by omega), show z_w (x + 1) = x + 1 from w_id (by omega) (by omega)]
      exact ih ((256 - (x + 1)).toNat) (by omega) (x + 1) (z_up (z_up X 54 (Int.toNat x) (X 53 (Int.toNat x))) 53 (Int.toNat x) 0) rfl (by omega) ⟨(by
        intro i_ hi_
        by_cases z_ : i_ = Int.toNat x
        · simp (disch := first | decide | omega) only [up_a, up_1e]; exact ⟨by rw [z_]; exact a2 _ (by omega), by first | rfl | trivial⟩
        · have q_ := a1 i_ (by omega); simp (disch := first | decide | omega) only [up_a, up_i]; exact q_), (by
        intro i_ hi_
        by_cases z_ : i_ = Int.toNat x
        · simp (disch := first | decide | omega) only [up_a, up_1e]; first | done | omega | exact ⟨by omega, by omega⟩ | exact ⟨trivial, by omega⟩ | exact ⟨by omega, trivial⟩
        · have q_ := a2 i_ (by omega); simp (disch := first | decide | omega) only [up_a, up_i]; exact q_), (iw_to (iw_to f1 (by first | exact rfl | exact .inl rfl | exact .inr rfl)) (by first | exact rfl | exact .inl rfl | exact .inr rfl))⟩
def Q_c_bq (h g : z_M) (X : Nat → Nat → Int) (x_ : z_Z) : Prop := (∃ (X1 : Nat → Nat → Int), (x_ = z_rv (sZ h X1)) ∧ (∀ i : Nat, i < 64 → X1 45 i = -1) ∧ (∀ i : Nat, i < 256 → X1 54 i = X 53 i ∧ X1 53 i = 0) ∧ (∀ a i : Nat, ¬ (a = 45 ∨ a = 46 ∨ a = 53 ∨ a = 54) → X1 a i = X a i))
theorem c_bq {h g : z_M} {X : Nat → Nat → Int} (S : S0 h) : Q_c_bq h g X (f335_0 52 (sZ h X)) := by
  obtain ⟨X1, C1, a1, f1⟩ := bq_1 (h := h) (g := g) (X0 := X) S _ 0 X rfl (by decide) ⟨fun i hi => absurd hi (by omega), iw_rfl⟩
  obtain ⟨X2, C2, b1, b2, f2⟩ := bq_2 (h := h) (g := g) (X0 := X1) S _ 0 X1 rfl (by decide) ⟨fun i hi => absurd hi (by omega), fun i hi => rfl, iw_rfl⟩
  refine ⟨X2, by rw [e335_0, C1, e335_34, C2], fun i hi => ?_, fun i hi => ?_, fun a i w => ?_⟩
  · rw [f2 45 i (by show ¬ (45 = 53 ∨ 45 = 54); decide)]; exact a1 i (by omega)
  · obtain ⟨u, v⟩ := b1 i (by omega); rw [u, f1 53 i (by show ¬ (53 = 45 ∨ 53 = 46); decide)]; exact ⟨rfl, v⟩
  · rw [f2 a i (by show ¬ (a = 53 ∨ a = 54); omega), f1 a i (by show ¬ (a = 45 ∨ a = 46); omega)]
theorem gd_gc {w q sd f n wt D E T : Int} {X0 Y0 X Y X1 Y1 : Nat → Nat → Int} (R : R_gd w q sd f n wt D T X0 Y0 X Y) (P1 : ∀ i : Nat, i < 64 → X1 45 i = -1) (P2 : ∀ i : Nat, i < 256 → X1 54 i = X 53 i ∧ X1 53 i = 0) (F1 : ∀ a i : Nat, ¬ (a = 45 ∨ a = 46 ∨ a = 53 ∨ a = 54) → X1 a i = X a i) (T1 : ∀ i : Nat, i < 64 → Y1 1078 i = -1) (T2 : ∀ i : Nat, i < 144 → Y1 1076 i = 0) (G1 : ∀ a i : Nat, ¬ (a = 1076 ∨ a = 1078) → Y1 a i = Y a i) (hD : D = 2 * E) : R_gc w q sd f n wt 0 0 E T X0 Y0 X1 Y1 := by
  obtain ⟨ss, e1, l1, l2, l3, l4, l5, t1, t2, n4, n5, o1, o2, o3, rm, wb, u1, u2, tb, hh, h3, h4⟩ := R
  exact ⟨(by obtain ⟨c1, c2, c3, c4, c5, c6, c7, n1, n2, n3, n6, n7, bt, fx, fy⟩ := ss; exact ⟨(by first | exact c1 | (simp (disch := decide) only [F1, G1]; exact c1)), (by first | exact c2 | (simp (disch := decide) only [F1, G1]; exact c2)), (by first | exact c3 | (simp (disch := decide) only [F1, G1]; exact c3)), (by first | exact c4 | (simp (disch := decide) only [F1, G1]; exact c4)), (by first | exact c5 | (simp (disch := decide) only [F1, G1]; exact c5)), (by first | exact c6 | (simp (disch := decide) only [F1, G1]; exact c6)), (by first | exact c7 | (simp (disch := decide) only [F1, G1]; exact c7)), (by first | exact n1 | (simp (disch := decide) only [F1, G1]; exact n1)), (by first | exact n2 | (simp (disch := decide) only [F1, G1]; exact n2)), (by first | exact n3 | (simp (disch := decide) only [F1, G1]; exact n3)), (by first | exact n6 | (simp (disch := decide) only [F1, G1]; exact n6)), (by first | exact n7 | (simp (disch := decide) only [F1, G1]; exact n7)), (by intro i_ hi_; have q_ := bt i_ hi_; (try simp (disch := decide) only [F1, G1]); exact q_), (fun a i u => (F1 a i (by unfold z_Wh at u; omega)).trans (fx a i u)), (fun a i u => (G1 a i (by unfold z_Wg at u; omega)).trans (fy a i u))⟩), (by first | exact e1 | (simp (disch := decide) only [F1, G1]; exact e1)), (by first | exact l1 | (simp (disch := decide) only [F1, G1]; exact l1)), (by first | exact l2 | (simp (disch := decide) only [F1, G1]; exact l2)), (by first | exact l3 | (simp (disch := decide) only [F1, G1]; exact l3)), (by first | exact l4 | (simp (disch := decide) only [F1, G1]; exact l4)), (by first | exact l5 | (simp (disch := decide) only [F1, G1]; exact l5)), (fun i hi => by rw [T2 i hi]; decide), (by intro i hi; have q_ := t2 i (by first | omega | (simp (disch := decide) only [F1, G1] at hi; omega)); (try simp (disch := decide) only [F1, G1]); exact q_), (by first | exact n4 | (simp (disch := decide) only [F1, G1]; exact n4)), (by first | exact n5 | (simp (disch := decide) only [F1, G1]; exact n5)), (by first | exact o1 | (simp (disch := decide) only [F1, G1]; exact o1)), (by first | exact o2 | (simp (disch := decide) only [F1, G1]; exact o2)), (by first | exact o3 | (simp (disch := decide) only [F1, G1]; exact o3)), (by first | exact rm | (simp (disch := decide) only [F1, G1]; exact rm)), (by first | exact wb | (simp (disch := decide) only [F1, G1]; exact wb)), (fun i hi => by rw [(P2 i hi).2]; decide), (fun i hi => by rw [(P2 i hi).1]; exact u1 i hi), (fun i hi => by rw [P1 i hi, T1 _ r6_b]; decide), (fun i j hi => by rw [(P2 _ (by omega)).2, T2 _ (by omega)]; decide), (fun i j hi => by rw [(P2 _ (by omega)).1, G1 1077 _ (by decide)]; exact tb i j hi), (fun i j hi => absurd hi (by omega)), (fun i j hi => by rw [F1 55 _ (by decide), G1 1075 _ (by decide), ← hD]; exact hh i j ⟨hi.1, hi.2.1⟩), (by intro i j hi; have q_ := h3 i j (by first | omega | (simp (disch := decide) only [F1, G1] at hi; omega)); (try simp (disch := decide) only [F1, G1]); exact q_), (by intro i j hi; have q_ := h4 i j (by first | omega | (simp (disch := decide) only [F1, G1] at hi; omega)); (try simp (disch := decide) only [F1, G1]); exact q_)⟩
theorem gc_gd {w q sd f n wt J E T : Int} {X0 Y0 X Y Y1 : Nat → Nat → Int} (R : R_gc w q sd f n wt J 0 E T X0 Y0 X Y) (T1 : ∀ i : Nat, i < 144 → Y1 1077 i = Y 1076 i) (G1 : ∀ a i : Nat, ¬ (a = 1077) → Y1 a i = Y a i) (hJ : J = q) : R_gd w q sd f n wt E (2 * T) X0 Y0 X Y1 := by
  obtain ⟨ss, e1, l1, l2, l3, l4, l5, t1, t2, n4, n5, o1, o2, o3, rm, wb, u1, u2, st, td, ab, h1, h2, h3, h4⟩ := R
  exact ⟨(by obtain ⟨c1, c2, c3, c4, c5, c6, c7, n1, n2, n3, n6, n7, bt, fx, fy⟩ := ss; exact ⟨(by first | exact c1 | (simp (disch := decide) only [G1]; exact c1)), (by first | exact c2 | (simp (disch := decide) only [G1]; exact c2)), (by first | exact c3 | (simp (disch := decide) only [G1]; exact c3)), (by first | exact c4 | (simp (disch := decide) only [G1]; exact c4)), (by first | exact c5 | (simp (disch := decide) only [G1]; exact c5)), (by first | exact c6 | (simp (disch := decide) only [G1]; exact c6)), (by first | exact c7 | (simp (disch := decide) only [G1]; exact c7)), (by first | exact n1 | (simp (disch := decide) only [G1]; exact n1)), (by first | exact n2 | (simp (disch := decide) only [G1]; exact n2)), (by first | exact n3 | (simp (disch := decide) only [G1]; exact n3)), (by first | exact n6 | (simp (disch := decide) only [G1]; exact n6)), (by first | exact n7 | (simp (disch := decide) only [G1]; exact n7)), (by intro i_ hi_; have q_ := bt i_ hi_; (try simp (disch := decide) only [G1]); exact q_), fx, (fun a i u => (G1 a i (by unfold z_Wg at u; omega)).trans (fy a i u))⟩), (by first | exact e1 | (simp (disch := decide) only [G1]; exact e1)), (by first | exact l1 | (simp (disch := decide) only [G1]; exact l1)), (by first | exact l2 | (simp (disch := decide) only [G1]; exact l2)), (by first | exact l3 | (simp (disch := decide) only [G1]; exact l3)), (by first | exact l4 | (simp (disch := decide) only [G1]; exact l4)), (by first | exact l5 | (simp (disch := decide) only [G1]; exact l5)), (by intro i hi; have q_ := t1 i (by first | omega | (simp (disch := decide) only [G1] at hi; omega)); (try simp (disch := decide) only [G1]); exact q_), (fun i hi => by rw [T1 i hi]; exact t1 i hi), (by first | exact n4 | (simp (disch := decide) only [G1]; exact n4)), (by first | exact n5 | (simp (disch := decide) only [G1]; exact n5)), (by first | exact o1 | (simp (disch := decide) only [G1]; exact o1)), (by first | exact o2 | (simp (disch := decide) only [G1]; exact o2)), (by first | exact o3 | (simp (disch := decide) only [G1]; exact o3)), (by first | exact rm | (simp (disch := decide) only [G1]; exact rm)), (by first | exact wb | (simp (disch := decide) only [G1]; exact wb)), (by intro i hi; have q_ := u1 i (by first | omega | (simp (disch := decide) only [G1] at hi; omega)); (try simp (disch := decide) only [G1]); exact q_), (by intro i hi; have q_ := u2 i (by first | omega | (simp (disch := decide) only [G1] at hi; omega)); (try simp (disch := decide) only [G1]); exact q_), (fun i j hi => by rw [T1 _ (by omega)]; exact td i j hi), (fun i j hi => by rw [G1 1075 _ (by decide)]; exact h1 i j (by omega)), (by intro i j hi; have q_ := h3 i j (by first | omega | (simp (disch := decide) only [G1] at hi; omega)); (try simp (disch := decide) only [G1]); exact q_), (by intro i j hi; have q_ := h4 i j (by first | omega | (simp (disch := decide) only [G1] at hi; omega)); (try simp (disch := decide) only [G1]); exact q_)⟩
def z_pc (p D T wt wq : Int) : Prop := (p = -1 ∧ D = 1 ∧ T ≤ 8 ∧ wt = 0) ∨ (p = 0 ∧ D = 2 ∧ T ≤ 4 ∧ wt = wq) ∨ (p = 1 ∧ D = 4 ∧ T ≤ 2 ∧ wt = 2 * wq) ∨ (p = 2 ∧ D = 8 ∧ T ≤ 1 ∧ wt = 3 * wq)
def z_p3 (p E : Int) : Prop := p = 0 ∧ E = 1 ∨ p = 1 ∧ E = 2 ∨ p = 2 ∧ E = 4
theorem pc_e {p D T wt wq : Int} (h : z_pc p D T wt wq) (hp : p < 0) : wt = 0 ∧ D = 1 ∧ T ≤ 8 := by
  rcases h with h | h | h | h <;> omega
theorem pc_s {p D T wt wq : Int} (h : z_pc p D T wt wq) (hp : ¬ p < 0) (hw : wq ≤ 144) (h1 : 1 ≤ wq) : D = 2 * (D / 2) ∧ z_pc (p + (-1)) (D / 2) (2 * T) (wt - wq) wq ∧ z_p3 p (D / 2) ∧ T ≤ 4 ∧ wq ≤ wt ∧ wt ≤ 432 := by
  rcases h with h | h | h | h <;> obtain ⟨a, b, c, d⟩ := h <;> subst a <;> subst b <;> subst d
  · exact absurd hp (by decide)
  · exact ⟨by decide, .inl ⟨by decide, by decide, by omega, by omega⟩, .inl ⟨rfl, by decide⟩, by omega, by omega, by omega⟩
  · exact ⟨by decide, .inr (.inl ⟨by decide, by decide, by omega, by omega⟩), .inr (.inl ⟨rfl, by decide⟩), by omega, by omega, by omega⟩
  · exact ⟨by decide, .inr (.inr (.inl ⟨by decide, by decide, by omega, by omega⟩)), .inr (.inr ⟨rfl, by decide⟩), by omega, by omega, by omega⟩
theorem gd_lit {w q sd f n wt D T : Int} {X0 Y0 X Y : Nat → Nat → Int} (R : R_gd w q sd f n wt D T X0 Y0 X Y) (h : wt = 0 ∧ D = 1 ∧ T ≤ 8) : R_gd w q sd f n 0 1 T X0 Y0 X Y := by
  obtain ⟨a, b, _⟩ := h; subst a; subst b; exact R
def Q_gh_pl (h g : z_M) (w : Int) (q : Int) (sd : Int) (f : Int) (n : Int) (X0 : Nat → Nat → Int) (Y0 : Nat → Nat → Int) (wq : Int) (x_ y_ : z_Z) : Prop := (∃ (T1 : Int) (X1 : Nat → Nat → Int) (Y1 : Nat → Nat → Int), (x_ = f337_170 (sZ h X1)) ∧ (y_ = f876_255 (sZ g Y1)) ∧ (T1 ≤ 8) ∧ (R_gd w q sd f n 0 1 T1 X0 Y0 X1 Y1)) ∨ (∃ (fa : Int) (X1 : Nat → Nat → Int) (Y1 : Nat → Nat → Int), (x_ = z_ri 0 (sZ h X1)) ∧ (y_ = z_rv (sZ g Y1)) ∧ (R_gf w q fa X0 Y0 X1 Y1))
set_option maxHeartbeats 4000000 in
theorem gh_pl {h g : z_M} {w : Int} {q : Int} {sd : Int} {f : Int} {n : Int} {X0 : Nat → Nat → Int} {Y0 : Nat → Nat → Int} {wq : Int} (S : S0 h) (hwq : w * q = wq) : ∀ (nu : Nat) (p : Int) (wt : Int) (D : Int) (T : Int) (X : Nat → Nat → Int) (Y : Nat → Nat → Int), (p + 1).toNat = nu → (-1 ≤ p ∧ p ≤ 2) → (1 ≤ T) → (z_pc p D T wt wq) → R_gd w q sd f n wt D T X0 Y0 X Y → Q_gh_pl h g w q sd f n X0 Y0 wq (f337_21 52 p (sZ h X)) (f876_33 wt p (sZ g Y)) := by
  intro nu
  induction nu using Nat.strongRecOn with
  | ind nu ih =>
    intro p wt D T X Y hn hp hT hc R
    subst hn
    have n4_ : wq ≤ 144 := mu_4 hwq R.1.2.2.1 R.1.2.2.2.1
    have n5_ : 1 ≤ wq := mu_5 hwq R.1.2.2.1.1 R.1.2.2.2.1.1
    obtain ⟨ss, e1, l1, l2, l3, l4, l5, t1, t2, n4, n5, o1, o2, o3, rm, wb, u1, u2, tb, hh, h3, h4⟩ := id R
    obtain ⟨c1, c2, c3, c4, c5, c6, c7, n1, n2, n3, n6, n7, bt, fx, fy⟩ := id ss
    rw [e337_21]
    by_cases q1 : p < 0
    · have hce := pc_e hc q1
      rw [z_if_t q1, e876_33, z_if_t q1]
      exact .inl ⟨T, X, Y, rfl, rfl, hce.2.2, (gd_lit R hce)⟩
    · obtain ⟨hs1, hs2, hs3, hs4⟩ := pc_s hc q1 n4_ n5_
      rw [z_if_f q1, gks (by exact (sk S 52)) rfl, e876_33, z_if_f q1]
      obtain ⟨X1, C1, p1_1, p2_1, fr_1⟩ := c_bq (h := h) (g := g)  (X := X) S
      rw [C1]
      rw [z_kv_rv]
      obtain ⟨Y2, D2, p1_2, p2_2, fr_2⟩ := t_bp (h := h) (g := g)  (Y := Y) 
      rw [D2]
      rw [z_kv_rv]
      rcases gh_cell (h := h) (g := g) (w := w) (q := q) (sd := sd) (f := f) (n := n) (X0 := X0) (Y0 := Y0) (p := p) (E := D / 2) (T := T) (wq := wq) (tot := wt) S (hs3) (by omega) (by omega) hwq hs4.2 _ 0 0 0 0 wt X1 Y2 rfl (by omega) (by rw [Int.zero_mul]) (by omega) (by omega) (by omega) (by omega) (gd_gc R p1_1 p2_1 fr_1 p1_2 p2_2 fr_2 hs1) with ⟨wt1_3, J1_3, X3, Y3, C3, D3, hw1_3, hw2_3, R_3⟩ | ⟨fa_3, X3, Y3, C3, D3, F_3⟩
      · obtain ⟨ss_3, e1_3, l1_3, l2_3, l3_3, l4_3, l5_3, t1_3, t2_3, n4_3, n5_3, o1_3, o2_3, o3_3, rm_3, wb_3, u1_3, u2_3, st_3, td_3, ab_3, h1_3, h2_3, h3_3, h4_3⟩ := id R_3
        obtain ⟨c1_3, c2_3, c3_3, c4_3, c5_3, c6_3, c7_3, n1_3, n2_3, n3_3, n6_3, n7_3, bt_3, fx_3, fy_3⟩ := id ss_3
        rw [C3, D3]
        rw [e337_164, show z_w (p + (-1)) = p + (-1) from w_id (by omega) (by omega), e876_245]
        obtain ⟨Y4, D4, p1_4, fr_4⟩ := t_ep (h := h) (g := g)  (Y := Y3) 
        rw [D4]
        rw [z_kv_rv, show z_w (p + (-1)) = p + (-1) from w_id (by omega) (by omega)]
        exact ih (((p + (-1)) + 1).toNat) (by omega) (p + (-1)) wt1_3 (D / 2) (2 * T) X3 Y4 rfl (by omega) (by omega) (by rw [hw2_3]; exact hs2) (gc_gd R_3 p1_4 fr_4 hw1_3)
      · obtain ⟨g1_3, g2_3, g3_3, g4_3, g5_3, c3_3, c4_3, t1_3, t2_3, fx_3, fy_3⟩ := id F_3
        rw [C3, D3]
        exact .inr (⟨fa_3, X3, Y3, rfl, rfl, F_3⟩)
