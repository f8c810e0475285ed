set_option maxRecDepth 100000
set_option linter.unusedVariables false
set_option maxHeartbeats 200000
/-! PICTURES: made -/
def R_c_pbg (x : Int) (r1 : Nat) (r2 : Nat) (r3 : Nat) (u : Int) (X0 : Nat → Nat → Int) (X : Nat → Nat → Int) : Prop := (∀ i : Nat, (i : Int) < x → X r2 i = 0) ∧ (∀ i : Nat, (i : Int) < x → X r3 i = u) ∧ (z_iw (fun a _ => a = r2 ∨ a = r3) X0 X)
def Q_c_pbg_l (h g : z_M) (r1 : Nat) (r2 : Nat) (r3 : Nat) (u : Int) (X0 : Nat → Nat → Int) (x_ : z_Z) : Prop := (∃ (X1 : Nat → Nat → Int), (x_ = z_rv (sZ h X1)) ∧ (R_c_pbg 144 r1 r2 r3 u X0 X1))
set_option maxHeartbeats 4000000 in
theorem c_pbg_l {h g : z_M} {r1 : Nat} {r2 : Nat} {r3 : Nat} {u : Int} {X0 : Nat → Nat → Int} (S : S0 h) (kr1 : hK h r1 = 11) (kr2 : hK h r2 = 1000 ∧ hN h r2 = 144) (kr3 : hK h r3 = 1001 ∧ hN h r3 = 144) (pr1 : hP h r1 2 = r2 ∧ hP h r1 3 = r3) (hr : 103 ≤ r1 ∧ r3 ≤ 126 ∧ r2 = r1 + 1 ∧ r3 = r1 + 2) (hu : 0 ≤ u ∧ u ≤ 1) : ∀ (nu : Nat) (x : Int) (X : Nat → Nat → Int), (144 - x).toNat = nu → (0 ≤ x ∧ x ≤ 144) → R_c_pbg x r1 r2 r3 u X0 X → Q_c_pbg_l h g r1 r2 r3 u X0 (f205_13 r1 u x (sZ h X)) := by
  intro nu
  induction nu using Nat.strongRecOn with
  | ind nu ih =>
    intro x X hn hx R
    subst hn
    obtain ⟨a0, a1, f1⟩ := id R
    rw [e205_13]
    by_cases q1 : 144 ≤ x
    · rw [z_if_t q1, e205_43]
      exact ⟨X, rfl, ⟨(by intro i_ hi_; have q_ := a0 i_ (by omega); exact q_), (by intro i_ hi_; have q_ := a1 i_ (by omega); exact q_), f1⟩⟩
    · rw [z_if_f q1, gk1 (by exact kr1), show hP (sZ h X) r1 2 = r2 from pr1.1, gian_n (n := 144) (by exact kr2.1) (by exact kr2.2) (by omega) (by omega) (by omega), gk1 (by exact kr1), show hP (sI (sZ h X) r2 (Int.toNat x) 0) r1 3 = r3 from pr1.2, gizn_n (n := 144) (by exact .inl kr3.1) (by exact kr3.2) (by omega) (by omega) (by omega) (by omega), show z_w (x + 1) = x + 1 from w_id (by omega) (by omega), show z_i8 u = u from i8_01 (by omega) (by omega)]
      exact ih ((144 - (x + 1)).toNat) (by omega) (x + 1) (z_up (z_up X r2 (Int.toNat x) 0) r3 (Int.toNat x) u) rfl (by omega) ⟨(by
        intro i_ hi_
        by_cases z_ : i_ = Int.toNat x
        · simp (disch := first | decide | omega) only [up_a, up_1e]; first | done | omega | exact ⟨by omega, by omega⟩ | exact ⟨trivial, by omega⟩ | exact ⟨by omega, trivial⟩
        · have q_ := a0 i_ (by omega); simp (disch := first | decide | omega) only [up_a, up_i]; exact q_), (by
        intro i_ hi_
        by_cases z_ : i_ = Int.toNat x
        · simp (disch := first | decide | omega) only [up_a, up_1e]; first | done | omega | exact ⟨by omega, by omega⟩ | exact ⟨trivial, by omega⟩ | exact ⟨by omega, trivial⟩
        · have q_ := a1 i_ (by omega); simp (disch := first | decide | omega) only [up_a, up_i]; exact q_), (iw_to (iw_to f1 (by first | exact rfl | exact .inl rfl | exact .inr rfl | simp)) (by first | exact rfl | exact .inl rfl | exact .inr rfl | simp))⟩
def Q_c_pbg (h g : z_M) (r1 : Nat) (r2 : Nat) (r3 : Nat) (u : Int) (X : Nat → Nat → Int) (x_ : z_Z) : Prop := (∃ (X1 : Nat → Nat → Int), (x_ = z_rv (sZ h X1)) ∧ (∀ i : Nat, ((i : Int) < 144) → X1 r2 i = 0) ∧ (∀ i : Nat, ((i : Int) < 144) → X1 r3 i = u) ∧ (∀ a i : Nat, ¬ (a = r2 ∨ a = r3) → X1 a i = X a i))
theorem c_pbg {h g : z_M} {r1 : Nat} {r2 : Nat} {r3 : Nat} {u : Int} {X : Nat → Nat → Int} (S : S0 h) (kr1 : hK h r1 = 11) (kr2 : hK h r2 = 1000 ∧ hN h r2 = 144) (kr3 : hK h r3 = 1001 ∧ hN h r3 = 144) (pr1 : hP h r1 2 = r2 ∧ hP h r1 3 = r3) (hr : 103 ≤ r1 ∧ r3 ≤ 126 ∧ r2 = r1 + 1 ∧ r3 = r1 + 2) (hu : 0 ≤ u ∧ u ≤ 1) : Q_c_pbg h g r1 r2 r3 u X (f205_13 r1 u 0 (sZ h X)) := by
  obtain ⟨X1, C1, a0, a1, f1⟩ := c_pbg_l (h := h) (g := g) (r1 := r1) (r2 := r2) (r3 := r3) (u := u) (X0 := X) S kr1 kr2 kr3 pr1 hr hu _ 0 X rfl (by omega) ⟨fun i hi => absurd hi (by omega), fun i hi => absurd hi (by omega), iw_rfl⟩
  exact ⟨X1, C1, fun i hi => a0 i hi, fun i hi => a1 i hi, fun a i w => f1 a i w⟩
def R_t_pbg (x : Int) (k : Int) (u : Int) (Y0 : Nat → Nat → Int) (Y : Nat → Nat → Int) : Prop := (∀ i : Nat, 144 * k ≤ (i : Int) ∧ (i : Int) < x → Y 1067 i = 0) ∧ (∀ i : Nat, 144 * k ≤ (i : Int) ∧ (i : Int) < x → Y 1068 i = u) ∧ (∀ i : Nat, ¬ (144 * k ≤ (i : Int) ∧ (i : Int) < x) → Y 1067 i = Y0 1067 i) ∧ (∀ i : Nat, ¬ (144 * k ≤ (i : Int) ∧ (i : Int) < x) → Y 1068 i = Y0 1068 i) ∧ (z_iw (fun a _ => a = 1067 ∨ a = 1068) Y0 Y)
def Q_t_pbg_l (h g : z_M) (k : Int) (u : Int) (Y0 : Nat → Nat → Int) (y_ : z_Z) : Prop := (∃ (Y1 : Nat → Nat → Int), (y_ = z_rv (sZ g Y1)) ∧ (R_t_pbg (144 * k + 144) k u Y0 Y1))
set_option maxHeartbeats 4000000 in
theorem t_pbg_l {h g : z_M} {k : Int} {u : Int} {Y0 : Nat → Nat → Int} (hk : 0 ≤ k ∧ k ≤ 7) (hu : 0 ≤ u ∧ u ≤ 1) : ∀ (nu : Nat) (x : Int) (Y : Nat → Nat → Int), (144 * k + 144 - x).toNat = nu → (144 * k ≤ x ∧ x ≤ 144 * k + 144) → R_t_pbg x k u Y0 Y → Q_t_pbg_l h g k u Y0 (f950_21 k u x (sZ g Y)) := by
  intro nu
  induction nu using Nat.strongRecOn with
  | ind nu ih =>
    intro x Y hn hx R
    subst hn
    obtain ⟨a0, a1, o0, o1, f1⟩ := id R
    rw [e950_21, show z_w (144 * k) = 144 * k from w_id (by omega) (by omega), show z_w ((144 * k) + 144) = (144 * k) + 144 from w_id (by omega) (by omega)]
    by_cases q1 : ((144 * k) + 144) ≤ x
    · rw [z_if_t q1, e950_58]
      exact ⟨Y, rfl, ⟨(by intro i_ hi_; have q_ := a0 i_ (by omega); exact q_), (by intro i_ hi_; have q_ := a1 i_ (by omega); exact q_), (by intro i_ hi_; have q_ := o0 i_ (by omega); exact q_), (by intro i_ hi_; have q_ := o1 i_ (by omega); exact q_), f1⟩⟩
    · rw [z_if_f q1, gin (by omega) (by omega), gin (by omega) (by omega), g01 (by omega), show z_w (x + 1) = x + 1 from w_id (by omega) (by omega)]
      exact ih ((144 * k + 144 - (x + 1)).toNat) (by omega) (x + 1) (z_up (z_up Y 1067 (Int.toNat x) 0) 1068 (Int.toNat x) u) rfl (by omega) ⟨(by
        intro i_ hi_
        by_cases z_ : i_ = Int.toNat x
        · simp (disch := first | decide | omega) only [up_a, up_1e]; first | done | omega | exact ⟨by omega, by omega⟩ | exact ⟨trivial, by omega⟩ | exact ⟨by omega, trivial⟩
        · have q_ := a0 i_ (by omega); simp (disch := first | decide | omega) only [up_a, up_i]; exact q_), (by
        intro i_ hi_
        by_cases z_ : i_ = Int.toNat x
        · simp (disch := first | decide | omega) only [up_a, up_1e]; first | done | omega | exact ⟨by omega, by omega⟩ | exact ⟨trivial, by omega⟩ | exact ⟨by omega, trivial⟩
        · have q_ := a1 i_ (by omega); simp (disch := first | decide | omega) only [up_a, up_i]; exact q_), (by
        intro i_ hi_
        by_cases z_ : i_ = Int.toNat x
        · simp (disch := first | decide | omega) only [up_a, up_1e]; first | done | omega | exact ⟨by omega, by omega⟩ | exact ⟨trivial, by omega⟩ | exact ⟨by omega, trivial⟩
        · have q_ := o0 i_ (by omega); simp (disch := first | decide | omega) only [up_a, up_i]; exact q_), (by
        intro i_ hi_
        by_cases z_ : i_ = Int.toNat x
        · simp (disch := first | decide | omega) only [up_a, up_1e]; first | done | omega | exact ⟨by omega, by omega⟩ | exact ⟨trivial, by omega⟩ | exact ⟨by omega, trivial⟩
        · have q_ := o1 i_ (by omega); simp (disch := first | decide | omega) only [up_a, up_i]; exact q_), (iw_to (iw_to f1 (by first | exact rfl | exact .inl rfl | exact .inr rfl | simp)) (by first | exact rfl | exact .inl rfl | exact .inr rfl | simp))⟩
def Q_t_pbg (h g : z_M) (k : Int) (u : Int) (Y : Nat → Nat → Int) (y_ : z_Z) : Prop := (∃ (Y1 : Nat → Nat → Int), (y_ = z_rv (sZ g Y1)) ∧ (∀ i : Nat, (144 * k ≤ (i : Int) ∧ (i : Int) < 144 * k + 144) → Y1 1067 i = 0) ∧ (∀ i : Nat, (144 * k ≤ (i : Int) ∧ (i : Int) < 144 * k + 144) → Y1 1068 i = u) ∧ (∀ i : Nat, ¬ (144 * k ≤ (i : Int) ∧ (i : Int) < 144 * k + 144) → Y1 1067 i = Y 1067 i) ∧ (∀ i : Nat, ¬ (144 * k ≤ (i : Int) ∧ (i : Int) < 144 * k + 144) → Y1 1068 i = Y 1068 i) ∧ (∀ a i : Nat, ¬ (a = 1067 ∨ a = 1068) → Y1 a i = Y a i))
theorem t_pbg {h g : z_M} {k : Int} {u : Int} {Y : Nat → Nat → Int} (hk : 0 ≤ k ∧ k ≤ 7) (hu : 0 ≤ u ∧ u ≤ 1) : Q_t_pbg h g k u Y (f950_21 k u (144 * k) (sZ g Y)) := by
  obtain ⟨Y1, C1, a0, a1, o0, o1, f1⟩ := t_pbg_l (h := h) (g := g) (k := k) (u := u) (Y0 := Y) hk hu _ (144 * k) Y rfl (by omega) ⟨fun i hi => absurd hi (by omega), fun i hi => absurd hi (by omega), fun i hi => rfl, fun i hi => rfl, iw_rfl⟩
  exact ⟨Y1, C1, fun i hi => a0 i hi, fun i hi => a1 i hi, fun i hi => o0 i hi, fun i hi => o1 i hi, fun a i w => f1 a i w⟩
def Q_c_fee_s (h g : z_M) (r1 : Nat) (r8 : Nat) (r9 : Nat) (sd : Int) (n : Int) (x : Int) (X : Nat → Nat → Int) (x_ : z_Z) : Prop := (∃ (v : Int), (x_ = f187_116 1 r8 r1 sd (x + 1 + 4) (sI (sI (sZ h X) 35 22 (0 + x + 1)) 48 (Int.toNat x) v)) ∧ (v = z_i8 (z_i8 ((X r9 (Int.toNat (x + 4))) % 256))))
set_option maxHeartbeats 4000000 in
theorem c_fee_s {h g : z_M} {r1 : Nat} {r8 : Nat} {r9 : Nat} {sd : Int} {n : Int} {x : Int} {X : Nat → Nat → Int} (S : S0 h) (kr8 : hK h r8 = 29) (kr9 : hK h r9 = 1002 ∧ hN h r9 = 1500) (pr8 : hP h r8 0 = r9) (hn_ : 0 ≤ n ∧ n ≤ 1496) (hx : 0 ≤ x ∧ x < n) (hd : X 35 22 = 0 + x) (hr8 : 135 ≤ r8 ∧ 135 ≤ r9) (e1 : X r8 1 = n + 4) : Q_c_fee_s h g r1 r8 r9 sd n x X (f187_116 1 r8 r1 sd (x + 4) (sZ h X)) := by
  rw [e187_116, gk1 (by exact kr8), show hI (sZ h X) r8 1 = X r8 1 from rfl, show X r8 1 = n + 4 from e1, z_if_f (by omega), gk1 (by exact (sk S 1)), gk1 (by exact kr8), e435_0, gk1 (by exact kr8), show hP (sZ h X) r8 0 = r9 from pr8, giz_n (n := 1500) (by exact .inr kr9.1) (by exact kr9.2) (by omega) (by omega), z_ki_ri, show hP (sZ h X) 1 14 = 35 from sp S 1 14 35, gk1 (by exact (sk S 35)), show hI (sZ h X) r9 (Int.toNat (x + 4)) = X r9 (Int.toNat (x + 4)) from rfl, show z_and (X r9 (Int.toNat (x + 4))) 255 = (X r9 (Int.toNat (x + 4))) % 256 from and_m256 _, e299_0, e317_0, z_if_f (by omega), z_if_f (by omega), e317_15, gb_1, z_ki_ri, e313_0, z_if_t (by decide), e313_12, z_kv_rv, gk1 (by exact (sk S 35)), show hI (sZ h X) 35 22 = X 35 22 from rfl, show X 35 22 = 0 + x from hd, z_if_f (by omega), e299_26, e316_0, z_if_t (by decide), e316_12, z_kv_rv, gk1 (by exact (sk S 35)), gk1 (by exact (sk S 35)), gk1 (by exact (sk S 35)), show hP (sZ h X) 35 21 = 48 from sp S 35 21 48, show hI (sZ h X) 35 22 = X 35 22 from rfl, show X 35 22 = 0 + x from hd, show z_w ((0 + x) + 1) = (0 + x) + 1 from w_id (by omega) (by omega), gizn_n (n := 3000) (by exact .inr (sk S 48)) (by exact (sn S 48)) (by omega) (by omega) (by omega) (by exact .inl (sk S 48)), show Int.toNat (0 + x) = Int.toNat x from congrArg Int.toNat (by omega), gk1 (by exact (sk S 35)), z_ki_ri, show z_w ((x + 4) + 1) = (x + 4) + 1 from w_id (by omega) (by omega)]
  rw [show (x + 4) + 1 = (x + 1) + 4 by omega]
  exact ⟨(z_i8 (z_i8 ((X r9 (Int.toNat (x + 4))) % 256))), rfl, (by first | rfl | omega)⟩
def Q_c_fee_e (h g : z_M) (r1 : Nat) (r8 : Nat) (r9 : Nat) (sd : Int) (n : Int) (X : Nat → Nat → Int) (x_ : z_Z) : Prop := ((x_ = f187_145 1 r8 r1 sd (sZ h X)))
set_option maxHeartbeats 4000000 in
theorem c_fee_e {h g : z_M} {r1 : Nat} {r8 : Nat} {r9 : Nat} {sd : Int} {n : Int} {X : Nat → Nat → Int} (S : S0 h) (kr8 : hK h r8 = 29) (kr9 : hK h r9 = 1002 ∧ hN h r9 = 1500) (pr8 : hP h r8 0 = r9) (hn_ : 0 ≤ n ∧ n ≤ 1496) (hr8 : 135 ≤ r8 ∧ 135 ≤ r9) (e1 : X r8 1 = n + 4) : Q_c_fee_e h g r1 r8 r9 sd n X (f187_116 1 r8 r1 sd (n + 4) (sZ h X)) := by
  rw [e187_116, gk1 (by exact kr8), show hI (sZ h X) r8 1 = X r8 1 from rfl, show X r8 1 = n + 4 from e1, z_if_t (by omega)]
  exact rfl
def Q_c_fee (h g : z_M) (r1 : Nat) (r8 : Nat) (r9 : Nat) (sd : Int) (n : Int) (X : Nat → Nat → Int) (x_ : z_Z) : Prop := (∃ (X1 : Nat → Nat → Int), (x_ = f187_145 1 r8 r1 sd (sZ h X1)) ∧ (X1 35 22 = 0 + n) ∧ (∀ i : Nat, (i : Int) < n → X1 48 (i) = z_i8 (z_i8 ((X r9 (4 + i)) % 256))) ∧ (∀ kq : Nat, ¬ (0 ≤ kq ∧ (kq : Int) < 0 + n) → X1 48 kq = X 48 kq) ∧ (∀ a i : Nat, ¬ (a = 48 ∨ (a = 35 ∧ i = 22)) → X1 a i = X a i))
theorem c_fee {h g : z_M} {r1 : Nat} {r8 : Nat} {r9 : Nat} {sd : Int} {n : Int} {X : Nat → Nat → Int} (S : S0 h) (kr8 : hK h r8 = 29) (kr9 : hK h r9 = 1002 ∧ hN h r9 = 1500) (pr8 : hP h r8 0 = r9) (hn_ : 0 ≤ n ∧ n ≤ 1496) (h0 : X 35 22 = 0) (hr8 : 135 ≤ r8 ∧ 135 ≤ r9) (e1 : X r8 1 = n + 4) : Q_c_fee h g r1 r8 r9 sd n X (f187_116 1 r8 r1 sd (0 + 4) (sZ h X)) := by
  obtain ⟨N, hN_⟩ : ∃ N : Nat, (N : Int) = n := ⟨Int.toNat n, by omega⟩
  obtain ⟨X1, e, q0, p, r, f1⟩ := lin_cnt (h := h) (F := fun x m => f187_116 1 r8 r1 sd (x + 4) m) (n := N) (b := 0) (c := 48) (d := 35) (f := 22) (o := 0) (X0 := X) (val := fun i => z_i8 (z_i8 ((X r9 (4 + i)) % 256))) (by omega) h0 (fun Z i fz hz hi => by
      have io_4 : Int.toNat (((i : Nat) : Int) + 4) = 4 + i := by omega
      obtain ⟨v, e_, u⟩ := c_fee_s (h := h) (g := g) (r1 := r1) (r8 := r8) (r9 := r9) (sd := sd) (n := n) (X := Z) (x := (i : Int)) S kr8 kr9 pr8 hn_ (by omega) hz hr8 (by (try simp (disch := omega) only [fz]); exact e1) 
      have w_ : v = z_i8 (z_i8 ((X r9 (4 + i)) % 256)) := by rw [u]; (try simp only [Int.toNat_natCast, io_4]); (try simp (disch := omega) only [fz])
      rw [w_] at e_
      (try rw [show Int.toNat ((i : Nat) : Int) = 0 + i by omega] at e_)
      rw [show 0 + ((i : Nat) : Int) + 1 = 0 + ((i + 1 : Nat) : Int) by omega, show ((i : Nat) : Int) + 1 = ((i + 1 : Nat) : Int) by omega] at e_
      exact e_)
  have x_ : f187_116 1 r8 r1 sd (n + 4) (sZ h X1) = f187_145 1 r8 r1 sd (sZ h X1) := c_fee_e (h := h) (g := g) (r1 := r1) (r8 := r8) (r9 := r9) (sd := sd) (n := n) (X := X1) S kr8 kr9 pr8 hn_ hr8 (by (try simp (disch := omega) only [f1]); exact e1)
  rw [hN_] at e
  refine ⟨X1, e.trans x_, by omega, fun i hi => ?_, fun kq n_ => r kq (by omega), fun a kq n_ => f1 a kq (by omega)⟩
  have q_ := p i (by omega)
  rw [Nat.zero_add] at q_; exact q_
def z_uv (G d : Int) : Int := 255 - (255 * G) / d
theorem uv_b {G d : Int} (h : 0 ≤ G ∧ G ≤ d) (hd : 1 ≤ d) : 0 ≤ (255 * G) / d ∧ (255 * G) / d ≤ 255 :=
  ⟨Int.ediv_nonneg (by omega) (by omega), by
    have a : (255 * G) / d ≤ (255 * d) / d := Int.ediv_le_ediv (by omega) (by omega)
    rwa [Int.mul_ediv_cancel _ (by omega)] at a⟩
def Q_c_ups_s (h g : z_M) (r1 : Nat) (r2 : Nat) (r3 : Nat) (sd : Int) (n : Int) (w : Int) (q : Int) (wq : Int) (x : Int) (s : Int) (J : Int) (K : Int) (X : Nat → Nat → Int) (x_ : z_Z) : Prop := (∃ (va : Int) (vb : Int), (x_ = f187_189 1 r1 sd n (x + 1) (sI (sI (sZ h X) r2 (Int.toNat ((12 * J) + K)) va) r3 (Int.toNat ((12 * J) + K)) vb)) ∧ (va = z_uv (X 42 (Int.toNat ((16 * J) + K))) (sd * sd)) ∧ (vb = 1))
set_option maxHeartbeats 4000000 in
theorem c_ups_s {h g : z_M} {r1 : Nat} {r2 : Nat} {r3 : Nat} {sd : Int} {n : Int} {w : Int} {q : Int} {wq : Int} {x : Int} {s : Int} {J : Int} {K : Int} {X : Nat → Nat → Int} (S : S0 h) (kr1 : hK h r1 = 11) (kr2 : hK h r2 = 1000 ∧ hN h r2 = 144) (kr3 : hK h r3 = 1001 ∧ hN h r3 = 144) (pr1 : hP h r1 2 = r2 ∧ hP h r1 3 = r3) (hwq : w * q = wq) (hw : 1 ≤ w ∧ w ≤ 12) (hq : 1 ≤ q ∧ q ≤ 12) (hx : x = s + K) (hs : J * w = s) (hK : 0 ≤ K ∧ K < w) (hJ : 0 ≤ J ∧ J < q) (hxw : x < wq) (hr : 103 ≤ r1 ∧ r3 ≤ 126 ∧ r2 = r1 + 1 ∧ r3 = r1 + 2) (hq4 : 1 ≤ sd * sd ∧ sd * sd ≤ 4) (x1 : X r1 0 = w) (x2 : X r1 1 = q) (c1 : X 35 5 = w) (c2 : X 35 6 = q) (b2 : 0 ≤ X 42 (Int.toNat ((16 * J) + K)) ∧ X 42 (Int.toNat ((16 * J) + K)) ≤ sd * sd) : Q_c_ups_s h g r1 r2 r3 sd n w q wq x s J K X (f187_189 1 r1 sd n x (sZ h X)) := by
  have n4 : wq ≤ 144 := mu_g hwq hw hq
  have n0 : 0 ≤ s := by rw [← hs]; exact Int.mul_nonneg hJ.1 (by omega)
  have hd1 := dm_w (x := x) (j := J) (i := K) (w := w) (by omega) hK hJ.1 (by omega)
  rw [e187_189, gk1 (by exact kr1), gk1 (by exact kr1), show hI (sZ h X) r1 0 = X r1 0 from rfl, show X r1 0 = w from x1, show hI (sZ h X) r1 1 = X r1 1 from rfl, show X r1 1 = q from x2, show w * q = wq from hwq, show z_w wq = wq from w_id (by omega) (by omega), z_if_f (by omega), gk1 (by exact kr1), z_g_t (by first | decide | omega), gk1 (by exact kr1), z_g_t (by first | decide | omega), gk1 (by exact (sk S 1)), gk1 (by exact kr1), z_g_t (by first | decide | omega), gk1 (by exact kr1), z_g_t (by first | decide | omega), show hP (sZ h X) 1 14 = 35 from sp S 1 14 35, gk1 (by exact (sk S 35)), show z_rem x w = K from hd1.1, show z_div x w = J from hd1.2, e302_0, gk1 (by exact (sk S 35)), e315_0, gk1 (by exact (sk S 35)), show hI (sZ h X) 35 5 = X 35 5 from rfl, show X 35 5 = w from c1, show z_w (w - 1) = w - 1 from w_id (by omega) (by omega), e317_0, z_if_f (by omega), z_if_f (by omega), e317_15, gb_1, z_ki_ri, z_if_f (by decide), gk1 (by exact (sk S 35)), show hI (sZ h X) 35 6 = X 35 6 from rfl, show X 35 6 = q from c2, show z_w (q - 1) = q - 1 from w_id (by omega) (by omega), e317_0, z_if_f (by omega), z_if_f (by omega), e317_15, gb_1, z_ki_ri, z_if_f (by decide), e315_33, e314_0, z_if_t (by decide), e314_12, z_kv_rv, z_kv_rv, gk1 (by exact (sk S 35)), show hP (sZ h X) 35 11 = 42 from sp S 35 11 42, show z_w (16 * J) = 16 * J from w_id (by omega) (by omega), show z_w ((16 * J) + K) = (16 * J) + K from w_id (by omega) (by omega), gia_n (n := 256) (by exact (sk S 42)) (by exact (sn S 42)) (by omega) (by omega), z_ki_ri, show z_w (sd * sd) = sd * sd from w_id (by omega) (by omega), z_g_t (by first | decide | omega), gk1 (by exact kr1), show hI (sZ h X) 42 (Int.toNat ((16 * J) + K)) = X 42 (Int.toNat ((16 * J) + K)) from rfl, show z_w (255 * (X 42 (Int.toNat ((16 * J) + K)))) = 255 * (X 42 (Int.toNat ((16 * J) + K))) from w_id (by omega) (by omega)]
  have b1 := uv_b (G := X 42 (Int.toNat ((16 * J) + K))) (d := sd * sd) (by omega) (by omega)
  rw [show z_div (255 * (X 42 (Int.toNat ((16 * J) + K)))) (sd * sd) = (255 * (X 42 (Int.toNat ((16 * J) + K)))) / (sd * sd) from dv_n (by omega) (by omega) (by omega), show z_w (255 - ((255 * (X 42 (Int.toNat ((16 * J) + K)))) / (sd * sd))) = 255 - ((255 * (X 42 (Int.toNat ((16 * J) + K)))) / (sd * sd)) from w_id (by omega) (by omega), e214_0, gk1 (by exact kr1), show hP (sZ h X) r1 2 = r2 from pr1.1, show z_w (12 * J) = 12 * J from w_id (by omega) (by omega), show z_w ((12 * J) + K) = (12 * J) + K from w_id (by omega) (by omega), gian_n (n := 144) (by exact kr2.1) (by exact kr2.2) (by omega) (by omega) (by omega), gk1 (by exact kr1), show hP (sI (sZ h X) r2 (Int.toNat ((12 * J) + K)) (255 - ((255 * (X 42 (Int.toNat ((16 * J) + K)))) / (sd * sd)))) r1 3 = r3 from pr1.2, gizn_n (n := 144) (by exact .inl kr3.1) (by exact kr3.2) (by omega) (by omega) (by omega) (by omega), z_kv_rv, show z_w (x + 1) = x + 1 from w_id (by omega) (by omega), show z_i8 1 = 1 from by decide]
  exact ⟨(255 - ((255 * (X 42 (Int.toNat ((16 * J) + K)))) / (sd * sd))), 1, rfl, (by first | rfl | (unfold z_uv; omega)), (by first | rfl | omega)⟩
def Q_c_ups_e (h g : z_M) (r1 : Nat) (r2 : Nat) (r3 : Nat) (sd : Int) (n : Int) (w : Int) (q : Int) (wq : Int) (X : Nat → Nat → Int) (x_ : z_Z) : Prop := ((x_ = f187_270 1 n (sZ h X)))
set_option maxHeartbeats 4000000 in
theorem c_ups_e {h g : z_M} {r1 : Nat} {r2 : Nat} {r3 : Nat} {sd : Int} {n : Int} {w : Int} {q : Int} {wq : Int} {X : Nat → Nat → Int} (S : S0 h) (kr1 : hK h r1 = 11) (kr2 : hK h r2 = 1000 ∧ hN h r2 = 144) (kr3 : hK h r3 = 1001 ∧ hN h r3 = 144) (pr1 : hP h r1 2 = r2 ∧ hP h r1 3 = r3) (hwq : w * q = wq) (hw : 1 ≤ w ∧ w ≤ 12) (hq : 1 ≤ q ∧ q ≤ 12) (hr : 103 ≤ r1 ∧ r3 ≤ 126 ∧ r2 = r1 + 1 ∧ r3 = r1 + 2) (hq4 : 1 ≤ sd * sd ∧ sd * sd ≤ 4) (x1 : X r1 0 = w) (x2 : X r1 1 = q) (c1 : X 35 5 = w) (c2 : X 35 6 = q) : Q_c_ups_e h g r1 r2 r3 sd n w q wq X (f187_189 1 r1 sd n wq (sZ h X)) := by
  have n4 : wq ≤ 144 := mu_g hwq hw hq
  have n5 : 1 ≤ wq := mu_5 hwq hw.1 hq.1
  rw [e187_189, gk1 (by exact kr1), gk1 (by exact kr1), show hI (sZ h X) r1 0 = X r1 0 from rfl, show X r1 0 = w from x1, show hI (sZ h X) r1 1 = X r1 1 from rfl, show X r1 1 = q from x2, show w * q = wq from hwq, show z_w wq = wq from w_id (by omega) (by omega), z_if_t (by omega)]
  exact rfl
def Q_c_ups (h g : z_M) (r1 : Nat) (r2 : Nat) (r3 : Nat) (sd : Int) (n : Int) (w : Int) (q : Int) (wq : Int) (X : Nat → Nat → Int) (x_ : z_Z) : Prop := (∃ (X1 : Nat → Nat → Int), (x_ = f187_270 1 n (sZ h X1)) ∧ (∀ i j : Nat, (i : Int) < w → (j : Int) < q → X1 r2 (12 * j + i) = z_uv (X 42 (16 * j + i)) (sd * sd) ∧ X1 r3 (12 * j + i) = 1) ∧ (∀ kq : Nat, (∀ i j : Nat, (i : Int) < w → (j : Int) < q → ¬ kq = 12 * j + i) → X1 r2 kq = X r2 kq ∧ X1 r3 kq = X r3 kq) ∧ (∀ a i : Nat, ¬ (a = r2 ∨ a = r3) → X1 a i = X a i))
theorem c_ups {h g : z_M} {r1 : Nat} {r2 : Nat} {r3 : Nat} {sd : Int} {n : Int} {w : Int} {q : Int} {wq : Int} {X : Nat → Nat → Int} (S : S0 h) (kr1 : hK h r1 = 11) (kr2 : hK h r2 = 1000 ∧ hN h r2 = 144) (kr3 : hK h r3 = 1001 ∧ hN h r3 = 144) (pr1 : hP h r1 2 = r2 ∧ hP h r1 3 = r3) (hwq : w * q = wq) (hw : 1 ≤ w ∧ w ≤ 12) (hq : 1 ≤ q ∧ q ≤ 12) (hr : 103 ≤ r1 ∧ r3 ≤ 126 ∧ r2 = r1 + 1 ∧ r3 = r1 + 2) (hq4 : 1 ≤ sd * sd ∧ sd * sd ≤ 4) (x1 : X r1 0 = w) (x2 : X r1 1 = q) (c1 : X 35 5 = w) (c2 : X 35 6 = q) (b2 : ∀ i j : Nat, (i : Int) < w → (j : Int) < q → 0 ≤ X 42 (16 * j + i) ∧ X 42 (16 * j + i) ≤ sd * sd) : Q_c_ups h g r1 r2 r3 sd n w q wq X (f187_189 1 r1 sd n 0 (sZ h X)) := by
  obtain ⟨W, hW⟩ : ∃ W : Nat, (W : Int) = w := ⟨Int.toNat w, by omega⟩
  obtain ⟨Q, hQ⟩ : ∃ Q : Nat, (Q : Int) = q := ⟨Int.toNat q, by omega⟩
  have hWQ : ((W * Q : Nat) : Int) = wq := by rw [Int.natCast_mul, hW, hQ, hwq]
  obtain ⟨X1, e, p, r, f⟩ := grid_fill2 (h := h) (F := fun x m => f187_189 1 r1 sd n x m) (W := W) (Q := Q) (A := 12) (c := r2) (d := r3) (X0 := X) (val := fun i j => z_uv (X 42 (16 * j + i)) (sd * sd)) (vd := fun i j => 1) (by omega) (by omega) (by omega) (fun Z i j fz hi hj => by
      have jw : ((j * W + i : Nat) : Int) < wq := by rw [← hWQ]; have := Nat.mul_le_mul_right W (show j + 1 ≤ Q from hj); rw [Nat.add_mul, Nat.one_mul, Nat.mul_comm Q W] at this; omega
      have ik_12 : Int.toNat ((12 * ((j : Nat) : Int)) + ((i : Nat) : Int)) = 12 * j + i := by omega
      have ik_16 : Int.toNat ((16 * ((j : Nat) : Int)) + ((i : Nat) : Int)) = 16 * j + i := by omega
      obtain ⟨va, vb, e_, u0, u1⟩ := c_ups_s (h := h) (g := g) (r1 := r1) (r2 := r2) (r3 := r3) (sd := sd) (n := n) (w := w) (q := q) (wq := wq) (X := Z) (x := ((j * W + i : Nat) : Int)) (s := ((j * W : Nat) : Int)) (J := (j : Int)) (K := (i : Int)) S kr1 kr2 kr3 pr1 hwq hw hq (by rw [Int.natCast_add]) (by rw [← hW, Int.natCast_mul]) (by omega) (by omega) jw hr hq4 (by (try simp (disch := omega) only [fz]); exact x1) (by (try simp (disch := omega) only [fz]); exact x2) (by (try simp (disch := omega) only [fz]); exact c1) (by (try simp (disch := omega) only [fz]); exact c2) (by have q_ := b2 i j (by omega) (by omega); (try simp only [ik_12, ik_16]); (try simp (disch := omega) only [fz]); exact q_)
      (try simp only [ik_12, ik_16] at e_); (try rw [show ((j * W + i : Nat) : Int) + 1 = ((j * W + i + 1 : Nat) : Int) by omega] at e_)
      have w0 : va = z_uv (X 42 (16 * j + i)) (sd * sd) := by rw [u0]; (try simp only [ik_12, ik_16]); (try simp (disch := omega) only [fz])
      have w1 : vb = 1 := by rw [u1]; (try simp only [ik_12, ik_16]); (try simp (disch := omega) only [fz])
      rw [w0, w1] at e_; exact e_)
  have x_ : f187_189 1 r1 sd n wq (sZ h X1) = f187_270 1 n (sZ h X1) := c_ups_e (h := h) (g := g) (r1 := r1) (r2 := r2) (r3 := r3) (sd := sd) (n := n) (w := w) (q := q) (wq := wq) (X := X1) S kr1 kr2 kr3 pr1 hwq hw hq hr hq4 (by (try simp (disch := omega) only [f]); exact x1) (by (try simp (disch := omega) only [f]); exact x2) (by (try simp (disch := omega) only [f]); exact c1) (by (try simp (disch := omega) only [f]); exact c2)
  rw [hWQ] at e
  exact ⟨X1, e.trans x_, fun i j a b => p i j (by omega) (by omega), fun kq n_ => r kq (fun i j a b => n_ i j (by omega) (by omega)), fun a kq n_ => f a kq (by omega)⟩
def z_tv (w q G d : Int) (i : Nat) : Int := if ((i % 12 : Nat) : Int) < w ∧ ((i / 12 : Nat) : Int) < q then z_uv G d else 0
def Q_t_ups_s (h g : z_M) (k : Int) (x4 : Int) (w : Int) (q : Int) (x : Int) (Y : Nat → Nat → Int) (y_ : z_Z) : Prop := (∃ (v : Int), (y_ = f1023_388 k x4 (x + 1) (sI (sZ g Y) 1067 (Int.toNat (144 * k + x)) v)) ∧ (v = z_tv w q (Y 1075 (Int.toNat x)) x4 (Int.toNat x)))
set_option maxHeartbeats 4000000 in
theorem t_ups_s {h g : z_M} {k : Int} {x4 : Int} {w : Int} {q : Int} {x : Int} {Y : Nat → Nat → Int} (hx : 0 ≤ x ∧ x < 144) (hk : 0 ≤ k ∧ k ≤ 7) (hw : 1 ≤ w ∧ w ≤ 12) (hq : 1 ≤ q ∧ q ≤ 12) (hx4 : 1 ≤ x4 ∧ x4 ≤ 4) (y1 : Y 1065 (Int.toNat k) = w) (y2 : Y 1066 (Int.toNat k) = q) (b2 : 0 ≤ Y 1075 (Int.toNat x) ∧ Y 1075 (Int.toNat x) ≤ x4) : Q_t_ups_s h g k x4 w q x Y (f1023_388 k x4 x (sZ g Y)) := by
  rw [e1023_388, z_if_f (by omega), z_g_t (by first | decide | omega), z_g_t (by first | decide | omega), show z_rem x 12 = x % 12 from rm_n (by omega), show z_div x 12 = x / 12 from dv_n (by omega) (by omega) (by omega), e889_0, gin (by omega) (by omega), show hI (sZ g Y) 1065 (Int.toNat k) = Y 1065 (Int.toNat k) from rfl, show Y 1065 (Int.toNat k) = w from y1, show z_w (w - 1) = w - 1 from w_id (by omega) (by omega), e885_0, z_if_f (by omega)]
  by_cases q1 : (w - 1) < (x % 12)
  · rw [z_if_t q1, e885_14, e885_15, gb_0, z_ki_ri, z_if_t (by decide), e889_36, e889_37, gb_0, z_ki_ri, z_if_t (by decide), show z_w (144 * k) = 144 * k from w_id (by omega) (by omega), show z_w ((144 * k) + x) = (144 * k) + x from w_id (by omega) (by omega), e1023_447, e1023_448, gin (by omega) (by omega), show z_w (x + 1) = x + 1 from w_id (by omega) (by omega)]
    exact ⟨0, rfl, (by unfold z_tv; first | (rw [if_pos (by omega)]; first | rfl | (unfold z_uv; omega)) | rw [if_neg (by omega)])⟩
  · rw [z_if_f q1, e885_15, gb_1, z_ki_ri, z_if_f (by decide), gin (by omega) (by omega), show hI (sZ g Y) 1066 (Int.toNat k) = Y 1066 (Int.toNat k) from rfl, show Y 1066 (Int.toNat k) = q from y2, show z_w (q - 1) = q - 1 from w_id (by omega) (by omega), e885_0, z_if_f (by omega)]
    by_cases q2 : (q - 1) < (x / 12)
    · rw [z_if_t q2, e885_14, e885_15, gb_0, z_ki_ri, z_if_t (by decide), e889_36, e889_37, gb_0, z_ki_ri, z_if_t (by decide), show z_w (144 * k) = 144 * k from w_id (by omega) (by omega), show z_w ((144 * k) + x) = (144 * k) + x from w_id (by omega) (by omega), e1023_447, e1023_448, gin (by omega) (by omega), show z_w (x + 1) = x + 1 from w_id (by omega) (by omega)]
      exact ⟨0, rfl, (by unfold z_tv; first | (rw [if_pos (by omega)]; first | rfl | (unfold z_uv; omega)) | rw [if_neg (by omega)])⟩
    · rw [z_if_f q2, e885_15, gb_1, z_ki_ri, z_if_f (by decide), e889_37, gb_1, z_ki_ri, z_if_f (by decide), gin (by omega) (by omega), z_g_t (by first | decide | omega), show z_w (144 * k) = 144 * k from w_id (by omega) (by omega), show z_w ((144 * k) + x) = (144 * k) + x from w_id (by omega) (by omega), show hI (sZ g Y) 1075 (Int.toNat x) = Y 1075 (Int.toNat x) from rfl, show z_w (255 * (Y 1075 (Int.toNat x))) = 255 * (Y 1075 (Int.toNat x)) from w_id (by omega) (by omega)]
      have b1 := uv_b (G := Y 1075 (Int.toNat x)) (d := x4) (by omega) (by omega)
      rw [show z_div (255 * (Y 1075 (Int.toNat x))) x4 = (255 * (Y 1075 (Int.toNat x))) / x4 from dv_n (by omega) (by omega) (by omega), show z_w (255 - ((255 * (Y 1075 (Int.toNat x))) / x4)) = 255 - ((255 * (Y 1075 (Int.toNat x))) / x4) from w_id (by omega) (by omega), e1023_448, gin (by omega) (by omega), show z_w (x + 1) = x + 1 from w_id (by omega) (by omega)]
      exact ⟨(255 - ((255 * (Y 1075 (Int.toNat x))) / x4)), rfl, (by unfold z_tv; first | (rw [if_pos (by omega)]; first | rfl | (unfold z_uv; omega)) | rw [if_neg (by omega)])⟩
def Q_t_ups_e (h g : z_M) (k : Int) (x4 : Int) (w : Int) (q : Int) (Y : Nat → Nat → Int) (y_ : z_Z) : Prop := ((y_ = f1023_455 (sZ g Y)))
set_option maxHeartbeats 4000000 in
theorem t_ups_e {h g : z_M} {k : Int} {x4 : Int} {w : Int} {q : Int} {Y : Nat → Nat → Int} (hk : 0 ≤ k ∧ k ≤ 7) (hw : 1 ≤ w ∧ w ≤ 12) (hq : 1 ≤ q ∧ q ≤ 12) (hx4 : 1 ≤ x4 ∧ x4 ≤ 4) (y1 : Y 1065 (Int.toNat k) = w) (y2 : Y 1066 (Int.toNat k) = q) : Q_t_ups_e h g k x4 w q Y (f1023_388 k x4 144 (sZ g Y)) := by
  rw [e1023_388, z_if_t (by decide)]
  exact rfl
def Q_t_ups (h g : z_M) (k : Int) (x4 : Int) (w : Int) (q : Int) (Y : Nat → Nat → Int) (y_ : z_Z) : Prop := (∃ (Y1 : Nat → Nat → Int), (y_ = f1023_455 (sZ g Y1)) ∧ (∀ i : Nat, (i : Int) < 144 → Y1 1067 (Int.toNat (144 * k) + i) = z_tv w q (Y 1075 i) x4 i) ∧ (∀ kq : Nat, ¬ (144 * k ≤ (kq : Int) ∧ (kq : Int) < 144 * k + 144) → Y1 1067 kq = Y 1067 kq) ∧ (∀ a i : Nat, ¬ (a = 1067) → Y1 a i = Y a i))
theorem t_ups {h g : z_M} {k : Int} {x4 : Int} {w : Int} {q : Int} {Y : Nat → Nat → Int} (hk : 0 ≤ k ∧ k ≤ 7) (hw : 1 ≤ w ∧ w ≤ 12) (hq : 1 ≤ q ∧ q ≤ 12) (hx4 : 1 ≤ x4 ∧ x4 ≤ 4) (y1 : Y 1065 (Int.toNat k) = w) (y2 : Y 1066 (Int.toNat k) = q) (b2 : ∀ i : Nat, (i : Int) < 144 → 0 ≤ Y 1075 i ∧ Y 1075 i ≤ x4) : Q_t_ups h g k x4 w q Y (f1023_388 k x4 0 (sZ g Y)) := by
  obtain ⟨N, hN_⟩ : ∃ N : Nat, (N : Int) = 144 := ⟨Int.toNat 144, by omega⟩
  obtain ⟨Y1, e, p, r, f1⟩ := lin_fill (h := g) (F := fun x m => f1023_388 k x4 x m) (n := N) (b := Int.toNat (144 * k)) (c := 1067) (X0 := Y) (val := fun i => z_tv w q (Y 1075 i) x4 i) (fun Z i fz fo hi => by
      obtain ⟨v, e_, u⟩ := t_ups_s (h := h) (g := g) (k := k) (x4 := x4) (w := w) (q := q) (Y := Z) (x := (i : Int))   (by omega) hk hw hq hx4 (by (try simp (disch := omega) only [fz]); exact y1) (by (try simp (disch := omega) only [fz]); exact y2) (by have q_ := b2 i (by omega); (try simp only [Int.toNat_natCast]); (try simp (disch := omega) only [fz]); exact q_)
      have w_ : v = z_tv w q (Y 1075 i) x4 i := by rw [u]; (try simp only [Int.toNat_natCast]); (try simp (disch := omega) only [fz])
      rw [w_] at e_
      rw [show Int.toNat (144 * k + ((i : Nat) : Int)) = Int.toNat (144 * k) + i by omega, show ((i : Nat) : Int) + 1 = ((i + 1 : Nat) : Int) by omega] at e_
      exact e_)
  have x_ : f1023_388 k x4 144 (sZ g Y1) = f1023_455 (sZ g Y1) := t_ups_e (h := h) (g := g) (k := k) (x4 := x4) (w := w) (q := q) (Y := Y1)   hk hw hq hx4 (by (try simp (disch := omega) only [f1]); exact y1) (by (try simp (disch := omega) only [f1]); exact y2)
  rw [hN_] at e
  refine ⟨Y1, e.trans x_, fun i hi => ?_, fun kq n_ => r kq (by omega), fun a kq n_ => f1 a kq (by omega)⟩
  have q_ := p i (by omega)
  exact q_
