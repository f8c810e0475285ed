set_option maxRecDepth 100000
set_option linter.unusedVariables false
set_option maxHeartbeats 200000
/-! GREYS: made ready -/
def R_g0 (w : Int) (q : Int) (sd : Int) (X0 : Nat → Nat → Int) (X : Nat → Nat → Int) : Prop := (X 35 5 = w) ∧ (X 35 6 = q) ∧ (X 35 15 = 0) ∧ (X 36 3 = (sd * sd) + 1) ∧ (X 36 1 = sd ∧ X 36 2 = sd) ∧ (X 35 7 = 0 ∧ X 35 8 = 0) ∧ (X 35 9 = 256 * sd ∧ X 35 10 = 0) ∧ (X 35 14 = 0) ∧ (X 35 22 = 0) ∧ (X 35 0 = 24 ∧ X 35 1 = 24) ∧ (∀ i : Nat, i < 256 → X 42 i = 0) ∧ (z_iw z_Wh X0 X)
def R_c_mk (x : Int) (L0 : Nat → Nat → Int) (L : Nat → Nat → Int) : Prop := (∀ i : Nat, (i : Int) < x → L 37 i = 0) ∧ (z_iw (fun a _ => a = 37) L0 L)
def Q_c_mk_l (h g : z_M) (L0 : Nat → Nat → Int) (X : Nat → Nat → Int) (x_ : z_Z) : Prop := (∃ (L1 : Nat → Nat → Int), (x_ = z_rv (sQ h X L1)) ∧ (R_c_mk 64 L0 L1))
set_option maxHeartbeats 4000000 in
theorem c_mk_l {h g : z_M} {L0 : Nat → Nat → Int} {X : Nat → Nat → Int} (S : S0 h) : ∀ (nu : Nat) (x : Int) (L : Nat → Nat → Int), (64 - x).toNat = nu → (0 ≤ x ∧ x ≤ 64) → R_c_mk x L0 L → Q_c_mk_l h g L0 X (f321_18 36 x (sQ h X L)) := by
  intro nu
  induction nu using Nat.strongRecOn with
  | ind nu ih =>
    intro x L hn hx R
    subst hn
    obtain ⟨a0, f1⟩ := id R
    rw [e321_18]
    by_cases q1 : 64 ≤ x
    · rw [z_if_t q1, e321_39]
      exact ⟨L, rfl, ⟨(by intro i_ hi_; have q_ := a0 i_ (by omega); exact q_), f1⟩⟩
    · rw [z_if_f q1, gk1 (by exact (sk S 36)), show hP (sQ h X L) 36 0 = 37 from sp S 36 0 37, gian_n (n := 64) (by exact (sk S 37)) (by exact (sn S 37)) (by omega) (by omega) (by omega), show z_w (x + 1) = x + 1 from w_id (by omega) (by omega)]
      exact ih ((64 - (x + 1)).toNat) (by omega) (x + 1) (z_up L 37 (Int.toNat x) 0) rfl (by omega) ⟨(by
        intro i_ hi_
        by_cases z_ : i_ = Int.toNat x
        · simp (disch := first | decide | omega) only [up_a, up_1e]; first | done | omega | exact ⟨by omega, by omega⟩ | exact ⟨trivial, by omega⟩ | exact ⟨by omega, trivial⟩
        · have q_ := a0 i_ (by omega); simp (disch := first | decide | omega) only [up_a, up_i]; exact q_), (iw_to f1 (by first | exact rfl | exact .inl rfl | exact .inr rfl | simp))⟩
def Q_c_mk (h g : z_M) (X : Nat → Nat → Int) (L : Nat → Nat → Int) (x_ : z_Z) : Prop := (∃ (L1 : Nat → Nat → Int), (x_ = z_rv (sQ h X L1)) ∧ (∀ i : Nat, ((i : Int) < 64) → L1 37 i = 0) ∧ (∀ a i : Nat, ¬ (a = 37) → L1 a i = L a i))
theorem c_mk {h g : z_M} {X : Nat → Nat → Int} {L : Nat → Nat → Int} (S : S0 h) : Q_c_mk h g X L (f321_18 36 0 (sQ h X L)) := by
  obtain ⟨L1, C1, a0, f1⟩ := c_mk_l (h := h) (g := g) (X := X) (L0 := L) S _ 0 L rfl (by omega) ⟨fun i hi => absurd hi (by omega), iw_rfl⟩
  exact ⟨L1, C1, fun i hi => a0 i hi, fun a i w => f1 a i w⟩
def z_W37 (a : Nat) : Prop := a = 37
theorem W37 {a : Nat} (h : z_ia a = true) : ¬ z_W37 a := fun z => by rw [show a = 37 from z] at h; exact absurd h (by decide)
theorem lw_q {h : z_M} {X L : Nat → Nat → Int} (f : ∀ a i : Nat, ¬ (a = 37) → L a i = hL h a i) : z_lw z_W37 h (sQ h X L) := ⟨rfl, f, rfl⟩
def z_ptn (sd : Int) (L : Nat → Nat → Int) : Prop := L 37 0 = 0 ∧ L 37 1 = 1 ∧ (sd = 2 → L 37 2 = 513 ∧ L 37 3 = 515 ∧ L 37 4 = 771)
theorem c_key00 {m : z_M} : f320_0 0 0 m = z_ri 0 m := by
  rw [e320_0, e320_4, z_if_f (by decide), e320_4, z_if_f (by decide), e320_4, z_if_f (by decide), e320_4, z_if_t (by decide), e320_39]; exact congrArg (fun v => z_ri v m) (by decide)
theorem c_key10 {m : z_M} : f320_0 1 0 m = z_ri 32 m := by
  rw [e320_0, e320_4, z_if_f (by decide), e320_4, z_if_f (by decide), e320_4, z_if_f (by decide), e320_4, z_if_t (by decide), e320_39]; exact congrArg (fun v => z_ri v m) (by decide)
theorem c_key01 {m : z_M} : f320_0 0 1 m = z_ri 48 m := by
  rw [e320_0, e320_4, z_if_f (by decide), e320_4, z_if_f (by decide), e320_4, z_if_f (by decide), e320_4, z_if_t (by decide), e320_39]; exact congrArg (fun v => z_ri v m) (by decide)
theorem c_key11 {m : z_M} : f320_0 1 1 m = z_ri 16 m := by
  rw [e320_0, e320_4, z_if_f (by decide), e320_4, z_if_f (by decide), e320_4, z_if_f (by decide), e320_4, z_if_t (by decide), e320_39]; exact congrArg (fun v => z_ri v m) (by decide)
theorem c_mk0 {h g : z_M} {X L : Nat → Nat → Int} {a b c : Int} (S : S0 h) : ∃ L1 : Nat → Nat → Int, f321_0 36 a b c (sQ h X L) = z_rv (sQ h (z_up (z_up (z_up X 36 1 a) 36 2 b) 36 3 c) L1) ∧ (∀ i : Nat, (i : Int) < 64 → L1 37 i = 0) ∧ ∀ a i : Nat, ¬ (a = 37) → L1 a i = L a i := by
  obtain ⟨L1, C1, p0, fr⟩ := c_mk (h := h) (g := g) (L := L) (X := z_up (z_up (z_up X 36 1 a) 36 2 b) 36 3 c) S
  refine ⟨L1, ?_, p0, fr⟩
  rw [e321_0, gk1 (by exact sk S 36), gk1 (by exact sk S 36), gk1 (by exact sk S 36)]; exact C1
def Q_o1_s (h g : z_M) (k : Int) (x : Int) (X : Nat → Nat → Int) (L : Nat → Nat → Int) (x_ : z_Z) : Prop := ((x_ = f322_15 36 1 k (x + 1) (sQ h X L)))
set_option maxHeartbeats 4000000 in
theorem o1_s {h g : z_M} {k : Int} {x : Int} {X : Nat → Nat → Int} {L : Nat → Nat → Int} (S : S0 h) (hx : 0 < x ∧ x < 64) : Q_o1_s h g k x X L (f322_15 36 1 k x (sQ h X L)) := by
  rw [e322_15, z_if_f (by omega), e322_24, show (1 * 1 : Int) = 1 from rfl, show z_w 1 = 1 from by decide, z_if_f (by decide), z_g_t (by first | decide | omega), z_g_t (by first | decide | omega), show z_rem 0 1 = 0 from by decide, show z_div 0 1 = 0 from by decide, c_key00, z_ki_ri, z_if_f (by omega), e322_81, show (0 + 1 : Int) = 1 from rfl, show z_w 1 = 1 from by decide, e322_24, show (1 * 1 : Int) = 1 from rfl, show z_w 1 = 1 from by decide, z_if_t (by decide), e322_87, show z_w (x + 1) = x + 1 from w_id (by omega) (by omega)]
  exact rfl
def Q_o1_h (h g : z_M) (X : Nat → Nat → Int) (L : Nat → Nat → Int) (x_ : z_Z) : Prop := ((x_ = f322_15 36 1 1 1 (sL (sL (sQ h X L) 37 1 (L 37 0)) 37 1 (z_lor (L 37 0) 1))))
set_option maxHeartbeats 4000000 in
theorem o1_h {h g : z_M} {X : Nat → Nat → Int} {L : Nat → Nat → Int} (S : S0 h) : Q_o1_h h g X L (f322_15 36 1 0 0 (sQ h X L)) := by
  rw [e322_15, z_if_f (by decide), e322_24, show (1 * 1 : Int) = 1 from rfl, show z_w 1 = 1 from by decide, z_if_f (by decide), z_g_t (by first | decide | omega), z_g_t (by first | decide | omega), show z_rem 0 1 = 0 from by decide, show z_div 0 1 = 0 from by decide, c_key00, z_ki_ri, z_if_t (by decide), e322_50, gk1 (by exact (sk S 36)), gk1 (by exact (sk S 36)), show hP (sQ h X L) 36 0 = 37 from sp S 36 0 37, gia_n (n := 64) (by exact (sk S 37)) (by exact (sn S 37)) (by omega) (by omega), show (0 + 1 : Int) = 1 from rfl, show z_w 1 = 1 from by decide, gian_n (n := 64) (by exact (sk S 37)) (by exact (sn S 37)) (by omega) (by omega) (by omega), z_g_t (by first | decide | omega), z_g_t (by first | decide | omega), show Int.toNat 1 = 1 from rfl, show Int.toNat 0 = 0 from rfl, show hL (sQ h X L) 37 0 = L 37 0 from rfl, gk1 (by exact (sk S 36)), show z_rem 0 1 = 0 from by decide, show z_div 0 1 = 0 from by decide, e324_0, gk1 (by exact (sk S 36)), z_if_f (by decide), gk1 (by exact (sk S 36)), show hP (sL (sQ h X L) 37 1 (L 37 0)) 36 0 = 37 from sp S 36 0 37, gia_n (n := 64) (by exact (sk S 37)) (by exact (sn S 37)) (by omega) (by omega), show Int.toNat 1 = 1 from rfl, show hL (sL (sQ h X L) 37 1 (L 37 0)) 37 1 = L 37 0 from hL_s1, show (8 * 0 : Int) = 0 from rfl, show z_w 0 = 0 from by decide, show (0 + 0 : Int) = 0 from rfl, show z_w 0 = 0 from by decide, show z_lshl 1 0 = 1 from by decide, e324_45, gian_n (n := 64) (by exact (sk S 37)) (by exact (sn S 37)) (by omega) (by omega) (by omega), z_kv_rv, show Int.toNat 1 = 1 from rfl, e322_81, show (0 + 1 : Int) = 1 from rfl, show z_w 1 = 1 from by decide, e322_24, show (1 * 1 : Int) = 1 from rfl, show z_w 1 = 1 from by decide, z_if_t (by decide), e322_87, show (0 + 1 : Int) = 1 from rfl, show z_w 1 = 1 from by decide]
  exact rfl
def Q_o2_s0 (h g : z_M) (k : Int) (x : Int) (X : Nat → Nat → Int) (L : Nat → Nat → Int) (x_ : z_Z) : Prop := ((x_ = f322_15 36 2 k (x + 1) (sQ h X L)))
set_option maxHeartbeats 4000000 in
theorem o2_s0 {h g : z_M} {k : Int} {x : Int} {X : Nat → Nat → Int} {L : Nat → Nat → Int} (S : S0 h) (hx : 0 < x ∧ x < 16) : Q_o2_s0 h g k x X L (f322_15 36 2 k x (sQ h X L)) := by
  rw [e322_15, z_if_f (by omega), e322_24, show (2 * 2 : Int) = 4 from rfl, show z_w 4 = 4 from by decide, z_if_f (by decide), z_g_t (by first | decide | omega), z_g_t (by first | decide | omega), show z_rem 0 2 = 0 from by decide, show z_div 0 2 = 0 from by decide, c_key00, z_ki_ri, z_if_f (by omega), e322_81, show (0 + 1 : Int) = 1 from rfl, show z_w 1 = 1 from by decide, e322_24, show (2 * 2 : Int) = 4 from rfl, show z_w 4 = 4 from by decide, z_if_f (by decide), z_g_t (by first | decide | omega), z_g_t (by first | decide | omega), show z_rem 1 2 = 1 from by decide, show z_div 1 2 = 0 from by decide, c_key10, z_ki_ri, z_if_f (by omega), e322_81, show (1 + 1 : Int) = 2 from rfl, show z_w 2 = 2 from by decide, e322_24, show (2 * 2 : Int) = 4 from rfl, show z_w 4 = 4 from by decide, z_if_f (by decide), z_g_t (by first | decide | omega), z_g_t (by first | decide | omega), show z_rem 2 2 = 0 from by decide, show z_div 2 2 = 1 from by decide, c_key01, z_ki_ri, z_if_f (by omega), e322_81, show (2 + 1 : Int) = 3 from rfl, show z_w 3 = 3 from by decide, e322_24, show (2 * 2 : Int) = 4 from rfl, show z_w 4 = 4 from by decide, z_if_f (by decide), z_g_t (by first | decide | omega), z_g_t (by first | decide | omega), show z_rem 3 2 = 1 from by decide, show z_div 3 2 = 1 from by decide, c_key11, z_ki_ri, z_if_f (by omega), e322_81, show (3 + 1 : Int) = 4 from rfl, show z_w 4 = 4 from by decide, e322_24, show (2 * 2 : Int) = 4 from rfl, show z_w 4 = 4 from by decide, z_if_t (by decide), e322_87, show z_w (x + 1) = x + 1 from w_id (by omega) (by omega)]
  exact rfl
def Q_o2_h0 (h g : z_M) (X : Nat → Nat → Int) (L : Nat → Nat → Int) (x_ : z_Z) : Prop := ((x_ = f322_15 36 2 1 1 (sL (sL (sQ h X L) 37 1 (L 37 0)) 37 1 (z_lor (L 37 0) 1))))
set_option maxHeartbeats 4000000 in
theorem o2_h0 {h g : z_M} {X : Nat → Nat → Int} {L : Nat → Nat → Int} (S : S0 h) : Q_o2_h0 h g X L (f322_15 36 2 0 0 (sQ h X L)) := by
  rw [e322_15, z_if_f (by decide), e322_24, show (2 * 2 : Int) = 4 from rfl, show z_w 4 = 4 from by decide, z_if_f (by decide), z_g_t (by first | decide | omega), z_g_t (by first | decide | omega), show z_rem 0 2 = 0 from by decide, show z_div 0 2 = 0 from by decide, c_key00, z_ki_ri, z_if_t (by decide), e322_50, gk1 (by exact (sk S 36)), gk1 (by exact (sk S 36)), show hP (sQ h X L) 36 0 = 37 from sp S 36 0 37, gia_n (n := 64) (by exact (sk S 37)) (by exact (sn S 37)) (by omega) (by omega), show (0 + 1 : Int) = 1 from rfl, show z_w 1 = 1 from by decide, gian_n (n := 64) (by exact (sk S 37)) (by exact (sn S 37)) (by omega) (by omega) (by omega), z_g_t (by first | decide | omega), z_g_t (by first | decide | omega), show Int.toNat 1 = 1 from rfl, show Int.toNat 0 = 0 from rfl, show hL (sQ h X L) 37 0 = L 37 0 from rfl, gk1 (by exact (sk S 36)), show z_rem 0 2 = 0 from by decide, show z_div 0 2 = 0 from by decide, e324_0, gk1 (by exact (sk S 36)), z_if_f (by decide), gk1 (by exact (sk S 36)), show hP (sL (sQ h X L) 37 1 (L 37 0)) 36 0 = 37 from sp S 36 0 37, gia_n (n := 64) (by exact (sk S 37)) (by exact (sn S 37)) (by omega) (by omega), show Int.toNat 1 = 1 from rfl, show hL (sL (sQ h X L) 37 1 (L 37 0)) 37 1 = L 37 0 from hL_s1, show (8 * 0 : Int) = 0 from rfl, show z_w 0 = 0 from by decide, show (0 + 0 : Int) = 0 from rfl, show z_w 0 = 0 from by decide, show z_lshl 1 0 = 1 from by decide, e324_45, gian_n (n := 64) (by exact (sk S 37)) (by exact (sn S 37)) (by omega) (by omega) (by omega), z_kv_rv, show Int.toNat 1 = 1 from rfl, e322_81, show (0 + 1 : Int) = 1 from rfl, show z_w 1 = 1 from by decide, e322_24, show (2 * 2 : Int) = 4 from rfl, show z_w 4 = 4 from by decide, z_if_f (by decide), z_g_t (by first | decide | omega), z_g_t (by first | decide | omega), show z_rem 1 2 = 1 from by decide, show z_div 1 2 = 0 from by decide, c_key10, z_ki_ri, z_if_f (by decide), e322_81, show (1 + 1 : Int) = 2 from rfl, show z_w 2 = 2 from by decide, e322_24, show (2 * 2 : Int) = 4 from rfl, show z_w 4 = 4 from by decide, z_if_f (by decide), z_g_t (by first | decide | omega), z_g_t (by first | decide | omega), show z_rem 2 2 = 0 from by decide, show z_div 2 2 = 1 from by decide, c_key01, z_ki_ri, z_if_f (by decide), e322_81, show (2 + 1 : Int) = 3 from rfl, show z_w 3 = 3 from by decide, e322_24, show (2 * 2 : Int) = 4 from rfl, show z_w 4 = 4 from by decide, z_if_f (by decide), z_g_t (by first | decide | omega), z_g_t (by first | decide | omega), show z_rem 3 2 = 1 from by decide, show z_div 3 2 = 1 from by decide, c_key11, z_ki_ri, z_if_f (by decide), e322_81, show (3 + 1 : Int) = 4 from rfl, show z_w 4 = 4 from by decide, e322_24, show (2 * 2 : Int) = 4 from rfl, show z_w 4 = 4 from by decide, z_if_t (by decide), e322_87, show (0 + 1 : Int) = 1 from rfl, show z_w 1 = 1 from by decide]
  exact rfl
def Q_o2_s1 (h g : z_M) (k : Int) (x : Int) (X : Nat → Nat → Int) (L : Nat → Nat → Int) (x_ : z_Z) : Prop := ((x_ = f322_15 36 2 k (x + 1) (sQ h X L)))
set_option maxHeartbeats 4000000 in
theorem o2_s1 {h g : z_M} {k : Int} {x : Int} {X : Nat → Nat → Int} {L : Nat → Nat → Int} (S : S0 h) (hx : 16 < x ∧ x < 32) : Q_o2_s1 h g k x X L (f322_15 36 2 k x (sQ h X L)) := by
  rw [e322_15, z_if_f (by omega), e322_24, show (2 * 2 : Int) = 4 from rfl, show z_w 4 = 4 from by decide, z_if_f (by decide), z_g_t (by first | decide | omega), z_g_t (by first | decide | omega), show z_rem 0 2 = 0 from by decide, show z_div 0 2 = 0 from by decide, c_key00, z_ki_ri, z_if_f (by omega), e322_81, show (0 + 1 : Int) = 1 from rfl, show z_w 1 = 1 from by decide, e322_24, show (2 * 2 : Int) = 4 from rfl, show z_w 4 = 4 from by decide, z_if_f (by decide), z_g_t (by first | decide | omega), z_g_t (by first | decide | omega), show z_rem 1 2 = 1 from by decide, show z_div 1 2 = 0 from by decide, c_key10, z_ki_ri, z_if_f (by omega), e322_81, show (1 + 1 : Int) = 2 from rfl, show z_w 2 = 2 from by decide, e322_24, show (2 * 2 : Int) = 4 from rfl, show z_w 4 = 4 from by decide, z_if_f (by decide), z_g_t (by first | decide | omega), z_g_t (by first | decide | omega), show z_rem 2 2 = 0 from by decide, show z_div 2 2 = 1 from by decide, c_key01, z_ki_ri, z_if_f (by omega), e322_81, show (2 + 1 : Int) = 3 from rfl, show z_w 3 = 3 from by decide, e322_24, show (2 * 2 : Int) = 4 from rfl, show z_w 4 = 4 from by decide, z_if_f (by decide), z_g_t (by first | decide | omega), z_g_t (by first | decide | omega), show z_rem 3 2 = 1 from by decide, show z_div 3 2 = 1 from by decide, c_key11, z_ki_ri, z_if_f (by omega), e322_81, show (3 + 1 : Int) = 4 from rfl, show z_w 4 = 4 from by decide, e322_24, show (2 * 2 : Int) = 4 from rfl, show z_w 4 = 4 from by decide, z_if_t (by decide), e322_87, show z_w (x + 1) = x + 1 from w_id (by omega) (by omega)]
  exact rfl
def Q_o2_h1 (h g : z_M) (X : Nat → Nat → Int) (L : Nat → Nat → Int) (x_ : z_Z) : Prop := ((x_ = f322_15 36 2 2 17 (sL (sL (sQ h X L) 37 2 (L 37 1)) 37 2 (z_lor (L 37 1) 512))))
set_option maxHeartbeats 4000000 in
theorem o2_h1 {h g : z_M} {X : Nat → Nat → Int} {L : Nat → Nat → Int} (S : S0 h) : Q_o2_h1 h g X L (f322_15 36 2 1 16 (sQ h X L)) := by
  rw [e322_15, z_if_f (by decide), e322_24, show (2 * 2 : Int) = 4 from rfl, show z_w 4 = 4 from by decide, z_if_f (by decide), z_g_t (by first | decide | omega), z_g_t (by first | decide | omega), show z_rem 0 2 = 0 from by decide, show z_div 0 2 = 0 from by decide, c_key00, z_ki_ri, z_if_f (by decide), e322_81, show (0 + 1 : Int) = 1 from rfl, show z_w 1 = 1 from by decide, e322_24, show (2 * 2 : Int) = 4 from rfl, show z_w 4 = 4 from by decide, z_if_f (by decide), z_g_t (by first | decide | omega), z_g_t (by first | decide | omega), show z_rem 1 2 = 1 from by decide, show z_div 1 2 = 0 from by decide, c_key10, z_ki_ri, z_if_f (by decide), e322_81, show (1 + 1 : Int) = 2 from rfl, show z_w 2 = 2 from by decide, e322_24, show (2 * 2 : Int) = 4 from rfl, show z_w 4 = 4 from by decide, z_if_f (by decide), z_g_t (by first | decide | omega), z_g_t (by first | decide | omega), show z_rem 2 2 = 0 from by decide, show z_div 2 2 = 1 from by decide, c_key01, z_ki_ri, z_if_f (by decide), e322_81, show (2 + 1 : Int) = 3 from rfl, show z_w 3 = 3 from by decide, e322_24, show (2 * 2 : Int) = 4 from rfl, show z_w 4 = 4 from by decide, z_if_f (by decide), z_g_t (by first | decide | omega), z_g_t (by first | decide | omega), show z_rem 3 2 = 1 from by decide, show z_div 3 2 = 1 from by decide, c_key11, z_ki_ri, z_if_t (by decide), e322_50, gk1 (by exact (sk S 36)), gk1 (by exact (sk S 36)), show hP (sQ h X L) 36 0 = 37 from sp S 36 0 37, gia_n (n := 64) (by exact (sk S 37)) (by exact (sn S 37)) (by omega) (by omega), show (1 + 1 : Int) = 2 from rfl, show z_w 2 = 2 from by decide, gian_n (n := 64) (by exact (sk S 37)) (by exact (sn S 37)) (by omega) (by omega) (by omega), z_g_t (by first | decide | omega), z_g_t (by first | decide | omega), show Int.toNat 2 = 2 from rfl, show Int.toNat 1 = 1 from rfl, show hL (sQ h X L) 37 1 = L 37 1 from rfl, gk1 (by exact (sk S 36)), show z_rem 3 2 = 1 from by decide, show z_div 3 2 = 1 from by decide, e324_0, gk1 (by exact (sk S 36)), z_if_f (by decide), gk1 (by exact (sk S 36)), show hP (sL (sQ h X L) 37 2 (L 37 1)) 36 0 = 37 from sp S 36 0 37, gia_n (n := 64) (by exact (sk S 37)) (by exact (sn S 37)) (by omega) (by omega), show Int.toNat 2 = 2 from rfl, show hL (sL (sQ h X L) 37 2 (L 37 1)) 37 2 = L 37 1 from hL_s1, show (8 * 1 : Int) = 8 from rfl, show z_w 8 = 8 from by decide, show (8 + 1 : Int) = 9 from rfl, show z_w 9 = 9 from by decide, show z_lshl 1 9 = 512 from by decide, e324_45, gian_n (n := 64) (by exact (sk S 37)) (by exact (sn S 37)) (by omega) (by omega) (by omega), z_kv_rv, show Int.toNat 2 = 2 from rfl, e322_81, show (3 + 1 : Int) = 4 from rfl, show z_w 4 = 4 from by decide, e322_24, show (2 * 2 : Int) = 4 from rfl, show z_w 4 = 4 from by decide, z_if_t (by decide), e322_87, show (16 + 1 : Int) = 17 from rfl, show z_w 17 = 17 from by decide]
  exact rfl
def Q_o2_s2 (h g : z_M) (k : Int) (x : Int) (X : Nat → Nat → Int) (L : Nat → Nat → Int) (x_ : z_Z) : Prop := ((x_ = f322_15 36 2 k (x + 1) (sQ h X L)))
set_option maxHeartbeats 4000000 in
theorem o2_s2 {h g : z_M} {k : Int} {x : Int} {X : Nat → Nat → Int} {L : Nat → Nat → Int} (S : S0 h) (hx : 32 < x ∧ x < 48) : Q_o2_s2 h g k x X L (f322_15 36 2 k x (sQ h X L)) := by
  rw [e322_15, z_if_f (by omega), e322_24, show (2 * 2 : Int) = 4 from rfl, show z_w 4 = 4 from by decide, z_if_f (by decide), z_g_t (by first | decide | omega), z_g_t (by first | decide | omega), show z_rem 0 2 = 0 from by decide, show z_div 0 2 = 0 from by decide, c_key00, z_ki_ri, z_if_f (by omega), e322_81, show (0 + 1 : Int) = 1 from rfl, show z_w 1 = 1 from by decide, e322_24, show (2 * 2 : Int) = 4 from rfl, show z_w 4 = 4 from by decide, z_if_f (by decide), z_g_t (by first | decide | omega), z_g_t (by first | decide | omega), show z_rem 1 2 = 1 from by decide, show z_div 1 2 = 0 from by decide, c_key10, z_ki_ri, z_if_f (by omega), e322_81, show (1 + 1 : Int) = 2 from rfl, show z_w 2 = 2 from by decide, e322_24, show (2 * 2 : Int) = 4 from rfl, show z_w 4 = 4 from by decide, z_if_f (by decide), z_g_t (by first | decide | omega), z_g_t (by first | decide | omega), show z_rem 2 2 = 0 from by decide, show z_div 2 2 = 1 from by decide, c_key01, z_ki_ri, z_if_f (by omega), e322_81, show (2 + 1 : Int) = 3 from rfl, show z_w 3 = 3 from by decide, e322_24, show (2 * 2 : Int) = 4 from rfl, show z_w 4 = 4 from by decide, z_if_f (by decide), z_g_t (by first | decide | omega), z_g_t (by first | decide | omega), show z_rem 3 2 = 1 from by decide, show z_div 3 2 = 1 from by decide, c_key11, z_ki_ri, z_if_f (by omega), e322_81, show (3 + 1 : Int) = 4 from rfl, show z_w 4 = 4 from by decide, e322_24, show (2 * 2 : Int) = 4 from rfl, show z_w 4 = 4 from by decide, z_if_t (by decide), e322_87, show z_w (x + 1) = x + 1 from w_id (by omega) (by omega)]
  exact rfl
def Q_o2_h2 (h g : z_M) (X : Nat → Nat → Int) (L : Nat → Nat → Int) (x_ : z_Z) : Prop := ((x_ = f322_15 36 2 3 33 (sL (sL (sQ h X L) 37 3 (L 37 2)) 37 3 (z_lor (L 37 2) 2))))
set_option maxHeartbeats 4000000 in
theorem o2_h2 {h g : z_M} {X : Nat → Nat → Int} {L : Nat → Nat → Int} (S : S0 h) : Q_o2_h2 h g X L (f322_15 36 2 2 32 (sQ h X L)) := by
  rw [e322_15, z_if_f (by decide), e322_24, show (2 * 2 : Int) = 4 from rfl, show z_w 4 = 4 from by decide, z_if_f (by decide), z_g_t (by first | decide | omega), z_g_t (by first | decide | omega), show z_rem 0 2 = 0 from by decide, show z_div 0 2 = 0 from by decide, c_key00, z_ki_ri, z_if_f (by decide), e322_81, show (0 + 1 : Int) = 1 from rfl, show z_w 1 = 1 from by decide, e322_24, show (2 * 2 : Int) = 4 from rfl, show z_w 4 = 4 from by decide, z_if_f (by decide), z_g_t (by first | decide | omega), z_g_t (by first | decide | omega), show z_rem 1 2 = 1 from by decide, show z_div 1 2 = 0 from by decide, c_key10, z_ki_ri, z_if_t (by decide), e322_50, gk1 (by exact (sk S 36)), gk1 (by exact (sk S 36)), show hP (sQ h X L) 36 0 = 37 from sp S 36 0 37, gia_n (n := 64) (by exact (sk S 37)) (by exact (sn S 37)) (by omega) (by omega), show (2 + 1 : Int) = 3 from rfl, show z_w 3 = 3 from by decide, gian_n (n := 64) (by exact (sk S 37)) (by exact (sn S 37)) (by omega) (by omega) (by omega), z_g_t (by first | decide | omega), z_g_t (by first | decide | omega), show Int.toNat 3 = 3 from rfl, show Int.toNat 2 = 2 from rfl, show hL (sQ h X L) 37 2 = L 37 2 from rfl, gk1 (by exact (sk S 36)), show z_rem 1 2 = 1 from by decide, show z_div 1 2 = 0 from by decide, e324_0, gk1 (by exact (sk S 36)), z_if_f (by decide), gk1 (by exact (sk S 36)), show hP (sL (sQ h X L) 37 3 (L 37 2)) 36 0 = 37 from sp S 36 0 37, gia_n (n := 64) (by exact (sk S 37)) (by exact (sn S 37)) (by omega) (by omega), show Int.toNat 3 = 3 from rfl, show hL (sL (sQ h X L) 37 3 (L 37 2)) 37 3 = L 37 2 from hL_s1, show (8 * 0 : Int) = 0 from rfl, show z_w 0 = 0 from by decide, show (0 + 1 : Int) = 1 from rfl, show z_w 1 = 1 from by decide, show z_lshl 1 1 = 2 from by decide, e324_45, gian_n (n := 64) (by exact (sk S 37)) (by exact (sn S 37)) (by omega) (by omega) (by omega), z_kv_rv, show Int.toNat 3 = 3 from rfl, e322_81, show (1 + 1 : Int) = 2 from rfl, show z_w 2 = 2 from by decide, e322_24, show (2 * 2 : Int) = 4 from rfl, show z_w 4 = 4 from by decide, z_if_f (by decide), z_g_t (by first | decide | omega), z_g_t (by first | decide | omega), show z_rem 2 2 = 0 from by decide, show z_div 2 2 = 1 from by decide, c_key01, z_ki_ri, z_if_f (by decide), e322_81, show (2 + 1 : Int) = 3 from rfl, show z_w 3 = 3 from by decide, e322_24, show (2 * 2 : Int) = 4 from rfl, show z_w 4 = 4 from by decide, z_if_f (by decide), z_g_t (by first | decide | omega), z_g_t (by first | decide | omega), show z_rem 3 2 = 1 from by decide, show z_div 3 2 = 1 from by decide, c_key11, z_ki_ri, z_if_f (by decide), e322_81, show (3 + 1 : Int) = 4 from rfl, show z_w 4 = 4 from by decide, e322_24, show (2 * 2 : Int) = 4 from rfl, show z_w 4 = 4 from by decide, z_if_t (by decide), e322_87, show (32 + 1 : Int) = 33 from rfl, show z_w 33 = 33 from by decide]
  exact rfl
def Q_o2_s3 (h g : z_M) (k : Int) (x : Int) (X : Nat → Nat → Int) (L : Nat → Nat → Int) (x_ : z_Z) : Prop := ((x_ = f322_15 36 2 k (x + 1) (sQ h X L)))
set_option maxHeartbeats 4000000 in
theorem o2_s3 {h g : z_M} {k : Int} {x : Int} {X : Nat → Nat → Int} {L : Nat → Nat → Int} (S : S0 h) (hx : 48 < x ∧ x < 64) : Q_o2_s3 h g k x X L (f322_15 36 2 k x (sQ h X L)) := by
  rw [e322_15, z_if_f (by omega), e322_24, show (2 * 2 : Int) = 4 from rfl, show z_w 4 = 4 from by decide, z_if_f (by decide), z_g_t (by first | decide | omega), z_g_t (by first | decide | omega), show z_rem 0 2 = 0 from by decide, show z_div 0 2 = 0 from by decide, c_key00, z_ki_ri, z_if_f (by omega), e322_81, show (0 + 1 : Int) = 1 from rfl, show z_w 1 = 1 from by decide, e322_24, show (2 * 2 : Int) = 4 from rfl, show z_w 4 = 4 from by decide, z_if_f (by decide), z_g_t (by first | decide | omega), z_g_t (by first | decide | omega), show z_rem 1 2 = 1 from by decide, show z_div 1 2 = 0 from by decide, c_key10, z_ki_ri, z_if_f (by omega), e322_81, show (1 + 1 : Int) = 2 from rfl, show z_w 2 = 2 from by decide, e322_24, show (2 * 2 : Int) = 4 from rfl, show z_w 4 = 4 from by decide, z_if_f (by decide), z_g_t (by first | decide | omega), z_g_t (by first | decide | omega), show z_rem 2 2 = 0 from by decide, show z_div 2 2 = 1 from by decide, c_key01, z_ki_ri, z_if_f (by omega), e322_81, show (2 + 1 : Int) = 3 from rfl, show z_w 3 = 3 from by decide, e322_24, show (2 * 2 : Int) = 4 from rfl, show z_w 4 = 4 from by decide, z_if_f (by decide), z_g_t (by first | decide | omega), z_g_t (by first | decide | omega), show z_rem 3 2 = 1 from by decide, show z_div 3 2 = 1 from by decide, c_key11, z_ki_ri, z_if_f (by omega), e322_81, show (3 + 1 : Int) = 4 from rfl, show z_w 4 = 4 from by decide, e322_24, show (2 * 2 : Int) = 4 from rfl, show z_w 4 = 4 from by decide, z_if_t (by decide), e322_87, show z_w (x + 1) = x + 1 from w_id (by omega) (by omega)]
  exact rfl
def Q_o2_h3 (h g : z_M) (X : Nat → Nat → Int) (L : Nat → Nat → Int) (x_ : z_Z) : Prop := ((x_ = f322_15 36 2 4 49 (sL (sL (sQ h X L) 37 4 (L 37 3)) 37 4 (z_lor (L 37 3) 256))))
set_option maxHeartbeats 4000000 in
theorem o2_h3 {h g : z_M} {X : Nat → Nat → Int} {L : Nat → Nat → Int} (S : S0 h) : Q_o2_h3 h g X L (f322_15 36 2 3 48 (sQ h X L)) := by
  rw [e322_15, z_if_f (by decide), e322_24, show (2 * 2 : Int) = 4 from rfl, show z_w 4 = 4 from by decide, z_if_f (by decide), z_g_t (by first | decide | omega), z_g_t (by first | decide | omega), show z_rem 0 2 = 0 from by decide, show z_div 0 2 = 0 from by decide, c_key00, z_ki_ri, z_if_f (by decide), e322_81, show (0 + 1 : Int) = 1 from rfl, show z_w 1 = 1 from by decide, e322_24, show (2 * 2 : Int) = 4 from rfl, show z_w 4 = 4 from by decide, z_if_f (by decide), z_g_t (by first | decide | omega), z_g_t (by first | decide | omega), show z_rem 1 2 = 1 from by decide, show z_div 1 2 = 0 from by decide, c_key10, z_ki_ri, z_if_f (by decide), e322_81, show (1 + 1 : Int) = 2 from rfl, show z_w 2 = 2 from by decide, e322_24, show (2 * 2 : Int) = 4 from rfl, show z_w 4 = 4 from by decide, z_if_f (by decide), z_g_t (by first | decide | omega), z_g_t (by first | decide | omega), show z_rem 2 2 = 0 from by decide, show z_div 2 2 = 1 from by decide, c_key01, z_ki_ri, z_if_t (by decide), e322_50, gk1 (by exact (sk S 36)), gk1 (by exact (sk S 36)), show hP (sQ h X L) 36 0 = 37 from sp S 36 0 37, gia_n (n := 64) (by exact (sk S 37)) (by exact (sn S 37)) (by omega) (by omega), show (3 + 1 : Int) = 4 from rfl, show z_w 4 = 4 from by decide, gian_n (n := 64) (by exact (sk S 37)) (by exact (sn S 37)) (by omega) (by omega) (by omega), z_g_t (by first | decide | omega), z_g_t (by first | decide | omega), show Int.toNat 4 = 4 from rfl, show Int.toNat 3 = 3 from rfl, show hL (sQ h X L) 37 3 = L 37 3 from rfl, gk1 (by exact (sk S 36)), show z_rem 2 2 = 0 from by decide, show z_div 2 2 = 1 from by decide, e324_0, gk1 (by exact (sk S 36)), z_if_f (by decide), gk1 (by exact (sk S 36)), show hP (sL (sQ h X L) 37 4 (L 37 3)) 36 0 = 37 from sp S 36 0 37, gia_n (n := 64) (by exact (sk S 37)) (by exact (sn S 37)) (by omega) (by omega), show Int.toNat 4 = 4 from rfl, show hL (sL (sQ h X L) 37 4 (L 37 3)) 37 4 = L 37 3 from hL_s1, show (8 * 1 : Int) = 8 from rfl, show z_w 8 = 8 from by decide, show (8 + 0 : Int) = 8 from rfl, show z_w 8 = 8 from by decide, show z_lshl 1 8 = 256 from by decide, e324_45, gian_n (n := 64) (by exact (sk S 37)) (by exact (sn S 37)) (by omega) (by omega) (by omega), z_kv_rv, show Int.toNat 4 = 4 from rfl, e322_81, show (2 + 1 : Int) = 3 from rfl, show z_w 3 = 3 from by decide, e322_24, show (2 * 2 : Int) = 4 from rfl, show z_w 4 = 4 from by decide, z_if_f (by decide), z_g_t (by first | decide | omega), z_g_t (by first | decide | omega), show z_rem 3 2 = 1 from by decide, show z_div 3 2 = 1 from by decide, c_key11, z_ki_ri, z_if_f (by decide), e322_81, show (3 + 1 : Int) = 4 from rfl, show z_w 4 = 4 from by decide, e322_24, show (2 * 2 : Int) = 4 from rfl, show z_w 4 = 4 from by decide, z_if_t (by decide), e322_87, show (48 + 1 : Int) = 49 from rfl, show z_w 49 = 49 from by decide]
  exact rfl
theorem o1_k {h : z_M} {X L : Nat → Nat → Int} {k : Int} (S : S0 h) (n : Nat) (hn : n ≤ 63) : f322_15 36 1 k 1 (sQ h X L) = f322_15 36 1 k (1 + (n : Int)) (sQ h X L) := by
  induction n with
  | zero => rfl
  | succ n ih => rw [ih (by omega), o1_s (h := h) (g := h) (k := k) (x := 1 + (n : Int)) S (by omega), show (1 : Int) + ((n + 1 : Nat) : Int) = 1 + (n : Int) + 1 by omega]
theorem o2_k0 {h : z_M} {X L : Nat → Nat → Int} {k : Int} (S : S0 h) (n : Nat) (hn : n ≤ 15) : f322_15 36 2 k 1 (sQ h X L) = f322_15 36 2 k (1 + (n : Int)) (sQ h X L) := by
  induction n with
  | zero => rfl
  | succ n ih => rw [ih (by omega), o2_s0 (h := h) (g := h) (k := k) (x := 1 + (n : Int)) S (by omega), show (1 : Int) + ((n + 1 : Nat) : Int) = 1 + (n : Int) + 1 by omega]
theorem o2_k1 {h : z_M} {X L : Nat → Nat → Int} {k : Int} (S : S0 h) (n : Nat) (hn : n ≤ 15) : f322_15 36 2 k 17 (sQ h X L) = f322_15 36 2 k (17 + (n : Int)) (sQ h X L) := by
  induction n with
  | zero => rfl
  | succ n ih => rw [ih (by omega), o2_s1 (h := h) (g := h) (k := k) (x := 17 + (n : Int)) S (by omega), show (17 : Int) + ((n + 1 : Nat) : Int) = 17 + (n : Int) + 1 by omega]
theorem o2_k2 {h : z_M} {X L : Nat → Nat → Int} {k : Int} (S : S0 h) (n : Nat) (hn : n ≤ 15) : f322_15 36 2 k 33 (sQ h X L) = f322_15 36 2 k (33 + (n : Int)) (sQ h X L) := by
  induction n with
  | zero => rfl
  | succ n ih => rw [ih (by omega), o2_s2 (h := h) (g := h) (k := k) (x := 33 + (n : Int)) S (by omega), show (33 : Int) + ((n + 1 : Nat) : Int) = 33 + (n : Int) + 1 by omega]
theorem o2_k3 {h : z_M} {X L : Nat → Nat → Int} {k : Int} (S : S0 h) (n : Nat) (hn : n ≤ 15) : f322_15 36 2 k 49 (sQ h X L) = f322_15 36 2 k (49 + (n : Int)) (sQ h X L) := by
  induction n with
  | zero => rfl
  | succ n ih => rw [ih (by omega), o2_s3 (h := h) (g := h) (k := k) (x := 49 + (n : Int)) S (by omega), show (49 : Int) + ((n + 1 : Nat) : Int) = 49 + (n : Int) + 1 by omega]
theorem hit_q {h : z_M} {X L : Nat → Nat → Int} {k : Nat} {v w : Int} : sL (sL (sQ h X L) 37 k v) 37 k w = sQ h X (z_up (z_up L 37 k v) 37 k w) := rfl
theorem c_o1 {h : z_M} {X L : Nat → Nat → Int} (S : S0 h) : f322_15 36 1 0 0 (sQ h X L) = z_rv (sQ h X (z_up (z_up L 37 1 (L 37 0)) 37 1 (z_lor (L 37 0) 1))) := by
  rw [o1_h (h := h) (g := h) S, hit_q, o1_k S 63 (by omega), show (1 : Int) + ((63 : Nat) : Int) = 64 from rfl, e322_15, z_if_t (by decide), e322_93]
theorem c_o2 {h : z_M} {X L : Nat → Nat → Int} (S : S0 h) : ∃ L1 : Nat → Nat → Int, f322_15 36 2 0 0 (sQ h X L) = z_rv (sQ h X L1) ∧ (L 37 0 = 0 → L1 37 0 = 0 ∧ L1 37 1 = 1 ∧ L1 37 2 = 513 ∧ L1 37 3 = 515 ∧ L1 37 4 = 771) ∧ ∀ a i : Nat, ¬ (a = 37) → L1 a i = L a i := by
  rw [o2_h0 (h := h) (g := h) S, hit_q, o2_k0 S 15 (by omega), show (1 : Int) + ((15 : Nat) : Int) = 16 from rfl, o2_h1 (h := h) (g := h) S, hit_q, o2_k1 S 15 (by omega), show (17 : Int) + ((15 : Nat) : Int) = 32 from rfl, o2_h2 (h := h) (g := h) S, hit_q, o2_k2 S 15 (by omega), show (33 : Int) + ((15 : Nat) : Int) = 48 from rfl, o2_h3 (h := h) (g := h) S, hit_q, o2_k3 S 15 (by omega), show (49 : Int) + ((15 : Nat) : Int) = 64 from rfl, e322_15, z_if_t (by decide), e322_93]
  refine ⟨_, rfl, fun e => ?_, fun a i w => ?_⟩
  · simp (disch := decide) only [up_1, up_i, e]; decide
  · simp (disch := assumption) only [up_a]
theorem c_ord {h : z_M} {X L : Nat → Nat → Int} {sd : Int} (S : S0 h) (hs : sd = 1 ∨ sd = 2) : ∃ L1 : Nat → Nat → Int, f322_0 36 sd (sQ h X L) = z_rv (sQ h (z_up (z_up (z_up X 36 1 sd) 36 2 sd) 36 3 ((sd * sd) + 1)) L1) ∧ z_ptn sd L1 ∧ ∀ a i : Nat, ¬ (a = 37) → L1 a i = L a i := by
  obtain ⟨L1, C1, p0, fr⟩ := c_mk0 (h := h) (g := h) (X := X) (L := L) (a := sd) (b := sd) (c := (sd * sd) + 1) S
  have e : z_w (z_w (sd * sd) + 1) = (sd * sd) + 1 := by rcases hs with z | z <;> subst z <;> decide
  rw [e322_0, gk1 (by exact sk S 36), e, C1, z_kv_rv]
  rcases hs with z | z <;> subst z
  · rw [c_o1 S]
    refine ⟨_, rfl, ⟨?_, ?_, fun z => absurd z (by decide)⟩, fun a i w => ?_⟩
    · simp (disch := decide) only [up_i]; exact p0 0 (by decide)
    · simp only [up_1]; rw [p0 0 (by decide)]; decide
    · simp (disch := assumption) only [up_a]; exact fr a i w
  · obtain ⟨L2, C2, p2, f2⟩ := c_o2 (h := h) (X := z_up (z_up (z_up X 36 1 2) 36 2 2) 36 3 ((2 * 2) + 1)) (L := L1) S
    have q := p2 (p0 0 (by decide))
    exact ⟨L2, C2, ⟨q.1, q.2.1, fun _ => q.2.2⟩, fun a i w => (f2 a i w).trans (fr a i w)⟩
def Q_c_mkb (h g : z_M) (a : Int) (b : Int) (c : Int) (X : Nat → Nat → Int) (x_ : z_Z) : Prop := (∃ (h1 : z_M), (x_ = z_rv (sZ h1 (z_up (z_up (z_up X 36 1 a) 36 2 b) 36 3 c))) ∧ (S0 h1) ∧ (z_lw z_W37 h h1))
theorem c_mkb {h g : z_M} {a : Int} {b : Int} {c : Int} {X : Nat → Nat → Int} (S : S0 h) : Q_c_mkb h g a b c X (f321_0 36 a b c (sZ h X)) := by
  obtain ⟨L1, C1, p0, fr⟩ := c_mk0 (h := h) (g := g) (X := X) (L := h.2.2.1) (a := a) (b := b) (c := c) S
  have lw := lw_q (h := h) (X := z_up (z_up (z_up X 36 1 a) 36 2 b) 36 3 c) (L := L1) fr
  exact ⟨sQ h (z_up (z_up (z_up X 36 1 a) 36 2 b) 36 3 c) L1, C1, S0_lw S lw (fun _ => W37), lw⟩
def Q_c_orb (h g : z_M) (sd : Int) (X : Nat → Nat → Int) (x_ : z_Z) : Prop := (∃ (h1 : z_M), (x_ = z_rv (sZ h1 (z_up (z_up (z_up X 36 1 sd) 36 2 sd) 36 3 ((sd * sd) + 1)))) ∧ (S0 h1) ∧ (z_lw z_W37 h h1) ∧ (z_ptn sd (hL h1)))
theorem c_orb {h g : z_M} {sd : Int} {X : Nat → Nat → Int} (S : S0 h) (hs : sd = 1 ∨ sd = 2) : Q_c_orb h g sd X (f322_0 36 sd (sZ h X)) := by
  obtain ⟨L1, C1, p0, fr⟩ := c_ord (h := h) (X := X) (L := h.2.2.1) S hs
  have lw := lw_q (h := h) (X := z_up (z_up (z_up X 36 1 sd) 36 2 sd) 36 3 ((sd * sd) + 1)) (L := L1) fr
  exact ⟨sQ h (z_up (z_up (z_up X 36 1 sd) 36 2 sd) 36 3 ((sd * sd) + 1)) L1, C1, S0_lw S lw (fun _ => W37), lw, p0⟩
def Q_c_bc (h g : z_M) (a : Int) (X : Nat → Nat → Int) (x_ : z_Z) : Prop := (∃ (v : Int), (x_ = z_ri v (sZ h X)))
theorem c_bc {h g : z_M} {a : Int} {X : Nat → Nat → Int} : Q_c_bc h g a X (f31_0 a (sZ h X)) := by
  exact ⟨_, e31_0 _ _⟩
def R_c_fg (x : Int) (X0 : Nat → Nat → Int) (X : Nat → Nat → Int) : Prop := (∀ i : Nat, (i : Int) < x → X 42 i = 0) ∧ (z_iw (fun a _ => a = 42) X0 X)
def Q_c_fg_l (h g : z_M) (X0 : Nat → Nat → Int) (x_ : z_Z) : Prop := (∃ (X1 : Nat → Nat → Int), (x_ = z_rv (sZ h X1)) ∧ (R_c_fg 256 X0 X1))
set_option maxHeartbeats 4000000 in
theorem c_fg_l {h g : z_M} {X0 : Nat → Nat → Int} (S : S0 h) : ∀ (nu : Nat) (x : Int) (X : Nat → Nat → Int), (256 - x).toNat = nu → (0 ≤ x ∧ x ≤ 256) → R_c_fg x X0 X → Q_c_fg_l h g X0 (f300_2 35 x (sZ h X)) := by
  intro nu
  induction nu using Nat.strongRecOn with
  | ind nu ih =>
    intro x X hn hx R
    subst hn
    obtain ⟨a0, f1⟩ := id R
    rw [e300_2, gk1 (by exact (sk S 35)), show hP (sZ h X) 35 11 = 42 from sp S 35 11 42, gle (by exact (sk S 42)) (by decide), show ((hN (sZ h X) 42) : Int) = 256 from by rw [show hN (sZ h X) 42 = 256 by exact (sn S 42)]; rfl]
    by_cases q1 : 256 ≤ x
    · rw [z_if_t q1, e300_24]
      exact ⟨X, rfl, ⟨(by intro i_ hi_; have q_ := a0 i_ (by omega); exact q_), f1⟩⟩
    · rw [z_if_f q1, gk1 (by exact (sk S 35)), gian_n (n := 256) (by exact (sk S 42)) (by exact (sn S 42)) (by omega) (by omega) (by omega), show z_w (x + 1) = x + 1 from w_id (by omega) (by omega)]
      exact ih ((256 - (x + 1)).toNat) (by omega) (x + 1) (z_up X 42 (Int.toNat x) 0) rfl (by omega) ⟨(by
        intro i_ hi_
        by_cases z_ : i_ = Int.toNat x
        · simp (disch := first | decide | omega) only [up_a, up_1e]; first | done | omega | exact ⟨by omega, by omega⟩ | exact ⟨trivial, by omega⟩ | exact ⟨by omega, trivial⟩
        · have q_ := a0 i_ (by omega); simp (disch := first | decide | omega) only [up_a, up_i]; exact q_), (iw_to f1 (by first | exact rfl | exact .inl rfl | exact .inr rfl | simp))⟩
def Q_c_fg (h g : z_M) (X : Nat → Nat → Int) (x_ : z_Z) : Prop := (∃ (X1 : Nat → Nat → Int), (x_ = z_rv (sZ h X1)) ∧ (∀ i : Nat, ((i : Int) < 256) → X1 42 i = 0) ∧ (∀ a i : Nat, ¬ (a = 42) → X1 a i = X a i))
theorem c_fg {h g : z_M} {X : Nat → Nat → Int} (S : S0 h) : Q_c_fg h g X (f300_2 35 0 (sZ h X)) := by
  obtain ⟨X1, C1, a0, f1⟩ := c_fg_l (h := h) (g := g) (X0 := X) S _ 0 X rfl (by omega) ⟨fun i hi => absurd hi (by omega), iw_rfl⟩
  exact ⟨X1, C1, fun i hi => a0 i hi, fun a i w => f1 a i w⟩
def R_c_un (x : Int) (X0 : Nat → Nat → Int) (X : Nat → Nat → Int) : Prop := (∀ i : Nat, (i : Int) < x → X 45 i = -1) ∧ (∀ i : Nat, (i : Int) < x → X 46 i = 0) ∧ (z_iw (fun a _ => a = 45 ∨ a = 46) X0 X)
def Q_c_un_l (h g : z_M) (X0 : Nat → Nat → Int) (x_ : z_Z) : Prop := (∃ (X1 : Nat → Nat → Int), (x_ = f312_28 35 (sZ h X1)) ∧ (R_c_un 64 X0 X1))
set_option maxHeartbeats 4000000 in
theorem c_un_l {h g : z_M} {X0 : Nat → Nat → Int} (S : S0 h) : ∀ (nu : Nat) (x : Int) (X : Nat → Nat → Int), (64 - x).toNat = nu → (0 ≤ x ∧ x ≤ 64) → R_c_un x X0 X → Q_c_un_l h g X0 (f312_2 35 x (sZ h X)) := by
  intro nu
  induction nu using Nat.strongRecOn with
  | ind nu ih =>
    intro x X hn hx R
    subst hn
    obtain ⟨a0, a1, f1⟩ := id R
    rw [e312_2]
    by_cases q1 : 64 ≤ x
    · rw [z_if_t q1]
      exact ⟨X, rfl, ⟨(by intro i_ hi_; have q_ := a0 i_ (by omega); exact q_), (by intro i_ hi_; have q_ := a1 i_ (by omega); exact q_), f1⟩⟩
    · rw [z_if_f q1, gk1 (by exact (sk S 35)), show hP (sZ h X) 35 17 = 45 from sp S 35 17 45, gian_n (n := 64) (by exact (sk S 45)) (by exact (sn S 45)) (by omega) (by omega) (by omega), gk1 (by exact (sk S 35)), show hP (sI (sZ h X) 45 (Int.toNat x) (-1)) 35 18 = 46 from sp S 35 18 46, gian_n (n := 64) (by exact (sk S 46)) (by exact (sn S 46)) (by omega) (by omega) (by omega), show z_w (x + 1) = x + 1 from w_id (by omega) (by omega)]
      exact ih ((64 - (x + 1)).toNat) (by omega) (x + 1) (z_up (z_up X 45 (Int.toNat x) (-1)) 46 (Int.toNat x) 0) rfl (by omega) ⟨(by
        intro i_ hi_
        by_cases z_ : i_ = Int.toNat x
        · simp (disch := first | decide | omega) only [up_a, up_1e]; first | done | omega | exact ⟨by omega, by omega⟩ | exact ⟨trivial, by omega⟩ | exact ⟨by omega, trivial⟩
        · have q_ := a0 i_ (by omega); simp (disch := first | decide | omega) only [up_a, up_i]; exact q_), (by
        intro i_ hi_
        by_cases z_ : i_ = Int.toNat x
        · simp (disch := first | decide | omega) only [up_a, up_1e]; first | done | omega | exact ⟨by omega, by omega⟩ | exact ⟨trivial, by omega⟩ | exact ⟨by omega, trivial⟩
        · have q_ := a1 i_ (by omega); simp (disch := first | decide | omega) only [up_a, up_i]; exact q_), (iw_to (iw_to f1 (by first | exact rfl | exact .inl rfl | exact .inr rfl | simp)) (by first | exact rfl | exact .inl rfl | exact .inr rfl | simp))⟩
def Q_c_un (h g : z_M) (X : Nat → Nat → Int) (x_ : z_Z) : Prop := (∃ (X1 : Nat → Nat → Int), (x_ = f312_28 35 (sZ h X1)) ∧ (∀ i : Nat, ((i : Int) < 64) → X1 45 i = -1) ∧ (∀ i : Nat, ((i : Int) < 64) → X1 46 i = 0) ∧ (∀ a i : Nat, ¬ (a = 45 ∨ a = 46) → X1 a i = X a i))
theorem c_un {h g : z_M} {X : Nat → Nat → Int} (S : S0 h) : Q_c_un h g X (f312_2 35 0 (sZ h X)) := by
  obtain ⟨X1, C1, a0, a1, f1⟩ := c_un_l (h := h) (g := g) (X0 := X) S _ 0 X rfl (by omega) ⟨fun i hi => absurd hi (by omega), fun i hi => absurd hi (by omega), iw_rfl⟩
  exact ⟨X1, C1, fun i hi => a0 i hi, fun i hi => a1 i hi, fun a i w => f1 a i w⟩
def R_c_rw (x : Int) (X0 : Nat → Nat → Int) (X : Nat → Nat → Int) : Prop := (∀ i : Nat, (i : Int) < x → X 39 i = 0) ∧ (∀ i : Nat, (i : Int) < x → X 41 i = 0) ∧ (z_iw (fun a _ => a = 39 ∨ a = 41) X0 X) ∧ (X 35 1 = 24)
def Q_c_rw_l (h g : z_M) (X0 : Nat → Nat → Int) (x_ : z_Z) : Prop := (∃ (X1 : Nat → Nat → Int), (x_ = f295_58 35 (sZ h X1)) ∧ (R_c_rw 24 X0 X1))
set_option maxHeartbeats 4000000 in
theorem c_rw_l {h g : z_M} {X0 : Nat → Nat → Int} (S : S0 h) : ∀ (nu : Nat) (x : Int) (X : Nat → Nat → Int), (24 - x).toNat = nu → (0 ≤ x ∧ x ≤ 24) → R_c_rw x X0 X → Q_c_rw_l h g X0 (f295_24 35 x (sZ h X)) := by
  intro nu
  induction nu using Nat.strongRecOn with
  | ind nu ih =>
    intro x X hn hx R
    subst hn
    obtain ⟨a0, a1, f1, kh⟩ := id R
    rw [e295_24, gk1 (by exact (sk S 35)), show hI (sZ h X) 35 1 = X 35 1 from rfl, show X 35 1 = 24 from kh]
    by_cases q1 : 24 ≤ x
    · rw [z_if_t q1]
      exact ⟨X, rfl, ⟨(by intro i_ hi_; have q_ := a0 i_ (by omega); exact q_), (by intro i_ hi_; have q_ := a1 i_ (by omega); exact q_), f1, kh⟩⟩
    · rw [z_if_f q1, gk1 (by exact (sk S 35)), show hP (sZ h X) 35 3 = 38 from sp S 35 3 38, gk1 (by exact (sk S 38)), e329_0, gk1 (by exact (sk S 38)), show hP (sZ h X) 38 1 = 35 from sp S 38 1 35, gk1 (by exact (sk S 35)), gk1 (by exact (sk S 38)), show hP (sZ h X) 38 0 = 39 from sp S 38 0 39, gia_n (n := 32) (by exact (sk S 39)) (by exact (sn S 39)) (by omega) (by omega), show hI (sZ h X) 39 (Int.toNat x) = X 39 (Int.toNat x) from rfl, show hI (sZ h X) 35 0 = X 35 0 from rfl]
      obtain ⟨v_1, C1⟩ := c_bc (h := h) (g := g) (a := z_and (z_xor (X 39 (Int.toNat x)) 0) (z_ushr (-1) (z_w (32 - (X 35 0))))) (X := X) 
      rw [C1]
      rw [z_ki_ri, gk1 (by exact (sk S 38)), show hP (sZ h X) 38 0 = 39 from sp S 38 0 39, gian_n (n := 32) (by exact (sk S 39)) (by exact (sn S 39)) (by omega) (by omega) (by omega), z_ki_ri, show z_and 0 (z_ushr (-1) (z_w (32 - (X 35 0)))) = 0 from and_z0 _, gk1 (by exact (sk S 35)), show hP (sI (sZ h X) 39 (Int.toNat x) 0) 35 4 = 40 from sp S 35 4 40, gk1 (by exact (sk S 40)), e329_0, gk1 (by exact (sk S 40)), show hP (sI (sZ h X) 39 (Int.toNat x) 0) 40 1 = 35 from sp S 40 1 35, gk1 (by exact (sk S 35)), gk1 (by exact (sk S 40)), show hP (sI (sZ h X) 39 (Int.toNat x) 0) 40 0 = 41 from sp S 40 0 41, gia_n (n := 32) (by exact (sk S 41)) (by exact (sn S 41)) (by omega) (by omega), show hI (sI (sZ h X) 39 (Int.toNat x) 0) 41 (Int.toNat x) = hI (sZ h X) 41 (Int.toNat x) from hI_s0 (fun z => absurd z.1 (by decide)), show hI (sZ h X) 41 (Int.toNat x) = X 41 (Int.toNat x) from rfl, show hI (sI (sZ h X) 39 (Int.toNat x) 0) 35 0 = hI (sZ h X) 35 0 from hI_s0 (fun z => absurd z.1 (by decide)), show hI (sZ h X) 35 0 = X 35 0 from rfl]
      obtain ⟨v_2, C2⟩ := c_bc (h := h) (g := g) (a := z_and (z_xor (X 41 (Int.toNat x)) 0) (z_ushr (-1) (z_w (32 - (X 35 0))))) (X := z_up X 39 (Int.toNat x) 0) 
      rw [show f31_0 (z_and (z_xor (X 41 (Int.toNat x)) 0) (z_ushr (-1) (z_w (32 - (X 35 0))))) (sI (sZ h X) 39 (Int.toNat x) 0) = z_ri v_2 (sI (sZ h X) 39 (Int.toNat x) 0) from C2]
      rw [z_ki_ri, gk1 (by exact (sk S 40)), show hP (sI (sZ h X) 39 (Int.toNat x) 0) 40 0 = 41 from sp S 40 0 41, gian_n (n := 32) (by exact (sk S 41)) (by exact (sn S 41)) (by omega) (by omega) (by omega), z_ki_ri, show z_w (x + 1) = x + 1 from w_id (by omega) (by omega), show z_and 0 (z_ushr (-1) (z_w (32 - (X 35 0)))) = 0 from and_z0 _]
      exact ih ((24 - (x + 1)).toNat) (by omega) (x + 1) (z_up (z_up X 39 (Int.toNat x) 0) 41 (Int.toNat x) 0) rfl (by omega) ⟨(by
        intro i_ hi_
        by_cases z_ : i_ = Int.toNat x
        · simp (disch := first | decide | omega) only [up_a, up_1e]; first | done | omega | exact ⟨by omega, by omega⟩ | exact ⟨trivial, by omega⟩ | exact ⟨by omega, trivial⟩
        · have q_ := a0 i_ (by omega); simp (disch := first | decide | omega) only [up_a, up_i]; exact q_), (by
        intro i_ hi_
        by_cases z_ : i_ = Int.toNat x
        · simp (disch := first | decide | omega) only [up_a, up_1e]; first | done | omega | exact ⟨by omega, by omega⟩ | exact ⟨trivial, by omega⟩ | exact ⟨by omega, trivial⟩
        · have q_ := a1 i_ (by omega); simp (disch := first | decide | omega) only [up_a, up_i]; exact q_), (iw_to (iw_to f1 (by first | exact rfl | exact .inl rfl | exact .inr rfl | simp)) (by first | exact rfl | exact .inl rfl | exact .inr rfl | simp)), (by first | exact kh | (simp (disch := first | decide | omega) only [true_and, and_true, or_true, true_or, up_a, up_i, up_1]; first | done | exact kh | omega))⟩
def Q_c_rw (h g : z_M) (X : Nat → Nat → Int) (x_ : z_Z) : Prop := (∃ (X1 : Nat → Nat → Int), (x_ = f295_58 35 (sZ h X1)) ∧ (∀ i : Nat, ((i : Int) < 24) → X1 39 i = 0) ∧ (∀ i : Nat, ((i : Int) < 24) → X1 41 i = 0) ∧ (∀ a i : Nat, ¬ (a = 39 ∨ a = 41) → X1 a i = X a i))
theorem c_rw {h g : z_M} {X : Nat → Nat → Int} (S : S0 h) (kh : X 35 1 = 24) : Q_c_rw h g X (f295_24 35 0 (sZ h X)) := by
  obtain ⟨X1, C1, a0, a1, f1, _⟩ := c_rw_l (h := h) (g := g) (X0 := X) S _ 0 X rfl (by omega) ⟨fun i hi => absurd hi (by omega), fun i hi => absurd hi (by omega), iw_rfl, kh⟩
  exact ⟨X1, C1, fun i hi => a0 i hi, fun i hi => a1 i hi, fun a i w => f1 a i w⟩
def Q_c_cl (h g : z_M) (X : Nat → Nat → Int) (x_ : z_Z) : Prop := (∃ (h1 : z_M) (X1 : Nat → Nat → Int), (x_ = z_rv (sZ h1 X1)) ∧ (S0 h1) ∧ (z_lw z_W37 h h1) ∧ (X1 35 14 = 0 ∧ X1 35 15 = 0) ∧ (X1 35 22 = 0) ∧ (X1 35 0 = 24 ∧ X1 35 1 = 24) ∧ (∀ a i : Nat, ¬ (a = 35 ∨ a = 36 ∨ a = 39 ∨ a = 41 ∨ a = 42 ∨ a = 44 ∨ a = 45 ∨ a = 46) → X1 a i = X a i))
set_option maxHeartbeats 4000000 in
theorem c_cl {h g : z_M} {X : Nat → Nat → Int} (S : S0 h) (k7 : X 35 0 = 24 ∧ X 35 1 = 24) : Q_c_cl h g X (f295_0 35 (sZ h X)) := by
  rw [e295_0, gk1 (by exact (sk S 35)), show hP (sZ h X) 35 2 = 36 from sp S 35 2 36, gk1 (by exact (sk S 36))]
  obtain ⟨h1_1, C1, sS_1, lw_1⟩ := c_mkb (h := h) (g := g) (a := 1) (b := 1) (c := 1) (X := X) S
  rw [show f321_0 36 1 1 1 (sZ h X) = z_rv (sI (sI (sI (sZ h1_1 X) 36 1 1) 36 2 1) 36 3 1) from C1]
  rw [z_kv_rv, gk1 (by exact (sk sS_1 35)), e307_0, gk1 (by exact (sk sS_1 35)), gk1 (by exact (sk sS_1 35)), gk1 (by exact (sk sS_1 35)), gk1 (by exact (sk sS_1 35)), gk1 (by exact (sk sS_1 35)), gk1 (by exact (sk sS_1 35)), e307_33, gk1 (by exact (sk sS_1 35)), e300_0]
  obtain ⟨X2, C2, p0_2, fr_2⟩ := c_fg (h := h1_1) (g := g)  (X := z_up (z_up (z_up (z_up (z_up (z_up (z_up (z_up (z_up X 36 1 1) 36 2 1) 36 3 1) 35 5 1) 35 6 1) 35 7 0) 35 8 0) 35 9 256) 35 10 0) sS_1
  rw [show f300_2 35 0 (sI (sI (sI (sI (sI (sI (sI (sI (sI (sZ h1_1 X) 36 1 1) 36 2 1) 36 3 1) 35 5 1) 35 6 1) 35 7 0) 35 8 0) 35 9 256) 35 10 0) = z_rv (sZ h1_1 X2) from C2]
  rw [z_kv_rv, z_kv_rv]
  obtain ⟨X3, C3, p0_3, p1_3, fr_3⟩ := c_rw (h := h1_1) (g := g)  (X := X2) sS_1 (by (try simp (disch := first | decide | omega) only [true_and, and_true, or_true, true_or, up_a, up_i, up_1, fr_2]); first | done | omega)
  rw [C3]
  rw [e295_58, gk1 (by exact (sk sS_1 35)), show sP (sZ h1_1 X3) 35 13 4294968296 = sZ h1_1 X3 from sP_id (by exact sp sS_1 35 13 4294968296), gkz (by exact (sk sS_1 35)) (by decide), gkz (by exact (sk sS_1 35)) (by decide), gk1 (by exact (sk sS_1 35)), gk1 (by exact (sk sS_1 35)), gk1 (by exact (sk sS_1 35)), e312_0]
  obtain ⟨X4, C4, p0_4, p1_4, fr_4⟩ := c_un (h := h1_1) (g := g)  (X := z_up (z_up (z_up (z_up X3 35 14 0) 35 15 0) 35 20 0) 35 22 0) sS_1
  rw [show f312_2 35 0 (sI (sI (sI (sI (sZ h1_1 X3) 35 14 0) 35 15 0) 35 20 0) 35 22 0) = f312_28 35 (sZ h1_1 X4) from C4]
  rw [e312_28, gk1 (by exact (sk sS_1 35)), show hP (sZ h1_1 X4) 35 16 = 44 from sp sS_1 35 16 44, gk1 (by exact (sk sS_1 44)), e331_0, gk1 (by exact (sk sS_1 44)), gk1 (by exact (sk sS_1 44)), gk1 (by exact (sk sS_1 44)), z_kv_rv, z_kv_rv]
  exact ⟨h1_1, (z_up (z_up (z_up X4 44 0 4) 44 1 1) 44 2 0), rfl, sS_1, (lw_1), (by (try simp (disch := first | decide | omega) only [true_and, and_true, or_true, true_or, up_a, up_i, up_1, fr_4, fr_3, fr_2]); first | done | omega), (by (try simp (disch := first | decide | omega) only [true_and, and_true, or_true, true_or, up_a, up_i, up_1, fr_4, fr_3, fr_2]); first | done | omega), (by (try simp (disch := first | decide | omega) only [true_and, and_true, or_true, true_or, up_a, up_i, up_1, fr_4, fr_3, fr_2]); first | done | omega), (fun a i w => by simp (disch := omega) only [up_n, fr_4, fr_3, fr_2])⟩
def Q_c_gc (h g : z_M) (w : Int) (q : Int) (wq : Int) (X : Nat → Nat → Int) (x_ : z_Z) : Prop := (∃ (v : Int), (x_ = f303_155 v (sZ h X)))
set_option maxHeartbeats 4000000 in
theorem c_gc {h g : z_M} {w : Int} {q : Int} {wq : Int} {X : Nat → Nat → Int} (S : S0 h) (hwq : w * q = wq) (hw : 1 ≤ w ∧ w ≤ 12) (hb : 1 ≤ wq ∧ wq ≤ 144) : ∀ (nu : Nat) (x : Int) (y : Int), (wq - x).toNat = nu → (0 ≤ x ∧ x ≤ wq) → Q_c_gc h g w q wq X (f303_116 35 w q y x (sZ h X)) := by
  intro nu
  induction nu using Nat.strongRecOn with
  | ind nu ih =>
    intro x y  hn hx
    subst hn
    rw [e303_116, show w * q = wq from hwq, show z_w wq = wq from w_id (by omega) (by omega)]
    by_cases q1 : wq ≤ x
    · rw [z_if_t q1]
      exact ⟨y, rfl⟩
    · rw [z_if_f q1, z_g_t (by first | decide | omega), z_g_t (by first | decide | omega), gk1 (by exact (sk S 35)), e305_0, gk1 (by exact (sk S 35)), e309_0, gk1 (by exact (sk S 35)), gk1 (by exact (sk S 35)), gk1 (by exact (sk S 35)), z_ki_ri, gk1 (by exact (sk S 35)), e311_0, gk1 (by exact (sk S 35)), gk1 (by exact (sk S 35)), gk1 (by exact (sk S 35)), z_ki_ri, gk1 (by exact (sk S 35)), show hP (sZ h X) 35 2 = 36 from sp S 35 2 36, gk1 (by exact (sk S 36)), show hI (sZ h X) 35 7 = X 35 7 from rfl, show hI (sZ h X) 35 10 = X 35 10 from rfl, show hI (sZ h X) 35 9 = X 35 9 from rfl, show z_shr (z_w ((z_w ((X 35 7) + (z_w ((z_div x w) * (X 35 10))))) + (z_w ((z_rem x w) * (X 35 9))))) 8 = (z_w ((z_w ((X 35 7) + (z_w ((z_div x w) * (X 35 10))))) + (z_w ((z_rem x w) * (X 35 9))))) / 256 from shr_n8 _, show hI (sZ h X) 36 1 = X 36 1 from rfl]
      by_cases q2 : (z_w (((z_w ((z_w ((X 35 7) + (z_w ((z_div x w) * (X 35 10))))) + (z_w ((z_rem x w) * (X 35 9))))) / 256) + (X 36 1))) ≤ 0
      · rw [z_if_t q2, e305_57, e305_62, gb_1, z_ki_ri, z_if_f (by decide), e303_146, show z_w (x + 1) = x + 1 from w_id (by omega) (by omega)]
        exact ih ((wq - (x + 1)).toNat) (by omega) (x + 1) (z_w (y + 1)) rfl (by omega) 
      · rw [z_if_f q2, gk1 (by exact (sk S 35)), show hI (sZ h X) 35 0 = X 35 0 from rfl]
        by_cases q3 : (X 35 0) ≤ ((z_w ((z_w ((X 35 7) + (z_w ((z_div x w) * (X 35 10))))) + (z_w ((z_rem x w) * (X 35 9))))) / 256)
        · rw [z_if_t q3, e305_57, e305_62, gb_1, z_ki_ri, z_if_f (by decide), e303_146, show z_w (x + 1) = x + 1 from w_id (by omega) (by omega)]
          exact ih ((wq - (x + 1)).toNat) (by omega) (x + 1) (z_w (y + 1)) rfl (by omega) 
        · rw [z_if_f q3, gk1 (by exact (sk S 35)), gk1 (by exact (sk S 36)), show hI (sZ h X) 35 8 = X 35 8 from rfl, show z_shr (z_w ((z_w ((X 35 8) + (z_w ((z_div x w) * (X 35 9))))) - (z_w ((z_rem x w) * (X 35 10))))) 8 = (z_w ((z_w ((X 35 8) + (z_w ((z_div x w) * (X 35 9))))) - (z_w ((z_rem x w) * (X 35 10))))) / 256 from shr_n8 _, show hI (sZ h X) 36 2 = X 36 2 from rfl]
          by_cases q4 : (z_w (((z_w ((z_w ((X 35 8) + (z_w ((z_div x w) * (X 35 9))))) - (z_w ((z_rem x w) * (X 35 10))))) / 256) + (X 36 2))) ≤ 0
          · rw [z_if_t q4, e305_57, e305_62, gb_1, z_ki_ri, z_if_f (by decide), e303_146, show z_w (x + 1) = x + 1 from w_id (by omega) (by omega)]
            exact ih ((wq - (x + 1)).toNat) (by omega) (x + 1) (z_w (y + 1)) rfl (by omega) 
          · rw [z_if_f q4, gk1 (by exact (sk S 35)), show hI (sZ h X) 35 1 = X 35 1 from rfl]
            by_cases q5 : ((z_w ((z_w ((X 35 8) + (z_w ((z_div x w) * (X 35 9))))) - (z_w ((z_rem x w) * (X 35 10))))) / 256) < (X 35 1)
            · rw [z_if_t q5, e305_61, e305_62, gb_0, z_ki_ri, z_if_t (by decide), e303_145, e303_146, show z_w (x + 1) = x + 1 from w_id (by omega) (by omega)]
              exact ih ((wq - (x + 1)).toNat) (by omega) (x + 1) (z_w (y + 0)) rfl (by omega) 
            · rw [z_if_f q5, e305_57, e305_62, gb_1, z_ki_ri, z_if_f (by decide), e303_146, show z_w (x + 1) = x + 1 from w_id (by omega) (by omega)]
              exact ih ((wq - (x + 1)).toNat) (by omega) (x + 1) (z_w (y + 1)) rfl (by omega) 
def Q_c_gof (h g : z_M) (w : Int) (q : Int) (wq : Int) (sd : Int) (X : Nat → Nat → Int) (x_ : z_Z) : Prop := (∃ (h1 : z_M) (X1 : Nat → Nat → Int), (x_ = z_rv (sZ h1 X1)) ∧ (S0 h1) ∧ (z_lw z_W37 h h1) ∧ (z_ptn sd (hL h1)) ∧ (∀ a i : Nat, ¬ (a = 35 ∨ a = 36 ∨ a = 39 ∨ a = 41 ∨ a = 42 ∨ a = 44 ∨ a = 45 ∨ a = 46) → X1 a i = X a i) ∧ (R_g0 w q sd X X1))
set_option maxHeartbeats 4000000 in
theorem c_gof {h g : z_M} {w : Int} {q : Int} {wq : Int} {sd : Int} {X : Nat → Nat → Int} (S : S0 h) (hwq : w * q = wq) (hw : 1 ≤ w ∧ w ≤ 12) (hq : 1 ≤ q ∧ q ≤ 12) (hb : 1 ≤ wq ∧ wq ≤ 144) (hs : sd = 1 ∨ sd = 2) (hs2 : 1 ≤ sd ∧ sd ≤ 2) (k7 : X 35 0 = 24 ∧ X 35 1 = 24) : Q_c_gof h g w q wq sd X (f135_0 1 sd w q (sZ h X)) := by
  rw [e135_0, gk1 (by exact (sk S 1)), show hP (sZ h X) 1 14 = 35 from sp S 1 14 35, gk1 (by exact (sk S 35))]
  obtain ⟨h1_1, X1, C1, sS_1, lw_1, q1_1, q2_1, q3_1, fr_1⟩ := c_cl (h := h) (g := g)  (X := X) S k7
  rw [C1]
  rw [z_kv_rv, gk1 (by exact (sk sS_1 1)), show hP (sZ h1_1 X1) 1 14 = 35 from sp sS_1 1 14 35, gk1 (by exact (sk sS_1 35)), e310_0, e317_0, z_if_f (by omega), z_if_f (by omega), e317_15, gb_1, z_ki_ri, e313_0, z_if_t (by decide), e313_12, z_kv_rv, gk1 (by exact (sk sS_1 35)), show hP (sZ h1_1 X1) 35 2 = 36 from sp sS_1 35 2 36, gk1 (by exact (sk sS_1 36))]
  obtain ⟨h1_2, C2, sS_2, lw_2, pt_2⟩ := c_orb (h := h1_1) (g := g) (sd := sd) (X := X1) sS_1 hs
  rw [show f322_0 36 sd (sZ h1_1 X1) = z_rv (sI (sI (sI (sZ h1_2 X1) 36 1 sd) 36 2 sd) 36 3 ((sd * sd) + 1)) from C2]
  rw [z_kv_rv, gk1 (by exact (sk sS_2 35)), e300_0]
  obtain ⟨X3, C3, p0_3, fr_3⟩ := c_fg (h := h1_2) (g := g)  (X := z_up (z_up (z_up X1 36 1 sd) 36 2 sd) 36 3 ((sd * sd) + 1)) sS_2
  rw [show f300_2 35 0 (sI (sI (sI (sZ h1_2 X1) 36 1 sd) 36 2 sd) 36 3 ((sd * sd) + 1)) = z_rv (sZ h1_2 X3) from C3]
  rw [z_kv_rv, gk1 (by exact (sk sS_2 35)), show hP (sZ h1_2 X3) 35 2 = 36 from sp sS_2 35 2 36, gk1 (by exact (sk sS_2 36)), z_ki_ri, gk1 (by exact (sk sS_2 1)), show hP (sZ h1_2 X3) 1 14 = 35 from sp sS_2 1 14 35, gk1 (by exact (sk sS_2 35)), show z_w (256 * sd) = 256 * sd from w_id (by omega) (by omega), e303_0, e317_0, z_if_f (by omega), z_if_f (by omega), e317_15, gb_1, z_ki_ri, z_if_f (by decide), e317_0, z_if_f (by omega), z_if_f (by omega), e317_15, gb_1, z_ki_ri, z_if_f (by decide), e317_0, z_if_f (by decide), z_if_f (by decide), e317_15, gb_1, z_ki_ri, z_if_f (by decide), e317_0, z_if_f (by decide), z_if_f (by decide), e317_15, gb_1, z_ki_ri, z_if_f (by decide), e303_48, e313_0, z_if_t (by decide), e313_12, z_kv_rv, e317_0, z_if_f (by omega), z_if_f (by omega), e317_15, gb_1, z_ki_ri, z_if_f (by decide), e317_0, z_if_f (by decide), z_if_f (by decide), e317_15, gb_1, z_ki_ri, z_if_f (by decide), z_if_t (by omega), e303_89, e303_94, e313_0, z_if_t (by decide), e313_12, z_kv_rv, gk1 (by exact (sk sS_2 35)), e307_0, gk1 (by exact (sk sS_2 35)), gk1 (by exact (sk sS_2 35)), gk1 (by exact (sk sS_2 35)), gk1 (by exact (sk sS_2 35)), gk1 (by exact (sk sS_2 35)), gk1 (by exact (sk sS_2 35)), e307_33, gk1 (by exact (sk sS_2 35)), e300_0]
  obtain ⟨X4, C4, p0_4, fr_4⟩ := c_fg (h := h1_2) (g := g)  (X := z_up (z_up (z_up (z_up (z_up (z_up X3 35 5 w) 35 6 q) 35 7 0) 35 8 0) 35 9 (256 * sd)) 35 10 0) sS_2
  rw [show f300_2 35 0 (sI (sI (sI (sI (sI (sI (sZ h1_2 X3) 35 5 w) 35 6 q) 35 7 0) 35 8 0) 35 9 (256 * sd)) 35 10 0) = z_rv (sZ h1_2 X4) from C4]
  rw [z_kv_rv, z_kv_rv]
  obtain ⟨v_5, C5⟩ := c_gc (h := h1_2) (g := g) (w := w) (q := q) (wq := wq) (X := X4) sS_2 hwq hw hb _ 0 0 rfl (by omega)
  rw [C5]
  rw [e303_155, z_ki_ri]
  exact ⟨h1_2, X4, rfl, sS_2, (lw_tr (lw_1) lw_2), pt_2, (fun a i w => by simp (disch := omega) only [up_n, fr_4, fr_3, fr_1]), ⟨(by (try simp (disch := first | decide | omega) only [true_and, and_true, or_true, true_or, up_a, up_i, up_1, fr_4, fr_3, fr_1]); first | done | omega), (by (try simp (disch := first | decide | omega) only [true_and, and_true, or_true, true_or, up_a, up_i, up_1, fr_4, fr_3, fr_1]); first | done | omega), (by (try simp (disch := first | decide | omega) only [true_and, and_true, or_true, true_or, up_a, up_i, up_1, fr_4, fr_3, fr_1]); first | done | omega), (by (try simp (disch := first | decide | omega) only [true_and, and_true, or_true, true_or, up_a, up_i, up_1, fr_4, fr_3, fr_1]); first | done | omega), (by (try simp (disch := first | decide | omega) only [true_and, and_true, or_true, true_or, up_a, up_i, up_1, fr_4, fr_3, fr_1]); first | done | omega), (by (try simp (disch := first | decide | omega) only [true_and, and_true, or_true, true_or, up_a, up_i, up_1, fr_4, fr_3, fr_1]); first | done | omega), (by (try simp (disch := first | decide | omega) only [true_and, and_true, or_true, true_or, up_a, up_i, up_1, fr_4, fr_3, fr_1]); first | done | omega), (by (try simp (disch := first | decide | omega) only [true_and, and_true, or_true, true_or, up_a, up_i, up_1, fr_4, fr_3, fr_1]); first | done | omega), (by (try simp (disch := first | decide | omega) only [true_and, and_true, or_true, true_or, up_a, up_i, up_1, fr_4, fr_3, fr_1]); first | done | omega), (by (try simp (disch := first | decide | omega) only [true_and, and_true, or_true, true_or, up_a, up_i, up_1, fr_4, fr_3, fr_1]); first | done | omega), (fun i hi => by (try simp (disch := decide) only [up_a, fr_3, fr_1]); exact p0_4 i (by omega)), (fun a i w_ => by
      by_cases z : a = 35 ∧ i < 2
      · obtain ⟨z1, z2⟩ := z
        subst z1
        rcases (show i = 0 ∨ i = 1 by omega) with y | y <;> subst y
        · simp (disch := decide) only [up_a, up_i, fr_4, fr_3, fr_1]; rw [q3_1.1, k7.1]
        · simp (disch := decide) only [up_a, up_i, fr_4, fr_3, fr_1]; rw [q3_1.2, k7.2]
      · have w2 : ¬ (35 ≤ a ∧ a ≤ 55) := fun u => w_ ⟨u.1, u.2, z⟩
        simp (disch := omega) only [up_n, fr_4, fr_3, fr_1])⟩⟩
