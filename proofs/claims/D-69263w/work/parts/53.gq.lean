set_option maxRecDepth 100000
set_option linter.unusedVariables false
set_option maxHeartbeats 200000
/-! THE CALL greys -/
theorem pl_ex {sd : Int} (h : 1 ≤ sd ∧ sd ≤ 2) : ∃ pl D, z_pl sd pl D ∧ (1 ≤ pl ∧ pl ≤ 3) ∧ (sd = 1 ∨ sd = 2) ∧ (1 ≤ sd * sd ∧ sd * sd ≤ 4) := by
  have q : sd = 1 ∨ sd = 2 := by omega
  rcases q with q | q <;> subst q
  · exact ⟨1, 2, .inl ⟨rfl, rfl, rfl⟩, by decide, .inl rfl, by decide⟩
  · exact ⟨3, 8, .inr ⟨rfl, rfl, rfl⟩, by decide, .inr rfl, by decide⟩
def z_Wk (a i : Nat) : Prop := z_Wl a i ∨ (135 ≤ a ∧ a ≤ 158) ∨ (a = 1 ∧ i = 7)
def z_Vk (a i : Nat) : Prop := z_Wg a i ∨ a = 1072 ∨ a = 1073 ∨ (a = 1064 ∧ i ≤ 1)
def Q_k_greys (h g : z_M) (k : Int) (sd : Int) (f : Int) (X : Nat → Nat → Int) (Y : Nat → Nat → Int) (x_ y_ : z_Z) : Prop := (∃ (v : Int) (h1 : z_M) (X1 : Nat → Nat → Int) (Y1 : Nat → Nat → Int), (x_ = z_ri 0 (sL (sZ h1 X1) 1272 0 v)) ∧ (y_ = z_ri v (sZ g Y1)) ∧ (S0 h1) ∧ (z_lw z_W37 h h1) ∧ (Y1 1064 0 = 0) ∧ (R_fil (sZ h X1) (sZ g Y1)) ∧ (R_num (sZ h X1) (sZ g Y1)) ∧ (∀ i : Nat, i < 144 → 0 ≤ Y1 1076 i ∧ Y1 1076 i ≤ 1) ∧ (X1 35 0 = 24 ∧ X1 35 1 = 24) ∧ (z_iw z_Wk X X1) ∧ (z_iw z_Vk Y Y1)) ∨ (∃ (c : Int) (K : Nat), (x_ = z_ri c (sN (sZ h X) K 6)) ∧ (y_ = z_ri 0 (sI (sZ g Y) 1064 0 c)) ∧ (1 ≤ c))
set_option maxHeartbeats 4000000 in
theorem k_greys {h g : z_M} {k : Int} {sd : Int} {f : Int} {X : Nat → Nat → Int} {Y : Nat → Nat → Int} (S : S0 h) (ou : hK h 1272 = 1003 ∧ hN h 1272 = 1) (hz : 1272 ≤ hZ h) (Rp : R_pic (sZ h X) (sZ g Y)) (Rf : R_fil (sZ h X) (sZ g Y)) (Rn : R_num (sZ h X) (sZ g Y)) (Rd : R_dim (sZ g Y)) (t1 : ∀ i : Nat, i < 144 → 0 ≤ Y 1076 i ∧ Y 1076 i ≤ 1) (k7 : X 35 0 = 24 ∧ X 35 1 = 24) : Q_k_greys h g k sd f X Y (f73_0 1 k sd f 1272 (sZ h X)) (f872_0 k sd f (sZ g Y)) := by
  obtain ⟨r1, er1⟩ : ∃ r : Nat, r = 103 + 3 * Int.toNat k := ⟨_, rfl⟩
  obtain ⟨r2, er2⟩ : ∃ r : Nat, r = 104 + 3 * Int.toNat k := ⟨_, rfl⟩
  obtain ⟨r3, er3⟩ : ∃ r : Nat, r = 105 + 3 * Int.toNat k := ⟨_, rfl⟩
  obtain ⟨r8, er8⟩ : ∃ r : Nat, r = 135 + 2 * Int.toNat f := ⟨_, rfl⟩
  obtain ⟨r9, er9⟩ : ∃ r : Nat, r = 136 + 2 * Int.toNat f := ⟨_, rfl⟩
  obtain ⟨W, hW⟩ : ∃ z, Y 1064 1 = z := ⟨_, rfl⟩
  have hW7 : X 1 7 = W := Rn.2.2.1.trans hW
  have hWb : 0 ≤ W ∧ W ≤ 300 := by rw [← hW]; exact Rn.2.2.2
  rw [e73_0, gk1 (by exact (sk S 1)), e133_0, gk1 (by exact (sk S 1)), show f158_0 1 k (sZ h X) = z_if (0 ≤ k ∧ k ≤ 7) (z_rr r1 (sZ h X)) (z_ex (hZ (sZ h X) + 1) (sN (sZ h X) 2 6)) from c_pict S hz er1]
  by_cases q1 : (0 ≤ k) ∧ (k ≤ 7)
  · obtain ⟨kr1, kr2, kr3, pr1⟩ := s_pic S hz er1 er2 er3 (show 0 ≤ k ∧ k ≤ 7 by omega)
    have hrr1 : 103 ≤ r1 ∧ r3 ≤ 126 ∧ r2 = r1 + 1 ∧ r3 = r1 + 2 := by omega
    obtain ⟨⟨x0r1, x1r1⟩, xbr1, xsr1⟩ : (X r1 0 = Y 1065 (Int.toNat k) ∧ X r1 1 = Y 1066 (Int.toNat k)) ∧ (0 ≤ Y 1065 (Int.toNat k) ∧ Y 1065 (Int.toNat k) ≤ 12 ∧ 0 ≤ Y 1066 (Int.toNat k) ∧ Y 1066 (Int.toNat k) ≤ 12) ∧ ∀ i, i < 144 → (X r2 i = Y 1067 (144 * Int.toNat k + i) ∧ X r3 i = Y 1068 (144 * Int.toNat k + i)) ∧ (0 ≤ Y 1067 (144 * Int.toNat k + i) ∧ Y 1067 (144 * Int.toNat k + i) ≤ 255) ∧ (Y 1068 (144 * Int.toNat k + i) = 0 ∨ Y 1068 (144 * Int.toNat k + i) = 1) := by rw [er1, er2, er3]; exact Rp (Int.toNat k) (by omega)
    obtain ⟨wr1, hwr1⟩ : ∃ w, Y 1065 (Int.toNat k) = w := ⟨_, rfl⟩
    obtain ⟨qr1, hqr1⟩ : ∃ w, Y 1066 (Int.toNat k) = w := ⟨_, rfl⟩
    rw [hwr1, hqr1] at xbr1
    rw [hwr1] at x0r1
    rw [hqr1] at x1r1
    rw [z_if_t q1, z_kr_rr, gk1 (by exact (sk S 1)), show f128_0 1 f (sZ h X) = z_if (0 ≤ f ∧ f ≤ 11) (z_rr r8 (sZ h X)) (z_ex (hZ (sZ h X) + 1) (sN (sZ h X) 2 6)) from c_fict S er8]
    by_cases q2 : (0 ≤ f) ∧ (f ≤ 11)
    · obtain ⟨kr8, kr9, pr8⟩ := s_fil S er8 er9 (show 0 ≤ f ∧ f ≤ 11 by omega)
      have hrr8 : 135 ≤ r8 ∧ r9 ≤ 158 ∧ r9 = r8 + 1 := by omega
      obtain ⟨y0r8, ybr8, ysr8⟩ : X r8 1 = Y 1072 (Int.toNat f) ∧ (0 ≤ Y 1072 (Int.toNat f) ∧ Y 1072 (Int.toNat f) ≤ 1500) ∧ ∀ i, i < 1500 → X r9 i % 256 = Y 1073 (1500 * Int.toNat f + i) := by rw [er8, er9]; exact Rf (Int.toNat f) (by omega)
      obtain ⟨zr8, hzr8⟩ : ∃ w, Y 1072 (Int.toNat f) = w := ⟨_, rfl⟩
      rw [hzr8] at y0r8 ybr8
      rw [z_if_t q2, z_kr_rr, gk1 (by exact kr1), e212_0, gk1 (by exact kr1), show hI (sZ h X) r1 0 = X r1 0 from rfl, show X r1 0 = wr1 from x0r1]
      by_cases q3 : wr1 ≤ 0
      · rw [z_if_t q3, e212_11, e212_12, gb_0, z_ki_ri, c_allow0, z_kv_ex, z_ki_ex, nq0 rfl, nq1 rfl, e73_19, e872_0, t_isPicture, z_ki_ri, if_bi, z_if_t q1, t_isFile, z_ki_ri, if_bi, z_if_t q2, e872_20, e892_0, t_isPicture, z_ki_ri, if_bi, z_if_t q1, gin (by omega) (by omega), show hI (sZ g Y) 1065 (Int.toNat k) = Y 1065 (Int.toNat k) from rfl, show Y 1065 (Int.toNat k) = wr1 from hwr1, z_if_t q3, e892_20, e892_21, gb_0, z_ki_ri, t_isIn, z_ki_ri, e874_0, show hI (sZ g Y) 1064 1 = Y 1064 1 from rfl, show Y 1064 1 = W from hW]
        by_cases q4 : 300 ≤ W
        · rw [z_if_t q4, e874_14, e874_15, gb_0, z_ki_ri, e954_0, z_if_t (by decide), e954_9, z_if_f (by decide), e954_35, show hI (sI (sZ g Y) 1064 0 2) 1064 0 = 2 from hI_s1, z_if_t (by decide), e954_49, e954_50, gb_0, z_ki_ri, z_if_f (by decide)]
          exact .inr (⟨2, 6, rfl, rfl, (by omega)⟩)
        · rw [z_if_f q4, e874_15, gb_1, z_ki_ri, e954_0, z_if_t (by decide), e954_9, z_if_f (by decide), e954_35, show hI (sI (sZ g Y) 1064 0 2) 1064 0 = 2 from hI_s1, z_if_t (by decide), e954_49, e954_50, gb_0, z_ki_ri, z_if_f (by decide)]
          exact .inr (⟨2, 6, rfl, rfl, (by omega)⟩)
      · have hdr1 : 1 ≤ qr1 := by have q_ := Rd (Int.toNat k) (by omega) (by show 0 < Y 1065 (Int.toNat k); rw [hwr1]; omega); have q2_ : 0 < Y 1066 (Int.toNat k) := q_; rw [hqr1] at q2_; omega
        obtain ⟨wq, hwq⟩ : ∃ z, wr1 * qr1 = z := ⟨_, rfl⟩
        have hwb : 1 ≤ wq ∧ wq ≤ 144 := ⟨mu_5 hwq (by omega) (by omega), mu_g hwq ⟨by omega, xbr1.2.1⟩ ⟨by omega, xbr1.2.2.2⟩⟩
        rw [z_if_f q3, e212_12, gb_1, z_ki_ri, c_allow1, z_kv_rv, c_within, z_ki_ri, c_want]
        by_cases q4 : (1 ≤ sd) ∧ (sd ≤ 2)
        · obtain ⟨pl, D, hpl, hplb, hs, hq4⟩ := pl_ex (show 1 ≤ sd ∧ sd ≤ 2 by omega)
          rw [z_if_t q4, z_kv_rv, gk1 (by exact (sk S 1)), e197_0, gk1 (by exact (sk S 1)), e198_0, gk1 (by exact (sk S 1)), show hI (sZ h X) 1 7 = X 1 7 from rfl, show X 1 7 = W from hW7, show z_w (W + 1) = W + 1 from w_id (by omega) (by omega)]
          by_cases q5 : 300 < (W + 1)
          · rw [z_if_t q5, e198_16, e198_17, c_wantRoom0, z_kv_ex, z_kv_ex, z_kv_ex, z_ki_ex, nq0 rfl, nq0 rfl, nq0 rfl, nq1 rfl, e73_27, e872_0, t_isPicture, z_ki_ri, if_bi, z_if_t q1, t_isFile, z_ki_ri, if_bi, z_if_t q2, e872_20, e892_0, t_isPicture, z_ki_ri, if_bi, z_if_t q1, gin (by omega) (by omega), show hI (sZ g Y) 1065 (Int.toNat k) = Y 1065 (Int.toNat k) from rfl, show Y 1065 (Int.toNat k) = wr1 from hwr1, z_if_f q3, e892_21, gb_1, z_ki_ri, t_isIn, z_ki_ri, e874_0, show hI (sZ g Y) 1064 1 = Y 1064 1 from rfl, show Y 1064 1 = W from hW, z_if_t (by omega), e874_14, e874_15, gb_0, z_ki_ri, e954_0, z_if_t (by decide), e954_9, z_if_t (by decide), e954_17, if_nb, z_if_t q4, e954_25, z_if_f (by decide), e954_35, show hI (sI (sZ g Y) 1064 0 4) 1064 0 = 4 from hI_s1, z_if_t (by decide), e954_49, e954_50, gb_0, z_ki_ri, z_if_f (by decide)]
            exact .inr (⟨4, 7, rfl, rfl, (by omega)⟩)
          · rw [z_if_f q5, e198_17, c_wantRoom1, z_kv_rv, gk1 (by exact (sk S 1)), gk1 (by exact (sk S 1)), z_kv_rv, z_kv_rv, show hI (sZ h X) 1 7 = X 1 7 from rfl, show X 1 7 = W from hW7, show z_w (W + 1) = W + 1 from w_id (by omega) (by omega), gk1 (by exact (sk S 1)), e872_0, t_isPicture, z_ki_ri, if_bi, z_if_t q1, t_isFile, z_ki_ri, if_bi, z_if_t q2, e872_20, e892_0, t_isPicture, z_ki_ri, if_bi, z_if_t q1, gin (by omega) (by omega), show hI (sZ g Y) 1065 (Int.toNat k) = Y 1065 (Int.toNat k) from rfl, show Y 1065 (Int.toNat k) = wr1 from hwr1, z_if_f q3, e892_21, gb_1, z_ki_ri, t_isIn, z_ki_ri, e874_0, show hI (sZ g Y) 1064 1 = Y 1064 1 from rfl, show Y 1064 1 = W from hW, z_if_f (by omega), e874_15, gb_1, z_ki_ri, e954_0, z_if_t (by decide), e954_9, z_if_t (by decide), e954_17, if_nb, z_if_t q4, e954_25, z_if_t (by decide), e954_34, e954_35, show hI (sI (sZ g Y) 1064 0 0) 1064 0 = 0 from hI_s1, z_if_f (by decide), e954_50, gb_1, z_ki_ri, z_if_t (by decide), e872_43]
            obtain ⟨h1_1, X1, Y1, C1, D1, sS_1, lw_1, Z_1⟩ := p_lgr (h := h) (g := g) (w := wr1) (q := qr1) (k := k) (sd := sd) (r1 := r1) (r2 := r2) (r3 := r3) (wq := wq) (pl := pl) (D := D) (X := z_up X 1 7 (W + 1)) (Y := z_up Y 1064 0 0) S kr1 kr2 kr3 pr1 (by omega) hs hplb q1 q4 hq4 ((fun n hn => by have q_ := (Rp (n / 144) (by omega)).2.2 (n % 144) (by omega); have z_ : 144 * (n / 144) + n % 144 = n := (by omega); rw [z_] at q_; simp (disch := decide) only [up_a]; exact q_.2.1)) (by omega) hwb (by omega) (⟨(by simp (disch := first | decide | omega) only [up_a, up_i, up_1]; exact x0r1), (by simp (disch := first | decide | omega) only [up_a, up_i, up_1]; exact x1r1), (by simp (disch := first | decide | omega) only [up_a, up_i, up_1]; exact hwr1), (by simp (disch := first | decide | omega) only [up_a, up_i, up_1]; exact hqr1), (by omega), (by omega), (fun i j hi => by have q_ := xsr1 (12 * j + i) (by omega); have e_ : Int.toNat (144 * k) + 12 * j + i = 144 * Int.toNat k + (12 * j + i) := (by omega); simp (disch := first | decide | omega) only [up_a]; rw [e_, q_.1.1, q_.1.2]; refine ⟨rfl, q_.2.1, rfl, ?_⟩; omega), (fun i hi => by simp (disch := decide) only [up_a]; exact t1 i hi), (by simp (disch := decide) only [up_a]; exact k7)⟩)
            have ou_h1_1 : hK h1_1 1272 = 1003 ∧ hN h1_1 1272 = 1 := by obtain ⟨l1, _, l3⟩ := lw_1; simpa only [hK, hN, hP, l1, l3] using ou
            have kr1_h1_1 : hK h1_1 r1 = 11 := by obtain ⟨l1, _, l3⟩ := lw_1; simpa only [hK, hN, hP, l1, l3] using kr1
            have kr2_h1_1 : hK h1_1 r2 = 1000 ∧ hN h1_1 r2 = 144 := by obtain ⟨l1, _, l3⟩ := lw_1; simpa only [hK, hN, hP, l1, l3] using kr2
            have kr3_h1_1 : hK h1_1 r3 = 1001 ∧ hN h1_1 r3 = 144 := by obtain ⟨l1, _, l3⟩ := lw_1; simpa only [hK, hN, hP, l1, l3] using kr3
            have pr1_h1_1 : hP h1_1 r1 2 = r2 ∧ hP h1_1 r1 3 = r3 := by obtain ⟨l1, _, l3⟩ := lw_1; simpa only [hK, hN, hP, l1, l3] using pr1
            have kr8_h1_1 : hK h1_1 r8 = 29 := by obtain ⟨l1, _, l3⟩ := lw_1; simpa only [hK, hN, hP, l1, l3] using kr8
            have kr9_h1_1 : hK h1_1 r9 = 1002 ∧ hN h1_1 r9 = 1500 := by obtain ⟨l1, _, l3⟩ := lw_1; simpa only [hK, hN, hP, l1, l3] using kr9
            have pr8_h1_1 : hP h1_1 r8 0 = r9 := by obtain ⟨l1, _, l3⟩ := lw_1; simpa only [hK, hN, hP, l1, l3] using pr8
            obtain ⟨m1_1, m2_1, md_1, t1_1, k7_1, fx_1, fy_1⟩ := id Z_1
            have wk_ : Y1 1064 1 = W := (fy_1 1064 1 (by unfold z_Wg; omega)).trans ((up_i (by decide)).trans hW)
            rw [show f147_0 1 r1 sd (sI (sZ h X) 1 7 (W + 1)) = z_rv (sZ h1_1 X1) from C1, show f948_0 k sd (sI (sZ g Y) 1064 0 0) = z_rv (sZ g Y1) from D1]
            rw [z_kv_rv, gk1 (by exact (sk sS_1 1)), z_kv_rv, show hI (sZ g Y1) 1064 1 = Y1 1064 1 from rfl, show Y1 1064 1 = W from wk_, show z_w (W + 1) = W + 1 from w_id (by omega) (by omega)]
            obtain ⟨v_2, X2, Y2, C2, D2, rf_2, fr_2, gr_2⟩ := p_kp (h := h1_1) (g := g) (f := f) (r8 := r8) (r9 := r9) (X := X1) (Y := z_up Y1 1064 1 (W + 1)) sS_1 q2 (er8) (er9) (⟨(show X1 1 4 = (z_up Y1 1064 1 (W + 1)) 1064 14 by rw [up_i (by decide)]; exact m1_1), (show 0 ≤ (z_up Y1 1064 1 (W + 1)) 1064 14 ∧ (z_up Y1 1064 1 (W + 1)) 1064 14 ≤ 6400 by rw [up_i (by decide)]; exact m2_1), fun j hj => (show X1 5 j % 256 = (z_up Y1 1064 1 (W + 1)) 1074 j by rw [up_a (by decide)]; exact (md_1 j (by have q_ : (j : Int) < (z_up Y1 1064 1 (W + 1)) 1064 14 := hj; rw [up_i (by decide)] at q_; exact q_)).1)⟩) (fil_fr Rf (fun a i u v => by rw [fx_1 a i (by unfold z_Wl z_Wh; omega)]; exact up_n (by omega)) (fun a i u => by rw [up_n (by omega), fy_1 a i (by unfold z_Wg; omega)]; exact up_n (by omega)))
            rw [C2, show f982_0 f (sI (sZ g Y1) 1064 1 (W + 1)) = z_ri v_2 (sZ g Y2) from D2]
            rw [z_ki_ri, z_ki_ri, gian_n (n := 1) (by exact ou_h1_1.1) (by exact ou_h1_1.2) (by omega) (by omega) (by omega), show Int.toNat 0 = 0 from rfl, e73_12, e73_31, z_ki_ri]
            exact .inl ⟨v_2, h1_1, X2, Y2, rfl, rfl, sS_1, (lw_1), (by have y8 : ∀ i, i ≤ 3 → ¬ i = 1 → Y2 1064 i = (z_up Y 1064 0 0) 1064 i := fun i hi hj => (gr_2 1064 i (by omega)).trans ((up_i hj).trans (fy_1 1064 i (by unfold z_Wg; omega))); rw [y8 0 (by decide) (by decide)]; exact up_1), (rf_2), (by
                have x8 : ∀ i, ¬ i = 4 → X2 1 i = (z_up X 1 7 (W + 1)) 1 i := fun i hi => (fr_2 1 i (by omega)).trans (fx_1 1 i (by unfold z_Wl z_Wh; omega))
                have y8 : ∀ i, i ≤ 3 → ¬ i = 1 → Y2 1064 i = (z_up Y 1064 0 0) 1064 i := fun i hi hj => (gr_2 1064 i (by omega)).trans ((up_i hj).trans (fy_1 1064 i (by unfold z_Wg; omega)))
                have y1 : Y2 1064 1 = W + 1 := (gr_2 1064 1 (by omega)).trans up_1
                refine ⟨?_, ?_, ?_, ?_⟩
                · show X2 1 8 = Y2 1064 2; rw [x8 8 (by decide), y8 2 (by decide) (by decide), up_i (by decide), up_i (by decide)]; exact Rn.1
                · show X2 1 9 = Y2 1064 3; rw [x8 9 (by decide), y8 3 (by decide) (by decide), up_i (by decide), up_i (by decide)]; exact Rn.2.1
                · show X2 1 7 = Y2 1064 1; rw [x8 7 (by decide), y1, up_1]
                · show 0 ≤ Y2 1064 1 ∧ Y2 1064 1 ≤ 300; rw [y1]; omega), ((fun i hi => by rw [gr_2 1076 i (by decide), up_a (by decide)]; exact t1_1 i hi)), (⟨(fr_2 35 0 (by omega)).trans k7_1.1, (fr_2 35 1 (by omega)).trans k7_1.2⟩), ((fun a i w => by rw [fr_2 a i (fun z => w (.inr (.inl (by omega)))), fx_1 a i (fun z => w (.inl z))]; exact up_n (fun z => w (.inr (.inr z))))), ((fun a i w => by rw [gr_2 a i (fun z => w (.inr (by omega))), up_n (fun z => w (.inr (.inr (.inr ⟨z.1, by omega⟩)))), fy_1 a i (fun z => w (.inl z))]; exact up_n (fun z => w (.inr (.inr (.inr ⟨z.1, by omega⟩))))))⟩
        · rw [z_if_f q4, z_kv_ex, z_ki_ex, nq0 rfl, nq0 rfl, nq1 rfl, e73_23, e872_0, t_isPicture, z_ki_ri, if_bi, z_if_t q1, t_isFile, z_ki_ri, if_bi, z_if_t q2, e872_20, e892_0, t_isPicture, z_ki_ri, if_bi, z_if_t q1, gin (by omega) (by omega), show hI (sZ g Y) 1065 (Int.toNat k) = Y 1065 (Int.toNat k) from rfl, show Y 1065 (Int.toNat k) = wr1 from hwr1, z_if_f q3, e892_21, gb_1, z_ki_ri, t_isIn, z_ki_ri, e874_0, show hI (sZ g Y) 1064 1 = Y 1064 1 from rfl, show Y 1064 1 = W from hW]
          by_cases q5 : 300 ≤ W
          · rw [z_if_t q5, e874_14, e874_15, gb_0, z_ki_ri, e954_0, z_if_t (by decide), e954_9, z_if_t (by decide), e954_17, if_nb, z_if_f q4, e954_35, show hI (sI (sZ g Y) 1064 0 3) 1064 0 = 3 from hI_s1, z_if_t (by decide), e954_49, e954_50, gb_0, z_ki_ri, z_if_f (by decide)]
            exact .inr (⟨3, 5, rfl, rfl, (by omega)⟩)
          · rw [z_if_f q5, e874_15, gb_1, z_ki_ri, e954_0, z_if_t (by decide), e954_9, z_if_t (by decide), e954_17, if_nb, z_if_f q4, e954_35, show hI (sI (sZ g Y) 1064 0 3) 1064 0 = 3 from hI_s1, z_if_t (by decide), e954_49, e954_50, gb_0, z_ki_ri, z_if_f (by decide)]
            exact .inr (⟨3, 5, rfl, rfl, (by omega)⟩)
    · rw [z_if_f q2, z_kr_ex, z_ki_ex, nq1 rfl, e73_15, e872_0, t_isPicture, z_ki_ri, if_bi, z_if_t q1, t_isFile, z_ki_ri, if_bi, z_if_f q2, e872_19, e872_20, e892_0, t_isPicture, z_ki_ri, if_bi, z_if_t q1, gin (by omega) (by omega), show hI (sZ g Y) 1065 (Int.toNat k) = Y 1065 (Int.toNat k) from rfl, show Y 1065 (Int.toNat k) = wr1 from hwr1]
      by_cases q3 : wr1 ≤ 0
      · rw [z_if_t q3, e892_20, e892_21, gb_0, z_ki_ri, t_isIn, z_ki_ri, e874_0, show hI (sZ g Y) 1064 1 = Y 1064 1 from rfl, show Y 1064 1 = W from hW]
        by_cases q4 : 300 ≤ W
        · rw [z_if_t q4, e874_14, e874_15, gb_0, z_ki_ri, e954_0, z_if_f (by decide), e954_35, show hI (sI (sZ g Y) 1064 0 1) 1064 0 = 1 from hI_s1, z_if_t (by decide), e954_49, e954_50, gb_0, z_ki_ri, z_if_f (by decide)]
          exact .inr (⟨1, 2, rfl, rfl, (by omega)⟩)
        · rw [z_if_f q4, e874_15, gb_1, z_ki_ri, e954_0, z_if_f (by decide), e954_35, show hI (sI (sZ g Y) 1064 0 1) 1064 0 = 1 from hI_s1, z_if_t (by decide), e954_49, e954_50, gb_0, z_ki_ri, z_if_f (by decide)]
          exact .inr (⟨1, 2, rfl, rfl, (by omega)⟩)
      · have hdr1 : 1 ≤ qr1 := by have q_ := Rd (Int.toNat k) (by omega) (by show 0 < Y 1065 (Int.toNat k); rw [hwr1]; omega); have q2_ : 0 < Y 1066 (Int.toNat k) := q_; rw [hqr1] at q2_; omega
        obtain ⟨wq, hwq⟩ : ∃ z, wr1 * qr1 = z := ⟨_, rfl⟩
        have hwb : 1 ≤ wq ∧ wq ≤ 144 := ⟨mu_5 hwq (by omega) (by omega), mu_g hwq ⟨by omega, xbr1.2.1⟩ ⟨by omega, xbr1.2.2.2⟩⟩
        rw [z_if_f q3, e892_21, gb_1, z_ki_ri, t_isIn, z_ki_ri, e874_0, show hI (sZ g Y) 1064 1 = Y 1064 1 from rfl, show Y 1064 1 = W from hW]
        by_cases q4 : 300 ≤ W
        · rw [z_if_t q4, e874_14, e874_15, gb_0, z_ki_ri, e954_0, z_if_f (by decide), e954_35, show hI (sI (sZ g Y) 1064 0 1) 1064 0 = 1 from hI_s1, z_if_t (by decide), e954_49, e954_50, gb_0, z_ki_ri, z_if_f (by decide)]
          exact .inr (⟨1, 2, rfl, rfl, (by omega)⟩)
        · rw [z_if_f q4, e874_15, gb_1, z_ki_ri, e954_0, z_if_f (by decide), e954_35, show hI (sI (sZ g Y) 1064 0 1) 1064 0 = 1 from hI_s1, z_if_t (by decide), e954_49, e954_50, gb_0, z_ki_ri, z_if_f (by decide)]
          exact .inr (⟨1, 2, rfl, rfl, (by omega)⟩)
  · rw [z_if_f q1, z_kr_ex, z_ki_ex, nq1 rfl, e73_15, e872_0, t_isPicture, z_ki_ri, if_bi, z_if_f q1, e872_19, e872_20, e892_0, t_isPicture, z_ki_ri, if_bi, z_if_f q1, e892_20, e892_21, gb_0, z_ki_ri, t_isIn, z_ki_ri, e874_0, show hI (sZ g Y) 1064 1 = Y 1064 1 from rfl, show Y 1064 1 = W from hW]
    by_cases q2 : 300 ≤ W
    · rw [z_if_t q2, e874_14, e874_15, gb_0, z_ki_ri, e954_0, z_if_f (by decide), e954_35, show hI (sI (sZ g Y) 1064 0 1) 1064 0 = 1 from hI_s1, z_if_t (by decide), e954_49, e954_50, gb_0, z_ki_ri, z_if_f (by decide)]
      exact .inr (⟨1, 2, rfl, rfl, (by omega)⟩)
    · rw [z_if_f q2, e874_15, gb_1, z_ki_ri, e954_0, z_if_f (by decide), e954_35, show hI (sI (sZ g Y) 1064 0 1) 1064 0 = 1 from hI_s1, z_if_t (by decide), e954_49, e954_50, gb_0, z_ki_ri, z_if_f (by decide)]
      exact .inr (⟨1, 2, rfl, rfl, (by omega)⟩)
