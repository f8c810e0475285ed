set_option maxRecDepth 100000
set_option linter.unusedVariables false
set_option maxHeartbeats 200000
/-! THE CALL join -/
theorem fil_new {h h' g g' : z_M} {X X' Y Y' : Nat → Nat → Int} {t : Nat} {n : Int} (ht : t < 12) (R : R_fil (sZ h X) (sZ g Y)) (hn : 0 ≤ n ∧ n ≤ 1500) (fx : ∀ a i : Nat, 135 ≤ a → a ≤ 158 → ¬ (a = 135 + 2 * t ∨ a = 136 + 2 * t) → X' a i = X a i) (fy : ∀ m i : Nat, ¬ m = t → m < 12 → i < 1500 → Y' 1072 m = Y 1072 m ∧ Y' 1073 (1500 * m + i) = Y 1073 (1500 * m + i))
    (x0 : X' (135 + 2 * t) 1 = n) (y0 : Y' 1072 t = n) (s : ∀ i : Nat, i < 1500 → X' (136 + 2 * t) i % 256 = Y' 1073 (1500 * t + i)) : R_fil (sZ h' X') (sZ g' Y') := by
  intro m hm
  by_cases z : m = t
  · subst z
    refine ⟨x0.trans y0.symm, ?_, s⟩
    show 0 ≤ Y' 1072 m ∧ Y' 1072 m ≤ 1500
    rw [y0]; exact hn
  · obtain ⟨a, b, c⟩ := R m hm
    obtain ⟨u1, _⟩ := fy m 0 z hm (by omega)
    refine ⟨?_, ?_, fun i hi => ?_⟩
    · show X' (135 + 2 * m) 1 = Y' 1072 m
      rw [fx _ _ (by omega) (by omega) (by omega), u1]; exact a
    · show 0 ≤ Y' 1072 m ∧ Y' 1072 m ≤ 1500
      rw [u1]; exact b
    · show X' (136 + 2 * m) i % 256 = Y' 1073 (1500 * m + i)
      rw [fx _ _ (by omega) (by omega) (by omega), (fy m i z hm hi).2]; exact c i hi
def Q_t_jn_s (h g : z_M) (f : Int) (fr : Int) (t : Int) (zt : Int) (m : Int) (x : Int) (Y : Nat → Nat → Int) (y_ : z_Z) : Prop := (∃ (v : Int), (y_ = f895_109 f fr t m (x + 1) (sI (sZ g Y) 1073 (Int.toNat (1500 * t + zt + x)) v)) ∧ (v = Y 1073 (Int.toNat (((1500 * f) + fr) + x))))
set_option maxHeartbeats 4000000 in
theorem t_jn_s {h g : z_M} {f : Int} {fr : Int} {t : Int} {zt : Int} {m : Int} {x : Int} {Y : Nat → Nat → Int} (hn_ : 0 ≤ m ∧ m ≤ 1500) (hx : 0 ≤ x ∧ x < m) (hf : 0 ≤ f ∧ f ≤ 11) (ht : 0 ≤ t ∧ t ≤ 11) (hfr : 0 ≤ fr ∧ fr ≤ 1500) (hzt : 0 ≤ zt ∧ zt + m ≤ 1500) (ha : fr + m ≤ 1500) (hd : ¬ f = t ∨ fr + m ≤ zt) (kz : Y 1072 (Int.toNat t) = zt) : Q_t_jn_s h g f fr t zt m x Y (f895_109 f fr t m x (sZ g Y)) := by
  rw [e895_109, z_if_f (by omega), gin (by omega) (by omega), show z_w (1500 * f) = 1500 * f from w_id (by omega) (by omega), show z_w ((1500 * f) + fr) = (1500 * f) + fr from w_id (by omega) (by omega), show z_w (((1500 * f) + fr) + x) = ((1500 * f) + fr) + x from w_id (by omega) (by omega), gin (by omega) (by omega), show z_w (1500 * t) = 1500 * t from w_id (by omega) (by omega), show hI (sZ g Y) 1072 (Int.toNat t) = Y 1072 (Int.toNat t) from rfl, show Y 1072 (Int.toNat t) = zt from kz, show z_w ((1500 * t) + zt) = (1500 * t) + zt from w_id (by omega) (by omega), show z_w (((1500 * t) + zt) + x) = ((1500 * t) + zt) + x from w_id (by omega) (by omega), gin (by omega) (by omega), show z_w (x + 1) = x + 1 from w_id (by omega) (by omega), show Int.toNat (((1500 * t) + zt) + x) = Int.toNat (((1500 * t) + x) + zt) from congrArg Int.toNat (by omega), show hI (sZ g Y) 1073 (Int.toNat (((1500 * f) + fr) + x)) = Y 1073 (Int.toNat (((1500 * f) + fr) + x)) from rfl]
  rw [show ((1500 * t) + x) + zt = ((1500 * t) + zt) + x by omega]
  exact ⟨(Y 1073 (Int.toNat (((1500 * f) + fr) + x))), rfl, (by first | rfl | exact congrArg (Y 1073) (by omega))⟩
def Q_t_jn_e (h g : z_M) (f : Int) (fr : Int) (t : Int) (zt : Int) (m : Int) (Y : Nat → Nat → Int) (y_ : z_Z) : Prop := ((y_ = f895_159 t m (sZ g Y)))
set_option maxHeartbeats 4000000 in
theorem t_jn_e {h g : z_M} {f : Int} {fr : Int} {t : Int} {zt : Int} {m : Int} {Y : Nat → Nat → Int} (hn_ : 0 ≤ m ∧ m ≤ 1500) (hf : 0 ≤ f ∧ f ≤ 11) (ht : 0 ≤ t ∧ t ≤ 11) (hfr : 0 ≤ fr ∧ fr ≤ 1500) (hzt : 0 ≤ zt ∧ zt + m ≤ 1500) (ha : fr + m ≤ 1500) (hd : ¬ f = t ∨ fr + m ≤ zt) (kz : Y 1072 (Int.toNat t) = zt) : Q_t_jn_e h g f fr t zt m Y (f895_109 f fr t m m (sZ g Y)) := by
  rw [e895_109, z_if_t (by omega)]
  exact rfl
def Q_t_jn (h g : z_M) (f : Int) (fr : Int) (t : Int) (zt : Int) (m : Int) (Y : Nat → Nat → Int) (y_ : z_Z) : Prop := (∃ (Y1 : Nat → Nat → Int), (y_ = f895_159 t m (sZ g Y1)) ∧ (∀ i : Nat, (i : Int) < m → Y1 1073 (Int.toNat (1500 * t + zt) + i) = Y 1073 (Int.toNat ((1500 * f) + fr) + i)) ∧ (∀ kq : Nat, ¬ (1500 * t + zt ≤ (kq : Int) ∧ (kq : Int) < 1500 * t + zt + m) → Y1 1073 kq = Y 1073 kq) ∧ (∀ a i : Nat, ¬ (a = 1073) → Y1 a i = Y a i))
theorem t_jn {h g : z_M} {f : Int} {fr : Int} {t : Int} {zt : Int} {m : Int} {Y : Nat → Nat → Int} (hn_ : 0 ≤ m ∧ m ≤ 1500) (hf : 0 ≤ f ∧ f ≤ 11) (ht : 0 ≤ t ∧ t ≤ 11) (hfr : 0 ≤ fr ∧ fr ≤ 1500) (hzt : 0 ≤ zt ∧ zt + m ≤ 1500) (ha : fr + m ≤ 1500) (hd : ¬ f = t ∨ fr + m ≤ zt) (kz : Y 1072 (Int.toNat t) = zt) : Q_t_jn h g f fr t zt m Y (f895_109 f fr t m 0 (sZ g Y)) := by
  obtain ⟨N, hN_⟩ : ∃ N : Nat, (N : Int) = m := ⟨Int.toNat m, by omega⟩
  obtain ⟨Y1, e, p, r, f1⟩ := lin_fill (h := g) (F := fun xx_ mm_ => f895_109 f fr t m xx_ mm_) (n := N) (b := Int.toNat (1500 * t + zt)) (c := 1073) (X0 := Y) (val := fun i => Y 1073 (Int.toNat ((1500 * f) + fr) + i)) (fun Z i fz fo hi => by
      obtain ⟨v, e_, u⟩ := t_jn_s (h := h) (g := g) (f := f) (fr := fr) (t := t) (zt := zt) (m := m) (Y := Z) (x := (i : Int))  hn_ (by omega) hf ht hfr hzt ha hd (by (try simp (disch := omega) only [fz]); exact kz) 
      have w_ : v = Y 1073 (Int.toNat ((1500 * f) + fr) + i) := by rw [u, fo _ (by omega)]; exact congrArg (Y 1073) (by omega)
      rw [w_] at e_
      rw [show Int.toNat (1500 * t + zt + ((i : Nat) : Int)) = Int.toNat (1500 * t + zt) + i by omega, show ((i : Nat) : Int) + 1 = ((i + 1 : Nat) : Int) by omega] at e_
      exact e_)
  have x_ : f895_109 f fr t m m (sZ g Y1) = f895_159 t m (sZ g Y1) := t_jn_e (h := h) (g := g) (f := f) (fr := fr) (t := t) (zt := zt) (m := m) (Y := Y1)  hn_ hf ht hfr hzt ha hd (by (try simp (disch := omega) only [f1]); exact kz)
  rw [hN_] at e
  refine ⟨Y1, e.trans x_, fun i hi => ?_, fun kq n_ => r kq (by omega), fun a kq n_ => f1 a kq (by omega)⟩
  have q_ := p i (by omega)
  exact q_
def Q_k_join (h g : z_M) (f : Int) (fr : Int) (n : Int) (t : Int) (X : Nat → Nat → Int) (Y : Nat → Nat → Int) (x_ y_ : z_Z) : Prop := (∃ (v : Int) (X1 : Nat → Nat → Int) (Y1 : Nat → Nat → Int), (x_ = z_ri 0 (sL (sZ h X1) 1272 0 v)) ∧ (y_ = z_ri v (sZ g Y1)) ∧ (Y1 1064 0 = 0) ∧ (R_fil (sZ h X1) (sZ g Y1)) ∧ (∀ a i : Nat, ¬ (135 ≤ a ∧ a ≤ 158) → X1 a i = X a i) ∧ (∀ a i : Nat, ¬ (a = 1072 ∨ a = 1073 ∨ (a = 1064 ∧ i = 0)) → Y1 a i = Y a i)) ∨ (∃ (c : Int) (K : Nat), (x_ = z_ri c (sN (sZ h X) K 6)) ∧ (y_ = z_ri 0 (sI (sZ g Y) 1064 0 c)) ∧ (1 ≤ c))
set_option maxHeartbeats 4000000 in
theorem k_join {h g : z_M} {f : Int} {fr : Int} {n : Int} {t : Int} {X : Nat → Nat → Int} {Y : Nat → Nat → Int} (S : S0 h) (ou : hK h 1272 = 1003 ∧ hN h 1272 = 1) (hz : 1272 ≤ hZ h) (Rf : R_fil (sZ h X) (sZ g Y)) (hn : n ≤ 2147483647 ∧ fr ≤ 2147483647) : Q_k_join h g f fr n t X Y (f78_0 1 f fr n t 1272 (sZ h X)) (f895_0 f fr n t (sZ g Y)) := by
  obtain ⟨r8, er8⟩ : ∃ r : Nat, r = 135 + 2 * Int.toNat f := ⟨_, rfl⟩
  obtain ⟨r9, er9⟩ : ∃ r : Nat, r = 136 + 2 * Int.toNat f := ⟨_, rfl⟩
  obtain ⟨r10, er10⟩ : ∃ r : Nat, r = 135 + 2 * Int.toNat t := ⟨_, rfl⟩
  obtain ⟨r11, er11⟩ : ∃ r : Nat, r = 136 + 2 * Int.toNat t := ⟨_, rfl⟩
  rw [e78_0, gk1 (by exact (sk S 1)), e142_0, gk1 (by exact (sk S 1)), show f128_0 1 f (sZ h X) = z_if (0 ≤ f ∧ f ≤ 11) (z_rr r8 (sZ h X)) (z_ex (hZ (sZ h X) + 1) (sN (sZ h X) 2 6)) from c_fict S er8]
  by_cases q1 : (0 ≤ f) ∧ (f ≤ 11)
  · obtain ⟨kr8, kr9, pr8⟩ := s_fil S er8 er9 (show 0 ≤ f ∧ f ≤ 11 by omega)
    have hrr8 : 135 ≤ r8 ∧ r9 ≤ 158 ∧ r9 = r8 + 1 := by omega
    obtain ⟨y0r8, ybr8, ysr8⟩ : X r8 1 = Y 1072 (Int.toNat f) ∧ (0 ≤ Y 1072 (Int.toNat f) ∧ Y 1072 (Int.toNat f) ≤ 1500) ∧ ∀ i, i < 1500 → X r9 i % 256 = Y 1073 (1500 * Int.toNat f + i) := by rw [er8, er9]; exact Rf (Int.toNat f) (by omega)
    obtain ⟨zr8, hzr8⟩ : ∃ w, Y 1072 (Int.toNat f) = w := ⟨_, rfl⟩
    rw [hzr8] at y0r8 ybr8
    have iar9 : z_ia r9 = true := by rw [er9]; exact ia_fil (by omega)
    rw [z_if_t q1, z_kr_rr, gk1 (by exact (sk S 1)), show f128_0 1 t (sZ h X) = z_if (0 ≤ t ∧ t ≤ 11) (z_rr r10 (sZ h X)) (z_ex (hZ (sZ h X) + 1) (sN (sZ h X) 2 6)) from c_fict S er10]
    by_cases q2 : (0 ≤ t) ∧ (t ≤ 11)
    · obtain ⟨kr10, kr11, pr10⟩ := s_fil S er10 er11 (show 0 ≤ t ∧ t ≤ 11 by omega)
      have hrr10 : 135 ≤ r10 ∧ r11 ≤ 158 ∧ r11 = r10 + 1 := by omega
      obtain ⟨y0r10, ybr10, ysr10⟩ : X r10 1 = Y 1072 (Int.toNat t) ∧ (0 ≤ Y 1072 (Int.toNat t) ∧ Y 1072 (Int.toNat t) ≤ 1500) ∧ ∀ i, i < 1500 → X r11 i % 256 = Y 1073 (1500 * Int.toNat t + i) := by rw [er10, er11]; exact Rf (Int.toNat t) (by omega)
      obtain ⟨zr10, hzr10⟩ : ∃ w, Y 1072 (Int.toNat t) = w := ⟨_, rfl⟩
      rw [hzr10] at y0r10 ybr10
      have iar11 : z_ia r11 = true := by rw [er11]; exact ia_fil (by omega)
      rw [z_if_t q2, z_kr_rr, gk1 (by exact kr8), show hI (sZ h X) r8 1 = X r8 1 from rfl, show X r8 1 = zr8 from y0r8, show z_w (zr8 - 1) = zr8 - 1 from w_id (by omega) (by omega), c_within, z_ki_ri, c_wantIndex]
      by_cases q3 : (0 ≤ fr) ∧ (fr ≤ (zr8 - 1))
      · rw [z_if_t q3, z_kv_rv]
        by_cases q4 : n < 0
        · rw [z_if_t q4, e142_40, e142_41, c_want0, z_kv_ex, z_ki_ex, nq0 rfl, nq1 rfl, e78_21, e895_0, e881_0, t_isFile, z_ki_ri, if_bi, z_if_t q1, gin (by omega) (by omega), show hI (sZ g Y) 1072 (Int.toNat f) = Y 1072 (Int.toNat f) from rfl, show Y 1072 (Int.toNat f) = zr8 from hzr8, show z_w (zr8 - 1) = zr8 - 1 from w_id (by omega) (by omega), t_isIn, z_ki_ri, if_bi, z_if_t q3, e881_28, gb_1, z_ki_ri, z_if_f (by decide), t_isFile, z_ki_ri, if_bi, z_if_t q2, e895_22, z_if_t (by decide), e895_33, gin (by omega) (by omega), show hI (sZ g Y) 1072 (Int.toNat f) = Y 1072 (Int.toNat f) from rfl, show Y 1072 (Int.toNat f) = zr8 from hzr8, show z_w (zr8 - fr) = zr8 - fr from w_id (by omega) (by omega), z_if_f (by omega), e895_57, z_if_t q4, e895_70, e895_71, z_if_f (by decide), gin (by omega) (by omega), show hI (sZ g Y) 1072 (Int.toNat t) = Y 1072 (Int.toNat t) from rfl, show Y 1072 (Int.toNat t) = zr10 from hzr10]
          by_cases q5 : 1500 < (z_w (zr10 + n))
          · rw [z_if_t q5, e895_96, e895_97, e954_0, z_if_t (by decide), e954_9, z_if_f (by decide), e954_35, show hI (sI (sZ g Y) 1064 0 2) 1064 0 = 2 from hI_s1, z_if_t (by decide), e954_49, e954_50, gb_0, z_ki_ri, z_if_f (by decide)]
            exact .inr (⟨2, 5, rfl, rfl, (by omega)⟩)
          · rw [z_if_f q5, e895_97, e954_0, z_if_t (by decide), e954_9, z_if_f (by decide), e954_35, show hI (sI (sZ g Y) 1064 0 2) 1064 0 = 2 from hI_s1, z_if_t (by decide), e954_49, e954_50, gb_0, z_ki_ri, z_if_f (by decide)]
            exact .inr (⟨2, 5, rfl, rfl, (by omega)⟩)
        · rw [z_if_f q4, e142_41, c_want1, z_kv_rv, gk1 (by exact kr8), show hI (sZ h X) r8 1 = X r8 1 from rfl, show X r8 1 = zr8 from y0r8, show z_w (zr8 - fr) = zr8 - fr from w_id (by omega) (by omega), m_min, z_ki_ri, gk1 (by exact kr10), show hI (sZ h X) r10 1 = X r10 1 from rfl, show X r10 1 = zr10 from y0r10]
          by_cases q5 : n ≤ (zr8 - fr)
          · rw [show min n (zr8 - fr) = n from by omega, show z_w (zr10 + n) = zr10 + n from w_id (by omega) (by omega)]
            by_cases q6 : 1500 < (zr10 + n)
            · rw [z_if_t q6, e142_75, e142_76, c_wantRoom0, z_kv_ex, z_ki_ex, nq0 rfl, nq0 rfl, nq1 rfl, e78_25, e895_0, e881_0, t_isFile, z_ki_ri, if_bi, z_if_t q1, gin (by omega) (by omega), show hI (sZ g Y) 1072 (Int.toNat f) = Y 1072 (Int.toNat f) from rfl, show Y 1072 (Int.toNat f) = zr8 from hzr8, show z_w (zr8 - 1) = zr8 - 1 from w_id (by omega) (by omega), t_isIn, z_ki_ri, if_bi, z_if_t q3, e881_28, gb_1, z_ki_ri, z_if_f (by decide), t_isFile, z_ki_ri, if_bi, z_if_t q2, e895_22, z_if_t (by decide), e895_33, gin (by omega) (by omega), show hI (sZ g Y) 1072 (Int.toNat f) = Y 1072 (Int.toNat f) from rfl, show Y 1072 (Int.toNat f) = zr8 from hzr8, show z_w (zr8 - fr) = zr8 - fr from w_id (by omega) (by omega)]
              by_cases q7 : (zr8 - fr) ≤ n
              · rw [z_if_t q7, e895_49, gin (by omega) (by omega), show hI (sZ g Y) 1072 (Int.toNat f) = Y 1072 (Int.toNat f) from rfl, show Y 1072 (Int.toNat f) = zr8 from hzr8, show z_w (zr8 - fr) = zr8 - fr from w_id (by omega) (by omega), e895_57, z_if_f q4, e895_71, z_if_f (by decide), gin (by omega) (by omega), show hI (sZ g Y) 1072 (Int.toNat t) = Y 1072 (Int.toNat t) from rfl, show Y 1072 (Int.toNat t) = zr10 from hzr10, show z_w (zr10 + (zr8 - fr)) = zr10 + (zr8 - fr) from w_id (by omega) (by omega), z_if_t (by omega), e895_96, e895_97, e954_0, z_if_t (by decide), e954_9, z_if_t (by decide), e954_17, z_if_f (by decide), e954_35, show hI (sI (sZ g Y) 1064 0 3) 1064 0 = 3 from hI_s1, z_if_t (by decide), e954_49, e954_50, gb_0, z_ki_ri, z_if_f (by decide)]
                exact .inr (⟨3, 7, rfl, rfl, (by omega)⟩)
              · rw [z_if_f q7, e895_57, z_if_f q4, e895_71, z_if_f (by decide), gin (by omega) (by omega), show hI (sZ g Y) 1072 (Int.toNat t) = Y 1072 (Int.toNat t) from rfl, show Y 1072 (Int.toNat t) = zr10 from hzr10, show z_w (zr10 + n) = zr10 + n from w_id (by omega) (by omega), z_if_t q6, e895_96, e895_97, e954_0, z_if_t (by decide), e954_9, z_if_t (by decide), e954_17, z_if_f (by decide), e954_35, show hI (sI (sZ g Y) 1064 0 3) 1064 0 = 3 from hI_s1, z_if_t (by decide), e954_49, e954_50, gb_0, z_ki_ri, z_if_f (by decide)]
                exact .inr (⟨3, 7, rfl, rfl, (by omega)⟩)
            · rw [z_if_f q6, e142_76, c_wantRoom1, z_kv_rv, gk1 (by exact kr8), gk1 (by exact kr10), gk1 (by exact kr10), show hP (sZ h X) r8 0 = r9 from pr8, show hP (sZ h X) r10 0 = r11 from pr10, show hI (sZ h X) r10 1 = X r10 1 from rfl, show X r10 1 = zr10 from y0r10, gcp_n (k := 1002) (nq := 1500) (nr := 1500) (by exact kr9.1) (by exact kr11.1) (by exact kr9.2) (by exact kr11.2) (by omega) (by omega) (by omega) (by omega) (by omega) (by omega) (by omega) (by omega)]
              obtain ⟨X1, cq_1, cp_1, cn_1, fr_1⟩ : ∃ Z : Nat → Nat → Int, z_cpy (sZ h X) r9 (Int.toNat fr) r11 (Int.toNat zr10) (Int.toNat n) = sZ h Z ∧ (∀ j, j < (Int.toNat n) → Z r11 ((Int.toNat zr10) + j) = X r9 ((Int.toNat fr) + j)) ∧ (∀ j, ¬ ((Int.toNat zr10) ≤ j ∧ j < (Int.toNat zr10) + (Int.toNat n)) → Z r11 j = X r11 j) ∧ ∀ c i, ¬ c = r11 → Z c i = X c i := cpy_z (X := X) S iar9 iar11
              rw [show z_cpy (sZ h X) r9 (Int.toNat fr) r11 (Int.toNat zr10) (Int.toNat n) = sZ h X1 from cq_1, gk1 (by exact kr10), gk1 (by exact kr10), z_ki_ri, show hI (sZ h X1) r10 1 = X1 r10 1 from rfl, show X1 r10 1 = X r10 1 from fr_1 _ _ (by omega), show X r10 1 = zr10 from y0r10, show z_w (zr10 + n) = zr10 + n from w_id (by omega) (by omega), gian_n (n := 1) (by exact ou.1) (by exact ou.2) (by omega) (by omega) (by omega), show Int.toNat 0 = 0 from rfl, e78_14, e78_29, e895_0, e881_0, t_isFile, z_ki_ri, if_bi, z_if_t q1, gin (by omega) (by omega), show hI (sZ g Y) 1072 (Int.toNat f) = Y 1072 (Int.toNat f) from rfl, show Y 1072 (Int.toNat f) = zr8 from hzr8, show z_w (zr8 - 1) = zr8 - 1 from w_id (by omega) (by omega), t_isIn, z_ki_ri, if_bi, z_if_t q3, e881_28, gb_1, z_ki_ri, z_if_f (by decide), t_isFile, z_ki_ri, if_bi, z_if_t q2, e895_22, z_if_t (by decide), e895_33, gin (by omega) (by omega), show hI (sZ g Y) 1072 (Int.toNat f) = Y 1072 (Int.toNat f) from rfl, show Y 1072 (Int.toNat f) = zr8 from hzr8, show z_w (zr8 - fr) = zr8 - fr from w_id (by omega) (by omega)]
              by_cases q7 : (zr8 - fr) ≤ n
              · rw [z_if_t q7, e895_49, gin (by omega) (by omega), show hI (sZ g Y) 1072 (Int.toNat f) = Y 1072 (Int.toNat f) from rfl, show Y 1072 (Int.toNat f) = zr8 from hzr8, show z_w (zr8 - fr) = zr8 - fr from w_id (by omega) (by omega), e895_57, z_if_f q4, e895_71, z_if_f (by decide), gin (by omega) (by omega), show hI (sZ g Y) 1072 (Int.toNat t) = Y 1072 (Int.toNat t) from rfl, show Y 1072 (Int.toNat t) = zr10 from hzr10, show z_w (zr10 + (zr8 - fr)) = zr10 + (zr8 - fr) from w_id (by omega) (by omega), z_if_f (by omega), e895_97, e954_0, z_if_t (by decide), e954_9, z_if_t (by decide), e954_17, z_if_t (by decide), e954_25, z_if_t (by decide), e954_34, e954_35, show hI (sI (sZ g Y) 1064 0 0) 1064 0 = 0 from hI_s1, z_if_f (by decide), e954_50, gb_1, z_ki_ri, z_if_t (by decide), e895_106]
                obtain ⟨Y2, D2, p0_2, p1_2, fr_2⟩ := t_jn (h := h) (g := g) (f := f) (fr := fr) (t := t) (zt := zr10) (m := zr8 - fr) (Y := z_up Y 1064 0 0) (by omega) q1 q2 (by omega) (by omega) (by omega) (by rcases Int.lt_trichotomy f t with u_ | u_ | u_; exact .inl (by omega); exact .inr (by subst u_; rw [hzr8] at hzr10; omega); exact .inl (by omega)) (by simp (disch := first | decide | omega) only [true_and, and_true, or_true, true_or, up_a, up_i, up_1]; first | done | omega)
                rw [show f895_109 f fr t (zr8 - fr) 0 (sI (sZ g Y) 1064 0 0) = f895_159 t (zr8 - fr) (sZ g Y2) from D2]
                rw [e895_159, gin (by omega) (by omega), gin (by omega) (by omega), show hI (sZ g Y2) 1072 (Int.toNat t) = Y2 1072 (Int.toNat t) from rfl, show Y2 1072 (Int.toNat t) = (z_up Y 1064 0 0) 1072 (Int.toNat t) from fr_2 _ _ (by decide), show (z_up Y 1064 0 0) 1072 (Int.toNat t) = Y 1072 (Int.toNat t) from up_a (by decide), show Y 1072 (Int.toNat t) = zr10 from hzr10, show z_w (zr10 + (zr8 - fr)) = zr10 + (zr8 - fr) from w_id (by omega) (by omega)]
                rw [show zr8 - fr = n by omega]
                have sx : ∀ i : Nat, i < 1500 → (z_up X1 r10 1 (zr10 + n)) r11 i % 256 = (z_up Y2 1072 (Int.toNat t) (zr10 + n)) 1073 (1500 * Int.toNat t + i) := fun i hi => by
                  rw [up_a (by omega)]
                  rw [up_a (by decide)]
                  by_cases z : zr10 ≤ (i : Int) ∧ (i : Int) < zr10 + n
                  · obtain ⟨n, hn⟩ : ∃ n : Nat, i = Int.toNat zr10 + n := ⟨i - Int.toNat zr10, by omega⟩
                    rw [hn, cp_1 n (by omega), show 1500 * Int.toNat t + (Int.toNat zr10 + n) = Int.toNat (1500 * t + zr10) + n by omega, p0_2 n (by omega), up_a (by decide)]
                    have q_ := ysr8 (Int.toNat fr + n) (by omega)
                    rw [q_]; exact congrArg (Y 1073) (by omega)
                  · rw [cn_1 i (by omega), p1_2 _ (by omega), up_a (by decide)]; exact ysr10 i hi
                have FX0 : ∀ a i : Nat, ¬ (a = r10 ∨ a = r11) → (z_up X1 r10 1 (zr10 + n)) a i = X a i := fun a i w => by rw [up_a (by omega), fr_1 a i (by omega)]
                have FY0 : ∀ a i : Nat, ¬ (a = 1072 ∨ a = 1073 ∨ (a = 1064 ∧ i = 0)) → (z_up Y2 1072 (Int.toNat t) (zr10 + n)) a i = Y a i := fun a i w => by rw [up_a (by omega), fr_2 a i (by omega), up_n (by omega)]
                exact .inl ⟨n, (z_up X1 r10 1 (zr10 + n)), (z_up Y2 1072 (Int.toNat t) (zr10 + n)), rfl, rfl, (by rw [up_a (by decide), fr_2 1064 0 (by decide)]; exact up_1), (fil_new (t := Int.toNat t) (n := zr10 + n) (by omega) Rf (by omega) (fun a i u v w => FX0 a i (by omega)) (fun m i hm hk hi => ⟨by rw [up_i hm, fr_2 1072 _ (by decide), up_a (by decide)], by rw [up_a (by decide), p1_2 _ (by omega), up_a (by decide)]⟩) (by rw [← er10, up_1] <;> omega) (by rw [up_1] <;> omega) (by rw [← er11]; exact sx)), (fun a i w => FX0 a i (by omega)), (FY0)⟩
              · rw [z_if_f q7, e895_57, z_if_f q4, e895_71, z_if_f (by decide), gin (by omega) (by omega), show hI (sZ g Y) 1072 (Int.toNat t) = Y 1072 (Int.toNat t) from rfl, show Y 1072 (Int.toNat t) = zr10 from hzr10, show z_w (zr10 + n) = zr10 + n from w_id (by omega) (by omega), z_if_f q6, e895_97, e954_0, z_if_t (by decide), e954_9, z_if_t (by decide), e954_17, z_if_t (by decide), e954_25, z_if_t (by decide), e954_34, e954_35, show hI (sI (sZ g Y) 1064 0 0) 1064 0 = 0 from hI_s1, z_if_f (by decide), e954_50, gb_1, z_ki_ri, z_if_t (by decide), e895_106]
                obtain ⟨Y2, D2, p0_2, p1_2, fr_2⟩ := t_jn (h := h) (g := g) (f := f) (fr := fr) (t := t) (zt := zr10) (m := n) (Y := z_up Y 1064 0 0) (by omega) q1 q2 (by omega) (by omega) (by omega) (by rcases Int.lt_trichotomy f t with u_ | u_ | u_; exact .inl (by omega); exact .inr (by subst u_; rw [hzr8] at hzr10; omega); exact .inl (by omega)) (by simp (disch := first | decide | omega) only [true_and, and_true, or_true, true_or, up_a, up_i, up_1]; first | done | omega)
                rw [show f895_109 f fr t n 0 (sI (sZ g Y) 1064 0 0) = f895_159 t n (sZ g Y2) from D2]
                rw [e895_159, gin (by omega) (by omega), gin (by omega) (by omega), show hI (sZ g Y2) 1072 (Int.toNat t) = Y2 1072 (Int.toNat t) from rfl, show Y2 1072 (Int.toNat t) = (z_up Y 1064 0 0) 1072 (Int.toNat t) from fr_2 _ _ (by decide), show (z_up Y 1064 0 0) 1072 (Int.toNat t) = Y 1072 (Int.toNat t) from up_a (by decide), show Y 1072 (Int.toNat t) = zr10 from hzr10, show z_w (zr10 + n) = zr10 + n from w_id (by omega) (by omega)]
                have sx : ∀ i : Nat, i < 1500 → (z_up X1 r10 1 (zr10 + n)) r11 i % 256 = (z_up Y2 1072 (Int.toNat t) (zr10 + n)) 1073 (1500 * Int.toNat t + i) := fun i hi => by
                  rw [up_a (by omega)]
                  rw [up_a (by decide)]
                  by_cases z : zr10 ≤ (i : Int) ∧ (i : Int) < zr10 + n
                  · obtain ⟨n, hn⟩ : ∃ n : Nat, i = Int.toNat zr10 + n := ⟨i - Int.toNat zr10, by omega⟩
                    rw [hn, cp_1 n (by omega), show 1500 * Int.toNat t + (Int.toNat zr10 + n) = Int.toNat (1500 * t + zr10) + n by omega, p0_2 n (by omega), up_a (by decide)]
                    have q_ := ysr8 (Int.toNat fr + n) (by omega)
                    rw [q_]; exact congrArg (Y 1073) (by omega)
                  · rw [cn_1 i (by omega), p1_2 _ (by omega), up_a (by decide)]; exact ysr10 i hi
                have FX0 : ∀ a i : Nat, ¬ (a = r10 ∨ a = r11) → (z_up X1 r10 1 (zr10 + n)) a i = X a i := fun a i w => by rw [up_a (by omega), fr_1 a i (by omega)]
                have FY0 : ∀ a i : Nat, ¬ (a = 1072 ∨ a = 1073 ∨ (a = 1064 ∧ i = 0)) → (z_up Y2 1072 (Int.toNat t) (zr10 + n)) a i = Y a i := fun a i w => by rw [up_a (by omega), fr_2 a i (by omega), up_n (by omega)]
                exact .inl ⟨n, (z_up X1 r10 1 (zr10 + n)), (z_up Y2 1072 (Int.toNat t) (zr10 + n)), rfl, rfl, (by rw [up_a (by decide), fr_2 1064 0 (by decide)]; exact up_1), (fil_new (t := Int.toNat t) (n := zr10 + n) (by omega) Rf (by omega) (fun a i u v w => FX0 a i (by omega)) (fun m i hm hk hi => ⟨by rw [up_i hm, fr_2 1072 _ (by decide), up_a (by decide)], by rw [up_a (by decide), p1_2 _ (by omega), up_a (by decide)]⟩) (by rw [← er10, up_1] <;> omega) (by rw [up_1] <;> omega) (by rw [← er11]; exact sx)), (fun a i w => FX0 a i (by omega)), (FY0)⟩
          · rw [show min n (zr8 - fr) = zr8 - fr from by omega, show z_w (zr10 + (zr8 - fr)) = zr10 + (zr8 - fr) from w_id (by omega) (by omega)]
            by_cases q6 : 1500 < (zr10 + (zr8 - fr))
            · rw [z_if_t q6, e142_75, e142_76, c_wantRoom0, z_kv_ex, z_ki_ex, nq0 rfl, nq0 rfl, nq1 rfl, e78_25, e895_0, e881_0, t_isFile, z_ki_ri, if_bi, z_if_t q1, gin (by omega) (by omega), show hI (sZ g Y) 1072 (Int.toNat f) = Y 1072 (Int.toNat f) from rfl, show Y 1072 (Int.toNat f) = zr8 from hzr8, show z_w (zr8 - 1) = zr8 - 1 from w_id (by omega) (by omega), t_isIn, z_ki_ri, if_bi, z_if_t q3, e881_28, gb_1, z_ki_ri, z_if_f (by decide), t_isFile, z_ki_ri, if_bi, z_if_t q2, e895_22, z_if_t (by decide), e895_33, gin (by omega) (by omega), show hI (sZ g Y) 1072 (Int.toNat f) = Y 1072 (Int.toNat f) from rfl, show Y 1072 (Int.toNat f) = zr8 from hzr8, show z_w (zr8 - fr) = zr8 - fr from w_id (by omega) (by omega), z_if_t (by omega), e895_49, gin (by omega) (by omega), show hI (sZ g Y) 1072 (Int.toNat f) = Y 1072 (Int.toNat f) from rfl, show Y 1072 (Int.toNat f) = zr8 from hzr8, show z_w (zr8 - fr) = zr8 - fr from w_id (by omega) (by omega), e895_57, z_if_f q4, e895_71, z_if_f (by decide), gin (by omega) (by omega), show hI (sZ g Y) 1072 (Int.toNat t) = Y 1072 (Int.toNat t) from rfl, show Y 1072 (Int.toNat t) = zr10 from hzr10, show z_w (zr10 + (zr8 - fr)) = zr10 + (zr8 - fr) from w_id (by omega) (by omega), z_if_t q6, e895_96, e895_97, e954_0, z_if_t (by decide), e954_9, z_if_t (by decide), e954_17, z_if_f (by decide), e954_35, show hI (sI (sZ g Y) 1064 0 3) 1064 0 = 3 from hI_s1, z_if_t (by decide), e954_49, e954_50, gb_0, z_ki_ri, z_if_f (by decide)]
              exact .inr (⟨3, 7, rfl, rfl, (by omega)⟩)
            · rw [z_if_f q6, e142_76, c_wantRoom1, z_kv_rv, gk1 (by exact kr8), gk1 (by exact kr10), gk1 (by exact kr10), show hP (sZ h X) r8 0 = r9 from pr8, show hP (sZ h X) r10 0 = r11 from pr10, show hI (sZ h X) r10 1 = X r10 1 from rfl, show X r10 1 = zr10 from y0r10, gcp_n (k := 1002) (nq := 1500) (nr := 1500) (by exact kr9.1) (by exact kr11.1) (by exact kr9.2) (by exact kr11.2) (by omega) (by omega) (by omega) (by omega) (by omega) (by omega) (by omega) (by omega), show Int.toNat (zr8 - fr) = Int.toNat (((- 1) * fr) + zr8) from congrArg Int.toNat (by omega)]
              obtain ⟨X1, cq_1, cp_1, cn_1, fr_1⟩ : ∃ Z : Nat → Nat → Int, z_cpy (sZ h X) r9 (Int.toNat fr) r11 (Int.toNat zr10) (Int.toNat (((- 1) * fr) + zr8)) = sZ h Z ∧ (∀ j, j < (Int.toNat (((- 1) * fr) + zr8)) → Z r11 ((Int.toNat zr10) + j) = X r9 ((Int.toNat fr) + j)) ∧ (∀ j, ¬ ((Int.toNat zr10) ≤ j ∧ j < (Int.toNat zr10) + (Int.toNat (((- 1) * fr) + zr8))) → Z r11 j = X r11 j) ∧ ∀ c i, ¬ c = r11 → Z c i = X c i := cpy_z (X := X) S iar9 iar11
              rw [show z_cpy (sZ h X) r9 (Int.toNat fr) r11 (Int.toNat zr10) (Int.toNat (((- 1) * fr) + zr8)) = sZ h X1 from cq_1, gk1 (by exact kr10), gk1 (by exact kr10), z_ki_ri, show hI (sZ h X1) r10 1 = X1 r10 1 from rfl, show X1 r10 1 = X r10 1 from fr_1 _ _ (by omega), show X r10 1 = zr10 from y0r10, show z_w (zr10 + (zr8 - fr)) = zr10 + (zr8 - fr) from w_id (by omega) (by omega), gian_n (n := 1) (by exact ou.1) (by exact ou.2) (by omega) (by omega) (by omega), show Int.toNat 0 = 0 from rfl, e78_14, e78_29, e895_0, e881_0, t_isFile, z_ki_ri, if_bi, z_if_t q1, gin (by omega) (by omega), show hI (sZ g Y) 1072 (Int.toNat f) = Y 1072 (Int.toNat f) from rfl, show Y 1072 (Int.toNat f) = zr8 from hzr8, show z_w (zr8 - 1) = zr8 - 1 from w_id (by omega) (by omega), t_isIn, z_ki_ri, if_bi, z_if_t q3, e881_28, gb_1, z_ki_ri, z_if_f (by decide), t_isFile, z_ki_ri, if_bi, z_if_t q2, e895_22, z_if_t (by decide), e895_33, gin (by omega) (by omega), show hI (sZ g Y) 1072 (Int.toNat f) = Y 1072 (Int.toNat f) from rfl, show Y 1072 (Int.toNat f) = zr8 from hzr8, show z_w (zr8 - fr) = zr8 - fr from w_id (by omega) (by omega), z_if_t (by omega), e895_49, gin (by omega) (by omega), show hI (sZ g Y) 1072 (Int.toNat f) = Y 1072 (Int.toNat f) from rfl, show Y 1072 (Int.toNat f) = zr8 from hzr8, show z_w (zr8 - fr) = zr8 - fr from w_id (by omega) (by omega), e895_57, z_if_f q4, e895_71, z_if_f (by decide), gin (by omega) (by omega), show hI (sZ g Y) 1072 (Int.toNat t) = Y 1072 (Int.toNat t) from rfl, show Y 1072 (Int.toNat t) = zr10 from hzr10, show z_w (zr10 + (zr8 - fr)) = zr10 + (zr8 - fr) from w_id (by omega) (by omega), z_if_f q6, e895_97, e954_0, z_if_t (by decide), e954_9, z_if_t (by decide), e954_17, z_if_t (by decide), e954_25, z_if_t (by decide), e954_34, e954_35, show hI (sI (sZ g Y) 1064 0 0) 1064 0 = 0 from hI_s1, z_if_f (by decide), e954_50, gb_1, z_ki_ri, z_if_t (by decide), e895_106]
              obtain ⟨Y2, D2, p0_2, p1_2, fr_2⟩ := t_jn (h := h) (g := g) (f := f) (fr := fr) (t := t) (zt := zr10) (m := zr8 - fr) (Y := z_up Y 1064 0 0) (by omega) q1 q2 (by omega) (by omega) (by omega) (by rcases Int.lt_trichotomy f t with u_ | u_ | u_; exact .inl (by omega); exact .inr (by subst u_; rw [hzr8] at hzr10; omega); exact .inl (by omega)) (by simp (disch := first | decide | omega) only [true_and, and_true, or_true, true_or, up_a, up_i, up_1]; first | done | omega)
              rw [show f895_109 f fr t (zr8 - fr) 0 (sI (sZ g Y) 1064 0 0) = f895_159 t (zr8 - fr) (sZ g Y2) from D2]
              rw [e895_159, gin (by omega) (by omega), gin (by omega) (by omega), show hI (sZ g Y2) 1072 (Int.toNat t) = Y2 1072 (Int.toNat t) from rfl, show Y2 1072 (Int.toNat t) = (z_up Y 1064 0 0) 1072 (Int.toNat t) from fr_2 _ _ (by decide), show (z_up Y 1064 0 0) 1072 (Int.toNat t) = Y 1072 (Int.toNat t) from up_a (by decide), show Y 1072 (Int.toNat t) = zr10 from hzr10, show z_w (zr10 + (zr8 - fr)) = zr10 + (zr8 - fr) from w_id (by omega) (by omega)]
              have sx : ∀ i : Nat, i < 1500 → (z_up X1 r10 1 (zr10 + (zr8 - fr))) r11 i % 256 = (z_up Y2 1072 (Int.toNat t) (zr10 + (zr8 - fr))) 1073 (1500 * Int.toNat t + i) := fun i hi => by
                rw [up_a (by omega)]
                rw [up_a (by decide)]
                by_cases z : zr10 ≤ (i : Int) ∧ (i : Int) < zr10 + zr8 - fr
                · obtain ⟨n, hn⟩ : ∃ n : Nat, i = Int.toNat zr10 + n := ⟨i - Int.toNat zr10, by omega⟩
                  rw [hn, cp_1 n (by omega), show 1500 * Int.toNat t + (Int.toNat zr10 + n) = Int.toNat (1500 * t + zr10) + n by omega, p0_2 n (by omega), up_a (by decide)]
                  have q_ := ysr8 (Int.toNat fr + n) (by omega)
                  rw [q_]; exact congrArg (Y 1073) (by omega)
                · rw [cn_1 i (by omega), p1_2 _ (by omega), up_a (by decide)]; exact ysr10 i hi
              have FX0 : ∀ a i : Nat, ¬ (a = r10 ∨ a = r11) → (z_up X1 r10 1 (zr10 + (zr8 - fr))) a i = X a i := fun a i w => by rw [up_a (by omega), fr_1 a i (by omega)]
              have FY0 : ∀ a i : Nat, ¬ (a = 1072 ∨ a = 1073 ∨ (a = 1064 ∧ i = 0)) → (z_up Y2 1072 (Int.toNat t) (zr10 + (zr8 - fr))) a i = Y a i := fun a i w => by rw [up_a (by omega), fr_2 a i (by omega), up_n (by omega)]
              exact .inl ⟨(zr8 - fr), (z_up X1 r10 1 (zr10 + (zr8 - fr))), (z_up Y2 1072 (Int.toNat t) (zr10 + (zr8 - fr))), rfl, rfl, (by rw [up_a (by decide), fr_2 1064 0 (by decide)]; exact up_1), (fil_new (t := Int.toNat t) (n := zr10 + (zr8 - fr)) (by omega) Rf (by omega) (fun a i u v w => FX0 a i (by omega)) (fun m i hm hk hi => ⟨by rw [up_i hm, fr_2 1072 _ (by decide), up_a (by decide)], by rw [up_a (by decide), p1_2 _ (by omega), up_a (by decide)]⟩) (by rw [← er10, up_1] <;> omega) (by rw [up_1] <;> omega) (by rw [← er11]; exact sx)), (fun a i w => FX0 a i (by omega)), (FY0)⟩
      · rw [z_if_f q3, z_kv_ex, z_ki_ex, nq1 rfl, e78_17, e895_0, e881_0, t_isFile, z_ki_ri, if_bi, z_if_t q1, gin (by omega) (by omega), show hI (sZ g Y) 1072 (Int.toNat f) = Y 1072 (Int.toNat f) from rfl, show Y 1072 (Int.toNat f) = zr8 from hzr8, show z_w (zr8 - 1) = zr8 - 1 from w_id (by omega) (by omega), t_isIn, z_ki_ri, if_bi, z_if_f q3, e881_27, e881_28, gb_0, z_ki_ri, z_if_t (by decide), e895_21, e895_22, z_if_f (by decide), e895_57]
        by_cases q4 : n < 0
        · rw [z_if_t q4, e895_70, e895_71, z_if_t (by decide), e895_96, e895_97, e954_0, z_if_f (by decide), e954_35, show hI (sI (sZ g Y) 1064 0 1) 1064 0 = 1 from hI_s1, z_if_t (by decide), e954_49, e954_50, gb_0, z_ki_ri, z_if_f (by decide)]
          exact .inr (⟨1, 2, rfl, rfl, (by omega)⟩)
        · rw [z_if_f q4, e895_71, z_if_t (by decide), e895_96, e895_97, e954_0, z_if_f (by decide), e954_35, show hI (sI (sZ g Y) 1064 0 1) 1064 0 = 1 from hI_s1, z_if_t (by decide), e954_49, e954_50, gb_0, z_ki_ri, z_if_f (by decide)]
          exact .inr (⟨1, 2, rfl, rfl, (by omega)⟩)
    · rw [z_if_f q2, z_kr_ex, z_ki_ex, nq1 rfl, e78_17, e895_0, e881_0, t_isFile, z_ki_ri, if_bi, z_if_t q1, gin (by omega) (by omega), show hI (sZ g Y) 1072 (Int.toNat f) = Y 1072 (Int.toNat f) from rfl, show Y 1072 (Int.toNat f) = zr8 from hzr8, show z_w (zr8 - 1) = zr8 - 1 from w_id (by omega) (by omega), t_isIn, z_ki_ri, if_bi]
      by_cases q3 : (0 ≤ fr) ∧ (fr ≤ (zr8 - 1))
      · rw [z_if_t q3, e881_28, gb_1, z_ki_ri, z_if_f (by decide), t_isFile, z_ki_ri, if_bi, z_if_f q2, e895_21, e895_22, z_if_f (by decide), e895_57]
        by_cases q4 : n < 0
        · rw [z_if_t q4, e895_70, e895_71, z_if_t (by decide), e895_96, e895_97, e954_0, z_if_f (by decide), e954_35, show hI (sI (sZ g Y) 1064 0 1) 1064 0 = 1 from hI_s1, z_if_t (by decide), e954_49, e954_50, gb_0, z_ki_ri, z_if_f (by decide)]
          exact .inr (⟨1, 2, rfl, rfl, (by omega)⟩)
        · rw [z_if_f q4, e895_71, z_if_t (by decide), e895_96, e895_97, e954_0, z_if_f (by decide), e954_35, show hI (sI (sZ g Y) 1064 0 1) 1064 0 = 1 from hI_s1, z_if_t (by decide), e954_49, e954_50, gb_0, z_ki_ri, z_if_f (by decide)]
          exact .inr (⟨1, 2, rfl, rfl, (by omega)⟩)
      · rw [z_if_f q3, e881_27, e881_28, gb_0, z_ki_ri, z_if_t (by decide), e895_21, e895_22, z_if_f (by decide), e895_57]
        by_cases q4 : n < 0
        · rw [z_if_t q4, e895_70, e895_71, z_if_t (by decide), e895_96, e895_97, e954_0, z_if_f (by decide), e954_35, show hI (sI (sZ g Y) 1064 0 1) 1064 0 = 1 from hI_s1, z_if_t (by decide), e954_49, e954_50, gb_0, z_ki_ri, z_if_f (by decide)]
          exact .inr (⟨1, 2, rfl, rfl, (by omega)⟩)
        · rw [z_if_f q4, e895_71, z_if_t (by decide), e895_96, e895_97, e954_0, z_if_f (by decide), e954_35, show hI (sI (sZ g Y) 1064 0 1) 1064 0 = 1 from hI_s1, z_if_t (by decide), e954_49, e954_50, gb_0, z_ki_ri, z_if_f (by decide)]
          exact .inr (⟨1, 2, rfl, rfl, (by omega)⟩)
  · rw [z_if_f q1, z_kr_ex, z_ki_ex, nq1 rfl, e78_17, e895_0, e881_0, t_isFile, z_ki_ri, if_bi, z_if_f q1, e881_27, e881_28, gb_0, z_ki_ri, z_if_t (by decide), e895_21, e895_22, z_if_f (by decide), e895_57]
    by_cases q2 : n < 0
    · rw [z_if_t q2, e895_70, e895_71, z_if_t (by decide), e895_96, e895_97, e954_0, z_if_f (by decide), e954_35, show hI (sI (sZ g Y) 1064 0 1) 1064 0 = 1 from hI_s1, z_if_t (by decide), e954_49, e954_50, gb_0, z_ki_ri, z_if_f (by decide)]
      exact .inr (⟨1, 2, rfl, rfl, (by omega)⟩)
    · rw [z_if_f q2, e895_71, z_if_t (by decide), e895_96, e895_97, e954_0, z_if_f (by decide), e954_35, show hI (sI (sZ g Y) 1064 0 1) 1064 0 = 1 from hI_s1, z_if_t (by decide), e954_49, e954_50, gb_0, z_ki_ri, z_if_f (by decide)]
      exact .inr (⟨1, 2, rfl, rfl, (by omega)⟩)
