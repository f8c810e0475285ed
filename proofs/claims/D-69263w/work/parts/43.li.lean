set_option maxRecDepth 100000
set_option linter.unusedVariables false
set_option maxHeartbeats 200000
/-! LISTS -/
theorem elc_11 {k : Nat} (h : k ≤ 81) : z_has (z_elc 1100) k = true := (by decide : ∀ k : Fin 82, z_has (z_elc 1100) k.val = true) ⟨k, by omega⟩
def z_li (m : z_M) (l : Nat) (xs : List Nat) : Prop := hK m l = 0 ∧ hI m l 2 = (xs.length : Int) ∧ (∀ x, x ∈ xs → hK m x ≤ 81 ∧ x ≤ hZ m) ∧ ((hP m l 1 = 4294969296 ∧ xs = []) ∨ ∃ e, hP m l 1 = e ∧ hK m e = 1100 ∧ (1064 ≤ e ∧ e ≤ hZ m) ∧ (xs.length ≤ hN m e ∧ 1 ≤ hN m e ∧ hN m e ≤ 1000) ∧ ∀ i (hi : i < xs.length), hP m e i = xs[i])
def z_le (m : z_M) : Prop := hK m 4294969296 = 1100 ∧ hN m 4294969296 = 0
/-- what adding to a list leaves -/
def z_la (l : Nat) (m m' : z_M) : Prop := (∀ a, (a ≤ hZ m ∨ 4294967296 ≤ a) → m'.1 a = m.1 a ∧ (∀ i, hL m' a i = hL m a i) ∧ (∀ i, ¬ (a = l ∧ (i = 0 ∨ i = 2)) → hI m' a i = hI m a i) ∧ ∀ i, ¬ (a = l ∧ i = 1) → ¬ (a = hP m l 1 ∧ a < 4294967296) → hP m' a i = hP m a i) ∧ (hZ m ≤ hZ m' ∧ hZ m' ≤ hZ m + 1) ∧ hS m' ≤ hS m + 1000 ∧ m'.2.2.2.2.2.2 = m.2.2.2.2.2.2
theorem li_size {m : z_M} {l : Nat} {xs : List Nat} (L : z_li m l xs) : f18_0 l m = z_ri (xs.length : Int) m := by
  rw [e18_0, gk1 L.1, L.2.1]
theorem li_empty {m : z_M} {l : Nat} {xs : List Nat} (L : z_li m l xs) : f15_0 l m = z_ri (if xs.length = 0 then 1 else 0) m := by
  rw [e15_0, gk1 L.1, L.2.1]
  by_cases q : xs.length = 0
  · rw [z_if_f (by omega), e15_12, gb_1, if_pos q]
  · rw [z_if_t (by omega), e15_11, e15_12, gb_0, if_neg q]
theorem li_get {m : z_M} {l : Nat} {xs : List Nat} (L : z_li m l xs) {i : Nat} (hi : i < xs.length) : f11_0 l (i : Int) m = z_rr xs[i] m := by
  obtain ⟨k, s, _, c⟩ := L
  rcases c with ⟨_, c⟩ | ⟨e, c1, c2, c3, c4, c5⟩
  · rw [c] at hi; exact absurd hi (by simp)
  · rw [e11_0, gk1 k, s, e34_0, e35_0, z_if_f (by omega), z_if_t (by omega), e35_16, z_ki_ri, z_ki_ri, gk1 k, e9_0, gk1 k, c1, gir_n (k := 1100) (n := hN m e) c2 rfl (by omega) (by omega) (by omega), show ((i : Nat) : Int).toNat = i from rfl, c5 i hi, z_kr_rr]
theorem li_put {m : z_M} {l v e : Nat} {n : Nat} (k : hK m l = 0) (ke : hK m e = 1100) (he : e < 4294967296) (hn : n < hN m e) (hv : hK m v ≤ 81) (hb : n < 1000) : f7_11 l v e (n : Int) m = z_rv (sI (sP m e n v) l 2 ((n + 1 : Nat) : Int)) := by
  rw [e7_11, z_g_t ⟨⟨by rw [ke]; omega, by omega, by omega⟩, he, .inr (by unfold z_isk; rw [ke]; exact elc_11 hv)⟩, gk1 (by exact k), show ((n : Nat) : Int).toNat = n from rfl, show z_w (((n : Nat) : Int) + 1) = ((n + 1 : Nat) : Int) by rw [w_id (by omega) (by omega)]; omega]
/-- the list behind a put -/
theorem li_new {m : z_M} {l v e : Nat} {xs : List Nat} (k : hK m l = 0) (hx : ∀ x, x ∈ xs → hK m x ≤ 81 ∧ x ≤ hZ m) (p : hP m l 1 = e) (ke : hK m e = 1100) (he : 1064 ≤ e ∧ e ≤ hZ m) (hl : ¬ l = e) (hn : xs.length < hN m e ∧ hN m e ≤ 1000) (hv : hK m v ≤ 81 ∧ v ≤ hZ m) (el : ∀ i (hi : i < xs.length), hP m e i = xs[i]) : z_li (sI (sP m e xs.length v) l 2 ((xs.length + 1 : Nat) : Int)) l (xs ++ [v]) := by
  refine ⟨k, ?_, fun x hx' => ?_, .inr ⟨e, ?_, ke, he, ⟨?_, ?_, hn.2⟩, fun i hi => ?_⟩⟩
  · rw [hI_s1, List.length_append]; rfl
  · rcases List.mem_append.mp hx' with q | q
    · exact hx x q
    · rw [List.mem_singleton.mp q]; exact hv
  · exact (hP_s0 (fun z => hl z.1)).trans p
  · rw [List.length_append]; exact hn.1
  · exact Nat.lt_of_le_of_lt (Nat.zero_le _) hn.1
  · show hP (sP m e xs.length v) e i = _
    rw [List.length_append] at hi
    by_cases q : i = xs.length
    · subst q; rw [hP_s1]; simp
    · have q2 : i < xs.length := by have : ([v] : List Nat).length = 1 := rfl; omega
      rw [hP_s0 (fun z => q z.2), el i q2, List.getElem_append_left q2]
theorem li_add {m : z_M} {l v : Nat} {xs : List Nat} (L : z_li m l xs) (O : z_le m) (hl : l ≤ hZ m) (hz : 1272 ≤ hZ m ∧ hZ m < 4000000000) (hx : xs.length < 600) (hv : hK m v ≤ 81 ∧ v ≤ hZ m) :
    ∃ m', f6_0 l v m = z_ri 1 m' ∧ z_li m' l (xs ++ [v]) ∧ z_la l m m' := by
  obtain ⟨k, s, ex, c⟩ := L
  obtain ⟨w, hw⟩ : ∃ w, z_w (hI m l 0 + 1) = w := ⟨_, rfl⟩
  have s2 : hI (sI m l 0 w) l 2 = (xs.length : Int) := (hI_s0 (fun z => absurd z.2 (by decide))).trans s
  have p2 : hP (sI m l 0 w) l 1 = hP m l 1 := rfl
  have fin : ∀ m2, f7_0 l v (hP m l 1) (xs.length : Int) (sI m l 0 w) = z_rv m2 → f6_0 l v m = z_ri 1 m2 := fun m2 e => by
    rw [e6_0, gk1 k, gk1 k, hw, gk1 (by exact k), gk1 (by exact k), gk1 (by exact k), s2, p2, e, z_kv_rv, gb_1]
  have kl : ∀ e, hK m e = 1100 → ¬ l = e := fun e ke z => by rw [← z, k] at ke; exact absurd ke (by decide)
  rcases c with ⟨c1, c2⟩ | ⟨e, c1, c2, c3, c4, c5⟩
  · -- the first one: an array of ten
    subst c2
    have K1 : hK (sN (sI m l 0 w) 1100 10) l = 0 := (bnK (h := sI m l 0 w) (h1 := sN (sI m l 0 w) 1100 10) (o := hZ m + 1) ⟨⟨rfl, rfl, rfl⟩, if_pos rfl, fun a q => if_neg q, fun i => if_pos rfl, fun a i q => if_neg q, fun i => if_pos rfl, fun a i q => if_neg q, rfl⟩ (by omega)).trans k
    obtain ⟨M, hM⟩ : ∃ M, M = sP (sN (sI m l 0 w) 1100 10) l 1 (hZ m + 1) := ⟨_, rfl⟩
    have kM : hK M l = 0 := by rw [hM]; exact K1
    have pM : hP M l 1 = hZ m + 1 := by rw [hM]; exact hP_s1
    have keM : hK M (hZ m + 1) = 1100 := by rw [hM]; show (if hZ m + 1 = hZ m + 1 then (1100, 10) else m.1 (hZ m + 1)).1 = 1100; rw [if_pos rfl]
    have neM : hN M (hZ m + 1) = 10 := by rw [hM]; show (if hZ m + 1 = hZ m + 1 then (1100, 10) else m.1 (hZ m + 1)).2 = 10; rw [if_pos rfl]
    have zM : hZ M = hZ m + 1 := by rw [hM]; rfl
    have vM : hK M v = hK m v := by rw [hM]; show (if v = hZ m + 1 then (1100, 10) else m.1 v).1 = _; rw [if_neg (by omega)]; rfl
    have g : f12_0 l (sI m l 0 w) = z_rr (hZ m + 1) M := by
      rw [e12_0, gk1 (by exact k), gk1 (by exact k), s2, show z_w ((([] : List Nat).length : Int) + 1) = 1 from rfl, e13_0, gk1 (by exact k), p2, c1, gle (k := 1100) (by exact O.1) (by decide), show hN (sI m l 0 w) 4294969296 = 0 from O.2, z_if_f (by decide), gk1 (by exact k), z_g_t ⟨.inr (.inr (.inr (.inr rfl))), .inr (.inr (.inr (.inr rfl)))⟩, z_if_t rfl, e13_45, m_max, show max (10 : Int) 1 = 10 from rfl, z_ki_ri, z_g_t ⟨by decide, by decide⟩, show Int.toNat 10 = 10 from rfl, gk1 K1, z_kr_rr, hM]
      rfl
    have G : f7_0 l v (hP m l 1) ((([] : List Nat).length : Nat) : Int) (sI m l 0 w) = z_rv (sI (sP M (hZ m + 1) 0 v) l 2 ((0 + 1 : Nat) : Int)) := by
      rw [e7_0, c1, gle (k := 1100) (by exact O.1) (by decide), show hN (sI m l 0 w) 4294969296 = 0 from O.2, z_if_f (by decide), gk1 (by exact k), g, z_kr_rr]
      exact li_put (n := 0) kM keM (by omega) (by omega) (by rw [vM]; exact hv.1) (by omega)
    refine ⟨_, fin _ G, li_new (xs := []) kM (fun x q => absurd q (by simp)) pM keM (by omega) (by omega) (by rw [neM]; exact ⟨by decide, by decide⟩) ⟨by rw [vM]; exact hv.1, by omega⟩ (fun i hi => absurd hi (by simp)), ?_⟩
    rw [hM]
    refine ⟨fun a ha => ⟨if_neg (show ¬ a = hZ m + 1 by omega), fun i => if_neg (show ¬ a = hZ m + 1 by omega), fun i n => ?_, fun i n n2 => ?_⟩, ⟨Nat.le_succ _, Nat.le_refl _⟩, by show hS m + 10 ≤ hS m + 1000; omega, rfl⟩
    · have n2 : ¬ (a = l ∧ i = 2) := fun z => n ⟨z.1, .inr z.2⟩
      have n0 : ¬ (a = l ∧ i = 0) := fun z => n ⟨z.1, .inl z.2⟩
      rw [hI_s0 n2]
      show (if a = hZ m + 1 then 0 else hI (sI m l 0 w) a i) = hI m a i
      rw [if_neg (by omega), hI_s0 n0]
    · show hP (sP (sP (sN (sI m l 0 w) 1100 10) l 1 (hZ m + 1)) (hZ m + 1) 0 v) a i = hP m a i
      rw [hP_s0 (by omega), hP_s0 n]
      show (if a = hZ m + 1 then 0 else hP m a i) = hP m a i
      rw [if_neg (by omega)]
  · have le := kl e c2
    by_cases q : xs.length = hN m e
    · -- a longer array
      obtain ⟨N, hN_⟩ : ∃ N : Nat, N = xs.length + max 1 (xs.length / 2) := ⟨_, rfl⟩
      have hNb : N < 1000 ∧ xs.length < N := by omega
      obtain ⟨A, hA⟩ : ∃ A, A = sN (sI m l 0 w) 1100 N := ⟨_, rfl⟩
      have zA : hZ A = hZ m + 1 := by rw [hA]; rfl
      have kA : ∀ a, ¬ a = hZ m + 1 → A.1 a = m.1 a := fun a n => by rw [hA]; exact if_neg n
      have pA : ∀ a i, ¬ a = hZ m + 1 → hP A a i = hP m a i := fun a i n => by rw [hA]; exact if_neg n
      have oA : A.1 (hZ m + 1) = (1100, N) := by rw [hA]; exact if_pos rfl
      obtain ⟨B, hB⟩ : ∃ B, B = z_cpy A e 0 (hZ m + 1) 0 xs.length := ⟨_, rfl⟩
      have kB : B.1 = A.1 := by rw [hB]; rfl
      have pB : ∀ a i, ¬ a = hZ m + 1 → hP B a i = hP A a i := fun a i n => by rw [hB]; exact if_neg (fun z => n z.1)
      have pB1 : ∀ i, i < xs.length → hP B (hZ m + 1) i = hP m e i := fun i hi => by
        rw [hB, hP_cpy, if_pos ⟨rfl, by omega, by omega⟩, show 0 + (i - 0) = i by omega]; exact pA e i (by omega)
      obtain ⟨M, hM⟩ : ∃ M, M = sP B l 1 (hZ m + 1) := ⟨_, rfl⟩
      have kM : ∀ a, ¬ a = hZ m + 1 → M.1 a = m.1 a := fun a n => by rw [hM]; show B.1 a = _; rw [kB]; exact kA a n
      have kMl : hK M l = 0 := (congrArg Prod.fst (kM l (by omega))).trans k
      have oM : M.1 (hZ m + 1) = (1100, N) := by rw [hM]; show B.1 _ = _; rw [kB]; exact oA
      have zM : hZ M = hZ m + 1 := by rw [hM, hB]; exact zA
      have pM : hP M l 1 = hZ m + 1 := by rw [hM]; exact hP_s1
      have vM : hK M v = hK m v := congrArg Prod.fst (kM v (by omega))
      have cp : z_cpo z_elc A e (hZ m + 1) 0 0 (xs.length : Int) := by
        refine ⟨fun _ i hi => .inr ?_, ⟨by unfold z_new; omega, by unfold z_new; omega⟩, ?_, ?_, by omega, by omega, by omega, ?_, ?_⟩
        · have hi2 : i < xs.length := by have : ((xs.length : Int)).toNat = xs.length := rfl; omega
          have e1 : hP A e ((0 : Int).toNat + i) = xs[i] := by rw [show (0 : Int).toNat + i = i by omega, pA e i (by omega)]; exact c5 i hi2
          have b := ex xs[i] (List.getElem_mem hi2)
          unfold z_isk
          rw [e1, show hK A (hZ m + 1) = 1100 from congrArg Prod.fst oA, show hK A xs[i] = hK m xs[i] from congrArg Prod.fst (kA _ (by omega))]
          exact elc_11 b.1
        · exact ((congrArg Prod.fst (kA e (by omega))).trans c2).trans (congrArg Prod.fst oA).symm
        · rw [show hK A e = 1100 from (congrArg Prod.fst (kA e (by omega))).trans c2]; decide
        · rw [show hN A e = hN m e from congrArg Prod.snd (kA e (by omega))]; omega
        · rw [show hN A (hZ m + 1) = N from congrArg Prod.snd oA]; omega
      have g : f12_0 l (sI m l 0 w) = z_rr (hZ m + 1) M := by
        have e1 : (hN (sI m l 0 w) e : Int) = (xs.length : Int) := by show (hN m e : Int) = _; omega
        rw [e12_0, gk1 (by exact k), gk1 (by exact k), s2, show z_w ((xs.length : Int) + 1) = (xs.length : Int) + 1 from w_id (by omega) (by omega), e13_0, gk1 (by exact k), p2, c1, gle (k := 1100) (by exact c2) (by decide), e1, z_if_t (by omega), e13_20, show z_w ((xs.length : Int) + 1 - (xs.length : Int)) = 1 by rw [w_id (by omega) (by omega)]; omega, show z_shr (xs.length : Int) 1 = ((xs.length / 2 : Nat) : Int) by rw [shr_n1]; omega, e37_0, m_max, z_ki_ri, show z_w ((xs.length : Int) + max 1 ((xs.length / 2 : Nat) : Int)) = (N : Int) by rw [w_id (by omega) (by omega)]; omega, z_if_f (by omega), z_if_f (by omega), z_ki_ri, gk1 (by exact k), p2, c1, e38_0, gk1 (by exact c2), e39_0, z_g_t rfl, z_g_t ⟨by omega, by omega⟩, show hZ (sI m l 0 w) + 1 = hZ m + 1 from rfl, show ((N : Nat) : Int).toNat = N from rfl, ← hA, e39_24, gle (k := 1100) ((congrArg Prod.fst (kA e (by omega))).trans c2) (by decide), show ((hN A e : Nat) : Int) = (xs.length : Int) by rw [show hN A e = hN m e from congrArg Prod.snd (kA e (by omega))]; omega, m_min, show min (xs.length : Int) (N : Int) = (xs.length : Int) by omega, z_ki_ri, z_g_t cp, show (0 : Int).toNat = 0 from rfl, show ((xs.length : Nat) : Int).toNat = xs.length from rfl, ← hB, z_kr_rr, z_kr_rr, gk1 (show hK B l = 0 from by show (B.1 l).1 = 0; rw [kB]; exact (congrArg Prod.fst (kA l (by omega))).trans k), z_kr_rr, ← hM]
      have G : f7_0 l v (hP m l 1) (xs.length : Int) (sI m l 0 w) = z_rv (sI (sP M (hZ m + 1) xs.length v) l 2 ((xs.length + 1 : Nat) : Int)) := by
        rw [e7_0, c1, gle (k := 1100) (by exact c2) (by decide), z_if_f (fun z => z (by show (xs.length : Int) = (hN m e : Int); omega)), gk1 (by exact k), g, z_kr_rr]
        exact li_put kMl (congrArg Prod.fst oM) (by omega) (by rw [show hN M (hZ m + 1) = N from congrArg Prod.snd oM]; omega) (by rw [vM]; exact hv.1) (by omega)
      refine ⟨_, fin _ G, li_new kMl (fun x hx' => ?_) pM (congrArg Prod.fst oM) (by omega) (by omega) (by rw [show hN M (hZ m + 1) = N from congrArg Prod.snd oM]; omega) ⟨by rw [vM]; exact hv.1, by omega⟩ (fun i hi => ?_), ?_⟩
      · have b := ex x hx'
        rw [show hK M x = hK m x from congrArg Prod.fst (kM x (by omega))]; exact ⟨b.1, by omega⟩
      · rw [hM, hP_s0 (by omega), pB1 i hi]; exact c5 i hi
      · refine ⟨fun a ha => ⟨kM a (by omega), fun i => ?_, fun i n => ?_, fun i n n2 => ?_⟩, ⟨?_, ?_⟩, ?_, ?_⟩
        · show hL M a i = _
          rw [hM, hB]
          show (if a = hZ m + 1 ∧ 0 ≤ i ∧ i < 0 + xs.length then hL A e (0 + (i - 0)) else hL A a i) = hL m a i
          rw [if_neg (by omega), hA]; exact if_neg (show ¬ a = hZ m + 1 by omega)
        · have n2 : ¬ (a = l ∧ i = 2) := fun z => n ⟨z.1, .inr z.2⟩
          have n0 : ¬ (a = l ∧ i = 0) := fun z => n ⟨z.1, .inl z.2⟩
          rw [hI_s0 n2]
          show hI M a i = _
          rw [hM, hB]
          show (if a = hZ m + 1 ∧ 0 ≤ i ∧ i < 0 + xs.length then hI A e (0 + (i - 0)) else hI A a i) = hI m a i
          rw [if_neg (by omega), hA]
          show (if a = hZ m + 1 then 0 else hI (sI m l 0 w) a i) = hI m a i
          rw [if_neg (by omega), hI_s0 n0]
        · show hP (sP M (hZ m + 1) xs.length v) a i = _
          rw [hP_s0 (by omega), hM, hP_s0 n, pB a i (by omega), pA a i (by omega)]
        · show hZ m ≤ hZ M; omega
        · show hZ M ≤ hZ m + 1; omega
        · show hS M ≤ hS m + 1000
          rw [hM, hB, hA]; show hS m + N ≤ hS m + 1000; omega
        · rw [hM, hB, hA]; rfl
    · -- there is room
      have G : f7_0 l v (hP m l 1) (xs.length : Int) (sI m l 0 w) = z_rv (sI (sP (sI m l 0 w) e xs.length v) l 2 ((xs.length + 1 : Nat) : Int)) := by
        rw [e7_0, c1, gle (k := 1100) (by exact c2) (by decide), z_if_t (fun z => q (by have z2 : (xs.length : Int) = (hN m e : Int) := z; omega))]
        exact li_put (m := sI m l 0 w) k c2 (by omega) (by show xs.length < hN m e; omega) hv.1 (by omega)
      refine ⟨_, fin _ G, li_new (m := sI m l 0 w) k ex c1 c2 c3 le (by show xs.length < hN m e ∧ hN m e ≤ 1000; omega) hv c5, ?_⟩
      refine ⟨fun a ha => ⟨rfl, fun i => rfl, fun i n => ?_, fun i n n2 => ?_⟩, ⟨Nat.le_refl _, Nat.le_succ _⟩, by show hS m ≤ hS m + 1000; omega, rfl⟩
      · have n2 : ¬ (a = l ∧ i = 2) := fun z => n ⟨z.1, .inr z.2⟩
        have n0 : ¬ (a = l ∧ i = 0) := fun z => n ⟨z.1, .inl z.2⟩
        rw [hI_s0 n2]
        show hI (sI m l 0 w) a i = _
        rw [hI_s0 n0]
      · show hP (sP (sI m l 0 w) e xs.length v) a i = _
        rw [hP_s0 (fun z => n2 ⟨z.1.trans c1.symm, by omega⟩)]; rfl
/-- a list is emptied -/
theorem li_clr {m : z_M} {e : Nat} {n : Nat} (ke : hK m e = 1100) (he : e < 4294967296) (hn : n ≤ hN m e) (hb : n ≤ 1000) : ∀ (d i : Nat), i + d = n → ∃ m', f8_27 e (n : Int) (i : Int) m = z_rv m' ∧ m'.1 = m.1 ∧ m'.2.1 = m.2.1 ∧ m'.2.2.1 = m.2.2.1 ∧ m'.2.2.2.2 = m.2.2.2.2 ∧ ∀ a j, ¬ a = e → hP m' a j = hP m a j := by
  intro d
  induction d generalizing m with
  | zero => exact fun i hi => ⟨m, by rw [e8_27, z_if_t (by omega), e8_42], rfl, rfl, rfl, rfl, fun _ _ _ => rfl⟩
  | succ d ih =>
    intro i hi
    obtain ⟨m', a, b, c, f, g, p⟩ := ih (m := sP m e i 0) ke hn (i + 1) (by omega)
    refine ⟨m', ?_, b, c, f, g, fun x j q => (p x j q).trans (hP_s0 (fun z => q z.1))⟩
    rw [e8_27, z_if_f (by omega), z_g_t ⟨⟨by rw [ke]; omega, by omega, by omega⟩, he, .inl rfl⟩, show z_w (((i : Nat) : Int) + 1) = ((i + 1 : Nat) : Int) by rw [w_id (by omega) (by omega)]; omega, show ((i : Nat) : Int).toNat = i from rfl]
    exact a
theorem li_clear {m : z_M} {l : Nat} {xs : List Nat} (L : z_li m l xs) (hz : 1272 ≤ hZ m ∧ hZ m < 4000000000) : ∃ m', f8_0 l m = z_rv m' ∧ z_li m' l [] ∧ z_la l m m' := by
  obtain ⟨k, s, ex, c⟩ := L
  obtain ⟨w, hw⟩ : ∃ w, z_w (hI m l 0 + 1) = w := ⟨_, rfl⟩
  have s2 : hI (sI m l 0 w) l 2 = (xs.length : Int) := (hI_s0 (fun z => absurd z.2 (by decide))).trans s
  have go : f8_0 l m = f8_27 (hP m l 1) (xs.length : Int) 0 (sI (sI m l 0 w) l 2 0) := by
    rw [e8_0, gk1 k, gk1 k, hw, gk1 (by exact k), gk1 (by exact k), gk1 (by exact k), s2]; rfl
  have fi : ∀ a i, ¬ (a = l ∧ (i = 0 ∨ i = 2)) → hI (sI (sI m l 0 w) l 2 0) a i = hI m a i := fun a i n => by
    rw [hI_s0 (fun z => n ⟨z.1, .inr z.2⟩), hI_s0 (fun z => n ⟨z.1, .inl z.2⟩)]
  rcases c with ⟨c1, c2⟩ | ⟨e, c1, c2, c3, c4, c5⟩
  · subst c2
    refine ⟨sI (sI m l 0 w) l 2 0, ?_, ⟨k, hI_s1, fun x q => absurd q (by simp), .inl ⟨c1, rfl⟩⟩, fun a ha => ⟨rfl, fun _ => rfl, fi a, fun _ _ _ => rfl⟩, ⟨Nat.le_refl _, Nat.le_succ _⟩, by show hS m ≤ hS m + 1000; omega, rfl⟩
    rw [go, e8_27, z_if_t (by decide), e8_42]
  · have le : ¬ l = e := fun z => by rw [← z, k] at c2; exact absurd c2 (by decide)
    obtain ⟨m', a, b, d, f, g, p⟩ := li_clr (m := sI (sI m l 0 w) l 2 0) (e := e) (n := xs.length) c2 (by omega) (by show xs.length ≤ hN m e; omega) (by omega) xs.length 0 (by omega)
    have kk : ∀ x, hK m' x = hK m x := fun x => by show (m'.1 x).1 = _; rw [b]; rfl
    have zz : hZ m' = hZ m := by show m'.2.2.2.2.1 = _; rw [g]; rfl
    refine ⟨m', by rw [go, c1]; exact a, ⟨(kk l).trans k, ?_, fun x q => absurd q (by simp), .inr ⟨e, (p l 1 le).trans c1, (kk e).trans c2, by rw [zz]; exact c3, ⟨Nat.zero_le _, by show 1 ≤ (m'.1 e).2 ∧ (m'.1 e).2 ≤ 1000; rw [b]; exact c4.2⟩, fun i hi => absurd hi (by simp)⟩⟩, fun x hx => ⟨by rw [b]; rfl, fun i => by show m'.2.2.1 x i = _; rw [f]; rfl, fun i n => ?_, fun i n n2 => p x i (fun z => n2 ⟨z.trans c1.symm, by omega⟩)⟩, ⟨by omega, by omega⟩, ?_, ?_⟩
    · show m'.2.1 l 2 = 0; rw [d]; exact hI_s1
    · show m'.2.1 x i = _; rw [d]; exact fi x i n
    · show m'.2.2.2.2.2.1 ≤ hS m + 1000; rw [g]; show hS m ≤ hS m + 1000; omega
    · rw [g]; rfl
