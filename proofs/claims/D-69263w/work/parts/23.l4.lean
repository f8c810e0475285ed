set_option maxRecDepth 100000
set_option linter.unusedVariables false
set_option maxHeartbeats 200000
/-! PLAIN, LINES: the error of a sample -/
def z_e0 (nr st s b : Int) : Int := if s - b ≤ 0 then -((nr - (s - b)) / st) else ((s - b) + nr) / st
def z_q1 (rg e : Int) : Int := if (if 0 ≤ e then e else e + rg) < (rg + 1) / 2 then (if 0 ≤ e then e else e + rg) else (if 0 ≤ e then e else e + rg) - rg
def z_mm (e : Int) : Int := if 0 ≤ e then 2 * e else (-2) * e - 1
theorem div_nn {x y : Int} (a : 0 ≤ x) (b : x ≤ 2147483647) (c : 1 ≤ y) : z_div x y = x / y := sorry
theorem div_b {x y : Int} (a : 0 ≤ x) (c : 1 ≤ y) : 0 ≤ x / y ∧ x / y ≤ x := sorry
theorem c_43 {t c : Nat} {rg e : Int} {h : z_M} (kt : hK h t = 52) (n3 : hI h t 3 = rg) (hr : 1 ≤ rg ∧ rg ≤ 256) (he : -300 ≤ e ∧ e ≤ 300) : f1062_43 t c e h = f1062_108 t c (z_q1 rg e) (z_mm (z_q1 rg e)) h := sorry
theorem t_step {h : z_M} {nr : Int} (e : hI h 1064 97 = nr) (hn : 0 ≤ nr ∧ nr ≤ 3) : f939_0 h = z_ri (2 * nr + 1) h := sorry
theorem t_range {h : z_M} {nr : Int} (e : hI h 1064 97 = nr) (hn : 0 ≤ nr ∧ nr ≤ 3) (e2 : hI h 1064 98 = 255) : f936_0 h = z_ri ((255 + 2 * nr) / (2 * nr + 1) + 1) h := sorry
theorem t_clip {h : z_M} (e : hI h 1064 98 = 255) (x : Int) : f912_0 x h = z_ri (max 0 (min 255 x)) h := sorry
theorem t_108 {h : z_M} {m a nr rg : Int} (e : hI h 1064 97 = nr) (hn : 0 ≤ nr ∧ nr ≤ 3) (e2 : hI h 1064 98 = 255) (hg : rg = (255 + 2 * nr) / (2 * nr + 1) + 1) (hr : 1 ≤ rg ∧ rg ≤ 256) (ha : -600 ≤ a ∧ a ≤ 600) :
    f942_108 m a h = f942_156 m (if a < (rg + 1) / 2 then a else a - rg) (z_mm (if a < (rg + 1) / 2 then a else a - rg)) h := sorry
/-- near is 0 to 3: what was told is the same, whether the error was brought into its range before or not -/
theorem tm {nr s b : Int} (hn : 0 ≤ nr ∧ nr ≤ 3) (hs : 0 ≤ s ∧ s ≤ 255) (hb : 0 ≤ b ∧ b ≤ 255) {st rg e0 e1 : Int} (hst : st = 2 * nr + 1) (hrg : rg = (255 + 2 * nr) / (2 * nr + 1) + 1) (h0 : e0 = z_e0 nr st s b) (h1 : e1 = z_q1 rg e0) :
    (1 ≤ rg ∧ rg ≤ 256) ∧ (-300 ≤ e0 ∧ e0 ≤ 300) ∧ (-300 ≤ e1 ∧ e1 ≤ 300) ∧ (-600 ≤ st * e0 ∧ st * e0 ≤ 600) ∧ (-600 ≤ st * e1 ∧ st * e1 ≤ 600) ∧ st * rg ≤ 300 ∧ 0 ≤ st * rg ∧
    max 0 (min 255 ((b + st * e1) + (if -nr ≤ b + st * e1 then (if b + st * e1 ≤ 255 + nr then 0 else -(st * rg)) else st * rg))) = max 0 (min 255 (b + st * e0)) := sorry
