section
/-! AM, second form: ints and longs are integers in their range; a reference is 0 (null), the number (from 1 on) of a cell made since the law's entry, or from 4294967296 on something old -/
abbrev z_v : Type := Int ⊕ Int ⊕ Nat
/-- memory: kind and length of a cell; its ints, longs, references; cells made, slots made, the script's length, frames left for recursion, whether the twin is made -/
abbrev z_M : Type := (Nat → Nat × Nat) × (Nat → Nat → Int) × (Nat → Nat → Int) × (Nat → Nat → Nat) × Nat × Nat × Nat × Nat × Bool
def hK (h : z_M) (a : Nat) : Nat := (h.1 a).1
def hN (h : z_M) (a : Nat) : Nat := (h.1 a).2
def hI (h : z_M) (a i : Nat) : Int := h.2.1 a i
def hL (h : z_M) (a i : Nat) : Int := h.2.2.1 a i
def hP (h : z_M) (a i : Nat) : Nat := h.2.2.2.1 a i
def hZ (h : z_M) : Nat := h.2.2.2.2.1
def hS (h : z_M) : Nat := h.2.2.2.2.2.1
def hX (h : z_M) : Nat := h.2.2.2.2.2.2.1
def hG (h : z_M) : Nat := h.2.2.2.2.2.2.2.1
def hW (h : z_M) : Bool := h.2.2.2.2.2.2.2.2
def z_up {α : Type} (f : Nat → Nat → α) (a i : Nat) (v : α) : Nat → Nat → α := fun x j => if x = a ∧ j = i then v else f x j
def z_uz {α : Type} (f : Nat → Nat → α) (a : Nat) (v : α) : Nat → Nat → α := fun x j => if x = a then v else f x j
def sI (h : z_M) (a i : Nat) (v : Int) : z_M := (h.1, z_up h.2.1 a i v, h.2.2)
def sL (h : z_M) (a i : Nat) (v : Int) : z_M := (h.1, h.2.1, z_up h.2.2.1 a i v, h.2.2.2)
def sP (h : z_M) (a i : Nat) (v : Nat) : z_M := (h.1, h.2.1, h.2.2.1, z_up h.2.2.2.1 a i v, h.2.2.2.2)
/-- a new cell of kind k with n slots, all of them zero: its number is hZ h + 1 -/
def sN (h : z_M) (k n : Nat) : z_M := (fun x => if x = hZ h + 1 then (k, n) else h.1 x, z_uz h.2.1 (hZ h + 1) 0, z_uz h.2.2.1 (hZ h + 1) 0, z_uz h.2.2.2.1 (hZ h + 1) 0, hZ h + 1, hS h + n, h.2.2.2.2.2.2)
def sG (h : z_M) (g : Nat) : z_M := (h.1, h.2.1, h.2.2.1, h.2.2.2.1, h.2.2.2.2.1, h.2.2.2.2.2.1, h.2.2.2.2.2.2.1, g, h.2.2.2.2.2.2.2.2)
def sW (h : z_M) : z_M := (h.1, h.2.1, h.2.2.1, h.2.2.2.1, h.2.2.2.2.1, h.2.2.2.2.2.1, h.2.2.2.2.2.2.1, h.2.2.2.2.2.2.2.1, true)
abbrev z_O : Type := Option z_v ⊕ Nat
abbrev z_Z : Type := Option (z_O × z_M)
abbrev z_ls : Type := List (Option z_v)
abbrev z_S : Type := z_ls → List z_v → z_M → z_Z
abbrev z_J : Type := Nat → z_S
/-- handlers: kinds, row, mask -/
abbrev z_Hs : Type := List (List Nat × Nat × Nat)
abbrev z_op : Type := z_Hs → z_J → z_S → z_S
noncomputable section
def z_w (x : Int) : Int := Int.bmod x 4294967296
def z_wl (x : Int) : Int := Int.bmod x 18446744073709551616
def z_and (x y : Int) : Int := (Int32.ofInt x &&& Int32.ofInt y).toInt
def z_or (x y : Int) : Int := (Int32.ofInt x ||| Int32.ofInt y).toInt
def z_xor (x y : Int) : Int := (Int32.ofInt x ^^^ Int32.ofInt y).toInt
def z_shl (x y : Int) : Int := z_w (x * 2 ^ (y % 32).toNat)
def z_shr (x y : Int) : Int := x / 2 ^ (y % 32).toNat
def z_ushr (x y : Int) : Int := z_w (x % 4294967296 / 2 ^ (y % 32).toNat)
def z_div (x y : Int) : Int := z_w (Int.tdiv x y)
def z_rem (x y : Int) : Int := Int.tmod x y
def z_i8 (x : Int) : Int := Int.bmod x 256
def z_i16 (x : Int) : Int := Int.bmod x 65536
def z_land (x y : Int) : Int := (Int64.ofInt x &&& Int64.ofInt y).toInt
def z_lor (x y : Int) : Int := (Int64.ofInt x ||| Int64.ofInt y).toInt
def z_lxor (x y : Int) : Int := (Int64.ofInt x ^^^ Int64.ofInt y).toInt
def z_lshl (x y : Int) : Int := z_wl (x * 2 ^ (y % 64).toNat)
def z_lshr (x y : Int) : Int := x / 2 ^ (y % 64).toNat
def z_lushr (x y : Int) : Int := z_wl (x % 18446744073709551616 / 2 ^ (y % 64).toNat)
def z_ldiv (x y : Int) : Int := z_wl (Int.tdiv x y)
def z_lcmp (x y : Int) : Int := if y < x then 1 else if x = y then 0 else -1
def z_has : List Nat → Nat → Bool
  | [], _ => false
  | a :: l, t => Nat.beq a t || z_has l t
def z_nth : z_ls → Nat → Option z_v
  | [], _ => none
  | x :: _, 0 => x
  | _ :: r, i + 1 => z_nth r i
/-- a long whose second place is written is gone -/
def z_kl (i : Nat) (v : Option z_v) : Option z_v := match i, v with
  | 0, some (.inr (.inl _)) => none
  | _, v => v
def z_set : z_ls → Nat → Option z_v → z_ls
  | [], _, _ => []
  | _ :: r, 0, v => v :: r
  | y :: r, i + 1, v => z_kl i y :: z_set r i v
/-- what is dead is forgotten -/
def z_bit (m : Nat) (v : Option z_v) : Option z_v := match m % 2 with
  | 0 => none
  | _ => v
def z_msk : Nat → z_ls → z_ls
  | _, [] => []
  | m, v :: l => z_bit m v :: z_msk (m / 2) l
/-- it is of one of these kinds; an array of kind t with a place i -/
def z_isk (r : Nat) (h : z_M) (cs : List Nat) : Prop := z_has cs (hK h r) = true
def z_isa (r : Nat) (h : z_M) (t : Nat) (i : Int) : Prop := hK h r = t ∧ 0 ≤ i ∧ i < (hN h r : Int)
def z_isz (r : Nat) (h : z_M) (i : Int) : Prop := (hK h r = 1001 ∨ hK h r = 1002) ∧ 0 ≤ i ∧ i < (hN h r : Int)
def z_isr (r : Nat) (h : z_M) (i : Int) : Prop := 1100 ≤ hK h r ∧ 0 ≤ i ∧ i < (hN h r : Int)
def z_inb (i n : Int) : Prop := 0 ≤ i ∧ i < n
def z_01 (v : Int) : Prop := v = 0 ∨ v = 1
def z_sz (n : Int) : Prop := 0 ≤ n ∧ n ≤ 65536
/-- a cell made since, or null; one whose sameness is known -/
def z_new (r : Nat) : Prop := r < 4294967296
/-- one of n old constants from b on -/
def z_enr (b n r : Nat) : Prop := b ≤ r ∧ r < b + n
def z_cok (r : Nat) : Prop := r < 4294967296 ∨ z_enr 4294968296 5 r ∨ z_enr 4294968396 8 r ∨ z_enr 4294968496 10 r ∨ r = 4294969296
def z_g (p : Prop) (x : z_Z) : z_Z := match Classical.propDecidable p with
  | .isTrue _ => x
  | .isFalse _ => none
/-- behind a call: by the sort of its answer; what is thrown -/
def z_kv (x : z_Z) (f : z_M → z_Z) (g : Nat → z_M → z_Z) : z_Z := match x with
  | some (.inl none, h) => f h
  | some (.inr a, h) => g a h
  | _ => none
def z_ki (x : z_Z) (f : Int → z_M → z_Z) (g : Nat → z_M → z_Z) : z_Z := match x with
  | some (.inl (some (.inl v)), h) => f v h
  | some (.inr a, h) => g a h
  | _ => none
def z_kj (x : z_Z) (f : Int → z_M → z_Z) (g : Nat → z_M → z_Z) : z_Z := match x with
  | some (.inl (some (.inr (.inl v))), h) => f v h
  | some (.inr a, h) => g a h
  | _ => none
def z_kr (x : z_Z) (f : Nat → z_M → z_Z) (g : Nat → z_M → z_Z) : z_Z := match x with
  | some (.inl (some (.inr (.inr v))), h) => f v h
  | some (.inr a, h) => g a h
  | _ => none
def z_ex (a : Nat) (h : z_M) : z_Z := some (.inr a, h)
def z_rv (h : z_M) : z_Z := some (.inl none, h)
def z_ri (v : Int) (h : z_M) : z_Z := some (.inl (some (.inl v)), h)
def z_rl (v : Int) (h : z_M) : z_Z := some (.inl (some (.inr (.inl v))), h)
def z_rr (v : Nat) (h : z_M) : z_Z := some (.inl (some (.inr (.inr v))), h)
def z_if (p : Prop) (x y : z_Z) : z_Z := match Classical.propDecidable p with
  | .isTrue _ => x
  | .isFalse _ => y
/-- what is thrown: to the handler; out where there is none -/
def z_tx (J : z_J) (ls : z_ls) (a : Nat) (h : z_M) : z_Hs → z_Z
  | [] => none
  | (cs, t, m) :: r => z_if (z_isk a h cs) (J t (z_msk m ls) [.inr (.inr a)] h) (z_tx J ls a h r)
def z_th (J : z_J) (ls : z_ls) (a : Nat) (h : z_M) : z_Hs → z_Z
  | [] => z_ex a h
  | (cs, t, m) :: r => z_if (z_isk a h cs) (J t (z_msk m ls) [.inr (.inr a)] h) (z_tx J ls a h r)
/-! the instructions -/
def o_no : z_op := fun _ _ _ _ _ _ => none
def o_ic (v : Int) : z_op := fun _ _ k ls st h => k ls (.inl v :: st) h
def o_lc (v : Int) : z_op := fun _ _ k ls st h => k ls (.inr (.inl v) :: st) h
def o_rc (r : Nat) : z_op := fun _ _ k ls st h => k ls (.inr (.inr r) :: st) h
def o_ild (i : Nat) : z_op := fun _ _ k ls st h => match z_nth ls i with
  | some (.inl x) => k ls (.inl x :: st) h
  | _ => none
def o_lld (i : Nat) : z_op := fun _ _ k ls st h => match z_nth ls i with
  | some (.inr (.inl x)) => k ls (.inr (.inl x) :: st) h
  | _ => none
def o_rld (i : Nat) : z_op := fun _ _ k ls st h => match z_nth ls i with
  | some (.inr (.inr r)) => k ls (.inr (.inr r) :: st) h
  | _ => none
def o_ist (i : Nat) : z_op := fun _ _ k ls st h => match st with
  | .inl x :: st => k (z_set ls i (some (.inl x))) st h
  | _ => none
def o_lst (i : Nat) : z_op := fun _ _ k ls st h => match st with
  | .inr (.inl x) :: st => k (z_set (z_set ls (i + 1) none) i (some (.inr (.inl x)))) st h
  | _ => none
def o_rst (i : Nat) : z_op := fun _ _ k ls st h => match st with
  | .inr (.inr r) :: st => k (z_set ls i (some (.inr (.inr r)))) st h
  | _ => none
def o_inc (i : Nat) (c : Int) : z_op := fun _ _ k ls st h => match z_nth ls i with
  | some (.inl x) => k (z_set ls i (some (.inl (z_w (x + c))))) st h
  | _ => none
def o_b (f : Int → Int → Int) : z_op := fun _ _ k ls st h => match st with
  | .inl y :: .inl x :: st => k ls (.inl (f x y) :: st) h
  | _ => none
def o_u (f : Int → Int) : z_op := fun _ _ k ls st h => match st with
  | .inl x :: st => k ls (.inl (f x) :: st) h
  | _ => none
def o_bz (f : Int → Int → Int) : z_op := fun _ _ k ls st h => match st with
  | .inl y :: .inl x :: st => z_g (¬ y = 0) (k ls (.inl (f x y) :: st) h)
  | _ => none
def o_lb (f : Int → Int → Int) : z_op := fun _ _ k ls st h => match st with
  | .inr (.inl y) :: .inr (.inl x) :: st => k ls (.inr (.inl (f x y)) :: st) h
  | _ => none
def o_lbz (f : Int → Int → Int) : z_op := fun _ _ k ls st h => match st with
  | .inr (.inl y) :: .inr (.inl x) :: st => z_g (¬ y = 0) (k ls (.inr (.inl (f x y)) :: st) h)
  | _ => none
def o_lsh (f : Int → Int → Int) : z_op := fun _ _ k ls st h => match st with
  | .inl y :: .inr (.inl x) :: st => k ls (.inr (.inl (f x y)) :: st) h
  | _ => none
def o_i2l : z_op := fun _ _ k ls st h => match st with
  | .inl x :: st => k ls (.inr (.inl x) :: st) h
  | _ => none
def o_l2i : z_op := fun _ _ k ls st h => match st with
  | .inr (.inl x) :: st => k ls (.inl (z_w x) :: st) h
  | _ => none
def o_lcmp : z_op := fun _ _ k ls st h => match st with
  | .inr (.inl y) :: .inr (.inl x) :: st => k ls (.inl (z_lcmp x y) :: st) h
  | _ => none
/-- a value of one word -/
def z_1 (v : z_v) (x : z_Z) : z_Z := match v with
  | .inr (.inl _) => none
  | .inl _ => x
  | .inr (.inr _) => x
def o_dup : z_op := fun _ _ k ls st h => match st with
  | v :: st => z_1 v (k ls (v :: v :: st) h)
  | _ => none
def o_pop : z_op := fun _ _ k ls st h => match st with
  | v :: st => z_1 v (k ls st h)
  | _ => none
def o_pop2 : z_op := fun _ _ k ls st h => match st with
  | .inr (.inl _) :: st => k ls st h
  | _ => none
def o_dx1 : z_op := fun _ _ k ls st h => match st with
  | v :: w :: st => z_1 v (z_1 w (k ls (v :: w :: v :: st) h))
  | _ => none
def o_dx2 : z_op := fun _ _ k ls st h => match st with
  | v :: w :: u :: st => z_1 v (z_1 w (z_1 u (k ls (v :: w :: u :: v :: st) h)))
  | _ => none
def o_d2 : z_op := fun _ _ k ls st h => match st with
  | .inr (.inl x) :: st => k ls (.inr (.inl x) :: .inr (.inl x) :: st) h
  | v :: w :: st => z_1 v (z_1 w (k ls (v :: w :: v :: w :: st) h))
  | _ => none
/-- jumps: row and mask -/
def o_go (t m : Nat) : z_op := fun _ J _ ls st h => J t (z_msk m ls) st h
def o_if (c : Int → Prop) (t m : Nat) : z_op := fun _ J k ls st h => match st with
  | .inl x :: st => z_if (c x) (J t (z_msk m ls) st h) (k ls st h)
  | _ => none
def o_ii (c : Int → Int → Prop) (t m : Nat) : z_op := fun _ J k ls st h => match st with
  | .inl y :: .inl x :: st => z_if (c x y) (J t (z_msk m ls) st h) (k ls st h)
  | _ => none
def o_aa (c : Nat → Nat → Prop) (t m : Nat) : z_op := fun _ J k ls st h => match st with
  | .inr (.inr q) :: .inr (.inr r) :: st => z_g (z_cok q ∧ z_cok r) (z_if (c r q) (J t (z_msk m ls) st h) (k ls st h))
  | _ => none
def o_nl (c : Nat → Prop) (t m : Nat) : z_op := fun _ J k ls st h => match st with
  | .inr (.inr r) :: st => z_if (c r) (J t (z_msk m ls) st h) (k ls st h)
  | _ => none
/-- a switch: number, row, mask -/
def z_sw (J : z_J) (x : Int) (d m : Nat) (ls : z_ls) (st : List z_v) (h : z_M) : List (Int × Nat × Nat) → z_Z
  | (c, t, n) :: r => z_if (x = c) (J t (z_msk n ls) st h) (z_sw J x d m ls st h r)
  | [] => J d (z_msk m ls) st h
def o_sw (d m : Nat) (l : List (Int × Nat × Nat)) : z_op := fun _ J _ ls st h => match st with
  | .inl x :: st => z_sw J x d m ls st h l
  | _ => none
def o_gi (f : Nat) (cs : List Nat) : z_op := fun _ _ k ls st h => match st with
  | .inr (.inr r) :: st => z_g (z_isk r h cs) (k ls (.inl (hI h r f) :: st) h)
  | _ => none
def o_gl (f : Nat) (cs : List Nat) : z_op := fun _ _ k ls st h => match st with
  | .inr (.inr r) :: st => z_g (z_isk r h cs) (k ls (.inr (.inl (hL h r f)) :: st) h)
  | _ => none
def o_gp (f : Nat) (cs : List Nat) : z_op := fun _ _ k ls st h => match st with
  | .inr (.inr r) :: st => z_g (z_isk r h cs) (k ls (.inr (.inr (hP h r f)) :: st) h)
  | _ => none
def o_pi (f : Nat) (cs : List Nat) : z_op := fun _ _ k ls st h => match st with
  | .inl v :: .inr (.inr r) :: st => z_g (z_isk r h cs) (k ls st (sI h r f v))
  | _ => none
def o_pz (f : Nat) (cs : List Nat) : z_op := fun _ _ k ls st h => match st with
  | .inl v :: .inr (.inr r) :: st => z_g (z_isk r h cs ∧ z_01 v) (k ls st (sI h r f v))
  | _ => none
def o_pl (f : Nat) (cs : List Nat) : z_op := fun _ _ k ls st h => match st with
  | .inr (.inl v) :: .inr (.inr r) :: st => z_g (z_isk r h cs) (k ls st (sL h r f v))
  | _ => none
def o_pp (f : Nat) (cs : List Nat) : z_op := fun _ _ k ls st h => match st with
  | .inr (.inr v) :: .inr (.inr r) :: st => z_g (z_isk r h cs) (k ls st (sP h r f v))
  | _ => none
/-- a reference into the twin while it is being made -/
def o_pq (f : Nat) (cs : List Nat) : z_op := fun _ _ k ls st h => match st with
  | .inr (.inr v) :: .inr (.inr r) :: st => z_g (z_isk r h cs ∧ hW h = false) (k ls st (sP h r f v))
  | _ => none
/-- the twin, whose number is t: its ints; its arrays, by their numbers -/
def z_eqn (a b : Nat) (x : z_Z) : z_Z := match Nat.beq a b with
  | true => x
  | false => none
def o_ti (t f : Nat) : z_op := fun _ _ k ls st h => match st with
  | .inr (.inr r) :: st => z_eqn r t (k ls (.inl (hI h t f) :: st) h)
  | _ => none
def o_tp (t n : Nat) : z_op := fun _ _ k ls st h => match st with
  | .inr (.inr r) :: st => z_eqn r t (k ls (.inr (.inr n) :: st) h)
  | _ => none
def o_tw (t f : Nat) : z_op := fun _ _ k ls st h => match st with
  | .inl v :: .inr (.inr r) :: st => z_eqn r t (k ls st (sI h t f v))
  | _ => none
def o_tz (t f : Nat) : z_op := fun _ _ k ls st h => match st with
  | .inl v :: .inr (.inr r) :: st => z_eqn r t (z_g (z_01 v) (k ls st (sI h t f v)))
  | _ => none
def o_tal (n : Nat) (ln : Int) : z_op := fun _ _ k ls st h => match st with
  | .inl i :: .inr (.inr r) :: st => z_eqn r n (z_g (z_inb i ln) (k ls (.inl (hI h n i.toNat) :: st) h))
  | _ => none
def o_tll (n : Nat) (ln : Int) : z_op := fun _ _ k ls st h => match st with
  | .inl i :: .inr (.inr r) :: st => z_eqn r n (z_g (z_inb i ln) (k ls (.inr (.inl (hL h n i.toNat)) :: st) h))
  | _ => none
def o_tas (n : Nat) (ln : Int) : z_op := fun _ _ k ls st h => match st with
  | .inl v :: .inl i :: .inr (.inr r) :: st => z_eqn r n (z_g (z_inb i ln) (k ls st (sI h n i.toNat v)))
  | _ => none
def o_tzs (n : Nat) (ln : Int) : z_op := fun _ _ k ls st h => match st with
  | .inl v :: .inl i :: .inr (.inr r) :: st => z_eqn r n (z_g (z_inb i ln) (z_g (z_01 v) (k ls st (sI h n i.toNat v))))
  | _ => none
def o_tbs (n : Nat) (ln : Int) : z_op := fun _ _ k ls st h => match st with
  | .inl v :: .inl i :: .inr (.inr r) :: st => z_eqn r n (z_g (z_inb i ln) (k ls st (sI h n i.toNat (z_i8 v))))
  | _ => none
def o_tss (n : Nat) (ln : Int) : z_op := fun _ _ k ls st h => match st with
  | .inl v :: .inl i :: .inr (.inr r) :: st => z_eqn r n (z_g (z_inb i ln) (k ls st (sI h n i.toNat (z_i16 v))))
  | _ => none
def o_tls (n : Nat) (ln : Int) : z_op := fun _ _ k ls st h => match st with
  | .inr (.inl v) :: .inl i :: .inr (.inr r) :: st => z_eqn r n (z_g (z_inb i ln) (k ls st (sL h n i.toNat v)))
  | _ => none
def o_tln (n : Nat) (ln : Int) : z_op := fun _ _ k ls st h => match st with
  | .inr (.inr r) :: st => z_eqn r n (k ls (.inl ln :: st) h)
  | _ => none
/-- the script -/
def o_xal (n : Nat) : z_op := fun _ _ k ls st h => match st with
  | .inl i :: .inr (.inr r) :: st => z_eqn r n (z_g (z_inb i (hX h : Int)) (k ls (.inl (hI h n i.toNat) :: st) h))
  | _ => none
def o_xln (n : Nat) : z_op := fun _ _ k ls st h => match st with
  | .inr (.inr r) :: st => z_eqn r n (k ls (.inl (hX h : Int) :: st) h)
  | _ => none
/-- old arrays by their lists, when known -/
def o_cal (n : Nat) (l : List Int) : z_op := fun _ _ k ls st h => match st with
  | .inl i :: .inr (.inr r) :: st => z_eqn r n (z_g (z_inb i (l.length : Int)) (k ls (.inl (l.getD i.toNat 0) :: st) h))
  | _ => none
def o_cln (n : Nat) (ln : Int) : z_op := fun _ _ k ls st h => match st with
  | .inr (.inr r) :: st => z_eqn r n (k ls (.inl ln :: st) h)
  | _ => none
def o_ial (t : Nat) : z_op := fun _ _ k ls st h => match st with
  | .inl i :: .inr (.inr r) :: st => z_g (z_isa r h t i) (k ls (.inl (hI h r i.toNat) :: st) h)
  | _ => none
def o_bal : z_op := fun _ _ k ls st h => match st with
  | .inl i :: .inr (.inr r) :: st => z_g (z_isz r h i) (k ls (.inl (hI h r i.toNat) :: st) h)
  | _ => none
def o_lal : z_op := fun _ _ k ls st h => match st with
  | .inl i :: .inr (.inr r) :: st => z_g (z_isa r h 1003 i) (k ls (.inr (.inl (hL h r i.toNat)) :: st) h)
  | _ => none
def o_ral : z_op := fun _ _ k ls st h => match st with
  | .inl i :: .inr (.inr r) :: st => z_g (z_isr r h i) (k ls (.inr (.inr (hP h r i.toNat)) :: st) h)
  | _ => none
def o_ias : z_op := fun _ _ k ls st h => match st with
  | .inl v :: .inl i :: .inr (.inr r) :: st => z_g (z_isa r h 1000 i ∧ z_new r) (k ls st (sI h r i.toNat v))
  | _ => none
def o_sas : z_op := fun _ _ k ls st h => match st with
  | .inl v :: .inl i :: .inr (.inr r) :: st => z_g (z_isa r h 1004 i ∧ z_new r) (k ls st (sI h r i.toNat (z_i16 v)))
  | _ => none
/-- into booleans 0 or 1 alone; into bytes the low eight -/
def o_bas : z_op := fun _ _ k ls st h => match st with
  | .inl v :: .inl i :: .inr (.inr r) :: st => z_g (z_isz r h i ∧ z_new r ∧ (hK h r = 1002 ∨ z_01 v)) (k ls st (sI h r i.toNat (z_i8 v)))
  | _ => none
def o_las : z_op := fun _ _ k ls st h => match st with
  | .inr (.inl v) :: .inl i :: .inr (.inr r) :: st => z_g (z_isa r h 1003 i ∧ z_new r) (k ls st (sL h r i.toNat v))
  | _ => none
def o_ras (elc : Nat → List Nat) : z_op := fun _ _ k ls st h => match st with
  | .inr (.inr v) :: .inl i :: .inr (.inr r) :: st => z_g (z_isr r h i ∧ z_new r ∧ (v = 0 ∨ z_isk v h (elc (hK h r)))) (k ls st (sP h r i.toNat v))
  | _ => none
def o_len : z_op := fun _ _ k ls st h => match st with
  | .inr (.inr r) :: st => z_g (1000 ≤ hK h r) (k ls (.inl (hN h r : Int) :: st) h)
  | _ => none
def o_new (c n : Nat) : z_op := fun _ _ k ls st h => k ls (.inr (.inr (hZ h + 1)) :: st) (sN h c n)
def o_nar (c : Nat) : z_op := fun _ _ k ls st h => match st with
  | .inl n :: st => z_g (z_sz n) (k ls (.inr (.inr (hZ h + 1)) :: st) (sN h c n.toNat))
  | _ => none
def o_cc (cs : List Nat) : z_op := fun _ _ k ls st h => match st with
  | .inr (.inr r) :: st => z_g (r = 0 ∨ z_isk r h cs) (k ls (.inr (.inr r) :: st) h)
  | _ => none
def z_rep (n : Nat) : z_ls := match n with
  | 0 => []
  | n + 1 => none :: z_rep n
/-- values off the stack, as locals: sorts from the last to the first (1 int, 2 long, 3 reference) -/
def z_pop : List Nat → z_ls → List z_v → Option (z_ls × List z_v)
  | [], a, st => some (a, st)
  | 1 :: l, a, .inl v :: st => z_pop l (some (.inl v) :: a) st
  | 2 :: l, a, .inr (.inl v) :: st => z_pop l (some (.inr (.inl v)) :: none :: a) st
  | 3 :: l, a, .inr (.inr v) :: st => z_pop l (some (.inr (.inr v)) :: a) st
  | _, _, _ => none
/-- no more than eight values lie below -/
def z_l8 (st : List z_v) (x : z_Z) : z_Z := match Nat.ble (List.length st) 8 with
  | true => x
  | false => none
/-- behind a call: its answer (0 none, 1 int, 2 long, 3 reference) -/
def z_ret (rt : Nat) (x : z_Z) (H : z_Hs) (J : z_J) (k : z_S) (ls : z_ls) (st : List z_v) : z_Z := z_l8 st <| match rt with
  | 0 => z_kv x (fun h => k ls st h) (fun a h => z_th J ls a h H)
  | 1 => z_ki x (fun v h => k ls (.inl v :: st) h) (fun a h => z_th J ls a h H)
  | 2 => z_kj x (fun v h => k ls (.inr (.inl v) :: st) h) (fun a h => z_th J ls a h H)
  | _ => z_kr x (fun v h => k ls (.inr (.inr v) :: st) h) (fun a h => z_th J ls a h H)
/-- a call of row e, more locals p; static -/
def o_cs (e p rt : Nat) (l : List Nat) : z_op := fun H J k ls st h => match z_pop l (z_rep p) st with
  | some (a, st) => z_ret rt (J e a [] h) H J k ls st
  | none => none
/-- of a cell of one of these kinds -/
def o_cv (e p rt : Nat) (l cs : List Nat) : z_op := fun H J k ls st h => match z_pop l (z_rep p) st with
  | some (a, .inr (.inr r) :: st) => z_g (z_isk r h cs) (z_ret rt (J e (some (.inr (.inr r)) :: a) [] h) H J k ls st)
  | _ => none
/-- of the twin -/
def o_ct (t e p rt : Nat) (l : List Nat) : z_op := fun H J k ls st h => match z_pop l (z_rep p) st with
  | some (a, .inr (.inr r) :: st) => z_eqn r t (z_ret rt (J e (some (.inr (.inr t)) :: a) [] h) H J k ls st)
  | _ => none
/-- of what turns out to be the twin -/
def o_cw (t e p rt : Nat) (l : List Nat) : z_op := fun H J k ls st h => match z_pop l (z_rep p) st with
  | some (a, .inr (.inr r) :: st) => z_g (r = t ∧ hW h = true) (z_ret rt (J e (some (.inr (.inr t)) :: a) [] h) H J k ls st)
  | _ => none
/-- by the cell's kind: kind, row, locals -/
def z_dis (rt : Nat) (a : Nat → z_ls) (r : Nat) (H : z_Hs) (J : z_J) (k : z_S) (ls : z_ls) (st : List z_v) (h : z_M) : List (Nat × Nat × Nat) → z_Z
  | (c, e, p) :: l => z_if (hK h r = c) (z_ret rt (J e (some (.inr (.inr r)) :: a p) [] h) H J k ls st) (z_dis rt a r H J k ls st h l)
  | [] => none
def z_app (a : z_ls) (p : Nat) : z_ls := match a with
  | [] => z_rep p
  | x :: a => x :: z_app a p
def o_cd (rt : Nat) (l : List Nat) (ks : List (Nat × Nat × Nat)) : z_op := fun H J k ls st h => match z_pop l [] st with
  | some (a, .inr (.inr r) :: st) => z_dis rt (z_app a) r H J k ls st h ks
  | _ => none
/-- the one that calls itself: frames -/
def o_cr (e p : Nat) (l cs : List Nat) : z_op := fun H J k ls st h => match z_pop l (z_rep p) st with
  | some (a, .inr (.inr r) :: st) => z_l8 st <| z_g (z_isk r h cs ∧ 0 < hG h) (z_kv (J e (some (.inr (.inr r)) :: a) [] (sG h (hG h - 1))) (fun h' => k ls st (sG h' (hG h))) (fun a h' => z_th J ls a (sG h' (hG h)) H))
  | _ => none
/-- Object's constructor; a Throwable's own -/
def o_ob : z_op := fun _ _ k ls st h => match st with
  | .inr (.inr r) :: st => z_l8 st <| z_g (0 < r ∧ z_new r) (k ls st h)
  | _ => none
def o_tc (l cs : List Nat) : z_op := fun _ _ k ls st h => match z_pop l [] st with
  | some (_, .inr (.inr r) :: st) => z_l8 st <| z_g (z_isk r h cs ∧ hP h r 4 = 0) (k ls st h)
  | _ => none
/-- System.arraycopy of cells -/
def z_cpf {α : Type} (f : Nat → Nat → α) (s sp t dp n : Nat) : Nat → Nat → α := fun x j => if x = t ∧ dp ≤ j ∧ j < dp + n then f s (sp + (j - dp)) else f x j
def z_cpy (h : z_M) (s sp t dp n : Nat) : z_M := (h.1, z_cpf h.2.1 s sp t dp n, z_cpf h.2.2.1 s sp t dp n, z_cpf h.2.2.2.1 s sp t dp n, h.2.2.2.2)
def z_cpo (elc : Nat → List Nat) (h : z_M) (q r : Nat) (sp dp n : Int) : Prop := (1100 ≤ hK h q → ∀ i, i < n.toNat → hP h q (sp.toNat + i) = 0 ∨ z_isk (hP h q (sp.toNat + i)) h (elc (hK h r))) ∧ (z_new r ∧ z_new q) ∧ hK h q = hK h r ∧ (1000 ≤ hK h q ∧ ¬ hK h q = 1004) ∧ 0 ≤ sp ∧ 0 ≤ dp ∧ 0 ≤ n ∧ sp + n ≤ (hN h q : Int) ∧ dp + n ≤ (hN h r : Int)
def o_cpy (elc : Nat → List Nat) : z_op := fun _ _ k ls st h => match st with
  | .inl n :: .inl dp :: .inr (.inr r) :: .inl sp :: .inr (.inr q) :: st => z_l8 st <| z_g (z_cpo elc h q r sp dp n) (k ls st (z_cpy h q sp.toNat r dp.toNat n.toNat))
  | _ => none
/-- an enum's array, copied: kind, first constant, how many -/
def z_ef (h : z_M) (e n : Nat) : Nat → Nat → Nat := fun x i => if x = hZ h + 1 then (if i < n then e + i else 0) else hP h x i
def z_cln (h : z_M) (c e n : Nat) : z_M := (fun x => if x = hZ h + 1 then (c, n) else h.1 x, z_uz h.2.1 (hZ h + 1) 0, z_uz h.2.2.1 (hZ h + 1) 0, z_ef h e n, hZ h + 1, hS h + n, h.2.2.2.2.2.2)
def o_cl (v c e n : Nat) : z_op := fun _ _ k ls st h => match st with
  | .inr (.inr r) :: st => z_eqn r v (z_l8 st <| k ls (.inr (.inr (hZ h + 1)) :: st) (z_cln h c e n))
  | _ => none
/-- Arrays.copyOf of an array of references -/
def z_cf (h : z_M) (s m n : Nat) : Nat → Nat → Nat := fun x i => if x = hZ h + 1 then (if i < n ∧ i < m then hP h s i else 0) else hP h x i
def z_cpn (h : z_M) (s m n : Nat) : z_M := (fun x => if x = hZ h + 1 then (1100, n) else h.1 x, z_uz h.2.1 (hZ h + 1) 0, z_uz h.2.2.1 (hZ h + 1) 0, z_cf h s m n, hZ h + 1, hS h + n, h.2.2.2.2.2.2)
def o_cn : z_op := fun _ _ k ls st h => match st with
  | .inl n :: .inr (.inr r) :: st => z_l8 st <| z_g (z_isk r h [1100] ∧ z_sz n) (k ls (.inr (.inr (hZ h + 1)) :: st) (z_cpn h r (hN h r) n.toNat))
  | _ => none
/-- old constants, n of them from b on: numbers in them -/
def z_enl (b : Nat) (l : List Int) (r : Nat) : Int := l.getD (r - b) 0
def o_en (b n : Nat) (l : List Int) : z_op := fun _ _ k ls st h => match st with
  | .inr (.inr r) :: st => z_g (z_enr b n r) (k ls (.inl (z_enl b l r) :: st) h)
  | _ => none
/-- a call of one of n old constants from b on -/
def o_ce (b n e p rt : Nat) (l : List Nat) : z_op := fun H J k ls st h => match z_pop l (z_rep p) st with
  | some (a, .inr (.inr r) :: st) => z_g (z_enr b n r) (z_ret rt (J e (some (.inr (.inr r)) :: a) [] h) H J k ls st)
  | _ => none
/-- getClass of an array of objects: one number stands for its class object; that object as a constant, compared with what is there -/
def o_gc : z_op := fun _ _ k ls st h => match st with
  | .inr (.inr r) :: st => z_l8 st <| z_g (z_isk r h [1100]) (k ls (.inr (.inr 4294969297) :: st) h)
  | _ => none
def o_lm : z_op := fun _ _ k ls st h => match st with
  | .inr (.inr r) :: st => z_g (r = 4294969297) (k ls st h)
  | _ => none
/-- a Throwable's own fields are left free -/
def o_gt (cs : List Nat) : z_op := fun _ _ k ls st h => match st with
  | .inr (.inr r) :: st => z_g (z_isk r h cs) (k ls st h)
  | _ => none
def o_px (cs : List Nat) : z_op := fun _ _ k ls st h => match st with
  | .inr (.inr _) :: .inr (.inr r) :: st => z_g (z_isk r h cs) (k ls st h)
  | _ => none
/-- the place of an enum's constant in its list -/
def z_een (r : Nat) : Prop := z_enr 4294968396 8 r ∨ z_enr 4294968496 10 r
def z_eo (r : Nat) : Int := if r < 4294968496 then ((r - 4294968396 : Nat) : Int) else ((r - 4294968496 : Nat) : Int)
def o_eo : z_op := fun _ _ k ls st h => match st with
  | .inr (.inr r) :: st => z_g (z_een r) (k ls (.inl (z_eo r) :: st) h)
  | _ => none
/-- the twin is made: its arrays are where they should be -/
def z_ok (h : z_M) (t : Nat) : List (Nat × Nat × Nat × Nat) → Prop
  | (f, a, c, n) :: l => (hP h t f = a ∧ hK h a = c ∧ hN h a = n) ∧ z_ok h t l
  | [] => True
def o_mk (t c e p : Nat) (q : List (Nat × Nat × Nat × Nat)) : z_op := fun H J k ls st h => match st with
  | .inr (.inr r) :: st => z_g (r = t ∧ hK h t = c ∧ z_ok h t q) (z_ret 0 (J e (some (.inr (.inr t)) :: z_rep p) [] (sW h)) H J k ls st)
  | _ => none
def o_ir : z_op := fun _ _ _ _ st h => match st with
  | [.inl v] => z_ri v h
  | _ => none
def o_zr : z_op := fun _ _ _ _ st h => match st with
  | [.inl v] => z_g (z_01 v) (z_ri v h)
  | _ => none
def o_lr : z_op := fun _ _ _ _ st h => match st with
  | [.inr (.inl v)] => z_rl v h
  | _ => none
def o_rr : z_op := fun _ _ _ _ st h => match st with
  | [.inr (.inr v)] => z_rr v h
  | _ => none
def o_vr : z_op := fun _ _ _ _ st h => match st with
  | [] => z_rv h
  | _ => none
/-- what is thrown is of one of these kinds -/
def o_at (cs : List Nat) : z_op := fun H J _ ls st h => match st with
  | .inr (.inr a) :: _ => z_g (0 < a ∧ z_isk a h cs) (z_th J ls a h H)
  | _ => none
/-- a row of them -/
def z_blk (H : z_Hs) (J : z_J) : List z_op → z_S
  | [] => fun _ _ _ => none
  | f :: l => f H J (z_blk H J l)
end
end
section
set_option maxRecDepth 100000
set_option linter.unusedVariables false
/-- the kinds that an array of references takes -/
def z_elc (k : Nat) : List Nat := match k with
  | 1100 => [0, 1, 2, 3, 4, 5, 6, 7, 8, 9, 10, 11, 12, 13, 14, 15, 16, 17, 18, 19, 20, 21, 22, 23, 24, 25, 26, 27, 28, 29, 30, 31, 32, 33, 34, 35, 36, 37, 38, 39, 40, 41, 42, 43, 44, 45, 46, 47, 48, 49, 50, 51, 52, 53, 54, 55, 56, 57, 58, 59, 60, 61, 62, 63, 64, 65, 66, 67, 68, 69, 70, 71, 72, 73, 74, 75, 76, 77, 78, 79, 80, 81]
  | 1101 => [42]
  | 1102 => []
  | 1103 => [43]
  | 1104 => [29]
  | 1105 => [30]
  | 1106 => [38]
  | 1107 => []
  | 1108 => [39]
  | 1109 => [41]
  | 1110 => [53]
  | 1111 => [56]
  | 1112 => [11]
  | 1113 => [28]
  | 1114 => [44]
  | 1115 => [48]
  | 1116 => [47]
  | 1117 => [27]
  | _ => []
/-- the twin's arrays: field, number, kind, length -/
def z_tq : List (Nat × Nat × Nat × Nat) := [(4, 1065, 1000, 8), (5, 1066, 1000, 8), (6, 1067, 1000, 1152), (7, 1068, 1001, 1152), (8, 1069, 1000, 4), (9, 1070, 1000, 4), (10, 1071, 1001, 2304), (11, 1072, 1000, 12), (12, 1073, 1000, 18000), (13, 1074, 1000, 12000), (19, 1075, 1000, 144), (20, 1076, 1000, 144), (21, 1077, 1000, 144), (22, 1078, 1000, 64), (32, 1079, 1000, 576), (33, 1080, 1000, 576), (34, 1081, 1000, 576), (35, 1082, 1000, 576), (36, 1083, 1000, 576), (37, 1084, 1000, 576), (38, 1085, 1000, 576), (39, 1086, 1003, 576), (42, 1087, 1000, 144), (49, 1088, 1000, 576), (50, 1089, 1001, 4), (51, 1090, 1000, 1024), (56, 1091, 1000, 6), (57, 1092, 1000, 6), (58, 1093, 1000, 180), (59, 1094, 1000, 9000), (61, 1095, 1000, 6000), (64, 1096, 1000, 10), (65, 1097, 1000, 576), (66, 1098, 1001, 4), (67, 1099, 1000, 1024), (68, 1100, 1000, 6), (69, 1101, 1000, 6), (70, 1102, 1000, 180), (87, 1103, 1000, 576), (88, 1104, 1001, 4), (89, 1105, 1000, 1024), (90, 1106, 1000, 6), (91, 1107, 1000, 6), (92, 1108, 1000, 180), (93, 1109, 1001, 4), (94, 1110, 1000, 576), (95, 1111, 1000, 4), (96, 1112, 1000, 4), (111, 1113, 1001, 256), (112, 1114, 1000, 256), (113, 1115, 1000, 256), (114, 1116, 1000, 256), (119, 1117, 1001, 256), (120, 1118, 1000, 256), (121, 1119, 1000, 256), (122, 1120, 1000, 7500), (124, 1121, 1000, 4), (125, 1122, 1000, 2400), (127, 1123, 1000, 256), (131, 1124, 1001, 1024), (132, 1125, 1000, 256), (133, 1126, 1001, 256), (140, 1127, 1000, 576), (142, 1128, 1000, 256), (143, 1129, 1000, 3), (145, 1130, 1000, 6), (146, 1131, 1000, 6), (147, 1132, 1000, 240), (153, 1133, 1000, 576), (155, 1134, 1000, 256), (156, 1135, 1000, 3), (158, 1136, 1000, 6), (159, 1137, 1000, 6), (160, 1138, 1000, 240), (163, 1139, 1000, 2000), (165, 1140, 1000, 2000), (168, 1141, 1000, 2000), (175, 1142, 1001, 3), (180, 1143, 1000, 512), (182, 1144, 1000, 1300), (185, 1145, 1000, 1600), (187, 1146, 1000, 2000), (192, 1147, 1000, 5), (193, 1148, 1000, 5), (194, 1149, 1000, 5), (195, 1150, 1000, 5), (196, 1151, 1000, 5), (197, 1152, 1000, 5), (198, 1153, 1000, 30), (199, 1154, 1000, 6), (200, 1155, 1000, 6), (201, 1156, 1000, 514), (202, 1157, 1000, 514), (204, 1158, 1000, 513), (205, 1159, 1000, 513), (207, 1160, 1000, 513), (208, 1161, 1000, 513), (212, 1162, 1000, 514), (213, 1163, 1000, 514), (214, 1164, 1000, 288), (215, 1165, 1000, 288), (216, 1166, 1000, 288), (217, 1167, 1000, 32), (218, 1168, 1000, 32), (219, 1169, 1000, 32), (220, 1170, 1000, 19), (221, 1171, 1000, 19), (222, 1172, 1000, 19), (224, 1173, 1000, 330), (225, 1174, 1000, 330), (229, 1175, 1000, 600), (230, 1176, 1000, 600), (232, 1177, 1000, 330), (238, 1178, 1000, 16), (239, 1179, 1000, 16), (240, 1180, 1003, 16), (242, 1181, 1000, 40), (243, 1182, 1000, 40), (244, 1183, 1000, 40), (245, 1184, 1003, 40), (246, 1185, 1000, 4), (247, 1186, 1000, 40), (248, 1187, 1001, 576), (252, 1188, 1000, 2000), (253, 1189, 1000, 16), (254, 1190, 1000, 16), (255, 1191, 1000, 16), (256, 1192, 1000, 32), (257, 1193, 1000, 32), (258, 1194, 1001, 32), (259, 1195, 1000, 16), (261, 1196, 1000, 2000), (266, 1197, 1000, 40), (267, 1198, 1000, 40), (268, 1199, 1000, 40), (269, 1200, 1003, 40), (270, 1201, 1000, 4), (274, 1202, 1000, 30), (275, 1203, 1000, 30), (276, 1204, 1000, 30), (277, 1205, 1000, 300), (278, 1206, 1000, 30), (279, 1207, 1000, 30), (280, 1208, 1000, 600), (281, 1209, 1000, 180), (282, 1210, 1000, 480), (283, 1211, 1000, 5000), (285, 1212, 1000, 3000), (287, 1213, 1000, 3000), (289, 1214, 1000, 3000), (297, 1215, 1000, 256), (298, 1216, 1000, 256), (299, 1217, 1000, 256), (300, 1218, 1000, 256), (301, 1219, 1000, 256), (302, 1220, 1000, 2560), (303, 1221, 1000, 256), (304, 1222, 1003, 256), (305, 1223, 1000, 256), (306, 1224, 1000, 256), (307, 1225, 1000, 256), (308, 1226, 1000, 256), (309, 1227, 1000, 4096), (311, 1228, 1001, 10), (312, 1229, 1000, 10), (313, 1230, 1000, 10), (314, 1231, 1000, 10), (315, 1232, 1000, 10), (316, 1233, 1000, 320), (317, 1234, 1001, 10240), (323, 1235, 1000, 2), (324, 1236, 1000, 2), (325, 1237, 1000, 2), (326, 1238, 1000, 2), (327, 1239, 1000, 80), (328, 1240, 1000, 80), (329, 1241, 1000, 80), (330, 1242, 1000, 80), (331, 1243, 1000, 80), (332, 1244, 1000, 80), (333, 1245, 1000, 960), (334, 1246, 1000, 40), (335, 1247, 1000, 40), (336, 1248, 1000, 40), (339, 1249, 1000, 4), (340, 1250, 1000, 1200), (343, 1251, 1000, 16), (344, 1252, 1000, 16), (345, 1253, 1003, 16), (346, 1254, 1000, 16), (347, 1255, 1000, 96), (348, 1256, 1000, 96), (349, 1257, 1000, 96), (350, 1258, 1000, 8), (351, 1259, 1000, 8), (352, 1260, 1000, 8), (353, 1261, 1000, 8), (354, 1262, 1000, 8), (357, 1263, 1001, 16), (358, 1264, 1003, 16), (359, 1265, 1003, 336), (360, 1266, 1000, 16), (361, 1267, 1000, 16), (362, 1268, 1000, 16), (366, 1269, 1000, 16), (367, 1270, 1000, 16), (368, 1271, 1000, 256)]
def z_exk : List Nat := [2, 3, 5, 6, 7, 54, 63, 64, 65, 66, 67, 68, 69, 70, 76]
end
section
/-! plain rows over AM -/
theorem z_g_t {p : Prop} {x : z_Z} (h : p) : z_g p x = x := by
  unfold z_g; cases Classical.propDecidable p with
  | isTrue _ => rfl
  | isFalse w => exact absurd h w
theorem z_if_t {p : Prop} {x y : z_Z} (h : p) : z_if p x y = x := by
  unfold z_if; cases Classical.propDecidable p with
  | isTrue _ => rfl
  | isFalse w => exact absurd h w
theorem z_if_f {p : Prop} {x y : z_Z} (h : ¬ p) : z_if p x y = y := by
  unfold z_if; cases Classical.propDecidable p with
  | isTrue w => exact absurd w h
  | isFalse _ => rfl
theorem z_if_not {p : Prop} {x y : z_Z} : z_if (¬ p) x y = z_if p y x := by
  by_cases h : p
  · rw [z_if_t h, z_if_f (fun w => w h)]
  · rw [z_if_f h, z_if_t h]
theorem z_kv_rv {h : z_M} {f : z_M → z_Z} {g : Nat → z_M → z_Z} : z_kv (z_rv h) f g = f h := rfl
theorem z_ki_ri {v : Int} {h : z_M} {f : Int → z_M → z_Z} {g : Nat → z_M → z_Z} : z_ki (z_ri v h) f g = f v h := rfl
theorem z_kj_rl {v : Int} {h : z_M} {f : Int → z_M → z_Z} {g : Nat → z_M → z_Z} : z_kj (z_rl v h) f g = f v h := rfl
theorem z_kr_rr {v : Nat} {h : z_M} {f : Nat → z_M → z_Z} {g : Nat → z_M → z_Z} : z_kr (z_rr v h) f g = f v h := rfl
theorem z_kv_ex {a : Nat} {h : z_M} {f : z_M → z_Z} {g : Nat → z_M → z_Z} : z_kv (z_ex a h) f g = g a h := rfl
theorem z_ki_ex {a : Nat} {h : z_M} {f : Int → z_M → z_Z} {g : Nat → z_M → z_Z} : z_ki (z_ex a h) f g = g a h := rfl
theorem z_kj_ex {a : Nat} {h : z_M} {f : Int → z_M → z_Z} {g : Nat → z_M → z_Z} : z_kj (z_ex a h) f g = g a h := rfl
theorem z_kr_ex {a : Nat} {h : z_M} {f : Nat → z_M → z_Z} {g : Nat → z_M → z_Z} : z_kr (z_ex a h) f g = g a h := rfl
theorem z_w_id {x : Int} (a : -2147483648 ≤ x) (b : x < 2147483648) : z_w x = x := by
  unfold z_w; rw [Int.bmod_def]; split <;> omega
theorem z_w_rng (x : Int) : -2147483648 ≤ z_w x ∧ z_w x < 2147483648 := by
  unfold z_w; rw [Int.bmod_def]; split <;> omega
theorem z_wl_id {x : Int} (a : -9223372036854775808 ≤ x) (b : x < 9223372036854775808) : z_wl x = x := by
  unfold z_wl; rw [Int.bmod_def]; split <;> omega
theorem z_i8_id {x : Int} (a : -128 ≤ x) (b : x < 128) : z_i8 x = x := by
  unfold z_i8; rw [Int.bmod_def]; split <;> omega
theorem z_i16_id {x : Int} (a : -32768 ≤ x) (b : x < 32768) : z_i16 x = x := by
  unfold z_i16; rw [Int.bmod_def]; split <;> omega
/-! memory -/
theorem hI_sI {h : z_M} {a i b j : Nat} {v : Int} : hI (sI h a i v) b j = if b = a ∧ j = i then v else hI h b j := rfl
theorem hI_sL {h : z_M} {a i b j : Nat} {v : Int} : hI (sL h a i v) b j = hI h b j := rfl
theorem hI_sP {h : z_M} {a i b j : Nat} {v : Nat} : hI (sP h a i v) b j = hI h b j := rfl
theorem hI_sN {h : z_M} {k n b j : Nat} : hI (sN h k n) b j = if b = hZ h + 1 then 0 else hI h b j := rfl
theorem hI_sG {h : z_M} {g b j : Nat} : hI (sG h g) b j = hI h b j := rfl
theorem hI_sW {h : z_M} {b j : Nat} : hI (sW h) b j = hI h b j := rfl
theorem hL_sI {h : z_M} {a i b j : Nat} {v : Int} : hL (sI h a i v) b j = hL h b j := rfl
theorem hL_sL {h : z_M} {a i b j : Nat} {v : Int} : hL (sL h a i v) b j = if b = a ∧ j = i then v else hL h b j := rfl
theorem hL_sP {h : z_M} {a i b j : Nat} {v : Nat} : hL (sP h a i v) b j = hL h b j := rfl
theorem hL_sN {h : z_M} {k n b j : Nat} : hL (sN h k n) b j = if b = hZ h + 1 then 0 else hL h b j := rfl
theorem hL_sG {h : z_M} {g b j : Nat} : hL (sG h g) b j = hL h b j := rfl
theorem hL_sW {h : z_M} {b j : Nat} : hL (sW h) b j = hL h b j := rfl
theorem hP_sI {h : z_M} {a i b j : Nat} {v : Int} : hP (sI h a i v) b j = hP h b j := rfl
theorem hP_sL {h : z_M} {a i b j : Nat} {v : Int} : hP (sL h a i v) b j = hP h b j := rfl
theorem hP_sP {h : z_M} {a i b j : Nat} {v : Nat} : hP (sP h a i v) b j = if b = a ∧ j = i then v else hP h b j := rfl
theorem hP_sN {h : z_M} {k n b j : Nat} : hP (sN h k n) b j = if b = hZ h + 1 then 0 else hP h b j := rfl
theorem hP_sG {h : z_M} {g b j : Nat} : hP (sG h g) b j = hP h b j := rfl
theorem hP_sW {h : z_M} {b j : Nat} : hP (sW h) b j = hP h b j := rfl
theorem hK_sI {h : z_M} {a i b : Nat} {v : Int} : hK (sI h a i v) b = hK h b := rfl
theorem hK_sL {h : z_M} {a i b : Nat} {v : Int} : hK (sL h a i v) b = hK h b := rfl
theorem hK_sP {h : z_M} {a i b : Nat} {v : Nat} : hK (sP h a i v) b = hK h b := rfl
theorem hK_sN {h : z_M} {k n b : Nat} : hK (sN h k n) b = if b = hZ h + 1 then k else hK h b := by
  show (if b = hZ h + 1 then (k, n) else h.1 b).1 = _
  split <;> rfl
theorem hK_sG {h : z_M} {g b : Nat} : hK (sG h g) b = hK h b := rfl
theorem hK_sW {h : z_M} {b : Nat} : hK (sW h) b = hK h b := rfl
theorem hN_sI {h : z_M} {a i b : Nat} {v : Int} : hN (sI h a i v) b = hN h b := rfl
theorem hN_sL {h : z_M} {a i b : Nat} {v : Int} : hN (sL h a i v) b = hN h b := rfl
theorem hN_sP {h : z_M} {a i b : Nat} {v : Nat} : hN (sP h a i v) b = hN h b := rfl
theorem hN_sN {h : z_M} {k n b : Nat} : hN (sN h k n) b = if b = hZ h + 1 then n else hN h b := by
  show (if b = hZ h + 1 then (k, n) else h.1 b).2 = _
  split <;> rfl
theorem hN_sG {h : z_M} {g b : Nat} : hN (sG h g) b = hN h b := rfl
theorem hN_sW {h : z_M} {b : Nat} : hN (sW h) b = hN h b := rfl
theorem hZ_sI {h : z_M} {a i : Nat} {v : Int} : hZ (sI h a i v) = hZ h := rfl
theorem hZ_sL {h : z_M} {a i : Nat} {v : Int} : hZ (sL h a i v) = hZ h := rfl
theorem hZ_sP {h : z_M} {a i : Nat} {v : Nat} : hZ (sP h a i v) = hZ h := rfl
theorem hZ_sN {h : z_M} {k n : Nat} : hZ (sN h k n) = hZ h + 1 := rfl
theorem hZ_sG {h : z_M} {g : Nat} : hZ (sG h g) = hZ h := rfl
theorem hZ_sW {h : z_M} : hZ (sW h) = hZ h := rfl
theorem hS_sI {h : z_M} {a i : Nat} {v : Int} : hS (sI h a i v) = hS h := rfl
theorem hS_sL {h : z_M} {a i : Nat} {v : Int} : hS (sL h a i v) = hS h := rfl
theorem hS_sP {h : z_M} {a i : Nat} {v : Nat} : hS (sP h a i v) = hS h := rfl
theorem hS_sN {h : z_M} {k n : Nat} : hS (sN h k n) = hS h + n := rfl
theorem hS_sG {h : z_M} {g : Nat} : hS (sG h g) = hS h := rfl
theorem hS_sW {h : z_M} : hS (sW h) = hS h := rfl
theorem hX_sI {h : z_M} {a i : Nat} {v : Int} : hX (sI h a i v) = hX h := rfl
theorem hX_sL {h : z_M} {a i : Nat} {v : Int} : hX (sL h a i v) = hX h := rfl
theorem hX_sP {h : z_M} {a i : Nat} {v : Nat} : hX (sP h a i v) = hX h := rfl
theorem hX_sN {h : z_M} {k n : Nat} : hX (sN h k n) = hX h := rfl
theorem hX_sG {h : z_M} {g : Nat} : hX (sG h g) = hX h := rfl
theorem hX_sW {h : z_M} : hX (sW h) = hX h := rfl
theorem hG_sI {h : z_M} {a i : Nat} {v : Int} : hG (sI h a i v) = hG h := rfl
theorem hG_sL {h : z_M} {a i : Nat} {v : Int} : hG (sL h a i v) = hG h := rfl
theorem hG_sP {h : z_M} {a i : Nat} {v : Nat} : hG (sP h a i v) = hG h := rfl
theorem hG_sN {h : z_M} {k n : Nat} : hG (sN h k n) = hG h := rfl
theorem hG_sG {h : z_M} {g : Nat} : hG (sG h g) = g := rfl
theorem hG_sW {h : z_M} : hG (sW h) = hG h := rfl
theorem hW_sI {h : z_M} {a i : Nat} {v : Int} : hW (sI h a i v) = hW h := rfl
theorem hW_sL {h : z_M} {a i : Nat} {v : Int} : hW (sL h a i v) = hW h := rfl
theorem hW_sP {h : z_M} {a i : Nat} {v : Nat} : hW (sP h a i v) = hW h := rfl
theorem hW_sN {h : z_M} {k n : Nat} : hW (sN h k n) = hW h := rfl
theorem hW_sG {h : z_M} {g : Nat} : hW (sG h g) = hW h := rfl
theorem hW_sW {h : z_M} : hW (sW h) = true := rfl
/-! answers: `z_wi x V`: x answers an int v with memory h so that V v h; z_wv nothing, z_wj a long, z_wr a reference, z_we throws -/
def z_wv (x : z_Z) (V : z_M → Prop) : Prop := ∃ h, x = z_rv h ∧ V h
def z_wi (x : z_Z) (V : Int → z_M → Prop) : Prop := ∃ v h, x = z_ri v h ∧ V v h
def z_wj (x : z_Z) (V : Int → z_M → Prop) : Prop := ∃ v h, x = z_rl v h ∧ V v h
def z_wr (x : z_Z) (V : Nat → z_M → Prop) : Prop := ∃ v h, x = z_rr v h ∧ V v h
def z_we (x : z_Z) (V : Nat → z_M → Prop) : Prop := ∃ v h, x = z_ex v h ∧ V v h
theorem z_wv_if {p : Prop} {x y : z_Z} {V : z_M → Prop} (a : p → z_wv x V) (b : ¬ p → z_wv y V) : z_wv (z_if p x y) V := by
  by_cases h : p
  · rw [z_if_t h]; exact a h
  · rw [z_if_f h]; exact b h
theorem z_wv_g {p : Prop} {x : z_Z} {V : z_M → Prop} (h : p) (a : z_wv x V) : z_wv (z_g p x) V := by
  rw [z_g_t h]; exact a
theorem z_wv_o {h : z_M} {V : z_M → Prop} (a : V h) : z_wv (z_rv h) V := ⟨h, rfl, a⟩
theorem z_wv_imp {x : z_Z} {U V : z_M → Prop} (a : z_wv x U) (b : ∀ h, U h → V h) : z_wv x V := by
  obtain ⟨h, e, u⟩ := a; exact ⟨h, e, b h u⟩
theorem z_wv_kv {x : z_Z} {f : z_M → z_Z} {g : Nat → z_M → z_Z} {U : z_M → Prop} {V : z_M → Prop} (a : z_wv x U) (b : ∀ h, U h → z_wv (f h) V) : z_wv (z_kv x f g) V := by
  obtain ⟨h, e, u⟩ := a; subst e; exact b h u
theorem z_wv_kve {x : z_Z} {f : z_M → z_Z} {g : Nat → z_M → z_Z} {U : Nat → z_M → Prop} {V : z_M → Prop} (a : z_we x U) (b : ∀ v h, U v h → z_wv (g v h) V) : z_wv (z_kv x f g) V := by
  obtain ⟨v, h, e, u⟩ := a; subst e; exact b v h u
theorem z_wv_ki {x : z_Z} {f : Int → z_M → z_Z} {g : Nat → z_M → z_Z} {U : Int → z_M → Prop} {V : z_M → Prop} (a : z_wi x U) (b : ∀ v h, U v h → z_wv (f v h) V) : z_wv (z_ki x f g) V := by
  obtain ⟨v, h, e, u⟩ := a; subst e; exact b v h u
theorem z_wv_kie {x : z_Z} {f : Int → z_M → z_Z} {g : Nat → z_M → z_Z} {U : Nat → z_M → Prop} {V : z_M → Prop} (a : z_we x U) (b : ∀ v h, U v h → z_wv (g v h) V) : z_wv (z_ki x f g) V := by
  obtain ⟨v, h, e, u⟩ := a; subst e; exact b v h u
theorem z_wv_kj {x : z_Z} {f : Int → z_M → z_Z} {g : Nat → z_M → z_Z} {U : Int → z_M → Prop} {V : z_M → Prop} (a : z_wj x U) (b : ∀ v h, U v h → z_wv (f v h) V) : z_wv (z_kj x f g) V := by
  obtain ⟨v, h, e, u⟩ := a; subst e; exact b v h u
theorem z_wv_kje {x : z_Z} {f : Int → z_M → z_Z} {g : Nat → z_M → z_Z} {U : Nat → z_M → Prop} {V : z_M → Prop} (a : z_we x U) (b : ∀ v h, U v h → z_wv (g v h) V) : z_wv (z_kj x f g) V := by
  obtain ⟨v, h, e, u⟩ := a; subst e; exact b v h u
theorem z_wv_kr {x : z_Z} {f : Nat → z_M → z_Z} {g : Nat → z_M → z_Z} {U : Nat → z_M → Prop} {V : z_M → Prop} (a : z_wr x U) (b : ∀ v h, U v h → z_wv (f v h) V) : z_wv (z_kr x f g) V := by
  obtain ⟨v, h, e, u⟩ := a; subst e; exact b v h u
theorem z_wv_kre {x : z_Z} {f : Nat → z_M → z_Z} {g : Nat → z_M → z_Z} {U : Nat → z_M → Prop} {V : z_M → Prop} (a : z_we x U) (b : ∀ v h, U v h → z_wv (g v h) V) : z_wv (z_kr x f g) V := by
  obtain ⟨v, h, e, u⟩ := a; subst e; exact b v h u
theorem z_wi_if {p : Prop} {x y : z_Z} {V : Int → z_M → Prop} (a : p → z_wi x V) (b : ¬ p → z_wi y V) : z_wi (z_if p x y) V := by
  by_cases h : p
  · rw [z_if_t h]; exact a h
  · rw [z_if_f h]; exact b h
theorem z_wi_g {p : Prop} {x : z_Z} {V : Int → z_M → Prop} (h : p) (a : z_wi x V) : z_wi (z_g p x) V := by
  rw [z_g_t h]; exact a
theorem z_wi_o {v : Int} {h : z_M} {V : Int → z_M → Prop} (a : V v h) : z_wi (z_ri v h) V := ⟨v, h, rfl, a⟩
theorem z_wi_imp {x : z_Z} {U V : Int → z_M → Prop} (a : z_wi x U) (b : ∀ v h, U v h → V v h) : z_wi x V := by
  obtain ⟨v, h, e, u⟩ := a; exact ⟨v, h, e, b v h u⟩
theorem z_wi_kv {x : z_Z} {f : z_M → z_Z} {g : Nat → z_M → z_Z} {U : z_M → Prop} {V : Int → z_M → Prop} (a : z_wv x U) (b : ∀ h, U h → z_wi (f h) V) : z_wi (z_kv x f g) V := by
  obtain ⟨h, e, u⟩ := a; subst e; exact b h u
theorem z_wi_kve {x : z_Z} {f : z_M → z_Z} {g : Nat → z_M → z_Z} {U : Nat → z_M → Prop} {V : Int → z_M → Prop} (a : z_we x U) (b : ∀ v h, U v h → z_wi (g v h) V) : z_wi (z_kv x f g) V := by
  obtain ⟨v, h, e, u⟩ := a; subst e; exact b v h u
theorem z_wi_ki {x : z_Z} {f : Int → z_M → z_Z} {g : Nat → z_M → z_Z} {U : Int → z_M → Prop} {V : Int → z_M → Prop} (a : z_wi x U) (b : ∀ v h, U v h → z_wi (f v h) V) : z_wi (z_ki x f g) V := by
  obtain ⟨v, h, e, u⟩ := a; subst e; exact b v h u
theorem z_wi_kie {x : z_Z} {f : Int → z_M → z_Z} {g : Nat → z_M → z_Z} {U : Nat → z_M → Prop} {V : Int → z_M → Prop} (a : z_we x U) (b : ∀ v h, U v h → z_wi (g v h) V) : z_wi (z_ki x f g) V := by
  obtain ⟨v, h, e, u⟩ := a; subst e; exact b v h u
theorem z_wi_kj {x : z_Z} {f : Int → z_M → z_Z} {g : Nat → z_M → z_Z} {U : Int → z_M → Prop} {V : Int → z_M → Prop} (a : z_wj x U) (b : ∀ v h, U v h → z_wi (f v h) V) : z_wi (z_kj x f g) V := by
  obtain ⟨v, h, e, u⟩ := a; subst e; exact b v h u
theorem z_wi_kje {x : z_Z} {f : Int → z_M → z_Z} {g : Nat → z_M → z_Z} {U : Nat → z_M → Prop} {V : Int → z_M → Prop} (a : z_we x U) (b : ∀ v h, U v h → z_wi (g v h) V) : z_wi (z_kj x f g) V := by
  obtain ⟨v, h, e, u⟩ := a; subst e; exact b v h u
theorem z_wi_kr {x : z_Z} {f : Nat → z_M → z_Z} {g : Nat → z_M → z_Z} {U : Nat → z_M → Prop} {V : Int → z_M → Prop} (a : z_wr x U) (b : ∀ v h, U v h → z_wi (f v h) V) : z_wi (z_kr x f g) V := by
  obtain ⟨v, h, e, u⟩ := a; subst e; exact b v h u
theorem z_wi_kre {x : z_Z} {f : Nat → z_M → z_Z} {g : Nat → z_M → z_Z} {U : Nat → z_M → Prop} {V : Int → z_M → Prop} (a : z_we x U) (b : ∀ v h, U v h → z_wi (g v h) V) : z_wi (z_kr x f g) V := by
  obtain ⟨v, h, e, u⟩ := a; subst e; exact b v h u
theorem z_wj_if {p : Prop} {x y : z_Z} {V : Int → z_M → Prop} (a : p → z_wj x V) (b : ¬ p → z_wj y V) : z_wj (z_if p x y) V := by
  by_cases h : p
  · rw [z_if_t h]; exact a h
  · rw [z_if_f h]; exact b h
theorem z_wj_g {p : Prop} {x : z_Z} {V : Int → z_M → Prop} (h : p) (a : z_wj x V) : z_wj (z_g p x) V := by
  rw [z_g_t h]; exact a
theorem z_wj_o {v : Int} {h : z_M} {V : Int → z_M → Prop} (a : V v h) : z_wj (z_rl v h) V := ⟨v, h, rfl, a⟩
theorem z_wj_imp {x : z_Z} {U V : Int → z_M → Prop} (a : z_wj x U) (b : ∀ v h, U v h → V v h) : z_wj x V := by
  obtain ⟨v, h, e, u⟩ := a; exact ⟨v, h, e, b v h u⟩
theorem z_wj_kv {x : z_Z} {f : z_M → z_Z} {g : Nat → z_M → z_Z} {U : z_M → Prop} {V : Int → z_M → Prop} (a : z_wv x U) (b : ∀ h, U h → z_wj (f h) V) : z_wj (z_kv x f g) V := by
  obtain ⟨h, e, u⟩ := a; subst e; exact b h u
theorem z_wj_kve {x : z_Z} {f : z_M → z_Z} {g : Nat → z_M → z_Z} {U : Nat → z_M → Prop} {V : Int → z_M → Prop} (a : z_we x U) (b : ∀ v h, U v h → z_wj (g v h) V) : z_wj (z_kv x f g) V := by
  obtain ⟨v, h, e, u⟩ := a; subst e; exact b v h u
theorem z_wj_ki {x : z_Z} {f : Int → z_M → z_Z} {g : Nat → z_M → z_Z} {U : Int → z_M → Prop} {V : Int → z_M → Prop} (a : z_wi x U) (b : ∀ v h, U v h → z_wj (f v h) V) : z_wj (z_ki x f g) V := by
  obtain ⟨v, h, e, u⟩ := a; subst e; exact b v h u
theorem z_wj_kie {x : z_Z} {f : Int → z_M → z_Z} {g : Nat → z_M → z_Z} {U : Nat → z_M → Prop} {V : Int → z_M → Prop} (a : z_we x U) (b : ∀ v h, U v h → z_wj (g v h) V) : z_wj (z_ki x f g) V := by
  obtain ⟨v, h, e, u⟩ := a; subst e; exact b v h u
theorem z_wj_kj {x : z_Z} {f : Int → z_M → z_Z} {g : Nat → z_M → z_Z} {U : Int → z_M → Prop} {V : Int → z_M → Prop} (a : z_wj x U) (b : ∀ v h, U v h → z_wj (f v h) V) : z_wj (z_kj x f g) V := by
  obtain ⟨v, h, e, u⟩ := a; subst e; exact b v h u
theorem z_wj_kje {x : z_Z} {f : Int → z_M → z_Z} {g : Nat → z_M → z_Z} {U : Nat → z_M → Prop} {V : Int → z_M → Prop} (a : z_we x U) (b : ∀ v h, U v h → z_wj (g v h) V) : z_wj (z_kj x f g) V := by
  obtain ⟨v, h, e, u⟩ := a; subst e; exact b v h u
theorem z_wj_kr {x : z_Z} {f : Nat → z_M → z_Z} {g : Nat → z_M → z_Z} {U : Nat → z_M → Prop} {V : Int → z_M → Prop} (a : z_wr x U) (b : ∀ v h, U v h → z_wj (f v h) V) : z_wj (z_kr x f g) V := by
  obtain ⟨v, h, e, u⟩ := a; subst e; exact b v h u
theorem z_wj_kre {x : z_Z} {f : Nat → z_M → z_Z} {g : Nat → z_M → z_Z} {U : Nat → z_M → Prop} {V : Int → z_M → Prop} (a : z_we x U) (b : ∀ v h, U v h → z_wj (g v h) V) : z_wj (z_kr x f g) V := by
  obtain ⟨v, h, e, u⟩ := a; subst e; exact b v h u
theorem z_wr_if {p : Prop} {x y : z_Z} {V : Nat → z_M → Prop} (a : p → z_wr x V) (b : ¬ p → z_wr y V) : z_wr (z_if p x y) V := by
  by_cases h : p
  · rw [z_if_t h]; exact a h
  · rw [z_if_f h]; exact b h
theorem z_wr_g {p : Prop} {x : z_Z} {V : Nat → z_M → Prop} (h : p) (a : z_wr x V) : z_wr (z_g p x) V := by
  rw [z_g_t h]; exact a
theorem z_wr_o {v : Nat} {h : z_M} {V : Nat → z_M → Prop} (a : V v h) : z_wr (z_rr v h) V := ⟨v, h, rfl, a⟩
theorem z_wr_imp {x : z_Z} {U V : Nat → z_M → Prop} (a : z_wr x U) (b : ∀ v h, U v h → V v h) : z_wr x V := by
  obtain ⟨v, h, e, u⟩ := a; exact ⟨v, h, e, b v h u⟩
theorem z_wr_kv {x : z_Z} {f : z_M → z_Z} {g : Nat → z_M → z_Z} {U : z_M → Prop} {V : Nat → z_M → Prop} (a : z_wv x U) (b : ∀ h, U h → z_wr (f h) V) : z_wr (z_kv x f g) V := by
  obtain ⟨h, e, u⟩ := a; subst e; exact b h u
theorem z_wr_kve {x : z_Z} {f : z_M → z_Z} {g : Nat → z_M → z_Z} {U : Nat → z_M → Prop} {V : Nat → z_M → Prop} (a : z_we x U) (b : ∀ v h, U v h → z_wr (g v h) V) : z_wr (z_kv x f g) V := by
  obtain ⟨v, h, e, u⟩ := a; subst e; exact b v h u
theorem z_wr_ki {x : z_Z} {f : Int → z_M → z_Z} {g : Nat → z_M → z_Z} {U : Int → z_M → Prop} {V : Nat → z_M → Prop} (a : z_wi x U) (b : ∀ v h, U v h → z_wr (f v h) V) : z_wr (z_ki x f g) V := by
  obtain ⟨v, h, e, u⟩ := a; subst e; exact b v h u
theorem z_wr_kie {x : z_Z} {f : Int → z_M → z_Z} {g : Nat → z_M → z_Z} {U : Nat → z_M → Prop} {V : Nat → z_M → Prop} (a : z_we x U) (b : ∀ v h, U v h → z_wr (g v h) V) : z_wr (z_ki x f g) V := by
  obtain ⟨v, h, e, u⟩ := a; subst e; exact b v h u
theorem z_wr_kj {x : z_Z} {f : Int → z_M → z_Z} {g : Nat → z_M → z_Z} {U : Int → z_M → Prop} {V : Nat → z_M → Prop} (a : z_wj x U) (b : ∀ v h, U v h → z_wr (f v h) V) : z_wr (z_kj x f g) V := by
  obtain ⟨v, h, e, u⟩ := a; subst e; exact b v h u
theorem z_wr_kje {x : z_Z} {f : Int → z_M → z_Z} {g : Nat → z_M → z_Z} {U : Nat → z_M → Prop} {V : Nat → z_M → Prop} (a : z_we x U) (b : ∀ v h, U v h → z_wr (g v h) V) : z_wr (z_kj x f g) V := by
  obtain ⟨v, h, e, u⟩ := a; subst e; exact b v h u
theorem z_wr_kr {x : z_Z} {f : Nat → z_M → z_Z} {g : Nat → z_M → z_Z} {U : Nat → z_M → Prop} {V : Nat → z_M → Prop} (a : z_wr x U) (b : ∀ v h, U v h → z_wr (f v h) V) : z_wr (z_kr x f g) V := by
  obtain ⟨v, h, e, u⟩ := a; subst e; exact b v h u
theorem z_wr_kre {x : z_Z} {f : Nat → z_M → z_Z} {g : Nat → z_M → z_Z} {U : Nat → z_M → Prop} {V : Nat → z_M → Prop} (a : z_we x U) (b : ∀ v h, U v h → z_wr (g v h) V) : z_wr (z_kr x f g) V := by
  obtain ⟨v, h, e, u⟩ := a; subst e; exact b v h u
theorem z_we_if {p : Prop} {x y : z_Z} {V : Nat → z_M → Prop} (a : p → z_we x V) (b : ¬ p → z_we y V) : z_we (z_if p x y) V := by
  by_cases h : p
  · rw [z_if_t h]; exact a h
  · rw [z_if_f h]; exact b h
theorem z_we_g {p : Prop} {x : z_Z} {V : Nat → z_M → Prop} (h : p) (a : z_we x V) : z_we (z_g p x) V := by
  rw [z_g_t h]; exact a
theorem z_we_o {v : Nat} {h : z_M} {V : Nat → z_M → Prop} (a : V v h) : z_we (z_ex v h) V := ⟨v, h, rfl, a⟩
theorem z_we_imp {x : z_Z} {U V : Nat → z_M → Prop} (a : z_we x U) (b : ∀ v h, U v h → V v h) : z_we x V := by
  obtain ⟨v, h, e, u⟩ := a; exact ⟨v, h, e, b v h u⟩
theorem z_we_kv {x : z_Z} {f : z_M → z_Z} {g : Nat → z_M → z_Z} {U : z_M → Prop} {V : Nat → z_M → Prop} (a : z_wv x U) (b : ∀ h, U h → z_we (f h) V) : z_we (z_kv x f g) V := by
  obtain ⟨h, e, u⟩ := a; subst e; exact b h u
theorem z_we_kve {x : z_Z} {f : z_M → z_Z} {g : Nat → z_M → z_Z} {U : Nat → z_M → Prop} {V : Nat → z_M → Prop} (a : z_we x U) (b : ∀ v h, U v h → z_we (g v h) V) : z_we (z_kv x f g) V := by
  obtain ⟨v, h, e, u⟩ := a; subst e; exact b v h u
theorem z_we_ki {x : z_Z} {f : Int → z_M → z_Z} {g : Nat → z_M → z_Z} {U : Int → z_M → Prop} {V : Nat → z_M → Prop} (a : z_wi x U) (b : ∀ v h, U v h → z_we (f v h) V) : z_we (z_ki x f g) V := by
  obtain ⟨v, h, e, u⟩ := a; subst e; exact b v h u
theorem z_we_kie {x : z_Z} {f : Int → z_M → z_Z} {g : Nat → z_M → z_Z} {U : Nat → z_M → Prop} {V : Nat → z_M → Prop} (a : z_we x U) (b : ∀ v h, U v h → z_we (g v h) V) : z_we (z_ki x f g) V := by
  obtain ⟨v, h, e, u⟩ := a; subst e; exact b v h u
theorem z_we_kj {x : z_Z} {f : Int → z_M → z_Z} {g : Nat → z_M → z_Z} {U : Int → z_M → Prop} {V : Nat → z_M → Prop} (a : z_wj x U) (b : ∀ v h, U v h → z_we (f v h) V) : z_we (z_kj x f g) V := by
  obtain ⟨v, h, e, u⟩ := a; subst e; exact b v h u
theorem z_we_kje {x : z_Z} {f : Int → z_M → z_Z} {g : Nat → z_M → z_Z} {U : Nat → z_M → Prop} {V : Nat → z_M → Prop} (a : z_we x U) (b : ∀ v h, U v h → z_we (g v h) V) : z_we (z_kj x f g) V := by
  obtain ⟨v, h, e, u⟩ := a; subst e; exact b v h u
theorem z_we_kr {x : z_Z} {f : Nat → z_M → z_Z} {g : Nat → z_M → z_Z} {U : Nat → z_M → Prop} {V : Nat → z_M → Prop} (a : z_wr x U) (b : ∀ v h, U v h → z_we (f v h) V) : z_we (z_kr x f g) V := by
  obtain ⟨v, h, e, u⟩ := a; subst e; exact b v h u
theorem z_we_kre {x : z_Z} {f : Nat → z_M → z_Z} {g : Nat → z_M → z_Z} {U : Nat → z_M → Prop} {V : Nat → z_M → Prop} (a : z_we x U) (b : ∀ v h, U v h → z_we (g v h) V) : z_we (z_kr x f g) V := by
  obtain ⟨v, h, e, u⟩ := a; subst e; exact b v h u
theorem z_if_q {p : Prop} {x y r : z_Z} (a : p → x = r) (b : ¬ p → y = r) : z_if p x y = r := by
  by_cases h : p
  · rw [z_if_t h]; exact a h
  · rw [z_if_f h]; exact b h
theorem z_g_q {p : Prop} {x r : z_Z} (h : p) (a : x = r) : z_g p x = r := (z_g_t h).trans a
end
section
/-! one cell is the same in two memories -/
def z_sme (a : Nat) (h h' : z_M) : Prop := h'.1 a = h.1 a ∧ h'.2.1 a = h.2.1 a ∧ h'.2.2.1 a = h.2.2.1 a ∧ h'.2.2.2.1 a = h.2.2.2.1 a
theorem sm_rfl (a : Nat) (h : z_M) : z_sme a h h := ⟨rfl, rfl, rfl, rfl⟩
theorem sm_tr {a : Nat} {h h1 h2 : z_M} (p : z_sme a h h1) (q : z_sme a h1 h2) : z_sme a h h2 := ⟨q.1.trans p.1, q.2.1.trans p.2.1, q.2.2.1.trans p.2.2.1, q.2.2.2.trans p.2.2.2⟩
theorem sm_sI {a b i : Nat} {v : Int} {h : z_M} (q : a ≠ b) : z_sme a h (sI h b i v) := ⟨rfl, funext fun j => if_neg fun w => q w.1, rfl, rfl⟩
theorem sm_sL {a b i : Nat} {v : Int} {h : z_M} (q : a ≠ b) : z_sme a h (sL h b i v) := ⟨rfl, rfl, funext fun j => if_neg fun w => q w.1, rfl⟩
theorem sm_sP {a b i : Nat} {v : Nat} {h : z_M} (q : a ≠ b) : z_sme a h (sP h b i v) := ⟨rfl, rfl, rfl, funext fun j => if_neg fun w => q w.1⟩
theorem sm_sN {a k n : Nat} {h : z_M} (q : a ≠ hZ h + 1) : z_sme a h (sN h k n) := ⟨if_neg q, funext fun j => if_neg q, funext fun j => if_neg q, funext fun j => if_neg q⟩
theorem sm_cpy {a s sp t dp n : Nat} {h : z_M} (q : a ≠ t) : z_sme a h (z_cpy h s sp t dp n) := ⟨rfl, funext fun j => if_neg fun w => q w.1, funext fun j => if_neg fun w => q w.1, funext fun j => if_neg fun w => q w.1⟩
theorem sm_cln {a c e n : Nat} {h : z_M} (q : a ≠ hZ h + 1) : z_sme a h (z_cln h c e n) := ⟨if_neg q, funext fun j => if_neg q, funext fun j => if_neg q, funext fun j => if_neg q⟩
theorem sm_K {a : Nat} {h h' : z_M} (q : z_sme a h h') : hK h' a = hK h a := congrArg Prod.fst q.1
theorem sm_N {a : Nat} {h h' : z_M} (q : z_sme a h h') : hN h' a = hN h a := congrArg Prod.snd q.1
theorem sm_I {a : Nat} {h h' : z_M} (q : z_sme a h h') (i : Nat) : hI h' a i = hI h a i := congrFun q.2.1 i
theorem sm_L {a : Nat} {h h' : z_M} (q : z_sme a h h') (i : Nat) : hL h' a i = hL h a i := congrFun q.2.2.1 i
theorem sm_P {a : Nat} {h h' : z_M} (q : z_sme a h h') (i : Nat) : hP h' a i = hP h a i := congrFun q.2.2.2 i
end
section
set_option maxRecDepth 100000
set_option linter.unusedVariables false
noncomputable def f0_0 (x0 : Int) (h : z_M) : z_Z := none
noncomputable def f0_9 (x0 : Int) (h : z_M) : z_Z := none
noncomputable def f0_10 (s0 : Int) (h : z_M) : z_Z := none
noncomputable def f1_0 (x0 x1 : Int) (h : z_M) : z_Z := none
noncomputable def f1_9 (x1 : Int) (h : z_M) : z_Z := none
noncomputable def f1_10 (s0 : Int) (h : z_M) : z_Z := none
noncomputable def f2_0 (x0 x1 : Int) (h : z_M) : z_Z := none
noncomputable def f2_9 (x1 : Int) (h : z_M) : z_Z := none
noncomputable def f2_10 (s0 : Int) (h : z_M) : z_Z := none
noncomputable def f3_0 (r0 : Nat) (h : z_M) : z_Z := none
noncomputable def f6_0 (r0 r1 : Nat) (h : z_M) : z_Z := none
noncomputable def f7_0 (r0 r1 r2 : Nat) (x3 : Int) (h : z_M) : z_Z := none
noncomputable def f7_11 (r0 r1 r2 : Nat) (x3 : Int) (h : z_M) : z_Z := none
noncomputable def f8_0 (r0 : Nat) (h : z_M) : z_Z := none
noncomputable def f8_27 (r1 : Nat) (x2 x3 : Int) (h : z_M) : z_Z := none
noncomputable def f8_42 (h : z_M) : z_Z := none
noncomputable def f9_0 (r0 : Nat) (x1 : Int) (h : z_M) : z_Z := none
noncomputable def f11_0 (r0 : Nat) (x1 : Int) (h : z_M) : z_Z := none
noncomputable def f12_0 (r0 : Nat) (h : z_M) : z_Z := none
noncomputable def f15_0 (r0 : Nat) (h : z_M) : z_Z := none
noncomputable def f15_11 (h : z_M) : z_Z := none
noncomputable def f15_12 (s0 : Int) (h : z_M) : z_Z := none
noncomputable def f18_0 (r0 : Nat) (h : z_M) : z_Z := none
noncomputable def f23_0 (r0 : Nat) (h : z_M) : z_Z := none
noncomputable def f26_0 (r0 : Nat) (h : z_M) : z_Z := none
noncomputable def f27_0 (r0 : Nat) (h : z_M) : z_Z := none
noncomputable def f28_0 (r0 : Nat) (h : z_M) : z_Z := none
noncomputable def f29_0 (r0 : Nat) (h : z_M) : z_Z := none
noncomputable def f31_0 (x0 : Int) (h : z_M) : z_Z := none
noncomputable def f32_0 (x0 : Int) (h : z_M) : z_Z := none
noncomputable def f32_13 (h : z_M) : z_Z := none
noncomputable def f32_14 (s0 : Int) (h : z_M) : z_Z := none
noncomputable def f32_15 (x0 : Int) (h : z_M) : z_Z := none
noncomputable def f32_33 (x0 x1 : Int) (h : z_M) : z_Z := none
noncomputable def f32_48 (x0 x1 : Int) (h : z_M) : z_Z := none
noncomputable def f32_61 (x0 x1 : Int) (h : z_M) : z_Z := none
noncomputable def f32_73 (x0 x1 : Int) (h : z_M) : z_Z := none
noncomputable def f33_0 (r0 : Nat) (h : z_M) : z_Z := none
noncomputable def f34_0 (x0 x1 : Int) (h : z_M) : z_Z := none
noncomputable def f57_0 (r0 : Nat) (x1 x2 x3 : Int) (r4 : Nat) (h : z_M) : z_Z := none
noncomputable def f57_12 (h : z_M) : z_Z := none
noncomputable def f57_15 (q0 : Nat) (h : z_M) : z_Z := none
noncomputable def f57_19 (q0 : Nat) (h : z_M) : z_Z := none
noncomputable def f57_23 (h : z_M) : z_Z := none
noncomputable def f58_0 (r0 : Nat) (x1 x2 : Int) (r3 : Nat) (h : z_M) : z_Z := none
noncomputable def f58_10 (h : z_M) : z_Z := none
noncomputable def f58_13 (q0 : Nat) (h : z_M) : z_Z := none
noncomputable def f58_17 (q0 : Nat) (h : z_M) : z_Z := none
noncomputable def f58_21 (h : z_M) : z_Z := none
noncomputable def f59_0 (r0 : Nat) (x1 x2 x3 : Int) (r4 : Nat) (h : z_M) : z_Z := none
noncomputable def f59_12 (h : z_M) : z_Z := none
noncomputable def f59_15 (q0 : Nat) (h : z_M) : z_Z := none
noncomputable def f59_19 (q0 : Nat) (h : z_M) : z_Z := none
noncomputable def f59_23 (h : z_M) : z_Z := none
noncomputable def f63_0 (r0 : Nat) (x1 x2 : Int) (r3 : Nat) (h : z_M) : z_Z := none
noncomputable def f63_10 (h : z_M) : z_Z := none
noncomputable def f63_13 (q0 : Nat) (h : z_M) : z_Z := none
noncomputable def f63_17 (h : z_M) : z_Z := none
noncomputable def f65_0 (r0 : Nat) (x1 x2 : Int) (h : z_M) : z_Z := none
noncomputable def f65_6 (h : z_M) : z_Z := none
noncomputable def f65_9 (q0 : Nat) (h : z_M) : z_Z := none
noncomputable def f65_12 (h : z_M) : z_Z := none
noncomputable def f67_0 (r0 : Nat) (x1 x2 : Int) (r3 : Nat) (h : z_M) : z_Z := none
noncomputable def f67_10 (h : z_M) : z_Z := none
noncomputable def f67_13 (q0 : Nat) (h : z_M) : z_Z := none
noncomputable def f67_17 (q0 : Nat) (h : z_M) : z_Z := none
noncomputable def f67_21 (h : z_M) : z_Z := none
noncomputable def f69_0 (r0 : Nat) (x1 : Int) (r2 : Nat) (h : z_M) : z_Z := none
noncomputable def f69_9 (h : z_M) : z_Z := none
noncomputable def f69_12 (q0 : Nat) (h : z_M) : z_Z := none
noncomputable def f69_15 (h : z_M) : z_Z := none
noncomputable def f70_0 (r0 : Nat) (x1 x2 : Int) (r3 : Nat) (h : z_M) : z_Z := none
noncomputable def f70_10 (h : z_M) : z_Z := none
noncomputable def f70_13 (q0 : Nat) (h : z_M) : z_Z := none
noncomputable def f70_17 (q0 : Nat) (h : z_M) : z_Z := none
noncomputable def f70_21 (q0 : Nat) (h : z_M) : z_Z := none
noncomputable def f70_25 (h : z_M) : z_Z := none
noncomputable def f72_0 (r0 : Nat) (x1 : Int) (r2 : Nat) (h : z_M) : z_Z := none
noncomputable def f72_9 (h : z_M) : z_Z := none
noncomputable def f72_12 (q0 : Nat) (h : z_M) : z_Z := none
noncomputable def f72_15 (h : z_M) : z_Z := none
noncomputable def f73_0 (r0 : Nat) (x1 x2 x3 : Int) (r4 : Nat) (h : z_M) : z_Z := none
noncomputable def f73_12 (h : z_M) : z_Z := none
noncomputable def f73_15 (q0 : Nat) (h : z_M) : z_Z := none
noncomputable def f73_19 (q0 : Nat) (h : z_M) : z_Z := none
noncomputable def f73_23 (q0 : Nat) (h : z_M) : z_Z := none
noncomputable def f73_27 (q0 : Nat) (h : z_M) : z_Z := none
noncomputable def f73_31 (h : z_M) : z_Z := none
noncomputable def f75_0 (r0 : Nat) (x1 x2 x3 x4 x5 : Int) (r6 : Nat) (h : z_M) : z_Z := none
noncomputable def f75_16 (h : z_M) : z_Z := none
noncomputable def f75_19 (q0 : Nat) (h : z_M) : z_Z := none
noncomputable def f75_23 (q0 : Nat) (h : z_M) : z_Z := none
noncomputable def f75_27 (q0 : Nat) (h : z_M) : z_Z := none
noncomputable def f75_31 (h : z_M) : z_Z := none
noncomputable def f76_0 (r0 : Nat) (x1 x2 x3 : Int) (r4 : Nat) (h : z_M) : z_Z := none
noncomputable def f76_17 (q0 : Nat) (s1 : Int) (h : z_M) : z_Z := none
noncomputable def f76_18 (q0 : Nat) (s1 t2 : Int) (h : z_M) : z_Z := none
noncomputable def f76_19 (h : z_M) : z_Z := none
noncomputable def f76_22 (q0 : Nat) (h : z_M) : z_Z := none
noncomputable def f76_26 (q0 : Nat) (h : z_M) : z_Z := none
noncomputable def f76_30 (h : z_M) : z_Z := none
noncomputable def f77_0 (r0 : Nat) (x1 x2 x3 : Int) (r4 : Nat) (h : z_M) : z_Z := none
noncomputable def f77_17 (q0 : Nat) (s1 : Int) (h : z_M) : z_Z := none
noncomputable def f77_18 (q0 : Nat) (s1 t2 : Int) (h : z_M) : z_Z := none
noncomputable def f77_19 (h : z_M) : z_Z := none
noncomputable def f77_22 (q0 : Nat) (h : z_M) : z_Z := none
noncomputable def f77_26 (q0 : Nat) (h : z_M) : z_Z := none
noncomputable def f77_30 (h : z_M) : z_Z := none
noncomputable def f78_0 (r0 : Nat) (x1 x2 x3 x4 : Int) (r5 : Nat) (h : z_M) : z_Z := none
noncomputable def f78_14 (h : z_M) : z_Z := none
noncomputable def f78_17 (q0 : Nat) (h : z_M) : z_Z := none
noncomputable def f78_21 (q0 : Nat) (h : z_M) : z_Z := none
noncomputable def f78_25 (q0 : Nat) (h : z_M) : z_Z := none
noncomputable def f78_29 (h : z_M) : z_Z := none
noncomputable def f79_0 (r0 : Nat) (x1 x2 x3 x4 x5 x6 : Int) (r7 : Nat) (h : z_M) : z_Z := none
noncomputable def f79_18 (h : z_M) : z_Z := none
noncomputable def f79_21 (q0 : Nat) (h : z_M) : z_Z := none
noncomputable def f79_25 (q0 : Nat) (h : z_M) : z_Z := none
noncomputable def f79_29 (q0 : Nat) (h : z_M) : z_Z := none
noncomputable def f79_33 (q0 : Nat) (h : z_M) : z_Z := none
noncomputable def f79_37 (h : z_M) : z_Z := none
noncomputable def f84_0 (r0 : Nat) (x1 x2 x3 : Int) (h : z_M) : z_Z := none
noncomputable def f84_7 (h : z_M) : z_Z := none
noncomputable def f84_10 (q0 : Nat) (h : z_M) : z_Z := none
noncomputable def f84_14 (q0 : Nat) (h : z_M) : z_Z := none
noncomputable def f84_18 (h : z_M) : z_Z := none
noncomputable def f86_0 (r0 : Nat) (x1 x2 x3 x4 x5 : Int) (r6 : Nat) (h : z_M) : z_Z := none
noncomputable def f86_16 (h : z_M) : z_Z := none
noncomputable def f86_19 (q0 : Nat) (h : z_M) : z_Z := none
noncomputable def f86_23 (q0 : Nat) (h : z_M) : z_Z := none
noncomputable def f86_27 (q0 : Nat) (h : z_M) : z_Z := none
noncomputable def f86_31 (h : z_M) : z_Z := none
noncomputable def f88_0 (r0 : Nat) (x1 x2 x3 : Int) (r4 : Nat) (h : z_M) : z_Z := none
noncomputable def f88_12 (h : z_M) : z_Z := none
noncomputable def f88_15 (q0 : Nat) (h : z_M) : z_Z := none
noncomputable def f88_19 (q0 : Nat) (h : z_M) : z_Z := none
noncomputable def f88_23 (q0 : Nat) (h : z_M) : z_Z := none
noncomputable def f88_27 (h : z_M) : z_Z := none
noncomputable def f89_0 (r0 : Nat) (x1 x2 x3 x4 x5 : Int) (r6 : Nat) (h : z_M) : z_Z := none
noncomputable def f89_16 (h : z_M) : z_Z := none
noncomputable def f89_19 (q0 : Nat) (h : z_M) : z_Z := none
noncomputable def f89_23 (q0 : Nat) (h : z_M) : z_Z := none
noncomputable def f89_27 (q0 : Nat) (h : z_M) : z_Z := none
noncomputable def f89_31 (h : z_M) : z_Z := none
noncomputable def f90_0 (r0 : Nat) (x1 x2 x3 : Int) (h : z_M) : z_Z := none
noncomputable def f90_7 (h : z_M) : z_Z := none
noncomputable def f90_10 (q0 : Nat) (h : z_M) : z_Z := none
noncomputable def f90_14 (q0 : Nat) (h : z_M) : z_Z := none
noncomputable def f90_18 (h : z_M) : z_Z := none
noncomputable def f92_0 (r0 : Nat) (x1 x2 x3 : Int) (r4 : Nat) (h : z_M) : z_Z := none
noncomputable def f92_12 (h : z_M) : z_Z := none
noncomputable def f92_15 (q0 : Nat) (h : z_M) : z_Z := none
noncomputable def f92_19 (q0 : Nat) (h : z_M) : z_Z := none
noncomputable def f92_23 (h : z_M) : z_Z := none
noncomputable def f93_0 (r0 : Nat) (x1 : Int) (r2 : Nat) (h : z_M) : z_Z := none
noncomputable def f93_9 (h : z_M) : z_Z := none
noncomputable def f93_12 (q0 : Nat) (h : z_M) : z_Z := none
noncomputable def f93_15 (h : z_M) : z_Z := none
noncomputable def f100_0 (r0 : Nat) (x1 x2 : Int) (r3 : Nat) (h : z_M) : z_Z := none
noncomputable def f100_10 (h : z_M) : z_Z := none
noncomputable def f100_13 (q0 : Nat) (h : z_M) : z_Z := none
noncomputable def f100_17 (q0 : Nat) (h : z_M) : z_Z := none
noncomputable def f100_21 (h : z_M) : z_Z := none
noncomputable def f110_0 (x0 : Int) (h : z_M) : z_Z := none
noncomputable def f110_12 (h : z_M) : z_Z := none
noncomputable def f112_0 (r0 : Nat) (x1 x2 x3 : Int) (h : z_M) : z_Z := none
noncomputable def f113_0 (r0 : Nat) (x1 x2 : Int) (h : z_M) : z_Z := none
noncomputable def f113_56 (r3 r4 : Nat) (h : z_M) : z_Z := none
noncomputable def f113_57 (r3 r4 : Nat) (s0 : Int) (h : z_M) : z_Z := none
noncomputable def f113_66 (r3 r4 : Nat) (x5 x6 : Int) (h : z_M) : z_Z := none
noncomputable def f113_105 (x5 : Int) (h : z_M) : z_Z := none
noncomputable def f114_0 (r0 : Nat) (x1 x2 x3 : Int) (h : z_M) : z_Z := none
noncomputable def f117_0 (r0 : Nat) (h : z_M) : z_Z := none
noncomputable def f119_0 (r0 : Nat) (x1 x2 : Int) (h : z_M) : z_Z := none
noncomputable def f122_0 (r0 : Nat) (x1 x2 : Int) (h : z_M) : z_Z := none
noncomputable def f124_0 (r0 : Nat) (x1 x2 : Int) (h : z_M) : z_Z := none
noncomputable def f124_14 (x2 : Int) (r3 : Nat) (h : z_M) : z_Z := none
noncomputable def f124_15 (x2 : Int) (r3 : Nat) (s0 : Int) (h : z_M) : z_Z := none
noncomputable def f126_0 (r0 : Nat) (x1 : Int) (h : z_M) : z_Z := none
noncomputable def f126_21 (r0 : Nat) (h : z_M) : z_Z := none
noncomputable def f126_25 (s0 : Int) (h : z_M) : z_Z := none
noncomputable def f127_0 (r0 : Nat) (x1 x2 : Int) (h : z_M) : z_Z := none
noncomputable def f127_32 (x2 : Int) (r3 : Nat) (h : z_M) : z_Z := none
noncomputable def f127_33 (x2 : Int) (r3 : Nat) (s0 : Int) (h : z_M) : z_Z := none
noncomputable def f128_0 (r0 : Nat) (x1 : Int) (h : z_M) : z_Z := none
noncomputable def f129_0 (r0 : Nat) (x1 : Int) (h : z_M) : z_Z := none
noncomputable def f131_0 (r0 : Nat) (x1 : Int) (h : z_M) : z_Z := none
noncomputable def f133_0 (r0 : Nat) (x1 x2 x3 : Int) (h : z_M) : z_Z := none
noncomputable def f134_0 (r0 r1 : Nat) (x2 : Int) (h : z_M) : z_Z := none
noncomputable def f134_15 (r0 r1 : Nat) (x2 x3 : Int) (h : z_M) : z_Z := none
noncomputable def f134_71 (h : z_M) : z_Z := none
noncomputable def f135_0 (r0 : Nat) (x1 x2 x3 : Int) (h : z_M) : z_Z := none
noncomputable def f138_0 (r0 : Nat) (x1 x2 x3 x4 x5 : Int) (h : z_M) : z_Z := none
noncomputable def f138_26 (x2 x3 x4 x5 : Int) (r6 : Nat) (h : z_M) : z_Z := none
noncomputable def f138_27 (x2 x3 x4 x5 : Int) (r6 : Nat) (s0 : Int) (h : z_M) : z_Z := none
noncomputable def f138_36 (x2 x3 x4 x5 : Int) (r6 : Nat) (x7 x8 : Int) (h : z_M) : z_Z := none
noncomputable def f138_74 (x2 x3 x4 x5 : Int) (r6 : Nat) (x8 s0 : Int) (h : z_M) : z_Z := none
noncomputable def f138_75 (x2 x3 x4 x5 : Int) (r6 : Nat) (x8 s0 s1 : Int) (h : z_M) : z_Z := none
noncomputable def f138_94 (x7 : Int) (h : z_M) : z_Z := none
noncomputable def f139_0 (r0 : Nat) (x1 x2 x3 : Int) (h : z_M) : z_Z := none
noncomputable def f141_0 (r0 : Nat) (x1 x2 x3 : Int) (h : z_M) : z_Z := none
noncomputable def f142_0 (r0 : Nat) (x1 x2 x3 x4 : Int) (h : z_M) : z_Z := none
noncomputable def f142_40 (x2 x3 : Int) (r5 r6 : Nat) (h : z_M) : z_Z := none
noncomputable def f142_41 (x2 x3 : Int) (r5 r6 : Nat) (s0 : Int) (h : z_M) : z_Z := none
noncomputable def f142_75 (x2 : Int) (r5 r6 : Nat) (x7 : Int) (h : z_M) : z_Z := none
noncomputable def f142_76 (x2 : Int) (r5 r6 : Nat) (x7 s0 : Int) (h : z_M) : z_Z := none
noncomputable def f143_0 (r0 r1 : Nat) (h : z_M) : z_Z := none
noncomputable def f143_12 (r0 r1 : Nat) (h : z_M) : z_Z := none
noncomputable def f144_0 (r0 : Nat) (x1 : Int) (h : z_M) : z_Z := none
noncomputable def f147_0 (r0 r1 : Nat) (x2 : Int) (h : z_M) : z_Z := none
noncomputable def f147_48 (r0 : Nat) (x3 x4 : Int) (h : z_M) : z_Z := none
noncomputable def f147_73 (h : z_M) : z_Z := none
noncomputable def f148_0 (r0 : Nat) (x1 x2 x3 x4 x5 : Int) (h : z_M) : z_Z := none
noncomputable def f148_38 (r0 : Nat) (x1 x2 x4 x5 : Int) (r6 r7 : Nat) (x8 : Int) (h : z_M) : z_Z := none
noncomputable def f148_47 (r0 : Nat) (x1 x2 x4 x5 : Int) (r6 r7 : Nat) (x8 x9 : Int) (h : z_M) : z_Z := none
noncomputable def f148_121 (r0 : Nat) (x1 x2 x4 x5 : Int) (r6 r7 : Nat) (x8 : Int) (h : z_M) : z_Z := none
noncomputable def f148_127 (r0 : Nat) (x4 x5 : Int) (r7 : Nat) (h : z_M) : z_Z := none
noncomputable def f148_152 (r0 r7 : Nat) (x8 x9 : Int) (h : z_M) : z_Z := none
noncomputable def f148_176 (h : z_M) : z_Z := none
noncomputable def f151_0 (r0 : Nat) (x1 x2 x3 x4 x5 x6 : Int) (h : z_M) : z_Z := none
noncomputable def f151_39 (r0 : Nat) (x1 x2 x3 x4 x5 : Int) (r7 r8 : Nat) (h : z_M) : z_Z := none
noncomputable def f151_40 (r0 : Nat) (x1 x2 x3 x4 x5 : Int) (r7 r8 : Nat) (s0 : Int) (h : z_M) : z_Z := none
noncomputable def f151_46 (r0 : Nat) (x1 x2 x3 x4 x5 : Int) (r7 r8 : Nat) (x9 : Int) (h : z_M) : z_Z := none
noncomputable def f151_88 (r0 : Nat) (x1 x2 x3 x4 x5 : Int) (r7 r8 : Nat) (x9 : Int) (h : z_M) : z_Z := none
noncomputable def f151_89 (r0 : Nat) (x1 x2 x3 x4 x5 : Int) (r7 r8 : Nat) (x9 s0 : Int) (h : z_M) : z_Z := none
noncomputable def f151_98 (r0 : Nat) (x1 x2 x3 x4 x5 : Int) (r8 : Nat) (h : z_M) : z_Z := none
noncomputable def f151_140 (r0 : Nat) (x1 x2 x3 x4 x5 : Int) (r8 : Nat) (h : z_M) : z_Z := none
noncomputable def f151_141 (r0 : Nat) (x1 x2 x3 x4 x5 : Int) (r8 : Nat) (s0 : Int) (h : z_M) : z_Z := none
noncomputable def f157_0 (r0 : Nat) (x1 x2 x3 : Int) (h : z_M) : z_Z := none
noncomputable def f157_35 (x2 x3 : Int) (r4 : Nat) (h : z_M) : z_Z := none
noncomputable def f157_36 (x2 x3 : Int) (r4 : Nat) (s0 : Int) (h : z_M) : z_Z := none
noncomputable def f158_0 (r0 : Nat) (x1 : Int) (h : z_M) : z_Z := none
noncomputable def f161_0 (r0 : Nat) (x1 x2 x3 x4 x5 : Int) (h : z_M) : z_Z := none
noncomputable def f161_39 (x2 x3 x4 x5 : Int) (r6 : Nat) (h : z_M) : z_Z := none
noncomputable def f161_40 (x2 x3 x4 x5 : Int) (r6 : Nat) (s0 : Int) (h : z_M) : z_Z := none
noncomputable def f161_49 (x2 x3 x4 x5 : Int) (r6 : Nat) (x7 x8 : Int) (h : z_M) : z_Z := none
noncomputable def f161_87 (x2 x3 x4 x5 : Int) (r6 : Nat) (x8 s0 : Int) (h : z_M) : z_Z := none
noncomputable def f161_88 (x2 x3 x4 x5 : Int) (r6 : Nat) (x8 s0 s1 : Int) (h : z_M) : z_Z := none
noncomputable def f161_112 (x7 : Int) (h : z_M) : z_Z := none
noncomputable def f164_0 (r0 : Nat) (x1 x2 x3 : Int) (h : z_M) : z_Z := none
noncomputable def f164_82 (x2 : Int) (r4 r5 : Nat) (h : z_M) : z_Z := none
noncomputable def f164_83 (x2 : Int) (r4 r5 : Nat) (s0 : Int) (h : z_M) : z_Z := none
noncomputable def f164_112 (x2 : Int) (r4 r5 : Nat) (x6 x7 : Int) (h : z_M) : z_Z := none
noncomputable def f164_202 (x6 : Int) (h : z_M) : z_Z := none
noncomputable def f165_0 (r0 : Nat) (x1 x2 x3 x4 x5 : Int) (h : z_M) : z_Z := none
noncomputable def f165_26 (x2 x3 x4 x5 : Int) (r6 : Nat) (h : z_M) : z_Z := none
noncomputable def f165_27 (x2 x3 x4 x5 : Int) (r6 : Nat) (s0 : Int) (h : z_M) : z_Z := none
noncomputable def f165_36 (x2 x3 x4 x5 : Int) (r6 : Nat) (x7 x8 : Int) (h : z_M) : z_Z := none
noncomputable def f165_74 (x2 x3 x4 x5 : Int) (r6 : Nat) (x8 s0 : Int) (h : z_M) : z_Z := none
noncomputable def f165_75 (x2 x3 x4 x5 : Int) (r6 : Nat) (x8 s0 s1 : Int) (h : z_M) : z_Z := none
noncomputable def f165_99 (x7 : Int) (h : z_M) : z_Z := none
noncomputable def f166_0 (r0 : Nat) (x1 x2 x3 : Int) (h : z_M) : z_Z := none
noncomputable def f166_35 (x2 x3 : Int) (r4 : Nat) (h : z_M) : z_Z := none
noncomputable def f166_36 (x2 x3 : Int) (r4 : Nat) (s0 : Int) (h : z_M) : z_Z := none
noncomputable def f167_0 (r0 : Nat) (x1 : Int) (h : z_M) : z_Z := none
noncomputable def f168_0 (r0 : Nat) (x1 : Int) (h : z_M) : z_Z := none
noncomputable def f171_0 (r0 : Nat) (x1 x2 x3 : Int) (h : z_M) : z_Z := none
noncomputable def f171_25 (r0 : Nat) (x1 x2 x3 t0 t1 : Int) (h : z_M) : z_Z := none
noncomputable def f171_36 (r0 : Nat) (x1 x2 x3 t0 t1 : Int) (h : z_M) : z_Z := none
noncomputable def f171_39 (r0 : Nat) (x1 x2 x3 t0 t1 t2 : Int) (h : z_M) : z_Z := none
noncomputable def f171_57 (r0 : Nat) (x1 x2 x3 t0 t1 : Int) (h : z_M) : z_Z := none
noncomputable def f171_60 (r0 : Nat) (x1 x2 x3 t0 t1 t2 : Int) (h : z_M) : z_Z := none
noncomputable def f171_84 (r0 : Nat) (x1 x2 x3 : Int) (h : z_M) : z_Z := none
noncomputable def f171_103 (r0 : Nat) (x2 : Int) (h : z_M) : z_Z := none
noncomputable def f171_112 (s0 : Int) (h : z_M) : z_Z := none
noncomputable def f172_0 (r0 r1 : Nat) (x2 : Int) (h : z_M) : z_Z := none
noncomputable def f172_16 (h : z_M) : z_Z := none
noncomputable def f172_20 (r1 : Nat) (x2 : Int) (h : z_M) : z_Z := none
noncomputable def f172_31 (r1 : Nat) (x2 : Int) (h : z_M) : z_Z := none
noncomputable def f172_43 (r1 : Nat) (h : z_M) : z_Z := none
noncomputable def f172_47 (s0 : Int) (h : z_M) : z_Z := none
noncomputable def f173_0 (r0 r1 : Nat) (x2 : Int) (h : z_M) : z_Z := none
noncomputable def f173_16 (h : z_M) : z_Z := none
noncomputable def f173_20 (r1 : Nat) (x2 : Int) (h : z_M) : z_Z := none
noncomputable def f173_31 (r1 : Nat) (x2 : Int) (h : z_M) : z_Z := none
noncomputable def f173_43 (r1 : Nat) (h : z_M) : z_Z := none
noncomputable def f173_47 (s0 : Int) (h : z_M) : z_Z := none
noncomputable def f175_0 (r0 : Nat) (x1 : Int) (h : z_M) : z_Z := none
noncomputable def f181_0 (r0 : Nat) (x1 : Int) (h : z_M) : z_Z := none
noncomputable def f187_0 (r0 : Nat) (x1 x2 : Int) (h : z_M) : z_Z := none
noncomputable def f187_83 (r0 : Nat) (h : z_M) : z_Z := none
noncomputable def f187_90 (r0 r3 r4 : Nat) (h : z_M) : z_Z := none
noncomputable def f187_116 (r0 r3 r4 : Nat) (x5 x6 : Int) (h : z_M) : z_Z := none
noncomputable def f187_145 (r0 r3 r4 : Nat) (x5 : Int) (h : z_M) : z_Z := none
noncomputable def f187_170 (r0 r3 r4 : Nat) (x5 x6 : Int) (h : z_M) : z_Z := none
noncomputable def f187_189 (r0 r4 : Nat) (x5 x6 x7 : Int) (h : z_M) : z_Z := none
noncomputable def f187_270 (r0 : Nat) (x6 : Int) (h : z_M) : z_Z := none
noncomputable def f194_0 (x0 : Int) (h : z_M) : z_Z := none
noncomputable def f194_12 (h : z_M) : z_Z := none
noncomputable def f195_0 (x0 : Int) (h : z_M) : z_Z := none
noncomputable def f195_12 (h : z_M) : z_Z := none
noncomputable def f196_0 (x0 : Int) (h : z_M) : z_Z := none
noncomputable def f196_12 (h : z_M) : z_Z := none
noncomputable def f197_0 (r0 : Nat) (h : z_M) : z_Z := none
noncomputable def f198_0 (r0 : Nat) (x1 : Int) (h : z_M) : z_Z := none
noncomputable def f198_16 (r0 : Nat) (x1 : Int) (h : z_M) : z_Z := none
noncomputable def f198_17 (r0 : Nat) (x1 s0 : Int) (h : z_M) : z_Z := none
noncomputable def f201_0 (y0 y2 y4 : Int) (h : z_M) : z_Z := none
noncomputable def f201_17 (h : z_M) : z_Z := none
noncomputable def f201_18 (s0 : Int) (h : z_M) : z_Z := none
noncomputable def f203_0 (r0 : Nat) (x1 x2 : Int) (h : z_M) : z_Z := none
noncomputable def f204_0 (r0 : Nat) (x1 x2 : Int) (h : z_M) : z_Z := none
noncomputable def f205_0 (r0 : Nat) (x1 x2 x3 : Int) (h : z_M) : z_Z := none
noncomputable def f205_13 (r0 : Nat) (x3 x4 : Int) (h : z_M) : z_Z := none
noncomputable def f205_43 (h : z_M) : z_Z := none
noncomputable def f206_0 (r0 : Nat) (x1 x2 x3 : Int) (h : z_M) : z_Z := none
noncomputable def f206_33 (h : z_M) : z_Z := none
noncomputable def f206_34 (s0 : Int) (h : z_M) : z_Z := none
noncomputable def f207_0 (r0 : Nat) (x1 x2 : Int) (h : z_M) : z_Z := none
noncomputable def f207_36 (h : z_M) : z_Z := none
noncomputable def f207_37 (s0 : Int) (h : z_M) : z_Z := none
noncomputable def f209_0 (r0 : Nat) (h : z_M) : z_Z := none
noncomputable def f209_4 (r0 : Nat) (x1 x2 : Int) (h : z_M) : z_Z := none
noncomputable def f209_41 (r0 : Nat) (x2 s0 : Int) (h : z_M) : z_Z := none
noncomputable def f209_42 (r0 : Nat) (x2 s0 s1 : Int) (h : z_M) : z_Z := none
noncomputable def f209_50 (x1 : Int) (h : z_M) : z_Z := none
noncomputable def f210_0 (r0 : Nat) (x1 x2 : Int) (h : z_M) : z_Z := none
noncomputable def f211_0 (r0 r1 : Nat) (h : z_M) : z_Z := none
noncomputable def f211_26 (h : z_M) : z_Z := none
noncomputable def f211_27 (s0 : Int) (h : z_M) : z_Z := none
noncomputable def f212_0 (r0 : Nat) (h : z_M) : z_Z := none
noncomputable def f212_11 (h : z_M) : z_Z := none
noncomputable def f212_12 (s0 : Int) (h : z_M) : z_Z := none
noncomputable def f214_0 (r0 : Nat) (x1 x2 x3 x4 : Int) (h : z_M) : z_Z := none
noncomputable def f246_0 (r0 : Nat) (h : z_M) : z_Z := none
noncomputable def f246_31 (r0 : Nat) (h : z_M) : z_Z := none
noncomputable def f294_0 (r0 : Nat) (x1 : Int) (h : z_M) : z_Z := none
noncomputable def f295_0 (r0 : Nat) (h : z_M) : z_Z := none
noncomputable def f295_24 (r0 : Nat) (x1 : Int) (h : z_M) : z_Z := none
noncomputable def f295_58 (r0 : Nat) (h : z_M) : z_Z := none
noncomputable def f297_0 (r0 : Nat) (h : z_M) : z_Z := none
noncomputable def f298_0 (r0 : Nat) (h : z_M) : z_Z := none
noncomputable def f299_0 (r0 : Nat) (x1 : Int) (h : z_M) : z_Z := none
noncomputable def f299_25 (r0 : Nat) (x1 : Int) (h : z_M) : z_Z := none
noncomputable def f299_26 (r0 : Nat) (x1 s0 : Int) (h : z_M) : z_Z := none
noncomputable def f300_0 (r0 : Nat) (h : z_M) : z_Z := none
noncomputable def f300_2 (r0 : Nat) (x1 : Int) (h : z_M) : z_Z := none
noncomputable def f300_24 (h : z_M) : z_Z := none
noncomputable def f301_0 (r0 : Nat) (x1 x2 x3 : Int) (h : z_M) : z_Z := none
noncomputable def f301_42 (r0 : Nat) (x1 x2 x3 : Int) (h : z_M) : z_Z := none
noncomputable def f301_43 (r0 : Nat) (x1 x2 x3 s0 : Int) (h : z_M) : z_Z := none
noncomputable def f302_0 (r0 : Nat) (x1 x2 : Int) (h : z_M) : z_Z := none
noncomputable def f303_0 (r0 : Nat) (x1 x2 x3 x4 x5 x6 : Int) (h : z_M) : z_Z := none
noncomputable def f303_47 (r0 : Nat) (x1 x2 x3 x4 x5 x6 : Int) (h : z_M) : z_Z := none
noncomputable def f303_48 (r0 : Nat) (x1 x2 x3 x4 x5 x6 s0 : Int) (h : z_M) : z_Z := none
noncomputable def f303_89 (r0 : Nat) (x1 x2 x3 x4 x5 x6 : Int) (h : z_M) : z_Z := none
noncomputable def f303_93 (r0 : Nat) (x1 x2 x3 x4 x5 x6 : Int) (h : z_M) : z_Z := none
noncomputable def f303_94 (r0 : Nat) (x1 x2 x3 x4 x5 x6 s0 : Int) (h : z_M) : z_Z := none
noncomputable def f303_116 (r0 : Nat) (x1 x2 x7 x8 : Int) (h : z_M) : z_Z := none
noncomputable def f303_145 (r0 : Nat) (x1 x2 x8 s0 : Int) (h : z_M) : z_Z := none
noncomputable def f303_146 (r0 : Nat) (x1 x2 x8 s0 s1 : Int) (h : z_M) : z_Z := none
noncomputable def f303_155 (x7 : Int) (h : z_M) : z_Z := none
noncomputable def f305_0 (r0 : Nat) (x1 x2 : Int) (h : z_M) : z_Z := none
noncomputable def f305_57 (h : z_M) : z_Z := none
noncomputable def f305_61 (h : z_M) : z_Z := none
noncomputable def f305_62 (s0 : Int) (h : z_M) : z_Z := none
noncomputable def f306_0 (r0 : Nat) (x1 x2 : Int) (h : z_M) : z_Z := none
noncomputable def f306_20 (h : z_M) : z_Z := none
noncomputable def f306_21 (s0 : Int) (h : z_M) : z_Z := none
noncomputable def f307_0 (r0 : Nat) (x1 x2 x3 x4 x5 x6 : Int) (h : z_M) : z_Z := none
noncomputable def f307_33 (r0 : Nat) (h : z_M) : z_Z := none
noncomputable def f309_0 (r0 : Nat) (x1 x2 : Int) (h : z_M) : z_Z := none
noncomputable def f310_0 (r0 : Nat) (x1 : Int) (h : z_M) : z_Z := none
noncomputable def f311_0 (r0 : Nat) (x1 x2 : Int) (h : z_M) : z_Z := none
noncomputable def f312_0 (r0 : Nat) (h : z_M) : z_Z := none
noncomputable def f312_2 (r0 : Nat) (x1 : Int) (h : z_M) : z_Z := none
noncomputable def f312_28 (r0 : Nat) (h : z_M) : z_Z := none
noncomputable def f313_0 (x0 : Int) (h : z_M) : z_Z := none
noncomputable def f313_12 (h : z_M) : z_Z := none
noncomputable def f314_0 (x0 : Int) (h : z_M) : z_Z := none
noncomputable def f314_12 (h : z_M) : z_Z := none
noncomputable def f315_0 (r0 : Nat) (x1 x2 : Int) (h : z_M) : z_Z := none
noncomputable def f315_32 (h : z_M) : z_Z := none
noncomputable def f315_33 (s0 : Int) (h : z_M) : z_Z := none
noncomputable def f316_0 (x0 : Int) (h : z_M) : z_Z := none
noncomputable def f316_12 (h : z_M) : z_Z := none
noncomputable def f317_0 (x0 x1 x2 : Int) (h : z_M) : z_Z := none
noncomputable def f317_14 (h : z_M) : z_Z := none
noncomputable def f317_15 (s0 : Int) (h : z_M) : z_Z := none
noncomputable def f320_0 (x0 x1 : Int) (h : z_M) : z_Z := none
noncomputable def f320_4 (x0 x1 x2 x3 : Int) (h : z_M) : z_Z := none
noncomputable def f320_39 (x2 : Int) (h : z_M) : z_Z := none
noncomputable def f321_0 (r0 : Nat) (x1 x2 x3 : Int) (h : z_M) : z_Z := none
noncomputable def f321_18 (r0 : Nat) (x4 : Int) (h : z_M) : z_Z := none
noncomputable def f321_39 (h : z_M) : z_Z := none
noncomputable def f322_0 (r0 : Nat) (x1 : Int) (h : z_M) : z_Z := none
noncomputable def f322_15 (r0 : Nat) (x1 x2 x3 : Int) (h : z_M) : z_Z := none
noncomputable def f322_24 (r0 : Nat) (x1 x2 x3 x4 : Int) (h : z_M) : z_Z := none
noncomputable def f322_50 (r0 : Nat) (x1 x2 x3 x4 : Int) (h : z_M) : z_Z := none
noncomputable def f322_81 (r0 : Nat) (x1 x2 x3 x4 : Int) (h : z_M) : z_Z := none
noncomputable def f322_87 (r0 : Nat) (x1 x2 x3 : Int) (h : z_M) : z_Z := none
noncomputable def f322_93 (h : z_M) : z_Z := none
noncomputable def f323_0 (r0 : Nat) (h : z_M) : z_Z := none
noncomputable def f324_0 (r0 : Nat) (x1 x2 x3 x4 : Int) (h : z_M) : z_Z := none
noncomputable def f324_32 (r0 : Nat) (x1 y5 : Int) (q0 : Nat) (s1 : Int) (h : z_M) : z_Z := none
noncomputable def f324_45 (q0 : Nat) (s1 t2 : Int) (h : z_M) : z_Z := none
noncomputable def f329_0 (r0 : Nat) (x1 x2 : Int) (h : z_M) : z_Z := none
noncomputable def f331_0 (r0 : Nat) (h : z_M) : z_Z := none
noncomputable def f332_0 (r0 : Nat) (h : z_M) : z_Z := none
noncomputable def f332_2 (r0 : Nat) (x1 : Int) (h : z_M) : z_Z := none
noncomputable def f332_27 (x1 : Int) (h : z_M) : z_Z := none
noncomputable def f334_0 (r0 : Nat) (x1 : Int) (h : z_M) : z_Z := none
noncomputable def f334_59 (h : z_M) : z_Z := none
noncomputable def f335_0 (r0 : Nat) (h : z_M) : z_Z := none
noncomputable def f335_2 (r0 : Nat) (x1 : Int) (h : z_M) : z_Z := none
noncomputable def f335_34 (r0 : Nat) (h : z_M) : z_Z := none
noncomputable def f335_36 (r0 : Nat) (x1 : Int) (h : z_M) : z_Z := none
noncomputable def f335_70 (h : z_M) : z_Z := none
noncomputable def f336_0 (r0 : Nat) (x1 x2 : Int) (h : z_M) : z_Z := none
noncomputable def f337_0 (r0 : Nat) (h : z_M) : z_Z := none
noncomputable def f337_21 (r0 : Nat) (x1 : Int) (h : z_M) : z_Z := none
noncomputable def f337_31 (r0 : Nat) (x1 x2 : Int) (h : z_M) : z_Z := none
noncomputable def f337_87 (r0 : Nat) (x1 x2 x3 x4 : Int) (h : z_M) : z_Z := none
noncomputable def f337_122 (r0 : Nat) (x1 x2 x3 x4 x5 : Int) (q0 : Nat) (s1 s2 : Int) (h : z_M) : z_Z := none
noncomputable def f337_123 (r0 : Nat) (x1 x2 x3 x4 x5 : Int) (q0 : Nat) (s1 s2 s3 : Int) (h : z_M) : z_Z := none
noncomputable def f337_136 (r0 : Nat) (x1 x2 x3 x4 x5 x6 : Int) (h : z_M) : z_Z := none
noncomputable def f337_158 (r0 : Nat) (x1 x2 : Int) (h : z_M) : z_Z := none
noncomputable def f337_164 (r0 : Nat) (x1 : Int) (h : z_M) : z_Z := none
noncomputable def f337_170 (h : z_M) : z_Z := none
noncomputable def f339_0 (r0 : Nat) (x1 x2 : Int) (h : z_M) : z_Z := none
noncomputable def f339_35 (r0 : Nat) (x1 x3 : Int) (q0 : Nat) (s1 s2 : Int) (h : z_M) : z_Z := none
noncomputable def f339_38 (r0 : Nat) (x1 : Int) (q0 : Nat) (s1 s2 s3 : Int) (h : z_M) : z_Z := none
noncomputable def f339_44 (r0 : Nat) (x1 x3 : Int) (q0 : Nat) (s1 : Int) (h : z_M) : z_Z := none
noncomputable def f339_56 (r0 : Nat) (x1 x3 : Int) (q0 : Nat) (s1 s2 : Int) (h : z_M) : z_Z := none
noncomputable def f339_59 (r0 : Nat) (x1 : Int) (q0 : Nat) (s1 s2 s3 : Int) (h : z_M) : z_Z := none
noncomputable def f339_62 (r0 : Nat) (x1 : Int) (q0 : Nat) (s1 s2 : Int) (h : z_M) : z_Z := none
noncomputable def f340_0 (r0 : Nat) (x1 x2 : Int) (h : z_M) : z_Z := none
noncomputable def f340_35 (h : z_M) : z_Z := none
noncomputable def f340_36 (s0 : Int) (h : z_M) : z_Z := none
noncomputable def f341_0 (r0 : Nat) (x1 x2 x3 : Int) (h : z_M) : z_Z := none
noncomputable def f341_46 (r0 : Nat) (x4 : Int) (h : z_M) : z_Z := none
noncomputable def f341_50 (x4 : Int) (h : z_M) : z_Z := none
noncomputable def f343_0 (r0 : Nat) (h : z_M) : z_Z := none
noncomputable def f344_0 (r0 : Nat) (x1 : Int) (h : z_M) : z_Z := none
noncomputable def f344_36 (r0 : Nat) (x1 : Int) (h : z_M) : z_Z := none
noncomputable def f345_0 (r0 : Nat) (h : z_M) : z_Z := none
noncomputable def f345_25 (r0 : Nat) (x1 x2 x3 : Int) (h : z_M) : z_Z := none
noncomputable def f345_41 (r0 : Nat) (x1 x2 : Int) (h : z_M) : z_Z := none
noncomputable def f345_60 (r0 : Nat) (x1 : Int) (h : z_M) : z_Z := none
noncomputable def f345_74 (r0 : Nat) (h : z_M) : z_Z := none
noncomputable def f346_0 (r0 : Nat) (x1 x2 : Int) (h : z_M) : z_Z := none
noncomputable def f346_4 (r0 : Nat) (x1 x3 : Int) (h : z_M) : z_Z := none
noncomputable def f346_23 (h : z_M) : z_Z := none
noncomputable def f347_0 (r0 : Nat) (x1 x2 x3 : Int) (h : z_M) : z_Z := none
noncomputable def f347_9 (r0 : Nat) (x1 x2 x3 : Int) (h : z_M) : z_Z := none
noncomputable def f347_30 (r0 : Nat) (x1 x2 x3 : Int) (h : z_M) : z_Z := none
noncomputable def f347_31 (r0 : Nat) (x1 x2 x3 s0 : Int) (h : z_M) : z_Z := none
noncomputable def f347_47 (r0 : Nat) (x1 x2 x3 x4 : Int) (q0 : Nat) (s1 : Int) (h : z_M) : z_Z := none
noncomputable def f347_48 (r0 : Nat) (x1 x2 x3 x4 : Int) (q0 : Nat) (s1 s2 : Int) (h : z_M) : z_Z := none
noncomputable def f347_67 (r0 : Nat) (x1 x2 x3 : Int) (h : z_M) : z_Z := none
noncomputable def f347_70 (r0 : Nat) (x1 x2 s0 : Int) (h : z_M) : z_Z := none
noncomputable def f348_0 (r0 : Nat) (h : z_M) : z_Z := none
noncomputable def f348_9 (r0 : Nat) (h : z_M) : z_Z := none
noncomputable def f348_33 (r0 : Nat) (h : z_M) : z_Z := none
noncomputable def f348_34 (r0 : Nat) (s0 : Int) (h : z_M) : z_Z := none
noncomputable def f348_35 (r0 : Nat) (x1 : Int) (h : z_M) : z_Z := none
noncomputable def f348_60 (r0 : Nat) (h : z_M) : z_Z := none
noncomputable def f348_61 (r0 : Nat) (s0 : Int) (h : z_M) : z_Z := none
noncomputable def f348_65 (r0 : Nat) (x1 : Int) (h : z_M) : z_Z := none
noncomputable def f348_74 (r0 q0 : Nat) (h : z_M) : z_Z := none
noncomputable def f348_75 (r0 q0 : Nat) (s1 : Int) (h : z_M) : z_Z := none
noncomputable def f348_80 (r0 : Nat) (x2 : Int) (h : z_M) : z_Z := none
noncomputable def f348_120 (r0 : Nat) (x2 : Int) (q0 : Nat) (h : z_M) : z_Z := none
noncomputable def f348_121 (r0 : Nat) (x2 : Int) (q0 : Nat) (s1 : Int) (h : z_M) : z_Z := none
noncomputable def f348_130 (r0 : Nat) (h : z_M) : z_Z := none
noncomputable def f348_141 (h : z_M) : z_Z := none
noncomputable def f348_142 (s0 : Int) (h : z_M) : z_Z := none
noncomputable def f349_0 (r0 : Nat) (h : z_M) : z_Z := none
noncomputable def f349_4 (r0 : Nat) (x1 x2 : Int) (h : z_M) : z_Z := none
noncomputable def f349_56 (r0 : Nat) (x2 s0 : Int) (h : z_M) : z_Z := none
noncomputable def f349_57 (r0 : Nat) (x2 s0 s1 : Int) (h : z_M) : z_Z := none
noncomputable def f349_65 (r0 : Nat) (x1 : Int) (h : z_M) : z_Z := none
noncomputable def f349_67 (r0 : Nat) (x1 x2 : Int) (h : z_M) : z_Z := none
noncomputable def f349_89 (r0 : Nat) (x1 : Int) (h : z_M) : z_Z := none
noncomputable def f349_148 (r0 : Nat) (x1 : Int) (h : z_M) : z_Z := none
noncomputable def f349_149 (r0 : Nat) (x1 s0 : Int) (h : z_M) : z_Z := none
noncomputable def f349_169 (r0 : Nat) (x1 : Int) (h : z_M) : z_Z := none
noncomputable def f351_0 (r0 : Nat) (h : z_M) : z_Z := none
noncomputable def f351_9 (r0 : Nat) (h : z_M) : z_Z := none
noncomputable def f351_27 (r0 : Nat) (h : z_M) : z_Z := none
noncomputable def f351_57 (r0 q0 : Nat) (h : z_M) : z_Z := none
noncomputable def f351_58 (r0 q0 : Nat) (s1 : Int) (h : z_M) : z_Z := none
noncomputable def f351_77 (h : z_M) : z_Z := none
noncomputable def f351_78 (s0 : Int) (h : z_M) : z_Z := none
noncomputable def f352_0 (r0 : Nat) (h : z_M) : z_Z := none
noncomputable def f352_24 (r0 : Nat) (h : z_M) : z_Z := none
noncomputable def f353_0 (r0 : Nat) (h : z_M) : z_Z := none
noncomputable def f353_18 (r0 : Nat) (x1 x2 x3 : Int) (h : z_M) : z_Z := none
noncomputable def f353_40 (r0 : Nat) (x1 x2 x3 : Int) (h : z_M) : z_Z := none
noncomputable def f353_49 (r0 : Nat) (x1 x2 : Int) (h : z_M) : z_Z := none
noncomputable def f353_61 (x1 x2 : Int) (q0 : Nat) (h : z_M) : z_Z := none
noncomputable def f353_62 (x1 x2 : Int) (q0 : Nat) (s1 : Int) (h : z_M) : z_Z := none
noncomputable def f353_65 (x1 x2 s0 : Int) (h : z_M) : z_Z := none
noncomputable def f353_79 (x4 : Int) (h : z_M) : z_Z := none
noncomputable def f353_84 (x1 x2 x4 : Int) (h : z_M) : z_Z := none
noncomputable def f353_90 (s0 : Int) (h : z_M) : z_Z := none
noncomputable def f354_0 (r0 : Nat) (x1 : Int) (h : z_M) : z_Z := none
noncomputable def f354_4 (r0 : Nat) (x1 x2 x3 : Int) (h : z_M) : z_Z := none
noncomputable def f354_30 (r0 : Nat) (x1 x2 x3 x4 : Int) (h : z_M) : z_Z := none
noncomputable def f354_36 (r0 : Nat) (x1 x3 s0 : Int) (h : z_M) : z_Z := none
noncomputable def f354_43 (x2 : Int) (h : z_M) : z_Z := none
noncomputable def f406_0 (r0 : Nat) (x1 : Int) (h : z_M) : z_Z := none
noncomputable def f413_0 (r0 : Nat) (x1 : Int) (h : z_M) : z_Z := none
noncomputable def f413_23 (r0 : Nat) (x1 : Int) (h : z_M) : z_Z := none
noncomputable def f419_0 (x0 x1 x2 : Int) (h : z_M) : z_Z := none
noncomputable def f419_14 (h : z_M) : z_Z := none
noncomputable def f419_15 (s0 : Int) (h : z_M) : z_Z := none
noncomputable def f427_0 (r0 : Nat) (x1 x2 : Int) (h : z_M) : z_Z := none
noncomputable def f427_12 (r0 : Nat) (x3 : Int) (h : z_M) : z_Z := none
noncomputable def f427_31 (h : z_M) : z_Z := none
noncomputable def f428_0 (r0 : Nat) (h : z_M) : z_Z := none
noncomputable def f428_4 (r0 : Nat) (x1 x2 : Int) (h : z_M) : z_Z := none
noncomputable def f428_30 (x1 : Int) (h : z_M) : z_Z := none
noncomputable def f429_0 (r0 : Nat) (x1 x2 x3 x4 : Int) (h : z_M) : z_Z := none
noncomputable def f429_6 (r0 : Nat) (x1 x2 x3 x4 x5 x6 : Int) (h : z_M) : z_Z := none
noncomputable def f429_40 (r0 : Nat) (x1 x2 x3 x4 x6 s0 : Int) (h : z_M) : z_Z := none
noncomputable def f429_41 (r0 : Nat) (x1 x2 x3 x4 x6 s0 s1 : Int) (h : z_M) : z_Z := none
noncomputable def f429_50 (x5 : Int) (h : z_M) : z_Z := none
noncomputable def f430_0 (r0 : Nat) (x1 x2 : Int) (h : z_M) : z_Z := none
noncomputable def f430_36 (h : z_M) : z_Z := none
noncomputable def f430_37 (s0 : Int) (h : z_M) : z_Z := none
noncomputable def f432_0 (r0 : Nat) (x1 x2 : Int) (h : z_M) : z_Z := none
noncomputable def f432_18 (h : z_M) : z_Z := none
noncomputable def f432_19 (s0 : Int) (h : z_M) : z_Z := none
noncomputable def f433_0 (r0 : Nat) (h : z_M) : z_Z := none
noncomputable def f433_11 (h : z_M) : z_Z := none
noncomputable def f433_12 (s0 : Int) (h : z_M) : z_Z := none
noncomputable def f434_0 (r0 : Nat) (x1 x2 x3 : Int) (h : z_M) : z_Z := none
noncomputable def f434_22 (r0 : Nat) (x1 x2 : Int) (q0 : Nat) (s1 : Int) (h : z_M) : z_Z := none
noncomputable def f434_34 (q0 : Nat) (s1 s2 : Int) (h : z_M) : z_Z := none
noncomputable def f435_0 (r0 : Nat) (x1 : Int) (h : z_M) : z_Z := none
noncomputable def f510_0 (x0 : Int) (h : z_M) : z_Z := none
noncomputable def f510_12 (h : z_M) : z_Z := none
noncomputable def f512_0 (x0 x1 x2 : Int) (h : z_M) : z_Z := none
noncomputable def f513_0 (r0 : Nat) (x1 : Int) (h : z_M) : z_Z := none
noncomputable def f522_0 (r0 : Nat) (x1 x2 x3 x4 : Int) (h : z_M) : z_Z := none
noncomputable def f522_44 (r0 : Nat) (x1 x2 x3 x4 : Int) (h : z_M) : z_Z := none
noncomputable def f522_45 (r0 : Nat) (x1 x2 x3 x4 s0 : Int) (h : z_M) : z_Z := none
noncomputable def f523_0 (r0 : Nat) (x1 x2 : Int) (h : z_M) : z_Z := none
noncomputable def f523_22 (r0 : Nat) (x1 x2 : Int) (h : z_M) : z_Z := none
noncomputable def f523_38 (r0 : Nat) (x1 x2 : Int) (h : z_M) : z_Z := none
noncomputable def f523_53 (r0 : Nat) (x1 x2 : Int) (h : z_M) : z_Z := none
noncomputable def f523_57 (r0 : Nat) (x1 x2 : Int) (h : z_M) : z_Z := none
noncomputable def f523_58 (r0 : Nat) (x1 x2 s0 : Int) (h : z_M) : z_Z := none
noncomputable def f523_75 (r0 : Nat) (x1 x2 : Int) (h : z_M) : z_Z := none
noncomputable def f523_90 (r0 : Nat) (x1 x2 : Int) (h : z_M) : z_Z := none
noncomputable def f523_97 (r0 : Nat) (x1 x2 s0 : Int) (h : z_M) : z_Z := none
noncomputable def f523_110 (r0 : Nat) (x1 x2 x3 : Int) (q0 : Nat) (h : z_M) : z_Z := none
noncomputable def f523_117 (r0 : Nat) (x1 x2 x3 : Int) (q0 : Nat) (s1 : Int) (h : z_M) : z_Z := none
noncomputable def f523_133 (r0 : Nat) (x1 x2 x3 : Int) (q0 : Nat) (h : z_M) : z_Z := none
noncomputable def f523_140 (r0 : Nat) (x1 x2 x3 : Int) (q0 : Nat) (s1 : Int) (h : z_M) : z_Z := none
noncomputable def f523_156 (r0 : Nat) (x3 : Int) (q0 : Nat) (h : z_M) : z_Z := none
noncomputable def f523_163 (x3 : Int) (q0 : Nat) (s1 : Int) (h : z_M) : z_Z := none
noncomputable def f524_0 (r0 : Nat) (x1 x2 x3 x4 : Int) (h : z_M) : z_Z := none
noncomputable def f525_0 (r0 : Nat) (x1 : Int) (h : z_M) : z_Z := none
noncomputable def f526_0 (r0 : Nat) (x1 : Int) (h : z_M) : z_Z := none
noncomputable def f527_0 (r0 : Nat) (x1 : Int) (h : z_M) : z_Z := none
noncomputable def f536_0 (x0 : Int) (h : z_M) : z_Z := none
noncomputable def f536_12 (h : z_M) : z_Z := none
noncomputable def f540_0 (x0 x1 x2 : Int) (h : z_M) : z_Z := none
noncomputable def f540_14 (h : z_M) : z_Z := none
noncomputable def f540_15 (s0 : Int) (h : z_M) : z_Z := none
noncomputable def f541_0 (r0 : Nat) (x1 : Int) (h : z_M) : z_Z := none
noncomputable def f541_25 (r0 : Nat) (x1 : Int) (h : z_M) : z_Z := none
noncomputable def f541_27 (r0 : Nat) (x1 x2 : Int) (h : z_M) : z_Z := none
noncomputable def f541_49 (r0 : Nat) (x1 x2 : Int) (h : z_M) : z_Z := none
noncomputable def f541_63 (r0 : Nat) (x1 x2 : Int) (q0 : Nat) (s1 s2 : Int) (h : z_M) : z_Z := none
noncomputable def f541_70 (r0 : Nat) (x1 x2 : Int) (q0 : Nat) (s1 s2 s3 : Int) (h : z_M) : z_Z := none
noncomputable def f541_79 (r0 : Nat) (h : z_M) : z_Z := none
noncomputable def f541_82 (q0 : Nat) (h : z_M) : z_Z := none
noncomputable def f541_85 (r0 : Nat) (h : z_M) : z_Z := none
noncomputable def f542_0 (r0 : Nat) (h : z_M) : z_Z := none
noncomputable def f542_9 (r0 : Nat) (x1 : Int) (h : z_M) : z_Z := none
noncomputable def f542_46 (r0 : Nat) (x1 : Int) (r2 q0 : Nat) (h : z_M) : z_Z := none
noncomputable def f542_54 (r0 : Nat) (x1 : Int) (r2 q0 : Nat) (s1 : Int) (h : z_M) : z_Z := none
noncomputable def f542_69 (r0 : Nat) (x1 : Int) (r2 : Nat) (x3 : Int) (h : z_M) : z_Z := none
noncomputable def f542_93 (r0 : Nat) (x1 : Int) (h : z_M) : z_Z := none
noncomputable def f542_99 (r0 : Nat) (h : z_M) : z_Z := none
noncomputable def f542_168 (r0 : Nat) (x1 : Int) (h : z_M) : z_Z := none
noncomputable def f542_203 (r0 : Nat) (h : z_M) : z_Z := none
noncomputable def f542_226 (r0 : Nat) (h : z_M) : z_Z := none
noncomputable def f542_265 (r0 : Nat) (h : z_M) : z_Z := none
noncomputable def f542_267 (r0 : Nat) (x1 : Int) (h : z_M) : z_Z := none
noncomputable def f542_357 (r0 : Nat) (x1 : Int) (r2 : Nat) (x3 x4 : Int) (h : z_M) : z_Z := none
noncomputable def f542_381 (r0 : Nat) (x1 : Int) (h : z_M) : z_Z := none
noncomputable def f542_387 (r0 : Nat) (h : z_M) : z_Z := none
noncomputable def f542_420 (h : z_M) : z_Z := none
noncomputable def f543_0 (r0 : Nat) (x1 x2 x3 : Int) (h : z_M) : z_Z := none
noncomputable def f543_9 (r0 : Nat) (x1 x2 x3 : Int) (h : z_M) : z_Z := none
noncomputable def f543_13 (r0 : Nat) (x1 x2 x3 s0 : Int) (h : z_M) : z_Z := none
noncomputable def f543_40 (r0 : Nat) (x1 x2 x3 x4 x5 : Int) (h : z_M) : z_Z := none
noncomputable def f543_77 (r0 : Nat) (x1 x2 x3 x4 x5 : Int) (q0 : Nat) (h : z_M) : z_Z := none
noncomputable def f543_81 (r0 : Nat) (x1 x2 x3 x4 x5 : Int) (q0 : Nat) (s1 : Int) (h : z_M) : z_Z := none
noncomputable def f543_90 (r0 : Nat) (x1 x2 x3 x4 : Int) (h : z_M) : z_Z := none
noncomputable def f544_0 (r0 : Nat) (h : z_M) : z_Z := none
noncomputable def f544_10 (r0 r1 : Nat) (x2 x3 : Int) (h : z_M) : z_Z := none
noncomputable def f544_31 (r0 : Nat) (h : z_M) : z_Z := none
noncomputable def f544_62 (r0 : Nat) (h : z_M) : z_Z := none
noncomputable def f547_0 (r0 : Nat) (x1 x2 x3 x4 : Int) (h : z_M) : z_Z := none
noncomputable def f548_0 (r0 : Nat) (h : z_M) : z_Z := none
noncomputable def f549_0 (r0 : Nat) (h : z_M) : z_Z := none
noncomputable def f549_2 (r0 : Nat) (x1 : Int) (h : z_M) : z_Z := none
noncomputable def f549_22 (r0 : Nat) (h : z_M) : z_Z := none
noncomputable def f689_0 (x1 x2 x3 : Int) (h : z_M) : z_Z := none
noncomputable def f689_25 (x1 x2 x3 : Int) (h : z_M) : z_Z := none
noncomputable def f690_0 (x1 x2 : Int) (h : z_M) : z_Z := none
noncomputable def f690_18 (x1 x2 : Int) (h : z_M) : z_Z := none
noncomputable def f690_19 (x1 x2 s0 : Int) (h : z_M) : z_Z := none
noncomputable def f690_74 (x1 x2 x3 : Int) (h : z_M) : z_Z := none
noncomputable def f690_75 (x1 x2 x3 s0 : Int) (h : z_M) : z_Z := none
noncomputable def f690_91 (x1 x2 : Int) (h : z_M) : z_Z := none
noncomputable def f690_97 (x1 x2 x5 x6 : Int) (h : z_M) : z_Z := none
noncomputable def f690_140 (x1 x2 x6 s0 : Int) (h : z_M) : z_Z := none
noncomputable def f690_141 (x1 x2 x6 s0 s1 : Int) (h : z_M) : z_Z := none
noncomputable def f690_150 (x5 : Int) (h : z_M) : z_Z := none
noncomputable def f691_0 (x1 x2 : Int) (h : z_M) : z_Z := none
noncomputable def f691_5 (x1 x2 x3 x4 : Int) (h : z_M) : z_Z := none
noncomputable def f691_62 (x1 x2 x4 : Int) (h : z_M) : z_Z := none
noncomputable def f691_63 (x1 x2 x4 s0 : Int) (h : z_M) : z_Z := none
noncomputable def f691_70 (x3 : Int) (h : z_M) : z_Z := none
noncomputable def f693_0 (x1 x2 x3 : Int) (h : z_M) : z_Z := none
noncomputable def f693_30 (h : z_M) : z_Z := none
noncomputable def f693_31 (s0 : Int) (h : z_M) : z_Z := none
noncomputable def f697_0 (h : z_M) : z_Z := none
noncomputable def f697_2 (x1 : Int) (h : z_M) : z_Z := none
noncomputable def f697_21 (h : z_M) : z_Z := none
noncomputable def f697_23 (x1 : Int) (h : z_M) : z_Z := none
noncomputable def f697_43 (h : z_M) : z_Z := none
noncomputable def f698_0 (h : z_M) : z_Z := none
noncomputable def f698_12 (x1 : Int) (h : z_M) : z_Z := none
noncomputable def f698_32 (h : z_M) : z_Z := none
noncomputable def f749_0 (x1 : Int) (h : z_M) : z_Z := none
noncomputable def f749_13 (x1 : Int) (h : z_M) : z_Z := none
noncomputable def f749_14 (x1 s1 : Int) (h : z_M) : z_Z := none
noncomputable def f749_26 (x1 : Int) (h : z_M) : z_Z := none
noncomputable def f752_0 (x1 : Int) (h : z_M) : z_Z := none
noncomputable def f752_14 (h : z_M) : z_Z := none
noncomputable def f752_15 (s0 : Int) (h : z_M) : z_Z := none
noncomputable def f756_0 (x1 : Int) (h : z_M) : z_Z := none
noncomputable def f756_14 (x1 : Int) (h : z_M) : z_Z := none
noncomputable def f756_18 (x1 : Int) (h : z_M) : z_Z := none
noncomputable def f756_19 (x1 s1 : Int) (h : z_M) : z_Z := none
noncomputable def f756_31 (x1 : Int) (h : z_M) : z_Z := none
noncomputable def f760_0 (x1 x2 : Int) (h : z_M) : z_Z := none
noncomputable def f760_31 (h : z_M) : z_Z := none
noncomputable def f760_32 (s0 : Int) (h : z_M) : z_Z := none
noncomputable def f806_0 (x1 x2 : Int) (h : z_M) : z_Z := none
noncomputable def f807_0 (x1 x2 : Int) (h : z_M) : z_Z := none
noncomputable def f807_19 (x1 x2 : Int) (h : z_M) : z_Z := none
noncomputable def f807_20 (x1 x2 s1 : Int) (h : z_M) : z_Z := none
noncomputable def f807_30 (x1 x2 : Int) (h : z_M) : z_Z := none
noncomputable def f807_56 (x1 x2 x3 : Int) (h : z_M) : z_Z := none
noncomputable def f807_117 (h : z_M) : z_Z := none
noncomputable def f808_0 (x1 x2 : Int) (h : z_M) : z_Z := none
noncomputable def f808_5 (x1 x2 x3 x4 : Int) (h : z_M) : z_Z := none
noncomputable def f808_65 (x1 x2 x4 s0 : Int) (h : z_M) : z_Z := none
noncomputable def f808_66 (x1 x2 x4 s0 s1 : Int) (h : z_M) : z_Z := none
noncomputable def f808_74 (x1 x2 x3 : Int) (h : z_M) : z_Z := none
noncomputable def f808_77 (x1 x2 x3 x4 : Int) (h : z_M) : z_Z := none
noncomputable def f808_111 (x1 x2 x4 s0 : Int) (h : z_M) : z_Z := none
noncomputable def f808_112 (x1 x2 x4 s0 s1 : Int) (h : z_M) : z_Z := none
noncomputable def f808_120 (x3 : Int) (h : z_M) : z_Z := none
noncomputable def f809_0 (x1 : Int) (h : z_M) : z_Z := none
noncomputable def f809_49 (h : z_M) : z_Z := none
noncomputable def f811_0 (x1 x2 : Int) (h : z_M) : z_Z := none
noncomputable def f811_13 (x1 x2 s1 : Int) (h : z_M) : z_Z := none
noncomputable def f811_14 (x1 x2 s1 s2 : Int) (h : z_M) : z_Z := none
noncomputable def f811_24 (x1 x2 : Int) (h : z_M) : z_Z := none
noncomputable def f811_43 (x1 s1 : Int) (h : z_M) : z_Z := none
noncomputable def f811_49 (x1 s1 s2 : Int) (h : z_M) : z_Z := none
noncomputable def f863_0 (h : z_M) : z_Z := none
noncomputable def f863_2 (x1 : Int) (h : z_M) : z_Z := none
noncomputable def f863_27 (h : z_M) : z_Z := none
noncomputable def f865_0 (x1 : Int) (h : z_M) : z_Z := none
noncomputable def f865_18 (x1 : Int) (h : z_M) : z_Z := none
noncomputable def f865_29 (h : z_M) : z_Z := none
noncomputable def f865_33 (s0 : Int) (h : z_M) : z_Z := none
noncomputable def f866_0 (x1 x2 : Int) (h : z_M) : z_Z := none
noncomputable def f866_36 (x1 x2 s1 s2 : Int) (h : z_M) : z_Z := none
noncomputable def f866_37 (x1 x2 s1 s2 s3 : Int) (h : z_M) : z_Z := none
noncomputable def f866_46 (x1 x2 : Int) (h : z_M) : z_Z := none
noncomputable def f870_0 (x1 : Int) (h : z_M) : z_Z := none
noncomputable def f871_0 (x1 x2 x3 x4 : Int) (h : z_M) : z_Z := none
noncomputable def f871_51 (h : z_M) : z_Z := none
noncomputable def f871_52 (s0 : Int) (h : z_M) : z_Z := none
noncomputable def f872_0 (x1 x2 x3 : Int) (h : z_M) : z_Z := none
noncomputable def f872_19 (x1 x2 x3 : Int) (h : z_M) : z_Z := none
noncomputable def f872_20 (x1 x2 x3 s1 : Int) (h : z_M) : z_Z := none
noncomputable def f872_43 (x1 x2 x3 : Int) (h : z_M) : z_Z := none
noncomputable def f874_0 (h : z_M) : z_Z := none
noncomputable def f874_14 (h : z_M) : z_Z := none
noncomputable def f874_15 (s0 : Int) (h : z_M) : z_Z := none
noncomputable def f875_0 (h : z_M) : z_Z := none
noncomputable def f875_24 (h : z_M) : z_Z := none
noncomputable def f875_33 (h : z_M) : z_Z := none
noncomputable def f876_0 (h : z_M) : z_Z := none
noncomputable def f876_33 (x2 x3 : Int) (h : z_M) : z_Z := none
noncomputable def f876_44 (x2 x3 x4 : Int) (h : z_M) : z_Z := none
noncomputable def f876_95 (x2 x3 x4 x5 x6 : Int) (h : z_M) : z_Z := none
noncomputable def f876_119 (x2 x3 x4 x5 x6 x7 : Int) (h : z_M) : z_Z := none
noncomputable def f876_120 (x2 x3 x4 x5 x6 x7 s0 : Int) (h : z_M) : z_Z := none
noncomputable def f876_133 (x2 x3 x4 x5 x6 x7 x8 : Int) (h : z_M) : z_Z := none
noncomputable def f876_134 (x2 x3 x4 x5 x6 x7 x8 s0 : Int) (h : z_M) : z_Z := none
noncomputable def f876_147 (x2 x3 x4 x5 x6 x7 x9 : Int) (h : z_M) : z_Z := none
noncomputable def f876_148 (x2 x3 x4 x5 x6 x7 x9 s0 : Int) (h : z_M) : z_Z := none
noncomputable def f876_245 (x2 x3 : Int) (h : z_M) : z_Z := none
noncomputable def f876_255 (h : z_M) : z_Z := none
noncomputable def f876_274 (h : z_M) : z_Z := none
noncomputable def f877_0 (x1 : Int) (h : z_M) : z_Z := none
noncomputable def f877_4 (x1 x2 x3 : Int) (h : z_M) : z_Z := none
noncomputable def f877_24 (x2 : Int) (h : z_M) : z_Z := none
noncomputable def f878_0 (x1 : Int) (h : z_M) : z_Z := none
noncomputable def f878_7 (x1 x2 x3 : Int) (h : z_M) : z_Z := none
noncomputable def f878_34 (x1 x2 x3 : Int) (h : z_M) : z_Z := none
noncomputable def f878_52 (x1 : Int) (h : z_M) : z_Z := none
noncomputable def f878_58 (x1 s0 : Int) (h : z_M) : z_Z := none
noncomputable def f878_79 (x4 : Int) (h : z_M) : z_Z := none
noncomputable def f880_0 (x1 x2 x3 x4 x5 : Int) (h : z_M) : z_Z := none
noncomputable def f880_22 (x1 x2 x3 x4 x5 s1 s2 : Int) (h : z_M) : z_Z := none
noncomputable def f880_23 (x1 x2 x3 x4 x5 s1 s2 s3 : Int) (h : z_M) : z_Z := none
noncomputable def f880_30 (h : z_M) : z_Z := none
noncomputable def f880_32 (x1 x2 x3 x4 x5 : Int) (h : z_M) : z_Z := none
noncomputable def f880_38 (x1 x2 x3 x4 x5 x6 x7 : Int) (h : z_M) : z_Z := none
noncomputable def f880_91 (x1 x2 x3 x4 x5 x7 x8 s0 : Int) (h : z_M) : z_Z := none
noncomputable def f880_92 (x1 x2 x3 x4 x5 x7 x8 s0 s1 : Int) (h : z_M) : z_Z := none
noncomputable def f880_110 (x6 : Int) (h : z_M) : z_Z := none
noncomputable def f881_0 (x1 x2 : Int) (h : z_M) : z_Z := none
noncomputable def f881_27 (h : z_M) : z_Z := none
noncomputable def f881_28 (s0 : Int) (h : z_M) : z_Z := none
noncomputable def f882_0 (x1 x2 x3 : Int) (h : z_M) : z_Z := none
noncomputable def f882_34 (h : z_M) : z_Z := none
noncomputable def f882_35 (s0 : Int) (h : z_M) : z_Z := none
noncomputable def f883_0 (x0 : Int) (h : z_M) : z_Z := none
noncomputable def f885_0 (x0 x1 x2 : Int) (h : z_M) : z_Z := none
noncomputable def f885_14 (h : z_M) : z_Z := none
noncomputable def f885_15 (s0 : Int) (h : z_M) : z_Z := none
noncomputable def f887_0 (x1 x2 x3 : Int) (h : z_M) : z_Z := none
noncomputable def f887_34 (h : z_M) : z_Z := none
noncomputable def f887_35 (s0 : Int) (h : z_M) : z_Z := none
noncomputable def f888_0 (x0 : Int) (h : z_M) : z_Z := none
noncomputable def f889_0 (x1 x2 x3 : Int) (h : z_M) : z_Z := none
noncomputable def f889_36 (h : z_M) : z_Z := none
noncomputable def f889_37 (s0 : Int) (h : z_M) : z_Z := none
noncomputable def f890_0 (x0 : Int) (h : z_M) : z_Z := none
noncomputable def f891_0 (x1 : Int) (h : z_M) : z_Z := none
noncomputable def f891_20 (h : z_M) : z_Z := none
noncomputable def f891_21 (s0 : Int) (h : z_M) : z_Z := none
noncomputable def f892_0 (x1 : Int) (h : z_M) : z_Z := none
noncomputable def f892_20 (h : z_M) : z_Z := none
noncomputable def f892_21 (s0 : Int) (h : z_M) : z_Z := none
noncomputable def f895_0 (x1 x2 x3 x4 : Int) (h : z_M) : z_Z := none
noncomputable def f895_21 (x1 x2 x3 x4 : Int) (h : z_M) : z_Z := none
noncomputable def f895_22 (x1 x2 x3 x4 s0 : Int) (h : z_M) : z_Z := none
noncomputable def f895_33 (x1 x2 x3 x4 x5 : Int) (h : z_M) : z_Z := none
noncomputable def f895_49 (x1 x2 x3 x4 x5 : Int) (h : z_M) : z_Z := none
noncomputable def f895_57 (x1 x2 x3 x4 x5 s0 : Int) (h : z_M) : z_Z := none
noncomputable def f895_70 (x1 x2 x4 x5 x6 s1 : Int) (h : z_M) : z_Z := none
noncomputable def f895_71 (x1 x2 x4 x5 x6 s1 s2 : Int) (h : z_M) : z_Z := none
noncomputable def f895_96 (x1 x2 x4 x6 s1 s2 : Int) (h : z_M) : z_Z := none
noncomputable def f895_97 (x1 x2 x4 x6 s1 s2 s3 : Int) (h : z_M) : z_Z := none
noncomputable def f895_106 (x1 x2 x4 x6 : Int) (h : z_M) : z_Z := none
noncomputable def f895_109 (x1 x2 x4 x6 x7 : Int) (h : z_M) : z_Z := none
noncomputable def f895_159 (x4 x6 : Int) (h : z_M) : z_Z := none
noncomputable def f896_0 (x1 : Int) (h : z_M) : z_Z := none
noncomputable def f897_0 (x1 : Int) (h : z_M) : z_Z := none
noncomputable def f897_15 (x1 : Int) (h : z_M) : z_Z := none
noncomputable def f899_0 (x1 x2 : Int) (h : z_M) : z_Z := none
noncomputable def f899_4 (x1 x3 : Int) (h : z_M) : z_Z := none
noncomputable def f899_23 (h : z_M) : z_Z := none
noncomputable def f902_0 (x1 : Int) (h : z_M) : z_Z := none
noncomputable def f902_19 (x1 x2 : Int) (h : z_M) : z_Z := none
noncomputable def f902_21 (x1 x2 s0 : Int) (h : z_M) : z_Z := none
noncomputable def f902_25 (x1 x2 x3 x4 : Int) (h : z_M) : z_Z := none
noncomputable def f902_42 (x1 x2 x3 : Int) (h : z_M) : z_Z := none
noncomputable def f902_62 (x1 : Int) (h : z_M) : z_Z := none
noncomputable def f902_69 (x1 : Int) (h : z_M) : z_Z := none
noncomputable def f906_0 (x1 x2 : Int) (h : z_M) : z_Z := none
noncomputable def f906_22 (x1 x3 : Int) (h : z_M) : z_Z := none
noncomputable def f906_28 (x1 x3 : Int) (h : z_M) : z_Z := none
noncomputable def f906_38 (x1 x3 : Int) (h : z_M) : z_Z := none
noncomputable def f906_41 (x1 s0 : Int) (h : z_M) : z_Z := none
noncomputable def f906_60 (x4 s1 : Int) (h : z_M) : z_Z := none
noncomputable def f906_72 (x4 s1 : Int) (h : z_M) : z_Z := none
noncomputable def f906_74 (s1 s2 : Int) (h : z_M) : z_Z := none
noncomputable def f907_0 (x1 x2 x3 x4 x5 x6 : Int) (h : z_M) : z_Z := none
noncomputable def f907_20 (x1 x2 x3 x4 x5 x6 : Int) (h : z_M) : z_Z := none
noncomputable def f907_21 (x1 x2 x3 x4 x5 x6 s1 : Int) (h : z_M) : z_Z := none
noncomputable def f907_37 (x1 x2 x3 x4 x5 x6 : Int) (h : z_M) : z_Z := none
noncomputable def f907_71 (x1 x2 x3 x4 x5 x6 : Int) (h : z_M) : z_Z := none
noncomputable def f907_72 (x1 x2 x3 x4 x5 x6 s0 : Int) (h : z_M) : z_Z := none
noncomputable def f907_87 (x1 x2 x3 x4 x5 x6 x7 : Int) (h : z_M) : z_Z := none
noncomputable def f907_88 (x1 x2 x3 x4 x5 x6 x7 s1 : Int) (h : z_M) : z_Z := none
noncomputable def f907_108 (x1 x2 x3 x4 x5 x6 : Int) (h : z_M) : z_Z := none
noncomputable def f908_0 (x1 x2 : Int) (h : z_M) : z_Z := none
noncomputable def f908_7 (x2 x3 : Int) (h : z_M) : z_Z := none
noncomputable def f908_32 (h : z_M) : z_Z := none
noncomputable def f909_0 (x1 : Int) (h : z_M) : z_Z := none
noncomputable def f909_57 (h : z_M) : z_Z := none
noncomputable def f909_59 (s1 : Int) (h : z_M) : z_Z := none
noncomputable def f909_72 (h : z_M) : z_Z := none
noncomputable def f912_0 (x1 : Int) (h : z_M) : z_Z := none
noncomputable def f912_8 (x1 : Int) (h : z_M) : z_Z := none
noncomputable def f912_23 (x1 : Int) (h : z_M) : z_Z := none
noncomputable def f912_24 (s0 : Int) (h : z_M) : z_Z := none
noncomputable def f913_0 (x1 x2 x3 : Int) (h : z_M) : z_Z := none
noncomputable def f913_30 (x1 x2 : Int) (h : z_M) : z_Z := none
noncomputable def f913_46 (x1 x2 s1 s2 : Int) (h : z_M) : z_Z := none
noncomputable def f913_47 (x1 s1 s2 s3 : Int) (h : z_M) : z_Z := none
noncomputable def f914_0 (x1 x2 x3 : Int) (h : z_M) : z_Z := none
noncomputable def f914_31 (x1 x2 x3 x4 x5 : Int) (h : z_M) : z_Z := none
noncomputable def f914_48 (x1 x2 x3 x4 x5 x6 : Int) (h : z_M) : z_Z := none
noncomputable def f914_60 (x1 x2 x3 x4 x5 x6 x7 : Int) (h : z_M) : z_Z := none
noncomputable def f914_82 (x1 x2 x3 x4 x5 x6 : Int) (h : z_M) : z_Z := none
noncomputable def f914_88 (x1 x2 x3 x4 x5 : Int) (h : z_M) : z_Z := none
noncomputable def f914_91 (x1 x2 x3 x4 x5 : Int) (h : z_M) : z_Z := none
noncomputable def f914_94 (x1 x2 x3 x4 x5 x6 : Int) (h : z_M) : z_Z := none
noncomputable def f914_103 (x1 x2 x3 x4 x5 x6 x7 : Int) (h : z_M) : z_Z := none
noncomputable def f914_128 (x1 x2 x3 x4 x5 x6 : Int) (h : z_M) : z_Z := none
noncomputable def f914_134 (x1 x2 x3 x4 x5 : Int) (h : z_M) : z_Z := none
noncomputable def f914_203 (x1 x2 x3 x4 x5 : Int) (h : z_M) : z_Z := none
noncomputable def f914_209 (h : z_M) : z_Z := none
noncomputable def f915_0 (h : z_M) : z_Z := none
noncomputable def f915_15 (h : z_M) : z_Z := none
noncomputable def f915_29 (h : z_M) : z_Z := none
noncomputable def f916_0 (x1 x2 x3 : Int) (h : z_M) : z_Z := none
noncomputable def f916_26 (x2 x3 x4 : Int) (h : z_M) : z_Z := none
noncomputable def f916_36 (x2 x3 x4 s0 : Int) (h : z_M) : z_Z := none
noncomputable def f916_47 (x2 x3 x4 x5 : Int) (h : z_M) : z_Z := none
noncomputable def f916_56 (x2 x3 x4 x5 s0 : Int) (h : z_M) : z_Z := none
noncomputable def f916_67 (x3 x4 x5 x6 : Int) (h : z_M) : z_Z := none
noncomputable def f916_79 (x4 x5 x6 : Int) (h : z_M) : z_Z := none
noncomputable def f916_91 (x5 x6 s0 : Int) (h : z_M) : z_Z := none
noncomputable def f916_105 (x5 x6 x7 : Int) (h : z_M) : z_Z := none
noncomputable def f916_107 (x5 x6 x7 s0 : Int) (h : z_M) : z_Z := none
noncomputable def f916_121 (x5 x6 x7 x8 : Int) (h : z_M) : z_Z := none
noncomputable def f916_123 (x5 x6 x7 x8 s0 : Int) (h : z_M) : z_Z := none
noncomputable def f916_137 (x5 x6 x7 x8 x9 : Int) (h : z_M) : z_Z := none
noncomputable def f916_149 (x5 x6 x7 : Int) (h : z_M) : z_Z := none
noncomputable def f916_157 (s0 : Int) (h : z_M) : z_Z := none
noncomputable def f924_0 (x0 x1 x2 : Int) (h : z_M) : z_Z := none
noncomputable def f924_14 (h : z_M) : z_Z := none
noncomputable def f924_15 (s0 : Int) (h : z_M) : z_Z := none
noncomputable def f931_0 (x1 : Int) (h : z_M) : z_Z := none
noncomputable def f932_0 (x1 : Int) (h : z_M) : z_Z := none
noncomputable def f933_0 (x1 : Int) (h : z_M) : z_Z := none
noncomputable def f933_2 (x1 x2 : Int) (h : z_M) : z_Z := none
noncomputable def f933_31 (x2 : Int) (h : z_M) : z_Z := none
noncomputable def f934_0 (x1 x2 : Int) (h : z_M) : z_Z := none
noncomputable def f934_4 (x1 x3 : Int) (h : z_M) : z_Z := none
noncomputable def f934_23 (h : z_M) : z_Z := none
noncomputable def f935_0 (x1 x2 : Int) (h : z_M) : z_Z := none
noncomputable def f936_0 (h : z_M) : z_Z := none
noncomputable def f938_0 (x1 x2 x3 : Int) (h : z_M) : z_Z := none
noncomputable def f938_25 (x1 x2 x3 x4 : Int) (h : z_M) : z_Z := none
noncomputable def f938_57 (x1 x2 x3 x4 : Int) (h : z_M) : z_Z := none
noncomputable def f938_58 (x1 x2 x3 x4 s1 : Int) (h : z_M) : z_Z := none
noncomputable def f938_67 (x1 x2 x3 : Int) (h : z_M) : z_Z := none
noncomputable def f939_0 (h : z_M) : z_Z := none
noncomputable def f942_0 (x1 x2 x3 : Int) (h : z_M) : z_Z := none
noncomputable def f942_55 (x1 x4 x5 x6 : Int) (h : z_M) : z_Z := none
noncomputable def f942_68 (x1 x4 x5 s0 : Int) (h : z_M) : z_Z := none
noncomputable def f942_106 (x1 x7 : Int) (h : z_M) : z_Z := none
noncomputable def f942_108 (x1 s0 : Int) (h : z_M) : z_Z := none
noncomputable def f942_133 (x1 x7 : Int) (h : z_M) : z_Z := none
noncomputable def f942_135 (x1 s0 : Int) (h : z_M) : z_Z := none
noncomputable def f942_152 (x1 x7 : Int) (h : z_M) : z_Z := none
noncomputable def f942_156 (x1 x7 s0 : Int) (h : z_M) : z_Z := none
noncomputable def f942_183 (x1 x7 x8 x9 : Int) (h : z_M) : z_Z := none
noncomputable def f942_185 (x1 x7 x8 x9 s0 : Int) (h : z_M) : z_Z := none
noncomputable def f942_190 (x1 x7 x8 x9 x10 x11 : Int) (h : z_M) : z_Z := none
noncomputable def f942_208 (x1 x7 x8 x9 x10 : Int) (h : z_M) : z_Z := none
noncomputable def f942_231 (x1 x7 x8 : Int) (h : z_M) : z_Z := none
noncomputable def f942_239 (x1 x7 : Int) (h : z_M) : z_Z := none
noncomputable def f943_0 (x0 : Int) (h : z_M) : z_Z := none
noncomputable def f945_0 (x1 : Int) (h : z_M) : z_Z := none
noncomputable def f945_12 (x1 : Int) (h : z_M) : z_Z := none
noncomputable def f945_25 (x1 : Int) (h : z_M) : z_Z := none
noncomputable def f945_26 (x1 s1 : Int) (h : z_M) : z_Z := none
noncomputable def f945_38 (x1 : Int) (h : z_M) : z_Z := none
noncomputable def f945_75 (x2 : Int) (h : z_M) : z_Z := none
noncomputable def f945_101 (x2 : Int) (h : z_M) : z_Z := none
noncomputable def f945_111 (x2 s1 : Int) (h : z_M) : z_Z := none
noncomputable def f945_124 (x2 x3 : Int) (h : z_M) : z_Z := none
noncomputable def f945_155 (x2 : Int) (h : z_M) : z_Z := none
noncomputable def f945_161 (h : z_M) : z_Z := none
noncomputable def f945_211 (x2 : Int) (h : z_M) : z_Z := none
noncomputable def f945_243 (h : z_M) : z_Z := none
noncomputable def f945_260 (h : z_M) : z_Z := none
noncomputable def f945_289 (h : z_M) : z_Z := none
noncomputable def f945_291 (x2 : Int) (h : z_M) : z_Z := none
noncomputable def f945_344 (x2 x3 : Int) (h : z_M) : z_Z := none
noncomputable def f945_374 (x2 : Int) (h : z_M) : z_Z := none
noncomputable def f945_380 (h : z_M) : z_Z := none
noncomputable def f945_403 (h : z_M) : z_Z := none
noncomputable def f945_418 (h : z_M) : z_Z := none
noncomputable def f945_420 (x2 : Int) (h : z_M) : z_Z := none
noncomputable def f945_443 (h : z_M) : z_Z := none
noncomputable def f945_446 (h : z_M) : z_Z := none
noncomputable def f945_459 (h : z_M) : z_Z := none
noncomputable def f948_0 (x1 x2 : Int) (h : z_M) : z_Z := none
noncomputable def f948_75 (x1 x2 x3 x4 : Int) (h : z_M) : z_Z := none
noncomputable def f948_87 (x1 x2 x3 x4 x5 : Int) (h : z_M) : z_Z := none
noncomputable def f948_99 (x1 x2 x3 x4 x5 x6 : Int) (h : z_M) : z_Z := none
noncomputable def f948_163 (x1 x2 x3 x4 x5 x6 x8 x9 : Int) (h : z_M) : z_Z := none
noncomputable def f948_164 (x1 x2 x3 x4 x5 x6 x8 x9 s0 : Int) (h : z_M) : z_Z := none
noncomputable def f948_174 (x1 x2 x3 x4 x5 x6 x8 x9 s0 : Int) (h : z_M) : z_Z := none
noncomputable def f948_175 (x1 x2 x3 x4 x5 x6 x8 x9 s0 s1 : Int) (h : z_M) : z_Z := none
noncomputable def f948_182 (x1 x2 x3 x4 x5 x6 x8 x9 : Int) (h : z_M) : z_Z := none
noncomputable def f948_183 (x1 x2 x3 x4 x5 x6 x8 x9 s0 : Int) (h : z_M) : z_Z := none
noncomputable def f948_196 (x1 x2 x3 x4 x5 x6 x8 x9 : Int) (h : z_M) : z_Z := none
noncomputable def f948_203 (x1 x2 x3 x4 x5 x6 x8 x9 : Int) (h : z_M) : z_Z := none
noncomputable def f948_232 (x1 x2 x3 x4 x5 : Int) (h : z_M) : z_Z := none
noncomputable def f948_238 (x1 x2 x3 x4 : Int) (h : z_M) : z_Z := none
noncomputable def f948_248 (x3 : Int) (h : z_M) : z_Z := none
noncomputable def f949_0 (x1 x2 x3 x4 x5 : Int) (h : z_M) : z_Z := none
noncomputable def f949_39 (x1 x2 x4 x5 x6 : Int) (h : z_M) : z_Z := none
noncomputable def f949_75 (x4 x5 : Int) (h : z_M) : z_Z := none
noncomputable def f949_78 (x4 x5 x6 : Int) (h : z_M) : z_Z := none
noncomputable def f949_98 (x4 x5 : Int) (h : z_M) : z_Z := none
noncomputable def f949_133 (x6 : Int) (h : z_M) : z_Z := none
noncomputable def f949_162 (h : z_M) : z_Z := none
noncomputable def f950_0 (x1 x2 x3 x4 : Int) (h : z_M) : z_Z := none
noncomputable def f950_21 (x1 x4 x5 : Int) (h : z_M) : z_Z := none
noncomputable def f950_58 (h : z_M) : z_Z := none
noncomputable def f951_0 (x1 x2 x3 : Int) (h : z_M) : z_Z := none
noncomputable def f951_21 (x1 x4 : Int) (h : z_M) : z_Z := none
noncomputable def f951_49 (h : z_M) : z_Z := none
noncomputable def f954_0 (x1 x2 x3 x4 : Int) (h : z_M) : z_Z := none
noncomputable def f954_9 (x2 x3 x4 : Int) (h : z_M) : z_Z := none
noncomputable def f954_17 (x3 x4 : Int) (h : z_M) : z_Z := none
noncomputable def f954_25 (x4 : Int) (h : z_M) : z_Z := none
noncomputable def f954_34 (h : z_M) : z_Z := none
noncomputable def f954_35 (s1 : Int) (h : z_M) : z_Z := none
noncomputable def f954_49 (h : z_M) : z_Z := none
noncomputable def f954_50 (s0 : Int) (h : z_M) : z_Z := none
noncomputable def f955_0 (x1 x2 x3 : Int) (h : z_M) : z_Z := none
noncomputable def f955_43 (h : z_M) : z_Z := none
noncomputable def f955_44 (s0 : Int) (h : z_M) : z_Z := none
noncomputable def f956_0 (x1 x2 x3 : Int) (h : z_M) : z_Z := none
noncomputable def f956_59 (h : z_M) : z_Z := none
noncomputable def f956_60 (s1 : Int) (h : z_M) : z_Z := none
noncomputable def f956_73 (h : z_M) : z_Z := none
noncomputable def f956_74 (s0 : Int) (h : z_M) : z_Z := none
noncomputable def f961_0 (x1 x2 x3 : Int) (h : z_M) : z_Z := none
noncomputable def f961_29 (x1 x2 x3 s1 : Int) (h : z_M) : z_Z := none
noncomputable def f961_30 (x1 x2 x3 s1 s2 : Int) (h : z_M) : z_Z := none
noncomputable def f961_46 (h : z_M) : z_Z := none
noncomputable def f963_0 (x0 : Int) (h : z_M) : z_Z := none
noncomputable def f963_9 (h : z_M) : z_Z := none
noncomputable def f963_10 (s0 : Int) (h : z_M) : z_Z := none
noncomputable def f964_0 (x1 x2 x3 x4 x5 : Int) (h : z_M) : z_Z := none
noncomputable def f964_34 (x1 x2 x3 x4 x5 s1 s2 : Int) (h : z_M) : z_Z := none
noncomputable def f964_35 (x1 x2 x3 x4 x5 s1 s2 s3 : Int) (h : z_M) : z_Z := none
noncomputable def f964_42 (h : z_M) : z_Z := none
noncomputable def f964_44 (x1 x2 x3 x4 x5 : Int) (h : z_M) : z_Z := none
noncomputable def f964_50 (x1 x2 x3 x4 x5 x6 x7 : Int) (h : z_M) : z_Z := none
noncomputable def f964_103 (x1 x2 x3 x4 x5 x7 x8 s0 : Int) (h : z_M) : z_Z := none
noncomputable def f964_104 (x1 x2 x3 x4 x5 x7 x8 s0 s1 : Int) (h : z_M) : z_Z := none
noncomputable def f964_122 (x6 : Int) (h : z_M) : z_Z := none
noncomputable def f967_0 (h : z_M) : z_Z := none
noncomputable def f967_2 (x1 : Int) (h : z_M) : z_Z := none
noncomputable def f967_27 (x1 : Int) (h : z_M) : z_Z := none
noncomputable def f969_0 (x1 x2 x3 : Int) (h : z_M) : z_Z := none
noncomputable def f969_73 (x1 x2 x3 x4 x5 : Int) (h : z_M) : z_Z := none
noncomputable def f969_77 (x1 x2 x3 x4 x5 : Int) (h : z_M) : z_Z := none
noncomputable def f969_78 (x1 x2 x3 x4 x5 s0 : Int) (h : z_M) : z_Z := none
noncomputable def f969_99 (x1 x2 x3 x4 x5 x6 : Int) (h : z_M) : z_Z := none
noncomputable def f969_100 (x1 x2 x3 x4 x5 x6 s1 : Int) (h : z_M) : z_Z := none
noncomputable def f969_114 (x1 x2 x3 x4 s1 : Int) (h : z_M) : z_Z := none
noncomputable def f969_115 (x1 x2 x3 x4 s1 s2 : Int) (h : z_M) : z_Z := none
noncomputable def f969_126 (x1 x2 x3 : Int) (h : z_M) : z_Z := none
noncomputable def f969_154 (x1 x2 x3 x7 x8 : Int) (h : z_M) : z_Z := none
noncomputable def f969_168 (x1 x2 x3 x7 x8 x9 : Int) (h : z_M) : z_Z := none
noncomputable def f969_185 (x1 x2 x3 x7 x8 x9 x10 x11 : Int) (h : z_M) : z_Z := none
noncomputable def f969_235 (x1 x2 x3 x7 x8 x9 x11 s0 : Int) (h : z_M) : z_Z := none
noncomputable def f969_236 (x1 x2 x3 x7 x8 x9 x11 s0 s1 : Int) (h : z_M) : z_Z := none
noncomputable def f969_245 (x1 x2 x3 x7 x8 x9 x10 : Int) (h : z_M) : z_Z := none
noncomputable def f969_308 (x1 x2 x3 x7 x8 : Int) (h : z_M) : z_Z := none
noncomputable def f969_314 (x7 : Int) (h : z_M) : z_Z := none
noncomputable def f970_0 (x1 x2 x3 x4 x5 : Int) (h : z_M) : z_Z := none
noncomputable def f970_22 (x1 x2 x3 x4 x5 s1 s2 : Int) (h : z_M) : z_Z := none
noncomputable def f970_23 (x1 x2 x3 x4 x5 s1 s2 s3 : Int) (h : z_M) : z_Z := none
noncomputable def f970_30 (h : z_M) : z_Z := none
noncomputable def f970_32 (x1 x2 x3 x4 x5 : Int) (h : z_M) : z_Z := none
noncomputable def f970_38 (x1 x2 x3 x4 x5 x6 x7 : Int) (h : z_M) : z_Z := none
noncomputable def f970_91 (x1 x2 x3 x4 x5 x7 x8 s0 : Int) (h : z_M) : z_Z := none
noncomputable def f970_92 (x1 x2 x3 x4 x5 x7 x8 s0 s1 : Int) (h : z_M) : z_Z := none
noncomputable def f970_110 (x6 : Int) (h : z_M) : z_Z := none
noncomputable def f971_0 (x1 x2 x3 : Int) (h : z_M) : z_Z := none
noncomputable def f971_29 (x1 x2 x3 s1 : Int) (h : z_M) : z_Z := none
noncomputable def f971_30 (x1 x2 x3 s1 s2 : Int) (h : z_M) : z_Z := none
noncomputable def f971_45 (h : z_M) : z_Z := none
noncomputable def f974_0 (x1 x2 x3 : Int) (h : z_M) : z_Z := none
noncomputable def f974_27 (x1 x2 x3 x4 : Int) (h : z_M) : z_Z := none
noncomputable def f974_42 (x1 x2 x3 x4 : Int) (h : z_M) : z_Z := none
noncomputable def f974_49 (x1 x2 x3 x4 : Int) (h : z_M) : z_Z := none
noncomputable def f974_53 (x1 x2 x3 x4 : Int) (h : z_M) : z_Z := none
noncomputable def f974_54 (x1 x2 x3 x4 s0 : Int) (h : z_M) : z_Z := none
noncomputable def f974_75 (x1 x2 x3 s1 s2 s3 : Int) (h : z_M) : z_Z := none
noncomputable def f974_76 (x1 x2 x3 s1 s2 s3 s4 : Int) (h : z_M) : z_Z := none
noncomputable def f974_86 (x1 x2 x3 s1 : Int) (h : z_M) : z_Z := none
noncomputable def f974_87 (x1 x2 x3 s1 s2 : Int) (h : z_M) : z_Z := none
noncomputable def f974_97 (x1 x2 x3 : Int) (h : z_M) : z_Z := none
noncomputable def f974_109 (x1 x2 x3 : Int) (h : z_M) : z_Z := none
noncomputable def f974_122 (x1 x2 x3 : Int) (h : z_M) : z_Z := none
noncomputable def f974_128 (x1 x2 x3 s0 : Int) (h : z_M) : z_Z := none
noncomputable def f974_143 (x1 x2 x3 x6 : Int) (h : z_M) : z_Z := none
noncomputable def f974_149 (x1 x2 x3 x6 s0 : Int) (h : z_M) : z_Z := none
noncomputable def f974_165 (x3 x6 x7 : Int) (h : z_M) : z_Z := none
noncomputable def f974_174 (x3 x6 x7 : Int) (h : z_M) : z_Z := none
noncomputable def f974_183 (x7 : Int) (h : z_M) : z_Z := none
noncomputable def f974_185 (s0 : Int) (h : z_M) : z_Z := none
noncomputable def f975_0 (x1 : Int) (h : z_M) : z_Z := none
noncomputable def f982_0 (x1 : Int) (h : z_M) : z_Z := none
noncomputable def f982_12 (x1 : Int) (h : z_M) : z_Z := none
noncomputable def f982_14 (x1 x2 : Int) (h : z_M) : z_Z := none
noncomputable def f982_46 (x1 : Int) (h : z_M) : z_Z := none
noncomputable def f984_0 (x1 x2 x3 : Int) (h : z_M) : z_Z := none
noncomputable def f984_25 (h : z_M) : z_Z := none
noncomputable def f984_29 (x1 x2 : Int) (h : z_M) : z_Z := none
noncomputable def f984_40 (s0 : Int) (h : z_M) : z_Z := none
noncomputable def f985_0 (x1 x2 x3 : Int) (h : z_M) : z_Z := none
noncomputable def f985_14 (x1 x2 x3 : Int) (h : z_M) : z_Z := none
noncomputable def f985_15 (x1 x2 x3 s1 : Int) (h : z_M) : z_Z := none
noncomputable def f985_36 (x2 : Int) (h : z_M) : z_Z := none
noncomputable def f985_39 (s0 : Int) (h : z_M) : z_Z := none
noncomputable def f1023_0 (x1 x2 : Int) (h : z_M) : z_Z := none
noncomputable def f1023_19 (x1 x2 : Int) (h : z_M) : z_Z := none
noncomputable def f1023_20 (x1 x2 s1 : Int) (h : z_M) : z_Z := none
noncomputable def f1023_34 (x1 x2 : Int) (h : z_M) : z_Z := none
noncomputable def f1023_111 (h : z_M) : z_Z := none
noncomputable def f1023_119 (x1 x2 x3 : Int) (h : z_M) : z_Z := none
noncomputable def f1023_158 (x1 x2 x4 : Int) (h : z_M) : z_Z := none
noncomputable def f1023_180 (x1 x2 : Int) (h : z_M) : z_Z := none
noncomputable def f1023_213 (x2 : Int) (h : z_M) : z_Z := none
noncomputable def f1023_255 (x2 : Int) (h : z_M) : z_Z := none
noncomputable def f1023_256 (x2 s1 : Int) (h : z_M) : z_Z := none
noncomputable def f1023_262 (x2 : Int) (h : z_M) : z_Z := none
noncomputable def f1023_286 (x2 : Int) (h : z_M) : z_Z := none
noncomputable def f1023_290 (x2 s1 : Int) (h : z_M) : z_Z := none
noncomputable def f1023_307 (x2 x4 x5 : Int) (h : z_M) : z_Z := none
noncomputable def f1023_340 (x2 x4 x5 : Int) (h : z_M) : z_Z := none
noncomputable def f1023_344 (x2 x4 x5 s1 : Int) (h : z_M) : z_Z := none
noncomputable def f1023_353 (x2 x4 : Int) (h : z_M) : z_Z := none
noncomputable def f1023_371 (x2 x4 : Int) (h : z_M) : z_Z := none
noncomputable def f1023_388 (x2 x4 x5 : Int) (h : z_M) : z_Z := none
noncomputable def f1023_447 (x2 x4 x5 s1 : Int) (h : z_M) : z_Z := none
noncomputable def f1023_448 (x2 x4 x5 s1 s2 : Int) (h : z_M) : z_Z := none
noncomputable def f1023_455 (h : z_M) : z_Z := none
noncomputable def f1056_0 (r0 : Nat) (x1 x2 x3 : Int) (h : z_M) : z_Z := none
noncomputable def f1056_78 (r0 : Nat) (x1 x2 x3 : Int) (r4 : Nat) (x6 x7 s0 : Int) (h : z_M) : z_Z := none
noncomputable def f1056_108 (r0 : Nat) (x1 x2 x3 : Int) (r4 : Nat) (x6 s0 : Int) (h : z_M) : z_Z := none
noncomputable def f1056_109 (r0 : Nat) (x1 x2 x3 : Int) (r4 : Nat) (x6 s0 s1 : Int) (h : z_M) : z_Z := none
noncomputable def f1057_0 (r0 : Nat) (h : z_M) : z_Z := none
noncomputable def f1057_4 (r0 : Nat) (x1 x2 : Int) (h : z_M) : z_Z := none
noncomputable def f1057_45 (r0 : Nat) (x1 x2 : Int) (h : z_M) : z_Z := none
noncomputable def f1057_46 (r0 : Nat) (x1 x2 s0 : Int) (h : z_M) : z_Z := none
noncomputable def f1057_63 (r0 : Nat) (x1 x2 x3 : Int) (h : z_M) : z_Z := none
noncomputable def f1057_69 (r0 : Nat) (x1 x2 x3 x4 : Int) (h : z_M) : z_Z := none
noncomputable def f1057_91 (r0 : Nat) (x1 x2 x3 x4 : Int) (h : z_M) : z_Z := none
noncomputable def f1057_112 (r0 : Nat) (x1 x2 : Int) (h : z_M) : z_Z := none
noncomputable def f1057_123 (r0 : Nat) (h : z_M) : z_Z := none
noncomputable def f1058_0 (r0 : Nat) (x1 : Int) (h : z_M) : z_Z := none
noncomputable def f1058_10 (r0 : Nat) (x1 x2 : Int) (h : z_M) : z_Z := none
noncomputable def f1058_54 (h : z_M) : z_Z := none
noncomputable def f1058_55 (r0 : Nat) (x1 : Int) (h : z_M) : z_Z := none
noncomputable def f1058_60 (r0 : Nat) (x1 x2 : Int) (h : z_M) : z_Z := none
noncomputable def f1058_75 (r0 : Nat) (x1 x2 x3 : Int) (h : z_M) : z_Z := none
noncomputable def f1058_99 (r0 : Nat) (x1 x2 : Int) (h : z_M) : z_Z := none
noncomputable def f1058_105 (h : z_M) : z_Z := none
noncomputable def f1059_0 (r0 r1 : Nat) (x2 x3 : Int) (h : z_M) : z_Z := none
noncomputable def f1060_0 (r0 r1 r2 : Nat) (x3 x4 x5 x6 : Int) (h : z_M) : z_Z := none
noncomputable def f1060_33 (r0 r2 : Nat) (x3 x4 x5 x6 : Int) (h : z_M) : z_Z := none
noncomputable def f1060_77 (r0 : Nat) (x4 x5 x7 : Int) (h : z_M) : z_Z := none
noncomputable def f1060_107 (h : z_M) : z_Z := none
noncomputable def f1061_0 (r0 : Nat) (h : z_M) : z_Z := none
noncomputable def f1061_16 (r0 : Nat) (h : z_M) : z_Z := none
noncomputable def f1061_20 (r0 : Nat) (h : z_M) : z_Z := none
noncomputable def f1061_33 (h : z_M) : z_Z := none
noncomputable def f1062_0 (r0 r1 : Nat) (x2 x3 : Int) (r4 : Nat) (h : z_M) : z_Z := none
noncomputable def f1062_30 (r0 r4 : Nat) (x5 : Int) (h : z_M) : z_Z := none
noncomputable def f1062_43 (r0 r4 : Nat) (s0 : Int) (h : z_M) : z_Z := none
noncomputable def f1062_59 (r0 r4 : Nat) (s0 : Int) (h : z_M) : z_Z := none
noncomputable def f1062_60 (r0 r4 : Nat) (s0 s1 : Int) (h : z_M) : z_Z := none
noncomputable def f1062_85 (r0 r4 : Nat) (s0 : Int) (h : z_M) : z_Z := none
noncomputable def f1062_86 (r0 r4 : Nat) (s0 s1 : Int) (h : z_M) : z_Z := none
noncomputable def f1062_104 (r0 r4 : Nat) (x6 : Int) (h : z_M) : z_Z := none
noncomputable def f1062_108 (r0 r4 : Nat) (x6 s0 : Int) (h : z_M) : z_Z := none
noncomputable def f1062_156 (x6 x8 : Int) (q0 : Nat) (s1 : Int) (h : z_M) : z_Z := none
noncomputable def f1062_158 (x6 : Int) (q0 : Nat) (s1 s2 : Int) (h : z_M) : z_Z := none
noncomputable def f1063_0 (r0 : Nat) (h : z_M) : z_Z := none
noncomputable def f1063_27 (r0 q0 : Nat) (h : z_M) : z_Z := none
noncomputable def f1063_29 (r0 q0 : Nat) (s1 : Int) (h : z_M) : z_Z := none
noncomputable def f1064_0 (r0 r1 r2 : Nat) (x3 x4 x5 x6 : Int) (h : z_M) : z_Z := none
noncomputable def f1065_0 (r0 : Nat) (x1 : Int) (h : z_M) : z_Z := none
noncomputable def f1066_0 (r0 : Nat) (x1 x2 : Int) (h : z_M) : z_Z := none
noncomputable def f1066_4 (r0 : Nat) (x1 x3 : Int) (h : z_M) : z_Z := none
noncomputable def f1066_23 (h : z_M) : z_Z := none
noncomputable def f1067_0 (r0 : Nat) (x1 : Int) (h : z_M) : z_Z := none
noncomputable def f1067_41 (h : z_M) : z_Z := none
noncomputable def f1068_0 (r0 : Nat) (x1 : Int) (r2 : Nat) (h : z_M) : z_Z := none
noncomputable def f1069_0 (r0 : Nat) (h : z_M) : z_Z := none
noncomputable def f1069_2 (r0 : Nat) (x1 : Int) (h : z_M) : z_Z := none
noncomputable def f1069_27 (x1 : Int) (h : z_M) : z_Z := none
noncomputable def f1070_0 (r0 : Nat) (x1 x2 : Int) (h : z_M) : z_Z := none
noncomputable def f1070_24 (r0 : Nat) (x1 x2 : Int) (h : z_M) : z_Z := none
noncomputable def f1070_25 (r0 : Nat) (x1 x2 s0 : Int) (h : z_M) : z_Z := none
noncomputable def f1070_46 (r0 : Nat) (x1 x2 x3 : Int) (h : z_M) : z_Z := none
noncomputable def f1070_47 (r0 : Nat) (x1 x2 x3 s0 : Int) (h : z_M) : z_Z := none
noncomputable def f1070_79 (x3 x4 : Int) (h : z_M) : z_Z := none
noncomputable def f1070_83 (x3 x4 : Int) (h : z_M) : z_Z := none
noncomputable def f1070_84 (x3 x4 s0 : Int) (h : z_M) : z_Z := none
noncomputable def f1070_106 (x3 x4 x5 : Int) (h : z_M) : z_Z := none
noncomputable def f1070_126 (x3 x4 x5 : Int) (h : z_M) : z_Z := none
noncomputable def f1070_133 (s0 : Int) (h : z_M) : z_Z := none
noncomputable def f1071_0 (r0 : Nat) (h : z_M) : z_Z := none
noncomputable def f1072_0 (r0 : Nat) (x1 x2 : Int) (h : z_M) : z_Z := none
noncomputable def f1072_28 (r0 : Nat) (x1 : Int) (h : z_M) : z_Z := none
noncomputable def f1076_0 (r0 : Nat) (h : z_M) : z_Z := none
noncomputable def f1076_20 (r0 : Nat) (h : z_M) : z_Z := none
noncomputable def f1076_21 (r0 : Nat) (s0 : Int) (h : z_M) : z_Z := none
noncomputable def f1076_65 (r0 : Nat) (h : z_M) : z_Z := none
noncomputable def f1076_66 (r0 : Nat) (s0 : Int) (h : z_M) : z_Z := none
noncomputable def f1076_95 (r0 : Nat) (h : z_M) : z_Z := none
noncomputable def f1076_96 (r0 : Nat) (s0 : Int) (h : z_M) : z_Z := none
noncomputable def f1076_115 (r0 : Nat) (h : z_M) : z_Z := none
noncomputable def f1077_0 (r0 r1 : Nat) (x2 x3 : Int) (r4 : Nat) (h : z_M) : z_Z := none
noncomputable def f1077_3 (r0 r4 : Nat) (x5 : Int) (h : z_M) : z_Z := none
noncomputable def f1077_24 (r0 r4 : Nat) (x5 : Int) (h : z_M) : z_Z := none
noncomputable def f1077_25 (r0 r4 : Nat) (x5 s0 : Int) (h : z_M) : z_Z := none
noncomputable def f1077_39 (r0 r4 : Nat) (x5 : Int) (h : z_M) : z_Z := none
noncomputable def f1077_62 (r0 : Nat) (x5 x6 : Int) (h : z_M) : z_Z := none
noncomputable def f1077_74 (s0 : Int) (h : z_M) : z_Z := none
noncomputable def f1077_90 (x7 : Int) (h : z_M) : z_Z := none
noncomputable def f1077_97 (s0 : Int) (h : z_M) : z_Z := none
noncomputable def f1078_0 (r0 r1 : Nat) (x2 x3 : Int) (h : z_M) : z_Z := none
noncomputable def f1080_0 (r0 : Nat) (x1 : Int) (h : z_M) : z_Z := none
noncomputable def f1080_20 (r0 : Nat) (x1 : Int) (h : z_M) : z_Z := none
noncomputable def f1080_21 (r0 : Nat) (x1 s0 : Int) (h : z_M) : z_Z := none
noncomputable def f1080_77 (r0 : Nat) (h : z_M) : z_Z := none
noncomputable def f1080_78 (r0 : Nat) (s0 : Int) (h : z_M) : z_Z := none
theorem e0_0 (x0 : Int) (h : z_M) : f0_0 x0 h = z_if (0 ≤ x0) (f0_9 x0 h) (f0_10 (z_w (-x0)) h) := sorry
theorem e0_9 (x0 : Int) (h : z_M) : f0_9 x0 h = f0_10 x0 h := sorry
theorem e0_10 (s0 : Int) (h : z_M) : f0_10 s0 h = z_ri s0 h := sorry
theorem e1_0 (x0 x1 : Int) (h : z_M) : f1_0 x0 x1 h = z_if (x0 < x1) (f1_9 x1 h) (f1_10 x0 h) := sorry
theorem e1_9 (x1 : Int) (h : z_M) : f1_9 x1 h = f1_10 x1 h := sorry
theorem e1_10 (s0 : Int) (h : z_M) : f1_10 s0 h = z_ri s0 h := sorry
theorem e2_0 (x0 x1 : Int) (h : z_M) : f2_0 x0 x1 h = z_if (x1 < x0) (f2_9 x1 h) (f2_10 x0 h) := sorry
theorem e2_9 (x1 : Int) (h : z_M) : f2_9 x1 h = f2_10 x1 h := sorry
theorem e2_10 (s0 : Int) (h : z_M) : f2_10 s0 h = z_ri s0 h := sorry
theorem e3_0 (r0 : Nat) (h : z_M) : f3_0 r0 h = z_g (z_een r0) (z_ri (z_eo r0) h) := sorry
theorem e6_0 (r0 r1 : Nat) (h : z_M) : f6_0 r0 r1 h = z_g (z_isk r0 h [0]) (z_g (z_isk r0 h [0]) (z_g (z_isk r0 (sI h r0 0 (z_w ((hI h r0 0) + 1))) [0]) (z_g (z_isk r0 (sI h r0 0 (z_w ((hI h r0 0) + 1))) [0]) (z_g (z_isk r0 (sI h r0 0 (z_w ((hI h r0 0) + 1))) [0]) (z_kv (f7_0 r0 r1 (hP (sI h r0 0 (z_w ((hI h r0 0) + 1))) r0 1) (hI (sI h r0 0 (z_w ((hI h r0 0) + 1))) r0 2) (sI h r0 0 (z_w ((hI h r0 0) + 1)))) (fun h1 => z_g (z_01 1) (z_ri 1 h1)) z_ex))))) := sorry
theorem e7_0 (r0 r1 r2 : Nat) (x3 : Int) (h : z_M) : f7_0 r0 r1 r2 x3 h = z_g (1000 ≤ hK h r2) (z_if (¬ x3 = (hN h r2 : Int)) (f7_11 r0 r1 r2 x3 h) (z_g (z_isk r0 h [0]) (z_kr (f12_0 r0 h) (fun v1 h1 => f7_11 r0 r1 v1 x3 h1) z_ex))) := sorry
theorem e7_11 (r0 r1 r2 : Nat) (x3 : Int) (h : z_M) : f7_11 r0 r1 r2 x3 h = z_g (z_isr r2 h x3 ∧ z_new r2 ∧ (r1 = 0 ∨ z_isk r1 h (z_elc (hK h r2)))) (z_g (z_isk r0 (sP h r2 (Int.toNat x3) r1) [0]) (z_rv (sI (sP h r2 (Int.toNat x3) r1) r0 2 (z_w (x3 + 1))))) := sorry
theorem e8_0 (r0 : Nat) (h : z_M) : f8_0 r0 h = z_g (z_isk r0 h [0]) (z_g (z_isk r0 h [0]) (z_g (z_isk r0 (sI h r0 0 (z_w ((hI h r0 0) + 1))) [0]) (z_g (z_isk r0 (sI h r0 0 (z_w ((hI h r0 0) + 1))) [0]) (z_g (z_isk r0 (sI h r0 0 (z_w ((hI h r0 0) + 1))) [0]) (f8_27 (hP (sI h r0 0 (z_w ((hI h r0 0) + 1))) r0 1) (hI (sI h r0 0 (z_w ((hI h r0 0) + 1))) r0 2) 0 (sI (sI h r0 0 (z_w ((hI h r0 0) + 1))) r0 2 0)))))) := sorry
theorem e8_27 (r1 : Nat) (x2 x3 : Int) (h : z_M) : f8_27 r1 x2 x3 h = z_if (x2 ≤ x3) (f8_42 h) (z_g (z_isr r1 h x3 ∧ z_new r1 ∧ (0 = 0 ∨ z_isk 0 h (z_elc (hK h r1)))) (f8_27 r1 x2 (z_w (x3 + 1)) (sP h r1 (Int.toNat x3) 0))) := sorry
theorem e8_42 (h : z_M) : f8_42 h = z_rv h := sorry
theorem e11_0 (r0 : Nat) (x1 : Int) (h : z_M) : f11_0 r0 x1 h = z_g (z_isk r0 h [0]) (z_ki (f34_0 x1 (hI h r0 2) h) (fun v1 h1 => z_g (z_isk r0 h1 [0]) (z_kr (f9_0 r0 x1 h1) (fun v2 h2 => z_rr v2 h2) z_ex)) z_ex) := sorry
theorem e15_0 (r0 : Nat) (h : z_M) : f15_0 r0 h = z_g (z_isk r0 h [0]) (z_if (¬ (hI h r0 2) = 0) (f15_11 h) (f15_12 1 h)) := sorry
theorem e15_11 (h : z_M) : f15_11 h = f15_12 0 h := sorry
theorem e15_12 (s0 : Int) (h : z_M) : f15_12 s0 h = z_g (z_01 s0) (z_ri s0 h) := sorry
theorem e18_0 (r0 : Nat) (h : z_M) : f18_0 r0 h = z_g (z_isk r0 h [0]) (z_ri (hI h r0 2) h) := sorry
theorem e26_0 (r0 : Nat) (h : z_M) : f26_0 r0 h = z_g (z_isk r0 h [2, 3, 5, 6, 7, 54, 63, 64, 65, 66, 67, 68, 69, 70, 76]) (z_kv (f23_0 r0 h) (fun h1 => z_rv h1) z_ex) := sorry
theorem e31_0 (x0 : Int) (h : z_M) : f31_0 x0 h = z_ri (z_and (z_w ((z_w ((z_and (z_w ((z_w ((z_and (z_w (x0 - (z_and (z_ushr x0 1) 1431655765))) 858993459) + (z_and (z_ushr (z_w (x0 - (z_and (z_ushr x0 1) 1431655765))) 2) 858993459))) + (z_ushr (z_w ((z_and (z_w (x0 - (z_and (z_ushr x0 1) 1431655765))) 858993459) + (z_and (z_ushr (z_w (x0 - (z_and (z_ushr x0 1) 1431655765))) 2) 858993459))) 4))) 252645135) + (z_ushr (z_and (z_w ((z_w ((z_and (z_w (x0 - (z_and (z_ushr x0 1) 1431655765))) 858993459) + (z_and (z_ushr (z_w (x0 - (z_and (z_ushr x0 1) 1431655765))) 2) 858993459))) + (z_ushr (z_w ((z_and (z_w (x0 - (z_and (z_ushr x0 1) 1431655765))) 858993459) + (z_and (z_ushr (z_w (x0 - (z_and (z_ushr x0 1) 1431655765))) 2) 858993459))) 4))) 252645135) 8))) + (z_ushr (z_w ((z_and (z_w ((z_w ((z_and (z_w (x0 - (z_and (z_ushr x0 1) 1431655765))) 858993459) + (z_and (z_ushr (z_w (x0 - (z_and (z_ushr x0 1) 1431655765))) 2) 858993459))) + (z_ushr (z_w ((z_and (z_w (x0 - (z_and (z_ushr x0 1) 1431655765))) 858993459) + (z_and (z_ushr (z_w (x0 - (z_and (z_ushr x0 1) 1431655765))) 2) 858993459))) 4))) 252645135) + (z_ushr (z_and (z_w ((z_w ((z_and (z_w (x0 - (z_and (z_ushr x0 1) 1431655765))) 858993459) + (z_and (z_ushr (z_w (x0 - (z_and (z_ushr x0 1) 1431655765))) 2) 858993459))) + (z_ushr (z_w ((z_and (z_w (x0 - (z_and (z_ushr x0 1) 1431655765))) 858993459) + (z_and (z_ushr (z_w (x0 - (z_and (z_ushr x0 1) 1431655765))) 2) 858993459))) 4))) 252645135) 8))) 16))) 63) h := sorry
theorem e32_0 (x0 : Int) (h : z_M) : f32_0 x0 h = z_if (0 < x0) (f32_15 x0 h) (z_if (¬ x0 = 0) (f32_13 h) (f32_14 32 h)) := sorry
theorem e32_13 (h : z_M) : f32_13 h = f32_14 0 h := sorry
theorem e32_14 (s0 : Int) (h : z_M) : f32_14 s0 h = z_ri s0 h := sorry
theorem e32_15 (x0 : Int) (h : z_M) : f32_15 x0 h = z_if (x0 < 65536) (f32_33 x0 31 h) (f32_33 (z_ushr x0 16) (z_w (31 + (-16))) h) := sorry
theorem e32_33 (x0 x1 : Int) (h : z_M) : f32_33 x0 x1 h = z_if (x0 < 256) (f32_48 x0 x1 h) (f32_48 (z_ushr x0 8) (z_w (x1 + (-8))) h) := sorry
theorem e32_48 (x0 x1 : Int) (h : z_M) : f32_48 x0 x1 h = z_if (x0 < 16) (f32_61 x0 x1 h) (f32_61 (z_ushr x0 4) (z_w (x1 + (-4))) h) := sorry
theorem e32_61 (x0 x1 : Int) (h : z_M) : f32_61 x0 x1 h = z_if (x0 < 4) (f32_73 x0 x1 h) (f32_73 (z_ushr x0 2) (z_w (x1 + (-2))) h) := sorry
theorem e32_73 (x0 x1 : Int) (h : z_M) : f32_73 x0 x1 h = z_ri (z_w (x1 - (z_ushr x0 1))) h := sorry
theorem e57_0 (r0 : Nat) (x1 x2 x3 : Int) (r4 : Nat) (h : z_M) : f57_0 r0 x1 x2 x3 r4 h = z_g (z_isk r0 h [10]) (z_ki (f112_0 r0 x1 x2 x3 h) (fun v1 h1 => z_g (z_isa r4 h1 1003 0 ∧ z_new r4) (f57_12 (sL h1 r4 (Int.toNat 0) v1))) (fun e2 h2 => z_if (z_isk e2 h2 [2, 3]) (f57_15 e2 h2) (z_if (z_isk e2 h2 [5]) (f57_19 e2 h2) (none)))) := sorry
theorem e57_12 (h : z_M) : f57_12 h = f57_23 h := sorry
theorem e57_15 (q0 : Nat) (h : z_M) : f57_15 q0 h = z_ri 1 h := sorry
theorem e57_19 (q0 : Nat) (h : z_M) : f57_19 q0 h = z_ri 2 h := sorry
theorem e57_23 (h : z_M) : f57_23 h = z_ri 0 h := sorry
theorem e58_0 (r0 : Nat) (x1 x2 : Int) (r3 : Nat) (h : z_M) : f58_0 r0 x1 x2 r3 h = z_g (z_isk r0 h [10]) (z_ki (f113_0 r0 x1 x2 h) (fun v1 h1 => z_g (z_isa r3 h1 1003 0 ∧ z_new r3) (f58_10 (sL h1 r3 (Int.toNat 0) v1))) (fun e2 h2 => z_if (z_isk e2 h2 [2, 3]) (f58_13 e2 h2) (z_if (z_isk e2 h2 [6]) (f58_17 e2 h2) (none)))) := sorry
theorem e58_10 (h : z_M) : f58_10 h = f58_21 h := sorry
theorem e58_13 (q0 : Nat) (h : z_M) : f58_13 q0 h = z_ri 1 h := sorry
theorem e58_17 (q0 : Nat) (h : z_M) : f58_17 q0 h = z_ri 2 h := sorry
theorem e58_21 (h : z_M) : f58_21 h = z_ri 0 h := sorry
theorem e59_0 (r0 : Nat) (x1 x2 x3 : Int) (r4 : Nat) (h : z_M) : f59_0 r0 x1 x2 x3 r4 h = z_g (z_isk r0 h [10]) (z_ki (f114_0 r0 x1 x2 x3 h) (fun v1 h1 => z_g (z_isa r4 h1 1003 0 ∧ z_new r4) (f59_12 (sL h1 r4 (Int.toNat 0) v1))) (fun e2 h2 => z_if (z_isk e2 h2 [2, 3]) (f59_15 e2 h2) (z_if (z_isk e2 h2 [6]) (f59_19 e2 h2) (none)))) := sorry
theorem e59_12 (h : z_M) : f59_12 h = f59_23 h := sorry
theorem e59_15 (q0 : Nat) (h : z_M) : f59_15 q0 h = z_ri 1 h := sorry
theorem e59_19 (q0 : Nat) (h : z_M) : f59_19 q0 h = z_ri 2 h := sorry
theorem e59_23 (h : z_M) : f59_23 h = z_ri 0 h := sorry
theorem e63_0 (r0 : Nat) (x1 x2 : Int) (r3 : Nat) (h : z_M) : f63_0 r0 x1 x2 r3 h = z_g (z_isk r0 h [10]) (z_ki (f119_0 r0 x1 x2 h) (fun v1 h1 => z_g (z_isa r3 h1 1003 0 ∧ z_new r3) (f63_10 (sL h1 r3 (Int.toNat 0) v1))) (fun e2 h2 => z_if (z_isk e2 h2 [2, 3]) (f63_13 e2 h2) (none))) := sorry
theorem e63_10 (h : z_M) : f63_10 h = f63_17 h := sorry
theorem e63_13 (q0 : Nat) (h : z_M) : f63_13 q0 h = z_ri 1 h := sorry
theorem e63_17 (h : z_M) : f63_17 h = z_ri 0 h := sorry
theorem e65_0 (r0 : Nat) (x1 x2 : Int) (h : z_M) : f65_0 r0 x1 x2 h = z_g (z_isk r0 h [10]) (z_kv (f122_0 r0 x1 x2 h) (fun h1 => f65_6 h1) (fun e2 h2 => z_if (z_isk e2 h2 [2, 3]) (f65_9 e2 h2) (none))) := sorry
theorem e65_6 (h : z_M) : f65_6 h = f65_12 h := sorry
theorem e65_9 (q0 : Nat) (h : z_M) : f65_9 q0 h = z_ri 1 h := sorry
theorem e65_12 (h : z_M) : f65_12 h = z_ri 0 h := sorry
theorem e67_0 (r0 : Nat) (x1 x2 : Int) (r3 : Nat) (h : z_M) : f67_0 r0 x1 x2 r3 h = z_g (z_isk r0 h [10]) (z_ki (f124_0 r0 x1 x2 h) (fun v1 h1 => z_g (z_isa r3 h1 1003 0 ∧ z_new r3) (f67_10 (sL h1 r3 (Int.toNat 0) v1))) (fun e2 h2 => z_if (z_isk e2 h2 [2, 3]) (f67_13 e2 h2) (z_if (z_isk e2 h2 [5]) (f67_17 e2 h2) (none)))) := sorry
theorem e67_10 (h : z_M) : f67_10 h = f67_21 h := sorry
theorem e67_13 (q0 : Nat) (h : z_M) : f67_13 q0 h = z_ri 1 h := sorry
theorem e67_17 (q0 : Nat) (h : z_M) : f67_17 q0 h = z_ri 2 h := sorry
theorem e67_21 (h : z_M) : f67_21 h = z_ri 0 h := sorry
theorem e69_0 (r0 : Nat) (x1 : Int) (r2 : Nat) (h : z_M) : f69_0 r0 x1 r2 h = z_g (z_isk r0 h [10]) (z_ki (f126_0 r0 x1 h) (fun v1 h1 => z_g (z_isa r2 h1 1003 0 ∧ z_new r2) (f69_9 (sL h1 r2 (Int.toNat 0) v1))) (fun e2 h2 => z_if (z_isk e2 h2 [5]) (f69_12 e2 h2) (none))) := sorry
theorem e69_9 (h : z_M) : f69_9 h = f69_15 h := sorry
theorem e69_12 (q0 : Nat) (h : z_M) : f69_12 q0 h = z_ri 1 h := sorry
theorem e69_15 (h : z_M) : f69_15 h = z_ri 0 h := sorry
theorem e70_0 (r0 : Nat) (x1 x2 : Int) (r3 : Nat) (h : z_M) : f70_0 r0 x1 x2 r3 h = z_g (z_isk r0 h [10]) (z_ki (f127_0 r0 x1 x2 h) (fun v1 h1 => z_g (z_isa r3 h1 1003 0 ∧ z_new r3) (f70_10 (sL h1 r3 (Int.toNat 0) v1))) (fun e2 h2 => z_if (z_isk e2 h2 [2, 3]) (f70_13 e2 h2) (z_if (z_isk e2 h2 [5]) (f70_17 e2 h2) (z_if (z_isk e2 h2 [7]) (f70_21 e2 h2) (none))))) := sorry
theorem e70_10 (h : z_M) : f70_10 h = f70_25 h := sorry
theorem e70_13 (q0 : Nat) (h : z_M) : f70_13 q0 h = z_ri 1 h := sorry
theorem e70_17 (q0 : Nat) (h : z_M) : f70_17 q0 h = z_ri 2 h := sorry
theorem e70_21 (q0 : Nat) (h : z_M) : f70_21 q0 h = z_ri 3 h := sorry
theorem e70_25 (h : z_M) : f70_25 h = z_ri 0 h := sorry
theorem e72_0 (r0 : Nat) (x1 : Int) (r2 : Nat) (h : z_M) : f72_0 r0 x1 r2 h = z_g (z_isk r0 h [10]) (z_ki (f131_0 r0 x1 h) (fun v1 h1 => z_g (z_isa r2 h1 1003 0 ∧ z_new r2) (f72_9 (sL h1 r2 (Int.toNat 0) v1))) (fun e2 h2 => z_if (z_isk e2 h2 [2, 3]) (f72_12 e2 h2) (none))) := sorry
theorem e72_9 (h : z_M) : f72_9 h = f72_15 h := sorry
theorem e72_12 (q0 : Nat) (h : z_M) : f72_12 q0 h = z_ri 1 h := sorry
theorem e72_15 (h : z_M) : f72_15 h = z_ri 0 h := sorry
theorem e73_0 (r0 : Nat) (x1 x2 x3 : Int) (r4 : Nat) (h : z_M) : f73_0 r0 x1 x2 x3 r4 h = z_g (z_isk r0 h [10]) (z_ki (f133_0 r0 x1 x2 x3 h) (fun v1 h1 => z_g (z_isa r4 h1 1003 0 ∧ z_new r4) (f73_12 (sL h1 r4 (Int.toNat 0) v1))) (fun e2 h2 => z_if (z_isk e2 h2 [2, 3]) (f73_15 e2 h2) (z_if (z_isk e2 h2 [6]) (f73_19 e2 h2) (z_if (z_isk e2 h2 [5]) (f73_23 e2 h2) (z_if (z_isk e2 h2 [7]) (f73_27 e2 h2) (none)))))) := sorry
theorem e73_12 (h : z_M) : f73_12 h = f73_31 h := sorry
theorem e73_15 (q0 : Nat) (h : z_M) : f73_15 q0 h = z_ri 1 h := sorry
theorem e73_19 (q0 : Nat) (h : z_M) : f73_19 q0 h = z_ri 2 h := sorry
theorem e73_23 (q0 : Nat) (h : z_M) : f73_23 q0 h = z_ri 3 h := sorry
theorem e73_27 (q0 : Nat) (h : z_M) : f73_27 q0 h = z_ri 4 h := sorry
theorem e73_31 (h : z_M) : f73_31 h = z_ri 0 h := sorry
theorem e75_0 (r0 : Nat) (x1 x2 x3 x4 x5 : Int) (r6 : Nat) (h : z_M) : f75_0 r0 x1 x2 x3 x4 x5 r6 h = z_g (z_isk r0 h [10]) (z_ki (f138_0 r0 x1 x2 x3 x4 x5 h) (fun v1 h1 => z_g (z_isa r6 h1 1003 0 ∧ z_new r6) (f75_16 (sL h1 r6 (Int.toNat 0) v1))) (fun e2 h2 => z_if (z_isk e2 h2 [2, 3]) (f75_19 e2 h2) (z_if (z_isk e2 h2 [6]) (f75_23 e2 h2) (z_if (z_isk e2 h2 [5]) (f75_27 e2 h2) (none))))) := sorry
theorem e75_16 (h : z_M) : f75_16 h = f75_31 h := sorry
theorem e75_19 (q0 : Nat) (h : z_M) : f75_19 q0 h = z_ri 1 h := sorry
theorem e75_23 (q0 : Nat) (h : z_M) : f75_23 q0 h = z_ri 2 h := sorry
theorem e75_27 (q0 : Nat) (h : z_M) : f75_27 q0 h = z_ri 3 h := sorry
theorem e75_31 (h : z_M) : f75_31 h = z_ri 0 h := sorry
theorem e76_0 (r0 : Nat) (x1 x2 x3 : Int) (r4 : Nat) (h : z_M) : f76_0 r0 x1 x2 x3 r4 h = z_g (z_isk r0 h [10]) (z_ki (f139_0 r0 x1 x2 x3 h) (fun v1 h1 => z_if (v1 = 0) (f76_17 r4 0 h1) (f76_18 r4 0 1 h1)) (fun e2 h2 => z_if (z_isk e2 h2 [2, 3]) (f76_22 e2 h2) (z_if (z_isk e2 h2 [6]) (f76_26 e2 h2) (none)))) := sorry
theorem e76_17 (q0 : Nat) (s1 : Int) (h : z_M) : f76_17 q0 s1 h = f76_18 q0 s1 0 h := sorry
theorem e76_18 (q0 : Nat) (s1 t2 : Int) (h : z_M) : f76_18 q0 s1 t2 h = z_g (z_isa q0 h 1003 s1 ∧ z_new q0) (f76_19 (sL h q0 (Int.toNat s1) t2)) := sorry
theorem e76_19 (h : z_M) : f76_19 h = f76_30 h := sorry
theorem e76_22 (q0 : Nat) (h : z_M) : f76_22 q0 h = z_ri 1 h := sorry
theorem e76_26 (q0 : Nat) (h : z_M) : f76_26 q0 h = z_ri 2 h := sorry
theorem e76_30 (h : z_M) : f76_30 h = z_ri 0 h := sorry
theorem e77_0 (r0 : Nat) (x1 x2 x3 : Int) (r4 : Nat) (h : z_M) : f77_0 r0 x1 x2 x3 r4 h = z_g (z_isk r0 h [10]) (z_ki (f141_0 r0 x1 x2 x3 h) (fun v1 h1 => z_if (v1 = 0) (f77_17 r4 0 h1) (f77_18 r4 0 1 h1)) (fun e2 h2 => z_if (z_isk e2 h2 [2, 3]) (f77_22 e2 h2) (z_if (z_isk e2 h2 [6]) (f77_26 e2 h2) (none)))) := sorry
theorem e77_17 (q0 : Nat) (s1 : Int) (h : z_M) : f77_17 q0 s1 h = f77_18 q0 s1 0 h := sorry
theorem e77_18 (q0 : Nat) (s1 t2 : Int) (h : z_M) : f77_18 q0 s1 t2 h = z_g (z_isa q0 h 1003 s1 ∧ z_new q0) (f77_19 (sL h q0 (Int.toNat s1) t2)) := sorry
theorem e77_19 (h : z_M) : f77_19 h = f77_30 h := sorry
theorem e77_22 (q0 : Nat) (h : z_M) : f77_22 q0 h = z_ri 1 h := sorry
theorem e77_26 (q0 : Nat) (h : z_M) : f77_26 q0 h = z_ri 2 h := sorry
theorem e77_30 (h : z_M) : f77_30 h = z_ri 0 h := sorry
theorem e78_0 (r0 : Nat) (x1 x2 x3 x4 : Int) (r5 : Nat) (h : z_M) : f78_0 r0 x1 x2 x3 x4 r5 h = z_g (z_isk r0 h [10]) (z_ki (f142_0 r0 x1 x2 x3 x4 h) (fun v1 h1 => z_g (z_isa r5 h1 1003 0 ∧ z_new r5) (f78_14 (sL h1 r5 (Int.toNat 0) v1))) (fun e2 h2 => z_if (z_isk e2 h2 [2, 3]) (f78_17 e2 h2) (z_if (z_isk e2 h2 [5]) (f78_21 e2 h2) (z_if (z_isk e2 h2 [7]) (f78_25 e2 h2) (none))))) := sorry
theorem e78_14 (h : z_M) : f78_14 h = f78_29 h := sorry
theorem e78_17 (q0 : Nat) (h : z_M) : f78_17 q0 h = z_ri 1 h := sorry
theorem e78_21 (q0 : Nat) (h : z_M) : f78_21 q0 h = z_ri 2 h := sorry
theorem e78_25 (q0 : Nat) (h : z_M) : f78_25 q0 h = z_ri 3 h := sorry
theorem e78_29 (h : z_M) : f78_29 h = z_ri 0 h := sorry
theorem e79_0 (r0 : Nat) (x1 x2 x3 x4 x5 x6 : Int) (r7 : Nat) (h : z_M) : f79_0 r0 x1 x2 x3 x4 x5 x6 r7 h = z_g (z_isk r0 h [10]) (z_ki (f151_0 r0 x1 x2 x3 x4 x5 x6 h) (fun v1 h1 => z_g (z_isa r7 h1 1003 0 ∧ z_new r7) (f79_18 (sL h1 r7 (Int.toNat 0) v1))) (fun e2 h2 => z_if (z_isk e2 h2 [2, 3]) (f79_21 e2 h2) (z_if (z_isk e2 h2 [6]) (f79_25 e2 h2) (z_if (z_isk e2 h2 [5]) (f79_29 e2 h2) (z_if (z_isk e2 h2 [7]) (f79_33 e2 h2) (none)))))) := sorry
theorem e79_18 (h : z_M) : f79_18 h = f79_37 h := sorry
theorem e79_21 (q0 : Nat) (h : z_M) : f79_21 q0 h = z_ri 1 h := sorry
theorem e79_25 (q0 : Nat) (h : z_M) : f79_25 q0 h = z_ri 2 h := sorry
theorem e79_29 (q0 : Nat) (h : z_M) : f79_29 q0 h = z_ri 3 h := sorry
theorem e79_33 (q0 : Nat) (h : z_M) : f79_33 q0 h = z_ri 4 h := sorry
theorem e79_37 (h : z_M) : f79_37 h = z_ri 0 h := sorry
theorem e84_0 (r0 : Nat) (x1 x2 x3 : Int) (h : z_M) : f84_0 r0 x1 x2 x3 h = z_g (z_isk r0 h [10]) (z_kv (f157_0 r0 x1 x2 x3 h) (fun h1 => f84_7 h1) (fun e2 h2 => z_if (z_isk e2 h2 [2, 3]) (f84_10 e2 h2) (z_if (z_isk e2 h2 [5]) (f84_14 e2 h2) (none)))) := sorry
theorem e84_7 (h : z_M) : f84_7 h = f84_18 h := sorry
theorem e84_10 (q0 : Nat) (h : z_M) : f84_10 q0 h = z_ri 1 h := sorry
theorem e84_14 (q0 : Nat) (h : z_M) : f84_14 q0 h = z_ri 2 h := sorry
theorem e84_18 (h : z_M) : f84_18 h = z_ri 0 h := sorry
theorem e86_0 (r0 : Nat) (x1 x2 x3 x4 x5 : Int) (r6 : Nat) (h : z_M) : f86_0 r0 x1 x2 x3 x4 x5 r6 h = z_g (z_isk r0 h [10]) (z_ki (f161_0 r0 x1 x2 x3 x4 x5 h) (fun v1 h1 => z_g (z_isa r6 h1 1003 0 ∧ z_new r6) (f86_16 (sL h1 r6 (Int.toNat 0) v1))) (fun e2 h2 => z_if (z_isk e2 h2 [2, 3]) (f86_19 e2 h2) (z_if (z_isk e2 h2 [6]) (f86_23 e2 h2) (z_if (z_isk e2 h2 [5]) (f86_27 e2 h2) (none))))) := sorry
theorem e86_16 (h : z_M) : f86_16 h = f86_31 h := sorry
theorem e86_19 (q0 : Nat) (h : z_M) : f86_19 q0 h = z_ri 1 h := sorry
theorem e86_23 (q0 : Nat) (h : z_M) : f86_23 q0 h = z_ri 2 h := sorry
theorem e86_27 (q0 : Nat) (h : z_M) : f86_27 q0 h = z_ri 3 h := sorry
theorem e86_31 (h : z_M) : f86_31 h = z_ri 0 h := sorry
theorem e88_0 (r0 : Nat) (x1 x2 x3 : Int) (r4 : Nat) (h : z_M) : f88_0 r0 x1 x2 x3 r4 h = z_g (z_isk r0 h [10]) (z_ki (f164_0 r0 x1 x2 x3 h) (fun v1 h1 => z_g (z_isa r4 h1 1003 0 ∧ z_new r4) (f88_12 (sL h1 r4 (Int.toNat 0) v1))) (fun e2 h2 => z_if (z_isk e2 h2 [2, 3]) (f88_15 e2 h2) (z_if (z_isk e2 h2 [6]) (f88_19 e2 h2) (z_if (z_isk e2 h2 [5]) (f88_23 e2 h2) (none))))) := sorry
theorem e88_12 (h : z_M) : f88_12 h = f88_27 h := sorry
theorem e88_15 (q0 : Nat) (h : z_M) : f88_15 q0 h = z_ri 1 h := sorry
theorem e88_19 (q0 : Nat) (h : z_M) : f88_19 q0 h = z_ri 2 h := sorry
theorem e88_23 (q0 : Nat) (h : z_M) : f88_23 q0 h = z_ri 3 h := sorry
theorem e88_27 (h : z_M) : f88_27 h = z_ri 0 h := sorry
theorem e89_0 (r0 : Nat) (x1 x2 x3 x4 x5 : Int) (r6 : Nat) (h : z_M) : f89_0 r0 x1 x2 x3 x4 x5 r6 h = z_g (z_isk r0 h [10]) (z_ki (f165_0 r0 x1 x2 x3 x4 x5 h) (fun v1 h1 => z_g (z_isa r6 h1 1003 0 ∧ z_new r6) (f89_16 (sL h1 r6 (Int.toNat 0) v1))) (fun e2 h2 => z_if (z_isk e2 h2 [2, 3]) (f89_19 e2 h2) (z_if (z_isk e2 h2 [6]) (f89_23 e2 h2) (z_if (z_isk e2 h2 [5]) (f89_27 e2 h2) (none))))) := sorry
theorem e89_16 (h : z_M) : f89_16 h = f89_31 h := sorry
theorem e89_19 (q0 : Nat) (h : z_M) : f89_19 q0 h = z_ri 1 h := sorry
theorem e89_23 (q0 : Nat) (h : z_M) : f89_23 q0 h = z_ri 2 h := sorry
theorem e89_27 (q0 : Nat) (h : z_M) : f89_27 q0 h = z_ri 3 h := sorry
theorem e89_31 (h : z_M) : f89_31 h = z_ri 0 h := sorry
theorem e90_0 (r0 : Nat) (x1 x2 x3 : Int) (h : z_M) : f90_0 r0 x1 x2 x3 h = z_g (z_isk r0 h [10]) (z_kv (f166_0 r0 x1 x2 x3 h) (fun h1 => f90_7 h1) (fun e2 h2 => z_if (z_isk e2 h2 [2, 3]) (f90_10 e2 h2) (z_if (z_isk e2 h2 [5]) (f90_14 e2 h2) (none)))) := sorry
theorem e90_7 (h : z_M) : f90_7 h = f90_18 h := sorry
theorem e90_10 (q0 : Nat) (h : z_M) : f90_10 q0 h = z_ri 1 h := sorry
theorem e90_14 (q0 : Nat) (h : z_M) : f90_14 q0 h = z_ri 2 h := sorry
theorem e90_18 (h : z_M) : f90_18 h = z_ri 0 h := sorry
theorem e92_0 (r0 : Nat) (x1 x2 x3 : Int) (r4 : Nat) (h : z_M) : f92_0 r0 x1 x2 x3 r4 h = z_g (z_isk r0 h [10]) (z_ki (f171_0 r0 x1 x2 x3 h) (fun v1 h1 => z_g (z_isa r4 h1 1003 0 ∧ z_new r4) (f92_12 (sL h1 r4 (Int.toNat 0) v1))) (fun e2 h2 => z_if (z_isk e2 h2 [2, 3]) (f92_15 e2 h2) (z_if (z_isk e2 h2 [5]) (f92_19 e2 h2) (none)))) := sorry
theorem e92_12 (h : z_M) : f92_12 h = f92_23 h := sorry
theorem e92_15 (q0 : Nat) (h : z_M) : f92_15 q0 h = z_ri 1 h := sorry
theorem e92_19 (q0 : Nat) (h : z_M) : f92_19 q0 h = z_ri 2 h := sorry
theorem e92_23 (h : z_M) : f92_23 h = z_ri 0 h := sorry
theorem e93_0 (r0 : Nat) (x1 : Int) (r2 : Nat) (h : z_M) : f93_0 r0 x1 r2 h = z_g (z_isk r0 h [10]) (z_ki (f175_0 r0 x1 h) (fun v1 h1 => z_g (z_isa r2 h1 1003 0 ∧ z_new r2) (f93_9 (sL h1 r2 (Int.toNat 0) v1))) (fun e2 h2 => z_if (z_isk e2 h2 [2, 3]) (f93_12 e2 h2) (none))) := sorry
theorem e93_9 (h : z_M) : f93_9 h = f93_15 h := sorry
theorem e93_12 (q0 : Nat) (h : z_M) : f93_12 q0 h = z_ri 1 h := sorry
theorem e93_15 (h : z_M) : f93_15 h = z_ri 0 h := sorry
theorem e100_0 (r0 : Nat) (x1 x2 : Int) (r3 : Nat) (h : z_M) : f100_0 r0 x1 x2 r3 h = z_g (z_isk r0 h [10]) (z_ki (f187_0 r0 x1 x2 h) (fun v1 h1 => z_g (z_isa r3 h1 1003 0 ∧ z_new r3) (f100_10 (sL h1 r3 (Int.toNat 0) v1))) (fun e2 h2 => z_if (z_isk e2 h2 [2, 3]) (f100_13 e2 h2) (z_if (z_isk e2 h2 [7]) (f100_17 e2 h2) (none)))) := sorry
theorem e100_10 (h : z_M) : f100_10 h = f100_21 h := sorry
theorem e100_13 (q0 : Nat) (h : z_M) : f100_13 q0 h = z_ri 1 h := sorry
theorem e100_17 (q0 : Nat) (h : z_M) : f100_17 q0 h = z_ri 2 h := sorry
theorem e100_21 (h : z_M) : f100_21 h = z_ri 0 h := sorry
theorem e110_0 (x0 : Int) (h : z_M) : f110_0 x0 h = z_if (¬ x0 = 0) (f110_12 h) (z_g (z_isk (hZ h + 1) (sN h 6 6) [6]) (z_kv (f29_0 (hZ h + 1) (sN h 6 6)) (fun h1 => z_g (0 < (hZ h + 1) ∧ z_isk (hZ h + 1) h1 z_exk) (z_ex (hZ h + 1) h1)) z_ex)) := sorry
theorem e110_12 (h : z_M) : f110_12 h = z_rv h := sorry
theorem e113_0 (r0 : Nat) (x1 x2 : Int) (h : z_M) : f113_0 r0 x1 x2 h = z_g (z_isk r0 h [10]) (z_kr (f167_0 r0 x1 h) (fun v1 h1 => z_g (z_isk r0 h1 [10]) (z_kr (f167_0 r0 x2 h1) (fun v2 h2 => z_g (z_isk v1 h2 [28]) (z_ki (f433_0 v1 h2) (fun v3 h3 => z_if (v3 = 0) (f113_56 v1 v2 h3) (z_g (z_isk v2 h3 [28]) (z_ki (f433_0 v2 h3) (fun v4 h4 => z_if (v4 = 0) (f113_56 v1 v2 h4) (z_g (z_isk v1 h4 [28]) (z_g (z_isk v2 h4 [28]) (z_if (¬ (hI h4 v1 0) = (hI h4 v2 0)) (f113_56 v1 v2 h4) (z_g (z_isk v1 h4 [28]) (z_g (z_isk v2 h4 [28]) (z_if (¬ (hI h4 v1 1) = (hI h4 v2 1)) (f113_56 v1 v2 h4) (f113_57 v1 v2 1 h4)))))))) z_ex))) z_ex)) z_ex)) z_ex) := sorry
theorem e113_56 (r3 r4 : Nat) (h : z_M) : f113_56 r3 r4 h = f113_57 r3 r4 0 h := sorry
theorem e113_57 (r3 r4 : Nat) (s0 : Int) (h : z_M) : f113_57 r3 r4 s0 h = z_kv (f110_0 s0 h) (fun h1 => f113_66 r3 r4 0 0 h1) z_ex := sorry
theorem e113_66 (r3 r4 : Nat) (x5 x6 : Int) (h : z_M) : f113_66 r3 r4 x5 x6 h = z_g (z_isk r3 h [28]) (z_if ((hI h r3 1) ≤ x6) (f113_105 x5 h) (z_g (z_isk r3 h [28]) (z_g (z_isa (hP h r3 2) h 1000 x6) (z_g (z_isk r4 h [28]) (z_g (z_isa (hP h r4 2) h 1000 x6) (z_ki (f31_0 (z_xor (hI h (hP h r3 2) (Int.toNat x6)) (hI h (hP h r4 2) (Int.toNat x6))) h) (fun v1 h1 => f113_66 r3 r4 (z_w (x5 + v1)) (z_w (x6 + 1)) h1) z_ex)))))) := sorry
theorem e113_105 (x5 : Int) (h : z_M) : f113_105 x5 h = z_ri x5 h := sorry
theorem e117_0 (r0 : Nat) (h : z_M) : f117_0 r0 h = z_g (z_isk r0 h [10]) (z_rv (sI h r0 4 0)) := sorry
theorem e128_0 (r0 : Nat) (x1 : Int) (h : z_M) : f128_0 r0 x1 h = z_ki (f201_0 x1 0 11 h) (fun v1 h1 => z_kv (f195_0 v1 h1) (fun h2 => z_g (z_isk r0 h2 [10]) (z_g (z_isr (hP h2 r0 2) h2 x1) (z_rr (hP h2 (hP h2 r0 2) (Int.toNat x1)) h2))) z_ex) z_ex := sorry
theorem e129_0 (r0 : Nat) (x1 : Int) (h : z_M) : f129_0 r0 x1 h = z_g (z_isk r0 h [10]) (z_g (z_isk r0 (sI h r0 8 0) [10]) (z_ri x1 (sI (sI h r0 8 0) r0 9 (-1)))) := sorry
theorem e131_0 (r0 : Nat) (x1 : Int) (h : z_M) : f131_0 r0 x1 h = z_g (z_isk r0 h [10]) (z_g (z_isk (hP h r0 18) h [26]) (z_ki (f406_0 (hP h r0 18) x1 h) (fun v1 h1 => z_ri v1 h1) z_ex)) := sorry
theorem e133_0 (r0 : Nat) (x1 x2 x3 : Int) (h : z_M) : f133_0 r0 x1 x2 x3 h = z_g (z_isk r0 h [10]) (z_kr (f158_0 r0 x1 h) (fun v1 h1 => z_g (z_isk r0 h1 [10]) (z_kr (f128_0 r0 x3 h1) (fun v2 h2 => z_g (z_isk v1 h2 [11]) (z_ki (f212_0 v1 h2) (fun v3 h3 => z_kv (f110_0 v3 h3) (fun h4 => z_ki (f201_0 x2 1 2 h4) (fun v5 h5 => z_kv (f194_0 v5 h5) (fun h6 => z_g (z_isk r0 h6 [10]) (z_kv (f197_0 r0 h6) (fun h7 => z_g (z_isk r0 h7 [10]) (z_kv (f147_0 r0 v1 x2 h7) (fun h8 => z_g (z_isk r0 h8 [10]) (z_ki (f143_0 r0 v2 h8) (fun v9 h9 => z_ri v9 h9) z_ex)) z_ex)) z_ex)) z_ex) z_ex) z_ex) z_ex)) z_ex)) z_ex) := sorry
theorem e134_0 (r0 r1 : Nat) (x2 : Int) (h : z_M) : f134_0 r0 r1 x2 h = z_g (z_isk r1 h [11]) (z_g (z_isk r1 h [11]) (z_g (z_isk r0 h [10]) (z_kv (f135_0 r0 x2 (hI h r1 0) (hI h r1 1) h) (fun h1 => f134_15 r0 r1 x2 0 h1) z_ex))) := sorry
theorem e134_15 (r0 r1 : Nat) (x2 x3 : Int) (h : z_M) : f134_15 r0 r1 x2 x3 h = z_g (z_isk r1 h [11]) (z_g (z_isk r1 h [11]) (z_if ((z_w ((hI h r1 0) * (hI h r1 1))) ≤ x3) (f134_71 h) (z_g (z_isk r0 h [10]) (z_g (z_isk r1 h [11]) (z_g (¬ (hI h r1 0) = 0) (z_g (z_isk r1 h [11]) (z_g (¬ (hI h r1 0) = 0) (z_g (z_isk r1 h [11]) (z_g (¬ (hI h r1 0) = 0) (z_g (z_isk r1 h [11]) (z_g (¬ (hI h r1 0) = 0) (z_g (z_isk r1 h [11]) (z_ki (f206_0 r1 (z_rem x3 (hI h r1 0)) (z_div x3 (hI h r1 0)) x2 h) (fun v1 h1 => z_g (z_isk (hP h r0 14) h1 [17]) (z_ki (f301_0 (hP h r0 14) (z_rem x3 (hI h r1 0)) (z_div x3 (hI h r1 0)) v1 h1) (fun v2 h2 => f134_15 r0 r1 x2 (z_w (x3 + 1)) h2) z_ex)) z_ex))))))))))))) := sorry
theorem e134_71 (h : z_M) : f134_71 h = z_rv h := sorry
theorem e135_0 (r0 : Nat) (x1 x2 x3 : Int) (h : z_M) : f135_0 r0 x1 x2 x3 h = z_g (z_isk r0 h [10]) (z_g (z_isk (hP h r0 14) h [17]) (z_kv (f295_0 (hP h r0 14) h) (fun h1 => z_g (z_isk r0 h1 [10]) (z_g (z_isk (hP h1 r0 14) h1 [17]) (z_ki (f310_0 (hP h1 r0 14) x1 h1) (fun v2 h2 => z_g (z_isk r0 h2 [10]) (z_g (z_isk (hP h2 r0 14) h2 [17]) (z_ki (f303_0 (hP h2 r0 14) x2 x3 0 0 (z_w (256 * x1)) 0 h2) (fun v3 h3 => z_rv h3) z_ex))) z_ex))) z_ex)) := sorry
theorem e138_0 (r0 : Nat) (x1 x2 x3 x4 x5 : Int) (h : z_M) : f138_0 r0 x1 x2 x3 x4 x5 h = z_g (z_isk r0 h [10]) (z_kr (f168_0 r0 x1 h) (fun v1 h1 => z_g (z_isk v1 h1 [28]) (z_ki (f430_0 v1 x2 x3 h1) (fun v2 h2 => z_kv (f195_0 v2 h2) (fun h3 => z_if (x4 ≤ 0) (f138_26 x2 x3 x4 x5 v1 h3) (f138_27 x2 x3 x4 x5 v1 1 h3)) z_ex) z_ex)) z_ex) := sorry
theorem e138_26 (x2 x3 x4 x5 : Int) (r6 : Nat) (h : z_M) : f138_26 x2 x3 x4 x5 r6 h = f138_27 x2 x3 x4 x5 r6 0 h := sorry
theorem e138_27 (x2 x3 x4 x5 : Int) (r6 : Nat) (s0 : Int) (h : z_M) : f138_27 x2 x3 x4 x5 r6 s0 h = z_kv (f194_0 s0 h) (fun h1 => f138_36 x2 x3 x4 x5 r6 0 x2 h1) z_ex := sorry
theorem e138_36 (x2 x3 x4 x5 : Int) (r6 : Nat) (x7 x8 : Int) (h : z_M) : f138_36 x2 x3 x4 x5 r6 x7 x8 h = z_g (z_isk r6 h [28]) (z_if ((hI h r6 0) ≤ x8) (f138_94 x7 h) (z_if (x4 ≤ (z_w (x8 - x2))) (f138_94 x7 h) (z_g (z_isk r6 h [28]) (z_ki (f432_0 r6 x8 x3 h) (fun v1 h1 => z_if (v1 = x5) (f138_74 x2 x3 x4 x5 r6 x8 x7 h1) (f138_75 x2 x3 x4 x5 r6 x8 x7 1 h1)) z_ex)))) := sorry
theorem e138_74 (x2 x3 x4 x5 : Int) (r6 : Nat) (x8 s0 : Int) (h : z_M) : f138_74 x2 x3 x4 x5 r6 x8 s0 h = f138_75 x2 x3 x4 x5 r6 x8 s0 0 h := sorry
theorem e138_75 (x2 x3 x4 x5 : Int) (r6 : Nat) (x8 s0 s1 : Int) (h : z_M) : f138_75 x2 x3 x4 x5 r6 x8 s0 s1 h = z_g (z_isk r6 h [28]) (z_kv (f434_0 r6 x8 x3 x5 h) (fun h1 => f138_36 x2 x3 x4 x5 r6 (z_w (s0 + s1)) (z_w (x8 + 1)) h1) z_ex) := sorry
theorem e138_94 (x7 : Int) (h : z_M) : f138_94 x7 h = z_ri x7 h := sorry
theorem e142_0 (r0 : Nat) (x1 x2 x3 x4 : Int) (h : z_M) : f142_0 r0 x1 x2 x3 x4 h = z_g (z_isk r0 h [10]) (z_kr (f128_0 r0 x1 h) (fun v1 h1 => z_g (z_isk r0 h1 [10]) (z_kr (f128_0 r0 x4 h1) (fun v2 h2 => z_g (z_isk v1 h2 [29]) (z_ki (f201_0 x2 0 (z_w ((hI h2 v1 1) - 1)) h2) (fun v3 h3 => z_kv (f195_0 v3 h3) (fun h4 => z_if (x3 < 0) (f142_40 x2 x3 v1 v2 h4) (f142_41 x2 x3 v1 v2 1 h4)) z_ex) z_ex)) z_ex)) z_ex) := sorry
theorem e142_40 (x2 x3 : Int) (r5 r6 : Nat) (h : z_M) : f142_40 x2 x3 r5 r6 h = f142_41 x2 x3 r5 r6 0 h := sorry
theorem e142_41 (x2 x3 : Int) (r5 r6 : Nat) (s0 : Int) (h : z_M) : f142_41 x2 x3 r5 r6 s0 h = z_kv (f194_0 s0 h) (fun h1 => z_g (z_isk r5 h1 [29]) (z_ki (f2_0 x3 (z_w ((hI h1 r5 1) - x2)) h1) (fun v2 h2 => z_g (z_isk r6 h2 [29]) (z_if (1500 < (z_w ((hI h2 r6 1) + v2))) (f142_75 x2 r5 r6 v2 h2) (f142_76 x2 r5 r6 v2 1 h2))) z_ex)) z_ex := sorry
theorem e142_75 (x2 : Int) (r5 r6 : Nat) (x7 : Int) (h : z_M) : f142_75 x2 r5 r6 x7 h = f142_76 x2 r5 r6 x7 0 h := sorry
theorem e142_76 (x2 : Int) (r5 r6 : Nat) (x7 s0 : Int) (h : z_M) : f142_76 x2 r5 r6 x7 s0 h = z_kv (f196_0 s0 h) (fun h1 => z_g (z_isk r5 h1 [29]) (z_g (z_isk r6 h1 [29]) (z_g (z_isk r6 h1 [29]) (z_g (z_cpo z_elc h1 (hP h1 r5 0) (hP h1 r6 0) x2 (hI h1 r6 1) x7) (z_g (z_isk r6 (z_cpy h1 (hP h1 r5 0) (Int.toNat x2) (hP h1 r6 0) (Int.toNat (hI h1 r6 1)) (Int.toNat x7)) [29]) (z_g (z_isk r6 (z_cpy h1 (hP h1 r5 0) (Int.toNat x2) (hP h1 r6 0) (Int.toNat (hI h1 r6 1)) (Int.toNat x7)) [29]) (z_ri x7 (sI (z_cpy h1 (hP h1 r5 0) (Int.toNat x2) (hP h1 r6 0) (Int.toNat (hI h1 r6 1)) (Int.toNat x7)) r6 1 (z_w ((hI (z_cpy h1 (hP h1 r5 0) (Int.toNat x2) (hP h1 r6 0) (Int.toNat (hI h1 r6 1)) (Int.toNat x7)) r6 1) + x7)))))))))) z_ex := sorry
theorem e143_0 (r0 r1 : Nat) (h : z_M) : f143_0 r0 r1 h = z_g (z_isk r0 h [10]) (z_if ((hI h r0 4) ≤ 1500) (f143_12 r0 r1 h) (z_ri (-1) h)) := sorry
theorem e143_12 (r0 r1 : Nat) (h : z_M) : f143_12 r0 r1 h = z_g (z_isk r0 h [10]) (z_g (z_isk r1 h [29]) (z_g (z_isk r0 h [10]) (z_g (z_cpo z_elc h (hP h r0 3) (hP h r1 0) 0 0 (hI h r0 4)) (z_g (z_isk r0 (z_cpy h (hP h r0 3) (Int.toNat 0) (hP h r1 0) (Int.toNat 0) (Int.toNat (hI h r0 4))) [10]) (z_g (z_isk r1 (z_cpy h (hP h r0 3) (Int.toNat 0) (hP h r1 0) (Int.toNat 0) (Int.toNat (hI h r0 4))) [29]) (z_g (z_isk r0 (sI (z_cpy h (hP h r0 3) (Int.toNat 0) (hP h r1 0) (Int.toNat 0) (Int.toNat (hI h r0 4))) r1 1 (hI (z_cpy h (hP h r0 3) (Int.toNat 0) (hP h r1 0) (Int.toNat 0) (Int.toNat (hI h r0 4))) r0 4)) [10]) (z_ri (hI (sI (z_cpy h (hP h r0 3) (Int.toNat 0) (hP h r1 0) (Int.toNat 0) (Int.toNat (hI h r0 4))) r1 1 (hI (z_cpy h (hP h r0 3) (Int.toNat 0) (hP h r1 0) (Int.toNat 0) (Int.toNat (hI h r0 4))) r0 4)) r0 4) (sI (z_cpy h (hP h r0 3) (Int.toNat 0) (hP h r1 0) (Int.toNat 0) (Int.toNat (hI h r0 4))) r1 1 (hI (z_cpy h (hP h r0 3) (Int.toNat 0) (hP h r1 0) (Int.toNat 0) (Int.toNat (hI h r0 4))) r0 4))))))))) := sorry
theorem e144_0 (r0 : Nat) (x1 : Int) (h : z_M) : f144_0 r0 x1 h = z_g (z_isk r0 h [10]) (z_g (z_isk r0 h [10]) (z_g (z_isk r0 h [10]) (z_g (z_isz (hP h r0 3) (sI h r0 4 (z_w ((hI h r0 4) + 1))) (hI h r0 4) ∧ z_new (hP h r0 3) ∧ (hK (sI h r0 4 (z_w ((hI h r0 4) + 1))) (hP h r0 3) = 1002 ∨ z_01 (z_i8 x1))) (z_rv (sI (sI h r0 4 (z_w ((hI h r0 4) + 1))) (hP h r0 3) (Int.toNat (hI h r0 4)) (z_i8 (z_i8 x1))))))) := sorry
theorem e147_0 (r0 r1 : Nat) (x2 : Int) (h : z_M) : f147_0 r0 r1 x2 h = z_g (z_isk r0 h [10]) (z_kv (f134_0 r0 r1 x2 h) (fun h1 => z_g (z_isk r0 h1 [10]) (z_g (z_isk (hP h1 r0 14) h1 [17]) (z_ki (f298_0 (hP h1 r0 14) h1) (fun v2 h2 => z_g (z_isk r0 h2 [10]) (z_kv (f117_0 r0 h2) (fun h3 => z_g (z_isk r0 h3 [10]) (z_kv (f144_0 r0 72 h3) (fun h4 => z_g (z_isk r0 h4 [10]) (z_kv (f144_0 r0 x2 h4) (fun h5 => z_g (z_isk r1 h5 [11]) (z_g (z_isk r0 h5 [10]) (z_kv (f144_0 r0 (hI h5 r1 0) h5) (fun h6 => z_g (z_isk r1 h6 [11]) (z_g (z_isk r0 h6 [10]) (z_kv (f144_0 r0 (hI h6 r1 1) h6) (fun h7 => f147_48 r0 v2 0 h7) z_ex))) z_ex))) z_ex)) z_ex)) z_ex)) z_ex))) z_ex) := sorry
theorem e147_48 (r0 : Nat) (x3 x4 : Int) (h : z_M) : f147_48 r0 x3 x4 h = z_if (x3 ≤ x4) (f147_73 h) (z_g (z_isk r0 h [10]) (z_g (z_isk (hP h r0 14) h [17]) (z_ki (f294_0 (hP h r0 14) x4 h) (fun v1 h1 => z_g (z_isk r0 h1 [10]) (z_kv (f144_0 r0 v1 h1) (fun h2 => f147_48 r0 x3 (z_w (x4 + 1)) h2) z_ex)) z_ex))) := sorry
theorem e147_73 (h : z_M) : f147_73 h = z_rv h := sorry
theorem e148_0 (r0 : Nat) (x1 x2 x3 x4 x5 : Int) (h : z_M) : f148_0 r0 x1 x2 x3 x4 x5 h = z_g (z_isk r0 h [10]) (z_g (z_isr (hP h r0 0) h x1) (z_g (z_isk r0 h [10]) (z_g (z_isr (hP h r0 10) h x3) (z_g (z_isk (hP h (hP h r0 0) (Int.toNat x1)) h [11]) (z_g (z_isk (hP h (hP h r0 0) (Int.toNat x1)) h [11]) (z_g (z_isk (hP h (hP h r0 10) (Int.toNat x3)) h [39]) (z_ki (f522_0 (hP h (hP h r0 10) (Int.toNat x3)) (hI h (hP h (hP h r0 0) (Int.toNat x1)) 0) (hI h (hP h (hP h r0 0) (Int.toNat x1)) 1) 8 x2 h) (fun v1 h1 => f148_38 r0 x1 x2 x4 x5 (hP h (hP h r0 0) (Int.toNat x1)) (hP h (hP h r0 10) (Int.toNat x3)) 0 h1) z_ex))))))) := sorry
theorem e148_38 (r0 : Nat) (x1 x2 x4 x5 : Int) (r6 r7 : Nat) (x8 : Int) (h : z_M) : f148_38 r0 x1 x2 x4 x5 r6 r7 x8 h = z_if (x2 ≤ x8) (f148_127 r0 x4 x5 r7 h) (f148_47 r0 x1 x2 x4 x5 r6 r7 x8 0 h) := sorry
theorem e148_47 (r0 : Nat) (x1 x2 x4 x5 : Int) (r6 r7 : Nat) (x8 x9 : Int) (h : z_M) : f148_47 r0 x1 x2 x4 x5 r6 r7 x8 x9 h = z_g (z_isk r6 h [11]) (z_g (z_isk r6 h [11]) (z_if ((z_w ((hI h r6 0) * (hI h r6 1))) ≤ x9) (f148_121 r0 x1 x2 x4 x5 r6 r7 x8 h) (z_g (z_isk r6 h [11]) (z_g (¬ (hI h r6 0) = 0) (z_g (z_isk r6 h [11]) (z_g (¬ (hI h r6 0) = 0) (z_g (z_isk r0 h [10]) (z_g (z_isr (hP h r0 0) h (z_w (x1 + x8))) (z_g (z_isk r6 h [11]) (z_g (¬ (hI h r6 0) = 0) (z_g (z_isk r6 h [11]) (z_g (¬ (hI h r6 0) = 0) (z_g (z_isk (hP h (hP h r0 0) (Int.toNat (z_w (x1 + x8)))) h [11]) (z_ki (f204_0 (hP h (hP h r0 0) (Int.toNat (z_w (x1 + x8)))) (z_rem x9 (hI h r6 0)) (z_div x9 (hI h r6 0)) h) (fun v1 h1 => z_g (z_isk r7 h1 [39]) (z_ki (f524_0 r7 x8 (z_rem x9 (hI h r6 0)) (z_div x9 (hI h r6 0)) v1 h1) (fun v2 h2 => f148_47 r0 x1 x2 x4 x5 r6 r7 x8 (z_w (x9 + 1)) h2) z_ex)) z_ex)))))))))))))) := sorry
theorem e148_121 (r0 : Nat) (x1 x2 x4 x5 : Int) (r6 r7 : Nat) (x8 : Int) (h : z_M) : f148_121 r0 x1 x2 x4 x5 r6 r7 x8 h = f148_38 r0 x1 x2 x4 x5 r6 r7 (z_w (x8 + 1)) h := sorry
theorem e148_127 (r0 : Nat) (x4 x5 : Int) (r7 : Nat) (h : z_M) : f148_127 r0 x4 x5 r7 h = z_g (z_isk r7 h [39]) (z_ki (f523_0 r7 2 x5 h) (fun v1 h1 => z_g (z_isk r7 h1 [39]) (z_ki (f541_0 r7 x4 h1) (fun v2 h2 => z_g (z_isk r0 h2 [10]) (z_kv (f117_0 r0 h2) (fun h3 => f148_152 r0 r7 v2 0 h3) z_ex)) z_ex)) z_ex) := sorry
theorem e148_152 (r0 r7 : Nat) (x8 x9 : Int) (h : z_M) : f148_152 r0 r7 x8 x9 h = z_if (x8 ≤ x9) (f148_176 h) (z_g (z_isk r7 h [39]) (z_ki (f513_0 r7 x9 h) (fun v1 h1 => z_g (z_isk r0 h1 [10]) (z_kv (f144_0 r0 v1 h1) (fun h2 => f148_152 r0 r7 x8 (z_w (x9 + 1)) h2) z_ex)) z_ex)) := sorry
theorem e148_176 (h : z_M) : f148_176 h = z_rv h := sorry
theorem e151_0 (r0 : Nat) (x1 x2 x3 x4 x5 x6 : Int) (h : z_M) : f151_0 r0 x1 x2 x3 x4 x5 x6 h = z_g (z_isk r0 h [10]) (z_kr (f158_0 r0 x1 h) (fun v1 h1 => z_g (z_isk r0 h1 [10]) (z_kr (f128_0 r0 x6 h1) (fun v2 h2 => z_ki (f201_0 x2 1 3 h2) (fun v3 h3 => z_kv (f194_0 v3 h3) (fun h4 => z_if (8 < (z_w (x1 + x2))) (f151_39 r0 x1 x2 x3 x4 x5 v1 v2 h4) (f151_40 r0 x1 x2 x3 x4 x5 v1 v2 1 h4)) z_ex) z_ex) z_ex)) z_ex) := sorry
theorem e151_39 (r0 : Nat) (x1 x2 x3 x4 x5 : Int) (r7 r8 : Nat) (h : z_M) : f151_39 r0 x1 x2 x3 x4 x5 r7 r8 h = f151_40 r0 x1 x2 x3 x4 x5 r7 r8 0 h := sorry
theorem e151_40 (r0 : Nat) (x1 x2 x3 x4 x5 : Int) (r7 r8 : Nat) (s0 : Int) (h : z_M) : f151_40 r0 x1 x2 x3 x4 x5 r7 r8 s0 h = z_kv (f195_0 s0 h) (fun h1 => f151_46 r0 x1 x2 x3 x4 x5 r7 r8 0 h1) z_ex := sorry
theorem e151_46 (r0 : Nat) (x1 x2 x3 x4 x5 : Int) (r7 r8 : Nat) (x9 : Int) (h : z_M) : f151_46 r0 x1 x2 x3 x4 x5 r7 r8 x9 h = z_if (x2 ≤ x9) (f151_98 r0 x1 x2 x3 x4 x5 r8 h) (z_g (z_isk r0 h [10]) (z_g (z_isr (hP h r0 0) h (z_w (x1 + x9))) (z_g (z_isk (hP h (hP h r0 0) (Int.toNat (z_w (x1 + x9)))) h [11]) (z_ki (f212_0 (hP h (hP h r0 0) (Int.toNat (z_w (x1 + x9)))) h) (fun v1 h1 => z_if (v1 = 0) (f151_88 r0 x1 x2 x3 x4 x5 r7 r8 x9 h1) (z_g (z_isk r0 h1 [10]) (z_g (z_isr (hP h1 r0 0) h1 (z_w (x1 + x9))) (z_g (z_isk (hP h1 (hP h1 r0 0) (Int.toNat (z_w (x1 + x9)))) h1 [11]) (z_ki (f211_0 (hP h1 (hP h1 r0 0) (Int.toNat (z_w (x1 + x9)))) r7 h1) (fun v2 h2 => z_if (v2 = 0) (f151_88 r0 x1 x2 x3 x4 x5 r7 r8 x9 h2) (f151_89 r0 x1 x2 x3 x4 x5 r7 r8 x9 1 h2)) z_ex))))) z_ex)))) := sorry
theorem e151_88 (r0 : Nat) (x1 x2 x3 x4 x5 : Int) (r7 r8 : Nat) (x9 : Int) (h : z_M) : f151_88 r0 x1 x2 x3 x4 x5 r7 r8 x9 h = f151_89 r0 x1 x2 x3 x4 x5 r7 r8 x9 0 h := sorry
theorem e151_89 (r0 : Nat) (x1 x2 x3 x4 x5 : Int) (r7 r8 : Nat) (x9 s0 : Int) (h : z_M) : f151_89 r0 x1 x2 x3 x4 x5 r7 r8 x9 s0 h = z_kv (f110_0 s0 h) (fun h1 => f151_46 r0 x1 x2 x3 x4 x5 r7 r8 (z_w (x9 + 1)) h1) z_ex := sorry
theorem e151_98 (r0 : Nat) (x1 x2 x3 x4 x5 : Int) (r8 : Nat) (h : z_M) : f151_98 r0 x1 x2 x3 x4 x5 r8 h = z_ki (f201_0 x3 0 2 h) (fun v1 h1 => z_if (v1 = 0) (f151_140 r0 x1 x2 x3 x4 x5 r8 h1) (z_ki (f201_0 x4 0 3 h1) (fun v2 h2 => z_if (v2 = 0) (f151_140 r0 x1 x2 x3 x4 x5 r8 h2) (z_ki (f201_0 x5 0 12 h2) (fun v3 h3 => z_if (v3 = 0) (f151_140 r0 x1 x2 x3 x4 x5 r8 h3) (f151_141 r0 x1 x2 x3 x4 x5 r8 1 h3)) z_ex)) z_ex)) z_ex := sorry
theorem e151_140 (r0 : Nat) (x1 x2 x3 x4 x5 : Int) (r8 : Nat) (h : z_M) : f151_140 r0 x1 x2 x3 x4 x5 r8 h = f151_141 r0 x1 x2 x3 x4 x5 r8 0 h := sorry
theorem e151_141 (r0 : Nat) (x1 x2 x3 x4 x5 : Int) (r8 : Nat) (s0 : Int) (h : z_M) : f151_141 r0 x1 x2 x3 x4 x5 r8 s0 h = z_kv (f194_0 s0 h) (fun h1 => z_g (z_isk r0 h1 [10]) (z_kv (f197_0 r0 h1) (fun h2 => z_g (z_isk r0 h2 [10]) (z_kv (f148_0 r0 x1 x2 x3 x4 x5 h2) (fun h3 => z_g (z_isk r0 h3 [10]) (z_ki (f143_0 r0 r8 h3) (fun v4 h4 => z_ri v4 h4) z_ex)) z_ex)) z_ex)) z_ex := sorry
theorem e158_0 (r0 : Nat) (x1 : Int) (h : z_M) : f158_0 r0 x1 h = z_ki (f201_0 x1 0 7 h) (fun v1 h1 => z_kv (f195_0 v1 h1) (fun h2 => z_g (z_isk r0 h2 [10]) (z_g (z_isr (hP h2 r0 0) h2 x1) (z_rr (hP h2 (hP h2 r0 0) (Int.toNat x1)) h2))) z_ex) z_ex := sorry
theorem e161_0 (r0 : Nat) (x1 x2 x3 x4 x5 : Int) (h : z_M) : f161_0 r0 x1 x2 x3 x4 x5 h = z_g (z_isk r0 h [10]) (z_kr (f181_0 r0 x1 h) (fun v1 h1 => z_g (z_isk v1 h1 [11]) (z_ki (f207_0 v1 x2 x3 h1) (fun v2 h2 => z_kv (f195_0 v2 h2) (fun h3 => z_if (x4 ≤ 0) (f161_39 x2 x3 x4 x5 v1 h3) (z_ki (f201_0 x5 0 255 h3) (fun v4 h4 => z_if (v4 = 0) (f161_39 x2 x3 x4 x5 v1 h4) (f161_40 x2 x3 x4 x5 v1 1 h4)) z_ex)) z_ex) z_ex)) z_ex) := sorry
theorem e161_39 (x2 x3 x4 x5 : Int) (r6 : Nat) (h : z_M) : f161_39 x2 x3 x4 x5 r6 h = f161_40 x2 x3 x4 x5 r6 0 h := sorry
theorem e161_40 (x2 x3 x4 x5 : Int) (r6 : Nat) (s0 : Int) (h : z_M) : f161_40 x2 x3 x4 x5 r6 s0 h = z_kv (f194_0 s0 h) (fun h1 => f161_49 x2 x3 x4 x5 r6 0 x2 h1) z_ex := sorry
theorem e161_49 (x2 x3 x4 x5 : Int) (r6 : Nat) (x7 x8 : Int) (h : z_M) : f161_49 x2 x3 x4 x5 r6 x7 x8 h = z_g (z_isk r6 h [11]) (z_if ((hI h r6 0) ≤ x8) (f161_112 x7 h) (z_if (x4 ≤ (z_w (x8 - x2))) (f161_112 x7 h) (z_g (z_isk r6 h [11]) (z_ki (f204_0 r6 x8 x3 h) (fun v1 h1 => z_if (v1 = x5) (f161_87 x2 x3 x4 x5 r6 x8 x7 h1) (f161_88 x2 x3 x4 x5 r6 x8 x7 1 h1)) z_ex)))) := sorry
theorem e161_87 (x2 x3 x4 x5 : Int) (r6 : Nat) (x8 s0 : Int) (h : z_M) : f161_87 x2 x3 x4 x5 r6 x8 s0 h = f161_88 x2 x3 x4 x5 r6 x8 s0 0 h := sorry
theorem e161_88 (x2 x3 x4 x5 : Int) (r6 : Nat) (x8 s0 s1 : Int) (h : z_M) : f161_88 x2 x3 x4 x5 r6 x8 s0 s1 h = z_g (z_isk r6 h [11]) (z_g (z_isa (hP h r6 2) h 1000 (z_w ((z_w (12 * x3)) + x8)) ∧ z_new (hP h r6 2)) (f161_49 x2 x3 x4 x5 r6 (z_w (s0 + s1)) (z_w (x8 + 1)) (sI h (hP h r6 2) (Int.toNat (z_w ((z_w (12 * x3)) + x8))) x5))) := sorry
theorem e161_112 (x7 : Int) (h : z_M) : f161_112 x7 h = z_ri x7 h := sorry
theorem e164_0 (r0 : Nat) (x1 x2 x3 : Int) (h : z_M) : f164_0 r0 x1 x2 x3 h = z_g (z_isk r0 h [10]) (z_kr (f167_0 r0 x1 h) (fun v1 h1 => z_g (z_isk r0 h1 [10]) (z_kr (f158_0 r0 x3 h1) (fun v2 h2 => z_g (z_isk v1 h2 [28]) (z_ki (f433_0 v1 h2) (fun v3 h3 => z_kv (f110_0 v3 h3) (fun h4 => z_ki (f201_0 x2 1 3 h4) (fun v5 h5 => z_kv (f194_0 v5 h5) (fun h6 => z_g (z_isk v1 h6 [28]) (z_g (¬ x2 = 0) (z_if (¬ (z_rem (hI h6 v1 0) x2) = 0) (f164_82 x2 v1 v2 h6) (z_g (z_isk v1 h6 [28]) (z_g (¬ x2 = 0) (z_if (¬ (z_rem (hI h6 v1 1) x2) = 0) (f164_82 x2 v1 v2 h6) (z_g (z_isk v1 h6 [28]) (z_g (¬ x2 = 0) (z_if (12 < (z_div (hI h6 v1 0) x2)) (f164_82 x2 v1 v2 h6) (z_g (z_isk v1 h6 [28]) (z_g (¬ x2 = 0) (z_if (12 < (z_div (hI h6 v1 1) x2)) (f164_82 x2 v1 v2 h6) (f164_83 x2 v1 v2 1 h6))))))))))))) z_ex) z_ex) z_ex) z_ex)) z_ex)) z_ex) := sorry
theorem e164_82 (x2 : Int) (r4 r5 : Nat) (h : z_M) : f164_82 x2 r4 r5 h = f164_83 x2 r4 r5 0 h := sorry
theorem e164_83 (x2 : Int) (r4 r5 : Nat) (s0 : Int) (h : z_M) : f164_83 x2 r4 r5 s0 h = z_kv (f110_0 s0 h) (fun h1 => z_g (z_isk r4 h1 [28]) (z_g (¬ x2 = 0) (z_g (z_isk r4 h1 [28]) (z_g (¬ x2 = 0) (z_g (z_isk r5 h1 [11]) (z_kv (f205_0 r5 (z_div (hI h1 r4 0) x2) (z_div (hI h1 r4 1) x2) 1 h1) (fun h2 => f164_112 x2 r4 r5 0 0 h2) z_ex)))))) z_ex := sorry
theorem e164_112 (x2 : Int) (r4 r5 : Nat) (x6 x7 : Int) (h : z_M) : f164_112 x2 r4 r5 x6 x7 h = z_g (z_isk r5 h [11]) (z_g (z_isk r5 h [11]) (z_if ((z_w ((hI h r5 0) * (hI h r5 1))) ≤ x7) (f164_202 x6 h) (z_g (z_isk r5 h [11]) (z_g (¬ (hI h r5 0) = 0) (z_g (z_isk r5 h [11]) (z_g (¬ (hI h r5 0) = 0) (z_g (z_isk r4 h [28]) (z_ki (f429_0 r4 (z_w (x2 * (z_rem x7 (hI h r5 0)))) (z_w (x2 * (z_div x7 (hI h r5 0)))) x2 x2 h) (fun v1 h1 => z_g (¬ (z_w (x2 * x2)) = 0) (z_g (z_isk r5 h1 [11]) (z_kv (f214_0 r5 (z_rem x7 (hI h r5 0)) (z_div x7 (hI h r5 0)) (z_w (255 - (z_div (z_w (255 * v1)) (z_w (x2 * x2))))) 1 h1) (fun h2 => f164_112 x2 r4 r5 (z_w (x6 + (z_w (255 - (z_div (z_w (255 * v1)) (z_w (x2 * x2))))))) (z_w (x7 + 1)) h2) z_ex))) z_ex)))))))) := sorry
theorem e164_202 (x6 : Int) (h : z_M) : f164_202 x6 h = z_ri x6 h := sorry
theorem e165_0 (r0 : Nat) (x1 x2 x3 x4 x5 : Int) (h : z_M) : f165_0 r0 x1 x2 x3 x4 x5 h = z_g (z_isk r0 h [10]) (z_kr (f181_0 r0 x1 h) (fun v1 h1 => z_g (z_isk v1 h1 [11]) (z_ki (f207_0 v1 x2 x3 h1) (fun v2 h2 => z_kv (f195_0 v2 h2) (fun h3 => z_if (x4 ≤ 0) (f165_26 x2 x3 x4 x5 v1 h3) (f165_27 x2 x3 x4 x5 v1 1 h3)) z_ex) z_ex)) z_ex) := sorry
theorem e165_26 (x2 x3 x4 x5 : Int) (r6 : Nat) (h : z_M) : f165_26 x2 x3 x4 x5 r6 h = f165_27 x2 x3 x4 x5 r6 0 h := sorry
theorem e165_27 (x2 x3 x4 x5 : Int) (r6 : Nat) (s0 : Int) (h : z_M) : f165_27 x2 x3 x4 x5 r6 s0 h = z_kv (f194_0 s0 h) (fun h1 => f165_36 x2 x3 x4 x5 r6 0 x2 h1) z_ex := sorry
theorem e165_36 (x2 x3 x4 x5 : Int) (r6 : Nat) (x7 x8 : Int) (h : z_M) : f165_36 x2 x3 x4 x5 r6 x7 x8 h = z_g (z_isk r6 h [11]) (z_if ((hI h r6 0) ≤ x8) (f165_99 x7 h) (z_if (x4 ≤ (z_w (x8 - x2))) (f165_99 x7 h) (z_g (z_isk r6 h [11]) (z_ki (f210_0 r6 x8 x3 h) (fun v1 h1 => z_if (v1 = x5) (f165_74 x2 x3 x4 x5 r6 x8 x7 h1) (f165_75 x2 x3 x4 x5 r6 x8 x7 1 h1)) z_ex)))) := sorry
theorem e165_74 (x2 x3 x4 x5 : Int) (r6 : Nat) (x8 s0 : Int) (h : z_M) : f165_74 x2 x3 x4 x5 r6 x8 s0 h = f165_75 x2 x3 x4 x5 r6 x8 s0 0 h := sorry
theorem e165_75 (x2 x3 x4 x5 : Int) (r6 : Nat) (x8 s0 s1 : Int) (h : z_M) : f165_75 x2 x3 x4 x5 r6 x8 s0 s1 h = z_g (z_isk r6 h [11]) (z_g (z_isz (hP h r6 3) h (z_w ((z_w (12 * x3)) + x8)) ∧ z_new (hP h r6 3) ∧ (hK h (hP h r6 3) = 1002 ∨ z_01 x5)) (f165_36 x2 x3 x4 x5 r6 (z_w (s0 + s1)) (z_w (x8 + 1)) (sI h (hP h r6 3) (Int.toNat (z_w ((z_w (12 * x3)) + x8))) (z_i8 x5)))) := sorry
theorem e165_99 (x7 : Int) (h : z_M) : f165_99 x7 h = z_ri x7 h := sorry
theorem e167_0 (r0 : Nat) (x1 : Int) (h : z_M) : f167_0 r0 x1 h = z_ki (f201_0 x1 0 3 h) (fun v1 h1 => z_kv (f195_0 v1 h1) (fun h2 => z_g (z_isk r0 h2 [10]) (z_g (z_isr (hP h2 r0 1) h2 x1) (z_rr (hP h2 (hP h2 r0 1) (Int.toNat x1)) h2))) z_ex) z_ex := sorry
theorem e171_0 (r0 : Nat) (x1 x2 x3 : Int) (h : z_M) : f171_0 r0 x1 x2 x3 h = z_ki (f201_0 x1 0 2 h) (fun v1 h1 => z_kv (f194_0 v1 h1) (fun h2 => z_if (¬ x1 = 0) (f171_25 r0 x1 x2 x3 x2 0 h2) (f171_39 r0 x1 x2 x3 x2 0 7 h2)) z_ex) z_ex := sorry
theorem e171_25 (r0 : Nat) (x1 x2 x3 t0 t1 : Int) (h : z_M) : f171_25 r0 x1 x2 x3 t0 t1 h = z_if (¬ x1 = 1) (f171_36 r0 x1 x2 x3 t0 t1 h) (f171_39 r0 x1 x2 x3 t0 t1 3 h) := sorry
theorem e171_36 (r0 : Nat) (x1 x2 x3 t0 t1 : Int) (h : z_M) : f171_36 r0 x1 x2 x3 t0 t1 h = f171_39 r0 x1 x2 x3 t0 t1 11 h := sorry
theorem e171_39 (r0 : Nat) (x1 x2 x3 t0 t1 t2 : Int) (h : z_M) : f171_39 r0 x1 x2 x3 t0 t1 t2 h = z_ki (f201_0 t0 t1 t2 h) (fun v1 h1 => z_kv (f195_0 v1 h1) (fun h2 => z_if (¬ x1 = 2) (f171_57 r0 x1 x2 x3 x3 0 h2) (f171_60 r0 x1 x2 x3 x3 0 0 h2)) z_ex) z_ex := sorry
theorem e171_57 (r0 : Nat) (x1 x2 x3 t0 t1 : Int) (h : z_M) : f171_57 r0 x1 x2 x3 t0 t1 h = f171_60 r0 x1 x2 x3 t0 t1 2 h := sorry
theorem e171_60 (r0 : Nat) (x1 x2 x3 t0 t1 t2 : Int) (h : z_M) : f171_60 r0 x1 x2 x3 t0 t1 t2 h = z_ki (f201_0 t0 t1 t2 h) (fun v1 h1 => z_kv (f194_0 v1 h1) (fun h2 => z_if (¬ x1 = 0) (f171_84 r0 x1 x2 x3 h2) (z_g (z_isk r0 h2 [10]) (z_g (z_isr (hP h2 r0 0) h2 x2) (z_g (z_isk r0 h2 [10]) (z_ki (f172_0 r0 (hP h2 (hP h2 r0 0) (Int.toNat x2)) x3 h2) (fun v3 h3 => f171_112 v3 h3) z_ex))))) z_ex) z_ex := sorry
theorem e171_84 (r0 : Nat) (x1 x2 x3 : Int) (h : z_M) : f171_84 r0 x1 x2 x3 h = z_if (¬ x1 = 1) (f171_103 r0 x2 h) (z_g (z_isk r0 h [10]) (z_g (z_isr (hP h r0 1) h x2) (z_g (z_isk r0 h [10]) (z_ki (f173_0 r0 (hP h (hP h r0 1) (Int.toNat x2)) x3 h) (fun v1 h1 => f171_112 v1 h1) z_ex)))) := sorry
theorem e171_103 (r0 : Nat) (x2 : Int) (h : z_M) : f171_103 r0 x2 h = z_g (z_isk r0 h [10]) (z_g (z_isr (hP h r0 2) h x2) (z_g (z_isk (hP h (hP h r0 2) (Int.toNat x2)) h [29]) (f171_112 (hI h (hP h (hP h r0 2) (Int.toNat x2)) 1) h))) := sorry
theorem e171_112 (s0 : Int) (h : z_M) : f171_112 s0 h = z_ri s0 h := sorry
theorem e172_0 (r0 r1 : Nat) (x2 : Int) (h : z_M) : f172_0 r0 r1 x2 h = z_g (z_isk r1 h [11]) (z_ki (f212_0 r1 h) (fun v1 h1 => z_if (¬ v1 = 0) (f172_20 r1 x2 h1) (z_if (2 ≤ x2) (f172_16 h1) (f172_47 (-1) h1))) z_ex) := sorry
theorem e172_16 (h : z_M) : f172_16 h = f172_47 0 h := sorry
theorem e172_20 (r1 : Nat) (x2 : Int) (h : z_M) : f172_20 r1 x2 h = z_if (¬ x2 = 0) (f172_31 r1 x2 h) (z_g (z_isk r1 h [11]) (f172_47 (hI h r1 0) h)) := sorry
theorem e172_31 (r1 : Nat) (x2 : Int) (h : z_M) : f172_31 r1 x2 h = z_if (¬ x2 = 1) (f172_43 r1 h) (z_g (z_isk r1 h [11]) (f172_47 (hI h r1 1) h)) := sorry
theorem e172_43 (r1 : Nat) (h : z_M) : f172_43 r1 h = z_g (z_isk r1 h [11]) (z_ki (f209_0 r1 h) (fun v1 h1 => f172_47 v1 h1) z_ex) := sorry
theorem e172_47 (s0 : Int) (h : z_M) : f172_47 s0 h = z_ri s0 h := sorry
theorem e173_0 (r0 r1 : Nat) (x2 : Int) (h : z_M) : f173_0 r0 r1 x2 h = z_g (z_isk r1 h [28]) (z_ki (f433_0 r1 h) (fun v1 h1 => z_if (¬ v1 = 0) (f173_20 r1 x2 h1) (z_if (2 ≤ x2) (f173_16 h1) (f173_47 (-1) h1))) z_ex) := sorry
theorem e173_16 (h : z_M) : f173_16 h = f173_47 0 h := sorry
theorem e173_20 (r1 : Nat) (x2 : Int) (h : z_M) : f173_20 r1 x2 h = z_if (¬ x2 = 0) (f173_31 r1 x2 h) (z_g (z_isk r1 h [28]) (f173_47 (hI h r1 0) h)) := sorry
theorem e173_31 (r1 : Nat) (x2 : Int) (h : z_M) : f173_31 r1 x2 h = z_if (¬ x2 = 1) (f173_43 r1 h) (z_g (z_isk r1 h [28]) (f173_47 (hI h r1 1) h)) := sorry
theorem e173_43 (r1 : Nat) (h : z_M) : f173_43 r1 h = z_g (z_isk r1 h [28]) (z_ki (f428_0 r1 h) (fun v1 h1 => f173_47 v1 h1) z_ex) := sorry
theorem e173_47 (s0 : Int) (h : z_M) : f173_47 s0 h = z_ri s0 h := sorry
theorem e187_0 (r0 : Nat) (x1 x2 : Int) (h : z_M) : f187_0 r0 x1 x2 h = z_g (z_isk r0 h [10]) (z_kr (f128_0 r0 x1 h) (fun v1 h1 => z_g (z_isk r0 h1 [10]) (z_kr (f158_0 r0 x2 h1) (fun v2 h2 => z_g (z_isk r0 h2 [10]) (z_kv (f197_0 r0 h2) (fun h3 => z_g (z_isk v1 h3 [29]) (z_if ((hI h3 v1 1) < 4) (f187_83 r0 h3) (z_g (z_isk v1 h3 [29]) (z_ki (f435_0 v1 0 h3) (fun v4 h4 => z_if (¬ v4 = 72) (f187_83 r0 h4) (z_g (z_isk v1 h4 [29]) (z_ki (f435_0 v1 1 h4) (fun v5 h5 => z_ki (f201_0 v5 1 2 h5) (fun v6 h6 => z_if (v6 = 0) (f187_83 r0 h6) (z_g (z_isk v1 h6 [29]) (z_ki (f435_0 v1 2 h6) (fun v7 h7 => z_ki (f201_0 v7 1 12 h7) (fun v8 h8 => z_if (v8 = 0) (f187_83 r0 h8) (z_g (z_isk v1 h8 [29]) (z_ki (f435_0 v1 3 h8) (fun v9 h9 => z_ki (f201_0 v9 1 12 h9) (fun v10 h10 => z_if (¬ v10 = 0) (f187_90 r0 v1 v2 h10) (f187_83 r0 h10)) z_ex) z_ex))) z_ex) z_ex))) z_ex) z_ex))) z_ex)))) z_ex)) z_ex)) z_ex) := sorry
theorem e187_83 (r0 : Nat) (h : z_M) : f187_83 r0 h = z_g (z_isk r0 h [10]) (z_ki (f203_0 r0 1 0 h) (fun v1 h1 => z_ri v1 h1) z_ex) := sorry
theorem e187_90 (r0 r3 r4 : Nat) (h : z_M) : f187_90 r0 r3 r4 h = z_g (z_isk r3 h [29]) (z_ki (f435_0 r3 1 h) (fun v1 h1 => z_g (z_isk r3 h1 [29]) (z_ki (f435_0 r3 2 h1) (fun v2 h2 => z_g (z_isk r3 h2 [29]) (z_ki (f435_0 r3 3 h2) (fun v3 h3 => z_g (z_isk r0 h3 [10]) (z_kv (f135_0 r0 v1 v2 v3 h3) (fun h4 => f187_116 r0 r3 r4 v1 4 h4) z_ex)) z_ex)) z_ex)) z_ex) := sorry
theorem e187_116 (r0 r3 r4 : Nat) (x5 x6 : Int) (h : z_M) : f187_116 r0 r3 r4 x5 x6 h = z_g (z_isk r3 h [29]) (z_if ((hI h r3 1) ≤ x6) (f187_145 r0 r3 r4 x5 h) (z_g (z_isk r0 h [10]) (z_g (z_isk r3 h [29]) (z_ki (f435_0 r3 x6 h) (fun v1 h1 => z_g (z_isk (hP h r0 14) h1 [17]) (z_ki (f299_0 (hP h r0 14) v1 h1) (fun v2 h2 => f187_116 r0 r3 r4 x5 (z_w (x6 + 1)) h2) z_ex)) z_ex)))) := sorry
theorem e187_145 (r0 r3 r4 : Nat) (x5 : Int) (h : z_M) : f187_145 r0 r3 r4 x5 h = z_g (z_isk r0 h [10]) (z_g (z_isk (hP h r0 14) h [17]) (z_ki (f297_0 (hP h r0 14) h) (fun v1 h1 => z_if (0 ≤ v1) (f187_170 r0 r3 r4 x5 v1 h1) (z_g (z_isk r0 h1 [10]) (z_ki (f203_0 r0 (z_w (9 - v1)) 4 h1) (fun v2 h2 => z_ri v2 h2) z_ex))) z_ex)) := sorry
theorem e187_170 (r0 r3 r4 : Nat) (x5 x6 : Int) (h : z_M) : f187_170 r0 r3 r4 x5 x6 h = z_g (z_isk r3 h [29]) (z_ki (f435_0 r3 2 h) (fun v1 h1 => z_g (z_isk r3 h1 [29]) (z_ki (f435_0 r3 3 h1) (fun v2 h2 => z_g (z_isk r4 h2 [11]) (z_kv (f205_0 r4 v1 v2 1 h2) (fun h3 => f187_189 r0 r4 x5 x6 0 h3) z_ex)) z_ex)) z_ex) := sorry
theorem e187_189 (r0 r4 : Nat) (x5 x6 x7 : Int) (h : z_M) : f187_189 r0 r4 x5 x6 x7 h = z_g (z_isk r4 h [11]) (z_g (z_isk r4 h [11]) (z_if ((z_w ((hI h r4 0) * (hI h r4 1))) ≤ x7) (f187_270 r0 x6 h) (z_g (z_isk r4 h [11]) (z_g (¬ (hI h r4 0) = 0) (z_g (z_isk r4 h [11]) (z_g (¬ (hI h r4 0) = 0) (z_g (z_isk r0 h [10]) (z_g (z_isk r4 h [11]) (z_g (¬ (hI h r4 0) = 0) (z_g (z_isk r4 h [11]) (z_g (¬ (hI h r4 0) = 0) (z_g (z_isk (hP h r0 14) h [17]) (z_ki (f302_0 (hP h r0 14) (z_rem x7 (hI h r4 0)) (z_div x7 (hI h r4 0)) h) (fun v1 h1 => z_g (¬ (z_w (x5 * x5)) = 0) (z_g (z_isk r4 h1 [11]) (z_kv (f214_0 r4 (z_rem x7 (hI h r4 0)) (z_div x7 (hI h r4 0)) (z_w (255 - (z_div (z_w (255 * v1)) (z_w (x5 * x5))))) 1 h1) (fun h2 => f187_189 r0 r4 x5 x6 (z_w (x7 + 1)) h2) z_ex))) z_ex))))))))))))) := sorry
theorem e187_270 (r0 : Nat) (x6 : Int) (h : z_M) : f187_270 r0 x6 h = z_g (z_isk r0 h [10]) (z_ki (f129_0 r0 x6 h) (fun v1 h1 => z_ri v1 h1) z_ex) := sorry
theorem e194_0 (x0 : Int) (h : z_M) : f194_0 x0 h = z_if (¬ x0 = 0) (f194_12 h) (z_g (z_isk (hZ h + 1) (sN h 5 6) [5]) (z_kv (f28_0 (hZ h + 1) (sN h 5 6)) (fun h1 => z_g (0 < (hZ h + 1) ∧ z_isk (hZ h + 1) h1 z_exk) (z_ex (hZ h + 1) h1)) z_ex)) := sorry
theorem e194_12 (h : z_M) : f194_12 h = z_rv h := sorry
theorem e195_0 (x0 : Int) (h : z_M) : f195_0 x0 h = z_if (¬ x0 = 0) (f195_12 h) (z_g (z_isk (hZ h + 1) (sN h 2 6) [2, 3]) (z_kv (f27_0 (hZ h + 1) (sN h 2 6)) (fun h1 => z_g (0 < (hZ h + 1) ∧ z_isk (hZ h + 1) h1 z_exk) (z_ex (hZ h + 1) h1)) z_ex)) := sorry
theorem e195_12 (h : z_M) : f195_12 h = z_rv h := sorry
theorem e196_0 (x0 : Int) (h : z_M) : f196_0 x0 h = z_if (¬ x0 = 0) (f196_12 h) (z_g (z_isk (hZ h + 1) (sN h 7 6) [7]) (z_kv (f33_0 (hZ h + 1) (sN h 7 6)) (fun h1 => z_g (0 < (hZ h + 1) ∧ z_isk (hZ h + 1) h1 z_exk) (z_ex (hZ h + 1) h1)) z_ex)) := sorry
theorem e196_12 (h : z_M) : f196_12 h = z_rv h := sorry
theorem e197_0 (r0 : Nat) (h : z_M) : f197_0 r0 h = z_g (z_isk r0 h [10]) (z_kv (f198_0 r0 1 h) (fun h1 => z_rv h1) z_ex) := sorry
theorem e198_0 (r0 : Nat) (x1 : Int) (h : z_M) : f198_0 r0 x1 h = z_g (z_isk r0 h [10]) (z_if (300 < (z_w ((hI h r0 7) + x1))) (f198_16 r0 x1 h) (f198_17 r0 x1 1 h)) := sorry
theorem e198_16 (r0 : Nat) (x1 : Int) (h : z_M) : f198_16 r0 x1 h = f198_17 r0 x1 0 h := sorry
theorem e198_17 (r0 : Nat) (x1 s0 : Int) (h : z_M) : f198_17 r0 x1 s0 h = z_kv (f196_0 s0 h) (fun h1 => z_g (z_isk r0 h1 [10]) (z_g (z_isk r0 h1 [10]) (z_rv (sI h1 r0 7 (z_w ((hI h1 r0 7) + x1)))))) z_ex := sorry
theorem e201_0 (y0 y2 y4 : Int) (h : z_M) : f201_0 y0 y2 y4 h = z_if ((z_lcmp y0 y2) < 0) (f201_17 h) (z_if (0 < (z_lcmp y0 y4)) (f201_17 h) (f201_18 1 h)) := sorry
theorem e201_17 (h : z_M) : f201_17 h = f201_18 0 h := sorry
theorem e201_18 (s0 : Int) (h : z_M) : f201_18 s0 h = z_g (z_01 s0) (z_ri s0 h) := sorry
theorem e203_0 (r0 : Nat) (x1 x2 : Int) (h : z_M) : f203_0 r0 x1 x2 h = z_g (z_isk r0 h [10]) (z_g (z_isk r0 (sI h r0 8 x1) [10]) (z_ri (z_w ((-1) - x2)) (sI (sI h r0 8 x1) r0 9 x2))) := sorry
theorem e204_0 (r0 : Nat) (x1 x2 : Int) (h : z_M) : f204_0 r0 x1 x2 h = z_g (z_isk r0 h [11]) (z_g (z_isa (hP h r0 2) h 1000 (z_w ((z_w (12 * x2)) + x1))) (z_ri (hI h (hP h r0 2) (Int.toNat (z_w ((z_w (12 * x2)) + x1)))) h)) := sorry
theorem e205_0 (r0 : Nat) (x1 x2 x3 : Int) (h : z_M) : f205_0 r0 x1 x2 x3 h = z_g (z_isk r0 h [11]) (z_g (z_isk r0 (sI h r0 0 x1) [11]) (f205_13 r0 x3 0 (sI (sI h r0 0 x1) r0 1 x2))) := sorry
theorem e205_13 (r0 : Nat) (x3 x4 : Int) (h : z_M) : f205_13 r0 x3 x4 h = z_if (144 ≤ x4) (f205_43 h) (z_g (z_isk r0 h [11]) (z_g (z_isa (hP h r0 2) h 1000 x4 ∧ z_new (hP h r0 2)) (z_g (z_isk r0 (sI h (hP h r0 2) (Int.toNat x4) 0) [11]) (z_g (z_isz (hP (sI h (hP h r0 2) (Int.toNat x4) 0) r0 3) (sI h (hP h r0 2) (Int.toNat x4) 0) x4 ∧ z_new (hP (sI h (hP h r0 2) (Int.toNat x4) 0) r0 3) ∧ (hK (sI h (hP h r0 2) (Int.toNat x4) 0) (hP (sI h (hP h r0 2) (Int.toNat x4) 0) r0 3) = 1002 ∨ z_01 x3)) (f205_13 r0 x3 (z_w (x4 + 1)) (sI (sI h (hP h r0 2) (Int.toNat x4) 0) (hP (sI h (hP h r0 2) (Int.toNat x4) 0) r0 3) (Int.toNat x4) (z_i8 x3))))))) := sorry
theorem e205_43 (h : z_M) : f205_43 h = z_rv h := sorry
theorem e206_0 (r0 : Nat) (x1 x2 x3 : Int) (h : z_M) : f206_0 r0 x1 x2 x3 h = z_g (z_isk r0 h [11]) (z_ki (f210_0 r0 x1 x2 h) (fun v1 h1 => z_if (v1 = 0) (f206_33 h1) (z_g (z_isk r0 h1 [11]) (z_ki (f204_0 r0 x1 x2 h1) (fun v2 h2 => z_g (¬ (255 : Int) = 0) (f206_34 (z_div (z_w ((z_w ((z_w ((z_w (255 - v2)) * x3)) * x3)) + 127)) 255) h2)) z_ex))) z_ex) := sorry
theorem e206_33 (h : z_M) : f206_33 h = f206_34 0 h := sorry
theorem e206_34 (s0 : Int) (h : z_M) : f206_34 s0 h = z_ri s0 h := sorry
theorem e209_0 (r0 : Nat) (h : z_M) : f209_0 r0 h = f209_4 r0 0 0 h := sorry
theorem e209_4 (r0 : Nat) (x1 x2 : Int) (h : z_M) : f209_4 r0 x1 x2 h = z_g (z_isk r0 h [11]) (z_g (z_isk r0 h [11]) (z_if ((z_w ((hI h r0 0) * (hI h r0 1))) ≤ x2) (f209_50 x1 h) (z_g (z_isk r0 h [11]) (z_g (¬ (hI h r0 0) = 0) (z_g (z_isk r0 h [11]) (z_g (¬ (hI h r0 0) = 0) (z_g (z_isk r0 h [11]) (z_ki (f210_0 r0 (z_rem x2 (hI h r0 0)) (z_div x2 (hI h r0 0)) h) (fun v1 h1 => z_if (v1 = 0) (f209_41 r0 x2 x1 h1) (f209_42 r0 x2 x1 1 h1)) z_ex)))))))) := sorry
theorem e209_41 (r0 : Nat) (x2 s0 : Int) (h : z_M) : f209_41 r0 x2 s0 h = f209_42 r0 x2 s0 0 h := sorry
theorem e209_42 (r0 : Nat) (x2 s0 s1 : Int) (h : z_M) : f209_42 r0 x2 s0 s1 h = f209_4 r0 (z_w (s0 + s1)) (z_w (x2 + 1)) h := sorry
theorem e209_50 (x1 : Int) (h : z_M) : f209_50 x1 h = z_ri x1 h := sorry
theorem e210_0 (r0 : Nat) (x1 x2 : Int) (h : z_M) : f210_0 r0 x1 x2 h = z_g (z_isk r0 h [11]) (z_g (z_isz (hP h r0 3) h (z_w ((z_w (12 * x2)) + x1))) (z_g (z_01 (hI h (hP h r0 3) (Int.toNat (z_w ((z_w (12 * x2)) + x1))))) (z_ri (hI h (hP h r0 3) (Int.toNat (z_w ((z_w (12 * x2)) + x1)))) h))) := sorry
theorem e212_0 (r0 : Nat) (h : z_M) : f212_0 r0 h = z_g (z_isk r0 h [11]) (z_if ((hI h r0 0) ≤ 0) (f212_11 h) (f212_12 1 h)) := sorry
theorem e212_11 (h : z_M) : f212_11 h = f212_12 0 h := sorry
theorem e212_12 (s0 : Int) (h : z_M) : f212_12 s0 h = z_g (z_01 s0) (z_ri s0 h) := sorry
theorem e214_0 (r0 : Nat) (x1 x2 x3 x4 : Int) (h : z_M) : f214_0 r0 x1 x2 x3 x4 h = z_g (z_isk r0 h [11]) (z_g (z_isa (hP h r0 2) h 1000 (z_w ((z_w (12 * x2)) + x1)) ∧ z_new (hP h r0 2)) (z_g (z_isk r0 (sI h (hP h r0 2) (Int.toNat (z_w ((z_w (12 * x2)) + x1))) x3) [11]) (z_g (z_isz (hP (sI h (hP h r0 2) (Int.toNat (z_w ((z_w (12 * x2)) + x1))) x3) r0 3) (sI h (hP h r0 2) (Int.toNat (z_w ((z_w (12 * x2)) + x1))) x3) (z_w ((z_w (12 * x2)) + x1)) ∧ z_new (hP (sI h (hP h r0 2) (Int.toNat (z_w ((z_w (12 * x2)) + x1))) x3) r0 3) ∧ (hK (sI h (hP h r0 2) (Int.toNat (z_w ((z_w (12 * x2)) + x1))) x3) (hP (sI h (hP h r0 2) (Int.toNat (z_w ((z_w (12 * x2)) + x1))) x3) r0 3) = 1002 ∨ z_01 x4)) (z_rv (sI (sI h (hP h r0 2) (Int.toNat (z_w ((z_w (12 * x2)) + x1))) x3) (hP (sI h (hP h r0 2) (Int.toNat (z_w ((z_w (12 * x2)) + x1))) x3) r0 3) (Int.toNat (z_w ((z_w (12 * x2)) + x1))) (z_i8 x4)))))) := sorry
theorem e246_0 (r0 : Nat) (h : z_M) : f246_0 r0 h = z_g (0 < r0 ∧ z_new r0) (z_g (z_sz 256) (z_g (z_isk r0 (sN h 1001 (Int.toNat 256)) [14]) (z_g (z_sz 256) (z_g (z_isk r0 (sN (sP (sN h 1001 (Int.toNat 256)) r0 2 (hZ h + 1)) 1000 (Int.toNat 256)) [14]) (z_g (z_sz 256) (z_g (z_isk r0 (sN (sP (sN (sP (sN h 1001 (Int.toNat 256)) r0 2 (hZ h + 1)) 1000 (Int.toNat 256)) r0 3 (hZ (sP (sN h 1001 (Int.toNat 256)) r0 2 (hZ h + 1)) + 1)) 1000 (Int.toNat 256)) [14]) (f246_31 r0 (sP (sN (sP (sN (sP (sN h 1001 (Int.toNat 256)) r0 2 (hZ h + 1)) 1000 (Int.toNat 256)) r0 3 (hZ (sP (sN h 1001 (Int.toNat 256)) r0 2 (hZ h + 1)) + 1)) 1000 (Int.toNat 256)) r0 5 (hZ (sP (sN (sP (sN h 1001 (Int.toNat 256)) r0 2 (hZ h + 1)) 1000 (Int.toNat 256)) r0 3 (hZ (sP (sN h 1001 (Int.toNat 256)) r0 2 (hZ h + 1)) + 1)) + 1))))))))) := sorry
theorem e246_31 (r0 : Nat) (h : z_M) : f246_31 r0 h = z_g (z_sz 256) (z_g (z_isk r0 (sN h 1000 (Int.toNat 256)) [14]) (z_g (z_sz 16) (z_g (z_isk r0 (sN (sP (sN h 1000 (Int.toNat 256)) r0 6 (hZ h + 1)) 1000 (Int.toNat 16)) [14]) (z_rv (sP (sN (sP (sN h 1000 (Int.toNat 256)) r0 6 (hZ h + 1)) 1000 (Int.toNat 16)) r0 7 (hZ (sP (sN h 1000 (Int.toNat 256)) r0 6 (hZ h + 1)) + 1)))))) := sorry
theorem e294_0 (r0 : Nat) (x1 : Int) (h : z_M) : f294_0 r0 x1 h = z_g (z_isk r0 h [17]) (z_ki (f317_0 x1 0 (z_w ((hI h r0 20) - 1)) h) (fun v1 h1 => z_kv (f314_0 v1 h1) (fun h2 => z_g (z_isk r0 h2 [17]) (z_g (z_isz (hP h2 r0 19) h2 x1) (z_ri (z_and (hI h2 (hP h2 r0 19) (Int.toNat x1)) 255) h2))) z_ex) z_ex) := sorry
theorem e295_0 (r0 : Nat) (h : z_M) : f295_0 r0 h = z_g (z_isk r0 h [17]) (z_g (z_isk (hP h r0 2) h [18]) (z_kv (f321_0 (hP h r0 2) 1 1 1 h) (fun h1 => z_g (z_isk r0 h1 [17]) (z_kv (f307_0 r0 1 1 0 0 256 0 h1) (fun h2 => f295_24 r0 0 h2) z_ex)) z_ex)) := sorry
theorem e295_24 (r0 : Nat) (x1 : Int) (h : z_M) : f295_24 r0 x1 h = z_g (z_isk r0 h [17]) (z_if ((hI h r0 1) ≤ x1) (f295_58 r0 h) (z_g (z_isk r0 h [17]) (z_g (z_isk (hP h r0 3) h [19]) (z_ki (f329_0 (hP h r0 3) x1 0 h) (fun v1 h1 => z_g (z_isk r0 h1 [17]) (z_g (z_isk (hP h1 r0 4) h1 [19]) (z_ki (f329_0 (hP h1 r0 4) x1 0 h1) (fun v2 h2 => f295_24 r0 (z_w (x1 + 1)) h2) z_ex))) z_ex)))) := sorry
theorem e295_58 (r0 : Nat) (h : z_M) : f295_58 r0 h = z_g (z_isk r0 h [17]) (z_g (z_isk r0 (sP h r0 13 4294968296) [17] ∧ z_01 0) (z_g (z_isk r0 (sI (sP h r0 13 4294968296) r0 14 0) [17] ∧ z_01 0) (z_g (z_isk r0 (sI (sI (sP h r0 13 4294968296) r0 14 0) r0 15 0) [17]) (z_g (z_isk r0 (sI (sI (sI (sP h r0 13 4294968296) r0 14 0) r0 15 0) r0 20 0) [17]) (z_g (z_isk r0 (sI (sI (sI (sI (sP h r0 13 4294968296) r0 14 0) r0 15 0) r0 20 0) r0 22 0) [17]) (z_kv (f312_0 r0 (sI (sI (sI (sI (sP h r0 13 4294968296) r0 14 0) r0 15 0) r0 20 0) r0 22 0)) (fun h1 => z_rv h1) z_ex)))))) := sorry
theorem e297_0 (r0 : Nat) (h : z_M) : f297_0 r0 h = z_g (z_isk r0 h [17]) (z_g (z_isk (hP h r0 24) h [22]) (z_ki (f349_0 (hP h r0 24) h) (fun v1 h1 => z_ri v1 h1) z_ex)) := sorry
theorem e298_0 (r0 : Nat) (h : z_M) : f298_0 r0 h = z_g (z_isk r0 h [17]) (z_g (z_isk (hP h r0 23) h [21]) (z_ki (f343_0 (hP h r0 23) h) (fun v1 h1 => z_ri v1 h1) z_ex)) := sorry
theorem e299_0 (r0 : Nat) (x1 : Int) (h : z_M) : f299_0 r0 x1 h = z_ki (f317_0 x1 0 255 h) (fun v1 h1 => z_kv (f313_0 v1 h1) (fun h2 => z_g (z_isk r0 h2 [17]) (z_if (3000 ≤ (hI h2 r0 22)) (f299_25 r0 x1 h2) (f299_26 r0 x1 1 h2))) z_ex) z_ex := sorry
theorem e299_25 (r0 : Nat) (x1 : Int) (h : z_M) : f299_25 r0 x1 h = f299_26 r0 x1 0 h := sorry
theorem e299_26 (r0 : Nat) (x1 s0 : Int) (h : z_M) : f299_26 r0 x1 s0 h = z_kv (f316_0 s0 h) (fun h1 => z_g (z_isk r0 h1 [17]) (z_g (z_isk r0 h1 [17]) (z_g (z_isk r0 h1 [17]) (z_g (z_isz (hP h1 r0 21) (sI h1 r0 22 (z_w ((hI h1 r0 22) + 1))) (hI h1 r0 22) ∧ z_new (hP h1 r0 21) ∧ (hK (sI h1 r0 22 (z_w ((hI h1 r0 22) + 1))) (hP h1 r0 21) = 1002 ∨ z_01 (z_i8 x1))) (z_g (z_isk r0 (sI (sI h1 r0 22 (z_w ((hI h1 r0 22) + 1))) (hP h1 r0 21) (Int.toNat (hI h1 r0 22)) (z_i8 (z_i8 x1))) [17]) (z_ri (hI (sI (sI h1 r0 22 (z_w ((hI h1 r0 22) + 1))) (hP h1 r0 21) (Int.toNat (hI h1 r0 22)) (z_i8 (z_i8 x1))) r0 22) (sI (sI h1 r0 22 (z_w ((hI h1 r0 22) + 1))) (hP h1 r0 21) (Int.toNat (hI h1 r0 22)) (z_i8 (z_i8 x1))))))))) z_ex := sorry
theorem e300_0 (r0 : Nat) (h : z_M) : f300_0 r0 h = f300_2 r0 0 h := sorry
theorem e300_2 (r0 : Nat) (x1 : Int) (h : z_M) : f300_2 r0 x1 h = z_g (z_isk r0 h [17]) (z_g (1000 ≤ hK h (hP h r0 11)) (z_if ((hN h (hP h r0 11) : Int) ≤ x1) (f300_24 h) (z_g (z_isk r0 h [17]) (z_g (z_isa (hP h r0 11) h 1000 x1 ∧ z_new (hP h r0 11)) (f300_2 r0 (z_w (x1 + 1)) (sI h (hP h r0 11) (Int.toNat x1) 0)))))) := sorry
theorem e300_24 (h : z_M) : f300_24 h = z_rv h := sorry
theorem e301_0 (r0 : Nat) (x1 x2 x3 : Int) (h : z_M) : f301_0 r0 x1 x2 x3 h = z_g (z_isk r0 h [17]) (z_kv (f315_0 r0 x1 x2 h) (fun h1 => z_g (z_isk r0 h1 [17]) (z_g (z_isk (hP h1 r0 2) h1 [18]) (z_ki (f317_0 x3 0 (z_w ((hI h1 (hP h1 r0 2) 3) - 1)) h1) (fun v2 h2 => z_kv (f313_0 v2 h2) (fun h3 => z_g (z_isk r0 h3 [17]) (z_g (z_isa (hP h3 r0 11) h3 1000 (z_w ((z_w (16 * x2)) + x1))) (z_if ((hI h3 (hP h3 r0 11) (Int.toNat (z_w ((z_w (16 * x2)) + x1)))) = x3) (f301_42 r0 x1 x2 x3 h3) (f301_43 r0 x1 x2 x3 1 h3)))) z_ex) z_ex))) z_ex) := sorry
theorem e301_42 (r0 : Nat) (x1 x2 x3 : Int) (h : z_M) : f301_42 r0 x1 x2 x3 h = f301_43 r0 x1 x2 x3 0 h := sorry
theorem e301_43 (r0 : Nat) (x1 x2 x3 s0 : Int) (h : z_M) : f301_43 r0 x1 x2 x3 s0 h = z_g (z_isk r0 h [17]) (z_g (z_isa (hP h r0 11) h 1000 (z_w ((z_w (16 * x2)) + x1)) ∧ z_new (hP h r0 11)) (z_g (z_01 s0) (z_ri s0 (sI h (hP h r0 11) (Int.toNat (z_w ((z_w (16 * x2)) + x1))) x3)))) := sorry
theorem e302_0 (r0 : Nat) (x1 x2 : Int) (h : z_M) : f302_0 r0 x1 x2 h = z_g (z_isk r0 h [17]) (z_kv (f315_0 r0 x1 x2 h) (fun h1 => z_g (z_isk r0 h1 [17]) (z_g (z_isa (hP h1 r0 11) h1 1000 (z_w ((z_w (16 * x2)) + x1))) (z_ri (hI h1 (hP h1 r0 11) (Int.toNat (z_w ((z_w (16 * x2)) + x1)))) h1))) z_ex) := sorry
theorem e303_0 (r0 : Nat) (x1 x2 x3 x4 x5 x6 : Int) (h : z_M) : f303_0 r0 x1 x2 x3 x4 x5 x6 h = z_ki (f317_0 x1 1 16 h) (fun v1 h1 => z_if (v1 = 0) (f303_47 r0 x1 x2 x3 x4 x5 x6 h1) (z_ki (f317_0 x2 1 16 h1) (fun v2 h2 => z_if (v2 = 0) (f303_47 r0 x1 x2 x3 x4 x5 x6 h2) (z_ki (f317_0 x3 (-65536) 65536 h2) (fun v3 h3 => z_if (v3 = 0) (f303_47 r0 x1 x2 x3 x4 x5 x6 h3) (z_ki (f317_0 x4 (-65536) 65536 h3) (fun v4 h4 => z_if (v4 = 0) (f303_47 r0 x1 x2 x3 x4 x5 x6 h4) (f303_48 r0 x1 x2 x3 x4 x5 x6 1 h4)) z_ex)) z_ex)) z_ex)) z_ex := sorry
theorem e303_47 (r0 : Nat) (x1 x2 x3 x4 x5 x6 : Int) (h : z_M) : f303_47 r0 x1 x2 x3 x4 x5 x6 h = f303_48 r0 x1 x2 x3 x4 x5 x6 0 h := sorry
theorem e303_48 (r0 : Nat) (x1 x2 x3 x4 x5 x6 s0 : Int) (h : z_M) : f303_48 r0 x1 x2 x3 x4 x5 x6 s0 h = z_kv (f313_0 s0 h) (fun h1 => z_ki (f317_0 x5 (-4096) 4096 h1) (fun v2 h2 => z_if (v2 = 0) (f303_93 r0 x1 x2 x3 x4 x5 x6 h2) (z_ki (f317_0 x6 (-4096) 4096 h2) (fun v3 h3 => z_if (v3 = 0) (f303_93 r0 x1 x2 x3 x4 x5 x6 h3) (z_if (¬ x5 = 0) (f303_89 r0 x1 x2 x3 x4 x5 x6 h3) (z_if (x6 = 0) (f303_93 r0 x1 x2 x3 x4 x5 x6 h3) (f303_89 r0 x1 x2 x3 x4 x5 x6 h3)))) z_ex)) z_ex) z_ex := sorry
theorem e303_89 (r0 : Nat) (x1 x2 x3 x4 x5 x6 : Int) (h : z_M) : f303_89 r0 x1 x2 x3 x4 x5 x6 h = f303_94 r0 x1 x2 x3 x4 x5 x6 1 h := sorry
theorem e303_93 (r0 : Nat) (x1 x2 x3 x4 x5 x6 : Int) (h : z_M) : f303_93 r0 x1 x2 x3 x4 x5 x6 h = f303_94 r0 x1 x2 x3 x4 x5 x6 0 h := sorry
theorem e303_94 (r0 : Nat) (x1 x2 x3 x4 x5 x6 s0 : Int) (h : z_M) : f303_94 r0 x1 x2 x3 x4 x5 x6 s0 h = z_kv (f313_0 s0 h) (fun h1 => z_g (z_isk r0 h1 [17]) (z_kv (f307_0 r0 x1 x2 x3 x4 x5 x6 h1) (fun h2 => f303_116 r0 x1 x2 0 0 h2) z_ex)) z_ex := sorry
theorem e303_116 (r0 : Nat) (x1 x2 x7 x8 : Int) (h : z_M) : f303_116 r0 x1 x2 x7 x8 h = z_if ((z_w (x1 * x2)) ≤ x8) (f303_155 x7 h) (z_g (¬ x1 = 0) (z_g (¬ x1 = 0) (z_g (z_isk r0 h [17]) (z_ki (f305_0 r0 (z_rem x8 x1) (z_div x8 x1) h) (fun v1 h1 => z_if (v1 = 0) (f303_145 r0 x1 x2 x8 x7 h1) (f303_146 r0 x1 x2 x8 x7 1 h1)) z_ex)))) := sorry
theorem e303_145 (r0 : Nat) (x1 x2 x8 s0 : Int) (h : z_M) : f303_145 r0 x1 x2 x8 s0 h = f303_146 r0 x1 x2 x8 s0 0 h := sorry
theorem e303_146 (r0 : Nat) (x1 x2 x8 s0 s1 : Int) (h : z_M) : f303_146 r0 x1 x2 x8 s0 s1 h = f303_116 r0 x1 x2 (z_w (s0 + s1)) (z_w (x8 + 1)) h := sorry
theorem e303_155 (x7 : Int) (h : z_M) : f303_155 x7 h = z_ri x7 h := sorry
theorem e305_0 (r0 : Nat) (x1 x2 : Int) (h : z_M) : f305_0 r0 x1 x2 h = z_g (z_isk r0 h [17]) (z_ki (f309_0 r0 x1 x2 h) (fun v1 h1 => z_g (z_isk r0 h1 [17]) (z_ki (f311_0 r0 x1 x2 h1) (fun v2 h2 => z_g (z_isk r0 h2 [17]) (z_g (z_isk (hP h2 r0 2) h2 [18]) (z_if ((z_w (v1 + (hI h2 (hP h2 r0 2) 1))) ≤ 0) (f305_57 h2) (z_g (z_isk r0 h2 [17]) (z_if ((hI h2 r0 0) ≤ v1) (f305_57 h2) (z_g (z_isk r0 h2 [17]) (z_g (z_isk (hP h2 r0 2) h2 [18]) (z_if ((z_w (v2 + (hI h2 (hP h2 r0 2) 2))) ≤ 0) (f305_57 h2) (z_g (z_isk r0 h2 [17]) (z_if (v2 < (hI h2 r0 1)) (f305_61 h2) (f305_57 h2))))))))))) z_ex)) z_ex) := sorry
theorem e305_57 (h : z_M) : f305_57 h = f305_62 1 h := sorry
theorem e305_61 (h : z_M) : f305_61 h = f305_62 0 h := sorry
theorem e305_62 (s0 : Int) (h : z_M) : f305_62 s0 h = z_g (z_01 s0) (z_ri s0 h) := sorry
theorem e306_0 (r0 : Nat) (x1 x2 : Int) (h : z_M) : f306_0 r0 x1 x2 h = z_g (z_isk r0 h [17]) (z_if ((hI h r0 15) = 0) (f306_20 h) (z_g (z_isk r0 h [17]) (z_ki (f305_0 r0 x1 x2 h) (fun v1 h1 => z_if (v1 = 0) (f306_20 h1) (f306_21 1 h1)) z_ex))) := sorry
theorem e306_20 (h : z_M) : f306_20 h = f306_21 0 h := sorry
theorem e306_21 (s0 : Int) (h : z_M) : f306_21 s0 h = z_g (z_01 s0) (z_ri s0 h) := sorry
theorem e307_0 (r0 : Nat) (x1 x2 x3 x4 x5 x6 : Int) (h : z_M) : f307_0 r0 x1 x2 x3 x4 x5 x6 h = z_g (z_isk r0 h [17]) (z_g (z_isk r0 (sI h r0 5 x1) [17]) (z_g (z_isk r0 (sI (sI h r0 5 x1) r0 6 x2) [17]) (z_g (z_isk r0 (sI (sI (sI h r0 5 x1) r0 6 x2) r0 7 x3) [17]) (z_g (z_isk r0 (sI (sI (sI (sI h r0 5 x1) r0 6 x2) r0 7 x3) r0 8 x4) [17]) (z_g (z_isk r0 (sI (sI (sI (sI (sI h r0 5 x1) r0 6 x2) r0 7 x3) r0 8 x4) r0 9 x5) [17]) (f307_33 r0 (sI (sI (sI (sI (sI (sI h r0 5 x1) r0 6 x2) r0 7 x3) r0 8 x4) r0 9 x5) r0 10 x6))))))) := sorry
theorem e307_33 (r0 : Nat) (h : z_M) : f307_33 r0 h = z_g (z_isk r0 h [17]) (z_kv (f300_0 r0 h) (fun h1 => z_rv h1) z_ex) := sorry
theorem e309_0 (r0 : Nat) (x1 x2 : Int) (h : z_M) : f309_0 r0 x1 x2 h = z_g (z_isk r0 h [17]) (z_g (z_isk r0 h [17]) (z_g (z_isk r0 h [17]) (z_ri (z_shr (z_w ((z_w ((hI h r0 7) + (z_w (x2 * (hI h r0 10))))) + (z_w (x1 * (hI h r0 9))))) 8) h))) := sorry
theorem e310_0 (r0 : Nat) (x1 : Int) (h : z_M) : f310_0 r0 x1 h = z_ki (f317_0 x1 1 7 h) (fun v1 h1 => z_kv (f313_0 v1 h1) (fun h2 => z_g (z_isk r0 h2 [17]) (z_g (z_isk (hP h2 r0 2) h2 [18]) (z_kv (f322_0 (hP h2 r0 2) x1 h2) (fun h3 => z_g (z_isk r0 h3 [17]) (z_kv (f300_0 r0 h3) (fun h4 => z_g (z_isk r0 h4 [17]) (z_g (z_isk (hP h4 r0 2) h4 [18]) (z_ri (hI h4 (hP h4 r0 2) 3) h4))) z_ex)) z_ex))) z_ex) z_ex := sorry
theorem e311_0 (r0 : Nat) (x1 x2 : Int) (h : z_M) : f311_0 r0 x1 x2 h = z_g (z_isk r0 h [17]) (z_g (z_isk r0 h [17]) (z_g (z_isk r0 h [17]) (z_ri (z_shr (z_w ((z_w ((hI h r0 8) + (z_w (x2 * (hI h r0 9))))) - (z_w (x1 * (hI h r0 10))))) 8) h))) := sorry
theorem e312_0 (r0 : Nat) (h : z_M) : f312_0 r0 h = f312_2 r0 0 h := sorry
theorem e312_2 (r0 : Nat) (x1 : Int) (h : z_M) : f312_2 r0 x1 h = z_if (64 ≤ x1) (f312_28 r0 h) (z_g (z_isk r0 h [17]) (z_g (z_isa (hP h r0 17) h 1000 x1 ∧ z_new (hP h r0 17)) (z_g (z_isk r0 (sI h (hP h r0 17) (Int.toNat x1) (-1)) [17]) (z_g (z_isa (hP (sI h (hP h r0 17) (Int.toNat x1) (-1)) r0 18) (sI h (hP h r0 17) (Int.toNat x1) (-1)) 1000 x1 ∧ z_new (hP (sI h (hP h r0 17) (Int.toNat x1) (-1)) r0 18)) (f312_2 r0 (z_w (x1 + 1)) (sI (sI h (hP h r0 17) (Int.toNat x1) (-1)) (hP (sI h (hP h r0 17) (Int.toNat x1) (-1)) r0 18) (Int.toNat x1) 0)))))) := sorry
theorem e312_28 (r0 : Nat) (h : z_M) : f312_28 r0 h = z_g (z_isk r0 h [17]) (z_g (z_isk (hP h r0 16) h [20]) (z_kv (f331_0 (hP h r0 16) h) (fun h1 => z_rv h1) z_ex)) := sorry
theorem e313_0 (x0 : Int) (h : z_M) : f313_0 x0 h = z_if (¬ x0 = 0) (f313_12 h) (z_g (z_isk (hZ h + 1) (sN h 5 6) [5]) (z_kv (f28_0 (hZ h + 1) (sN h 5 6)) (fun h1 => z_g (0 < (hZ h + 1) ∧ z_isk (hZ h + 1) h1 z_exk) (z_ex (hZ h + 1) h1)) z_ex)) := sorry
theorem e313_12 (h : z_M) : f313_12 h = z_rv h := sorry
theorem e314_0 (x0 : Int) (h : z_M) : f314_0 x0 h = z_if (¬ x0 = 0) (f314_12 h) (z_g (z_isk (hZ h + 1) (sN h 2 6) [2, 3]) (z_kv (f27_0 (hZ h + 1) (sN h 2 6)) (fun h1 => z_g (0 < (hZ h + 1) ∧ z_isk (hZ h + 1) h1 z_exk) (z_ex (hZ h + 1) h1)) z_ex)) := sorry
theorem e314_12 (h : z_M) : f314_12 h = z_rv h := sorry
theorem e315_0 (r0 : Nat) (x1 x2 : Int) (h : z_M) : f315_0 r0 x1 x2 h = z_g (z_isk r0 h [17]) (z_ki (f317_0 x1 0 (z_w ((hI h r0 5) - 1)) h) (fun v1 h1 => z_if (v1 = 0) (f315_32 h1) (z_g (z_isk r0 h1 [17]) (z_ki (f317_0 x2 0 (z_w ((hI h1 r0 6) - 1)) h1) (fun v2 h2 => z_if (v2 = 0) (f315_32 h2) (f315_33 1 h2)) z_ex))) z_ex) := sorry
theorem e315_32 (h : z_M) : f315_32 h = f315_33 0 h := sorry
theorem e315_33 (s0 : Int) (h : z_M) : f315_33 s0 h = z_kv (f314_0 s0 h) (fun h1 => z_rv h1) z_ex := sorry
theorem e316_0 (x0 : Int) (h : z_M) : f316_0 x0 h = z_if (¬ x0 = 0) (f316_12 h) (z_g (z_isk (hZ h + 1) (sN h 7 6) [7]) (z_kv (f33_0 (hZ h + 1) (sN h 7 6)) (fun h1 => z_g (0 < (hZ h + 1) ∧ z_isk (hZ h + 1) h1 z_exk) (z_ex (hZ h + 1) h1)) z_ex)) := sorry
theorem e316_12 (h : z_M) : f316_12 h = z_rv h := sorry
theorem e317_0 (x0 x1 x2 : Int) (h : z_M) : f317_0 x0 x1 x2 h = z_if (x0 < x1) (f317_14 h) (z_if (x2 < x0) (f317_14 h) (f317_15 1 h)) := sorry
theorem e317_14 (h : z_M) : f317_14 h = f317_15 0 h := sorry
theorem e317_15 (s0 : Int) (h : z_M) : f317_15 s0 h = z_g (z_01 s0) (z_ri s0 h) := sorry
theorem e320_0 (x0 x1 : Int) (h : z_M) : f320_0 x0 x1 h = f320_4 x0 x1 0 0 h := sorry
theorem e320_4 (x0 x1 x2 x3 : Int) (h : z_M) : f320_4 x0 x1 x2 x3 h = z_if (3 ≤ x3) (f320_39 x2 h) (f320_4 x0 x1 (z_or (z_or (z_shl x2 2) (z_shl (z_xor (z_and (z_shr x0 x3) 1) (z_and (z_shr x1 x3) 1)) 1)) (z_and (z_shr x1 x3) 1)) (z_w (x3 + 1)) h) := sorry
theorem e320_39 (x2 : Int) (h : z_M) : f320_39 x2 h = z_ri x2 h := sorry
theorem e321_0 (r0 : Nat) (x1 x2 x3 : Int) (h : z_M) : f321_0 r0 x1 x2 x3 h = z_g (z_isk r0 h [18]) (z_g (z_isk r0 (sI h r0 1 x1) [18]) (z_g (z_isk r0 (sI (sI h r0 1 x1) r0 2 x2) [18]) (f321_18 r0 0 (sI (sI (sI h r0 1 x1) r0 2 x2) r0 3 x3)))) := sorry
theorem e321_18 (r0 : Nat) (x4 : Int) (h : z_M) : f321_18 r0 x4 h = z_if (64 ≤ x4) (f321_39 h) (z_g (z_isk r0 h [18]) (z_g (z_isa (hP h r0 0) h 1003 x4 ∧ z_new (hP h r0 0)) (f321_18 r0 (z_w (x4 + 1)) (sL h (hP h r0 0) (Int.toNat x4) 0)))) := sorry
theorem e321_39 (h : z_M) : f321_39 h = z_rv h := sorry
theorem e322_0 (r0 : Nat) (x1 : Int) (h : z_M) : f322_0 r0 x1 h = z_g (z_isk r0 h [18]) (z_kv (f321_0 r0 x1 x1 (z_w ((z_w (x1 * x1)) + 1)) h) (fun h1 => f322_15 r0 x1 0 0 h1) z_ex) := sorry
theorem e322_15 (r0 : Nat) (x1 x2 x3 : Int) (h : z_M) : f322_15 r0 x1 x2 x3 h = z_if (64 ≤ x3) (f322_93 h) (f322_24 r0 x1 x2 x3 0 h) := sorry
theorem e322_24 (r0 : Nat) (x1 x2 x3 x4 : Int) (h : z_M) : f322_24 r0 x1 x2 x3 x4 h = z_if ((z_w (x1 * x1)) ≤ x4) (f322_87 r0 x1 x2 x3 h) (z_g (¬ x1 = 0) (z_g (¬ x1 = 0) (z_ki (f320_0 (z_rem x4 x1) (z_div x4 x1) h) (fun v1 h1 => z_if (v1 = x3) (f322_50 r0 x1 x2 x3 x4 h1) (f322_81 r0 x1 x2 x3 x4 h1)) z_ex))) := sorry
theorem e322_50 (r0 : Nat) (x1 x2 x3 x4 : Int) (h : z_M) : f322_50 r0 x1 x2 x3 x4 h = z_g (z_isk r0 h [18]) (z_g (z_isk r0 h [18]) (z_g (z_isa (hP h r0 0) h 1003 x2) (z_g (z_isa (hP h r0 0) h 1003 (z_w (x2 + 1)) ∧ z_new (hP h r0 0)) (z_g (¬ x1 = 0) (z_g (¬ x1 = 0) (z_g (z_isk r0 (sL h (hP h r0 0) (Int.toNat (z_w (x2 + 1))) (hL h (hP h r0 0) (Int.toNat x2))) [18]) (z_kv (f324_0 r0 (z_w (x2 + 1)) (z_rem x4 x1) (z_div x4 x1) 1 (sL h (hP h r0 0) (Int.toNat (z_w (x2 + 1))) (hL h (hP h r0 0) (Int.toNat x2)))) (fun h1 => f322_81 r0 x1 (z_w (x2 + 1)) x3 x4 h1) z_ex))))))) := sorry
theorem e322_81 (r0 : Nat) (x1 x2 x3 x4 : Int) (h : z_M) : f322_81 r0 x1 x2 x3 x4 h = f322_24 r0 x1 x2 x3 (z_w (x4 + 1)) h := sorry
theorem e322_87 (r0 : Nat) (x1 x2 x3 : Int) (h : z_M) : f322_87 r0 x1 x2 x3 h = f322_15 r0 x1 x2 (z_w (x3 + 1)) h := sorry
theorem e322_93 (h : z_M) : f322_93 h = z_rv h := sorry
theorem e323_0 (r0 : Nat) (h : z_M) : f323_0 r0 h = z_g (z_isk r0 h [18]) (z_ki (f32_0 (z_w ((hI h r0 3) - 1)) h) (fun v1 h1 => z_ri (z_w (32 - v1)) h1) z_ex) := sorry
theorem e324_0 (r0 : Nat) (x1 x2 x3 x4 : Int) (h : z_M) : f324_0 r0 x1 x2 x3 x4 h = z_g (z_isk r0 h [18]) (z_if (x4 = 0) (f324_32 r0 x1 (z_lshl 1 (z_w ((z_w (8 * x3)) + x2))) (hP h r0 0) x1 h) (z_g (z_isk r0 h [18]) (z_g (z_isa (hP h r0 0) h 1003 x1) (f324_45 (hP h r0 0) x1 (z_lor (hL h (hP h r0 0) (Int.toNat x1)) (z_lshl 1 (z_w ((z_w (8 * x3)) + x2)))) h)))) := sorry
theorem e324_32 (r0 : Nat) (x1 y5 : Int) (q0 : Nat) (s1 : Int) (h : z_M) : f324_32 r0 x1 y5 q0 s1 h = z_g (z_isk r0 h [18]) (z_g (z_isa (hP h r0 0) h 1003 x1) (f324_45 q0 s1 (z_land (hL h (hP h r0 0) (Int.toNat x1)) (z_lxor y5 (-1))) h)) := sorry
theorem e324_45 (q0 : Nat) (s1 t2 : Int) (h : z_M) : f324_45 q0 s1 t2 h = z_g (z_isa q0 h 1003 s1 ∧ z_new q0) (z_rv (sL h q0 (Int.toNat s1) t2)) := sorry
theorem e329_0 (r0 : Nat) (x1 x2 : Int) (h : z_M) : f329_0 r0 x1 x2 h = z_g (z_isk r0 h [19]) (z_g (z_isk (hP h r0 1) h [17]) (z_g (z_isk r0 h [19]) (z_g (z_isa (hP h r0 0) h 1000 x1) (z_ki (f31_0 (z_and (z_xor (hI h (hP h r0 0) (Int.toNat x1)) x2) (z_ushr (-1) (z_w (32 - (hI h (hP h r0 1) 0))))) h) (fun v1 h1 => z_g (z_isk r0 h1 [19]) (z_g (z_isa (hP h1 r0 0) h1 1000 x1 ∧ z_new (hP h1 r0 0)) (z_ri v1 (sI h1 (hP h1 r0 0) (Int.toNat x1) (z_and x2 (z_ushr (-1) (z_w (32 - (hI h (hP h r0 1) 0))))))))) z_ex)))) := sorry
theorem e331_0 (r0 : Nat) (h : z_M) : f331_0 r0 h = z_g (z_isk r0 h [20]) (z_g (z_isk r0 (sI h r0 0 4) [20]) (z_g (z_isk r0 (sI (sI h r0 0 4) r0 1 1) [20]) (z_rv (sI (sI (sI h r0 0 4) r0 1 1) r0 2 0)))) := sorry
theorem e332_0 (r0 : Nat) (h : z_M) : f332_0 r0 h = f332_2 r0 0 h := sorry
theorem e332_2 (r0 : Nat) (x1 : Int) (h : z_M) : f332_2 r0 x1 h = z_if (8 ≤ x1) (f332_27 x1 h) (z_g (z_isk r0 h [20]) (z_g (z_isk r0 h [20]) (z_if ((hI h r0 0) ≤ (z_shl (hI h r0 1) x1)) (f332_27 x1 h) (f332_2 r0 (z_w (x1 + 1)) h)))) := sorry
theorem e332_27 (x1 : Int) (h : z_M) : f332_27 x1 h = z_ri x1 h := sorry
theorem e334_0 (r0 : Nat) (x1 : Int) (h : z_M) : f334_0 r0 x1 h = z_g (z_isk r0 h [20]) (z_g (z_isk r0 h [20]) (z_g (z_isk r0 (sI h r0 0 (z_w ((hI h r0 0) + x1))) [20]) (z_g (z_isk r0 (sI h r0 0 (z_w ((hI h r0 0) + x1))) [20]) (z_g (z_isk r0 (sI (sI h r0 0 (z_w ((hI h r0 0) + x1))) r0 1 (z_w ((hI (sI h r0 0 (z_w ((hI h r0 0) + x1))) r0 1) + 1))) [20]) (z_g (z_isk r0 (sI (sI h r0 0 (z_w ((hI h r0 0) + x1))) r0 1 (z_w ((hI (sI h r0 0 (z_w ((hI h r0 0) + x1))) r0 1) + 1))) [20]) (z_g (z_isk r0 (sI (sI (sI h r0 0 (z_w ((hI h r0 0) + x1))) r0 1 (z_w ((hI (sI h r0 0 (z_w ((hI h r0 0) + x1))) r0 1) + 1))) r0 2 (z_w ((hI (sI (sI h r0 0 (z_w ((hI h r0 0) + x1))) r0 1 (z_w ((hI (sI h r0 0 (z_w ((hI h r0 0) + x1))) r0 1) + 1))) r0 2) + 1))) [20]) (z_if (¬ (hI (sI (sI (sI h r0 0 (z_w ((hI h r0 0) + x1))) r0 1 (z_w ((hI (sI h r0 0 (z_w ((hI h r0 0) + x1))) r0 1) + 1))) r0 2 (z_w ((hI (sI (sI h r0 0 (z_w ((hI h r0 0) + x1))) r0 1 (z_w ((hI (sI h r0 0 (z_w ((hI h r0 0) + x1))) r0 1) + 1))) r0 2) + 1))) r0 1) = 32) (f334_59 (sI (sI (sI h r0 0 (z_w ((hI h r0 0) + x1))) r0 1 (z_w ((hI (sI h r0 0 (z_w ((hI h r0 0) + x1))) r0 1) + 1))) r0 2 (z_w ((hI (sI (sI h r0 0 (z_w ((hI h r0 0) + x1))) r0 1 (z_w ((hI (sI h r0 0 (z_w ((hI h r0 0) + x1))) r0 1) + 1))) r0 2) + 1)))) (z_g (z_isk r0 (sI (sI (sI h r0 0 (z_w ((hI h r0 0) + x1))) r0 1 (z_w ((hI (sI h r0 0 (z_w ((hI h r0 0) + x1))) r0 1) + 1))) r0 2 (z_w ((hI (sI (sI h r0 0 (z_w ((hI h r0 0) + x1))) r0 1 (z_w ((hI (sI h r0 0 (z_w ((hI h r0 0) + x1))) r0 1) + 1))) r0 2) + 1))) [20]) (z_g (z_isk r0 (sI (sI (sI h r0 0 (z_w ((hI h r0 0) + x1))) r0 1 (z_w ((hI (sI h r0 0 (z_w ((hI h r0 0) + x1))) r0 1) + 1))) r0 2 (z_w ((hI (sI (sI h r0 0 (z_w ((hI h r0 0) + x1))) r0 1 (z_w ((hI (sI h r0 0 (z_w ((hI h r0 0) + x1))) r0 1) + 1))) r0 2) + 1))) [20]) (z_g (z_isk r0 (sI (sI (sI (sI h r0 0 (z_w ((hI h r0 0) + x1))) r0 1 (z_w ((hI (sI h r0 0 (z_w ((hI h r0 0) + x1))) r0 1) + 1))) r0 2 (z_w ((hI (sI (sI h r0 0 (z_w ((hI h r0 0) + x1))) r0 1 (z_w ((hI (sI h r0 0 (z_w ((hI h r0 0) + x1))) r0 1) + 1))) r0 2) + 1))) r0 0 (z_shr (hI (sI (sI (sI h r0 0 (z_w ((hI h r0 0) + x1))) r0 1 (z_w ((hI (sI h r0 0 (z_w ((hI h r0 0) + x1))) r0 1) + 1))) r0 2 (z_w ((hI (sI (sI h r0 0 (z_w ((hI h r0 0) + x1))) r0 1 (z_w ((hI (sI h r0 0 (z_w ((hI h r0 0) + x1))) r0 1) + 1))) r0 2) + 1))) r0 0) 1)) [20]) (z_g (z_isk r0 (sI (sI (sI (sI h r0 0 (z_w ((hI h r0 0) + x1))) r0 1 (z_w ((hI (sI h r0 0 (z_w ((hI h r0 0) + x1))) r0 1) + 1))) r0 2 (z_w ((hI (sI (sI h r0 0 (z_w ((hI h r0 0) + x1))) r0 1 (z_w ((hI (sI h r0 0 (z_w ((hI h r0 0) + x1))) r0 1) + 1))) r0 2) + 1))) r0 0 (z_shr (hI (sI (sI (sI h r0 0 (z_w ((hI h r0 0) + x1))) r0 1 (z_w ((hI (sI h r0 0 (z_w ((hI h r0 0) + x1))) r0 1) + 1))) r0 2 (z_w ((hI (sI (sI h r0 0 (z_w ((hI h r0 0) + x1))) r0 1 (z_w ((hI (sI h r0 0 (z_w ((hI h r0 0) + x1))) r0 1) + 1))) r0 2) + 1))) r0 0) 1)) [20]) (f334_59 (sI (sI (sI (sI (sI h r0 0 (z_w ((hI h r0 0) + x1))) r0 1 (z_w ((hI (sI h r0 0 (z_w ((hI h r0 0) + x1))) r0 1) + 1))) r0 2 (z_w ((hI (sI (sI h r0 0 (z_w ((hI h r0 0) + x1))) r0 1 (z_w ((hI (sI h r0 0 (z_w ((hI h r0 0) + x1))) r0 1) + 1))) r0 2) + 1))) r0 0 (z_shr (hI (sI (sI (sI h r0 0 (z_w ((hI h r0 0) + x1))) r0 1 (z_w ((hI (sI h r0 0 (z_w ((hI h r0 0) + x1))) r0 1) + 1))) r0 2 (z_w ((hI (sI (sI h r0 0 (z_w ((hI h r0 0) + x1))) r0 1 (z_w ((hI (sI h r0 0 (z_w ((hI h r0 0) + x1))) r0 1) + 1))) r0 2) + 1))) r0 0) 1)) r0 1 (z_shr (hI (sI (sI (sI (sI h r0 0 (z_w ((hI h r0 0) + x1))) r0 1 (z_w ((hI (sI h r0 0 (z_w ((hI h r0 0) + x1))) r0 1) + 1))) r0 2 (z_w ((hI (sI (sI h r0 0 (z_w ((hI h r0 0) + x1))) r0 1 (z_w ((hI (sI h r0 0 (z_w ((hI h r0 0) + x1))) r0 1) + 1))) r0 2) + 1))) r0 0 (z_shr (hI (sI (sI (sI h r0 0 (z_w ((hI h r0 0) + x1))) r0 1 (z_w ((hI (sI h r0 0 (z_w ((hI h r0 0) + x1))) r0 1) + 1))) r0 2 (z_w ((hI (sI (sI h r0 0 (z_w ((hI h r0 0) + x1))) r0 1 (z_w ((hI (sI h r0 0 (z_w ((hI h r0 0) + x1))) r0 1) + 1))) r0 2) + 1))) r0 0) 1)) r0 1) 1)))))))))))))) := sorry
theorem e334_59 (h : z_M) : f334_59 h = z_rv h := sorry
theorem e335_0 (r0 : Nat) (h : z_M) : f335_0 r0 h = f335_2 r0 0 h := sorry
theorem e335_2 (r0 : Nat) (x1 : Int) (h : z_M) : f335_2 r0 x1 h = z_if (64 ≤ x1) (f335_34 r0 h) (z_g (z_isk r0 h [21, 22]) (z_g (z_isk (hP h r0 2) h [17]) (z_g (z_isa (hP h (hP h r0 2) 17) h 1000 x1 ∧ z_new (hP h (hP h r0 2) 17)) (z_g (z_isk r0 (sI h (hP h (hP h r0 2) 17) (Int.toNat x1) (-1)) [21, 22]) (z_g (z_isk (hP (sI h (hP h (hP h r0 2) 17) (Int.toNat x1) (-1)) r0 2) (sI h (hP h (hP h r0 2) 17) (Int.toNat x1) (-1)) [17]) (z_g (z_isa (hP (sI h (hP h (hP h r0 2) 17) (Int.toNat x1) (-1)) (hP (sI h (hP h (hP h r0 2) 17) (Int.toNat x1) (-1)) r0 2) 18) (sI h (hP h (hP h r0 2) 17) (Int.toNat x1) (-1)) 1000 x1 ∧ z_new (hP (sI h (hP h (hP h r0 2) 17) (Int.toNat x1) (-1)) (hP (sI h (hP h (hP h r0 2) 17) (Int.toNat x1) (-1)) r0 2) 18)) (f335_2 r0 (z_w (x1 + 1)) (sI (sI h (hP h (hP h r0 2) 17) (Int.toNat x1) (-1)) (hP (sI h (hP h (hP h r0 2) 17) (Int.toNat x1) (-1)) (hP (sI h (hP h (hP h r0 2) 17) (Int.toNat x1) (-1)) r0 2) 18) (Int.toNat x1) 0)))))))) := sorry
theorem e335_34 (r0 : Nat) (h : z_M) : f335_34 r0 h = f335_36 r0 0 h := sorry
theorem e335_36 (r0 : Nat) (x1 : Int) (h : z_M) : f335_36 r0 x1 h = z_g (z_isk r0 h [21, 22]) (z_g (1000 ≤ hK h (hP h r0 0)) (z_if ((hN h (hP h r0 0) : Int) ≤ x1) (f335_70 h) (z_g (z_isk r0 h [21, 22]) (z_g (z_isk r0 h [21, 22]) (z_g (z_isa (hP h r0 0) h 1000 x1) (z_g (z_isa (hP h r0 1) h 1000 x1 ∧ z_new (hP h r0 1)) (z_g (z_isk r0 (sI h (hP h r0 1) (Int.toNat x1) (hI h (hP h r0 0) (Int.toNat x1))) [21, 22]) (z_g (z_isa (hP (sI h (hP h r0 1) (Int.toNat x1) (hI h (hP h r0 0) (Int.toNat x1))) r0 0) (sI h (hP h r0 1) (Int.toNat x1) (hI h (hP h r0 0) (Int.toNat x1))) 1000 x1 ∧ z_new (hP (sI h (hP h r0 1) (Int.toNat x1) (hI h (hP h r0 0) (Int.toNat x1))) r0 0)) (f335_36 r0 (z_w (x1 + 1)) (sI (sI h (hP h r0 1) (Int.toNat x1) (hI h (hP h r0 0) (Int.toNat x1))) (hP (sI h (hP h r0 1) (Int.toNat x1) (hI h (hP h r0 0) (Int.toNat x1))) r0 0) (Int.toNat x1) 0)))))))))) := sorry
theorem e335_70 (h : z_M) : f335_70 h = z_rv h := sorry
theorem e336_0 (r0 : Nat) (x1 x2 : Int) (h : z_M) : f336_0 r0 x1 x2 h = z_g (z_isk r0 h [21, 22]) (z_ki (f340_0 r0 (z_w (x1 - 1)) x2 h) (fun v1 h1 => z_g (z_isk r0 h1 [21, 22]) (z_ki (f340_0 r0 (z_w (x1 - 2)) x2 h1) (fun v2 h2 => z_g (z_isk r0 h2 [21, 22]) (z_ki (f340_0 r0 (z_w (x1 - 1)) (z_w (x2 - 1)) h2) (fun v3 h3 => z_g (z_isk r0 h3 [21, 22]) (z_ki (f340_0 r0 x1 (z_w (x2 - 1)) h3) (fun v4 h4 => z_g (z_isk r0 h4 [21, 22]) (z_ki (f340_0 r0 (z_w (x1 + 1)) (z_w (x2 - 1)) h4) (fun v5 h5 => z_g (z_isk r0 h5 [21, 22]) (z_g (z_isa (hP h5 r0 1) h5 1000 (z_w ((z_w (16 * x2)) + x1))) (z_ri (z_or (z_or (z_or (z_or (z_or (z_shl v1 5) (z_shl v2 4)) (z_shl v3 3)) (z_shl v4 2)) (z_shl v5 1)) (hI h5 (hP h5 r0 1) (Int.toNat (z_w ((z_w (16 * x2)) + x1))))) h5))) z_ex)) z_ex)) z_ex)) z_ex)) z_ex) := sorry
theorem e337_0 (r0 : Nat) (h : z_M) : f337_0 r0 h = z_g (z_isk r0 h [21, 22]) (z_kv (f335_0 r0 h) (fun h1 => z_g (z_isk r0 h1 [21, 22]) (z_kv (f335_0 r0 h1) (fun h2 => z_g (z_isk r0 h2 [21, 22]) (z_g (z_isk (hP h2 r0 2) h2 [17]) (z_g (z_isk (hP h2 (hP h2 r0 2) 2) h2 [18]) (z_ki (f323_0 (hP h2 (hP h2 r0 2) 2) h2) (fun v3 h3 => f337_21 r0 (z_w (v3 - 1)) h3) z_ex)))) z_ex)) z_ex) := sorry
theorem e337_21 (r0 : Nat) (x1 : Int) (h : z_M) : f337_21 r0 x1 h = z_if (x1 < 0) (f337_170 h) (z_g (z_isk r0 h [21, 22]) (z_kv (f335_0 r0 h) (fun h1 => f337_31 r0 x1 0 h1) z_ex)) := sorry
theorem e337_31 (r0 : Nat) (x1 x2 : Int) (h : z_M) : f337_31 r0 x1 x2 h = z_g (z_isk r0 h [21, 22]) (z_g (z_isk (hP h r0 2) h [17]) (z_g (z_isk r0 h [21, 22]) (z_g (z_isk (hP h r0 2) h [17]) (z_if ((z_w ((hI h (hP h r0 2) 5) * (hI h (hP h r0 2) 6))) ≤ x2) (f337_164 r0 x1 h) (z_g (z_isk r0 h [21, 22]) (z_g (z_isk (hP h r0 2) h [17]) (z_g (¬ (hI h (hP h r0 2) 5) = 0) (z_g (z_isk r0 h [21, 22]) (z_g (z_isk (hP h r0 2) h [17]) (z_g (¬ (hI h (hP h r0 2) 5) = 0) (z_g (z_isk r0 h [21, 22]) (z_g (z_isk (hP h r0 2) h [17]) (z_ki (f306_0 (hP h r0 2) (z_rem x2 (hI h (hP h r0 2) 5)) (z_div x2 (hI h (hP h r0 2) 5)) h) (fun v1 h1 => z_if (v1 = 0) (f337_87 r0 x1 x2 (z_rem x2 (hI h (hP h r0 2) 5)) (z_div x2 (hI h (hP h r0 2) 5)) h1) (f337_158 r0 x1 x2 h1)) z_ex))))))))))))) := sorry
theorem e337_87 (r0 : Nat) (x1 x2 x3 x4 : Int) (h : z_M) : f337_87 r0 x1 x2 x3 x4 h = z_g (z_isk r0 h [21, 22]) (z_ki (f336_0 r0 x3 x4 h) (fun v1 h1 => z_g (z_isk r0 h1 [21, 22]) (z_g (z_isk (hP h1 r0 2) h1 [17]) (z_g (z_isa (hP h1 (hP h1 r0 2) 17) h1 1000 v1) (z_if (0 ≤ (hI h1 (hP h1 (hP h1 r0 2) 17) (Int.toNat v1))) (f337_122 r0 x1 x2 x3 x4 v1 r0 (z_w ((z_w (16 * x4)) + x3)) x1 h1) (f337_123 r0 x1 x2 x3 x4 v1 r0 (z_w ((z_w (16 * x4)) + x3)) x1 0 h1))))) z_ex) := sorry
theorem e337_122 (r0 : Nat) (x1 x2 x3 x4 x5 : Int) (q0 : Nat) (s1 s2 : Int) (h : z_M) : f337_122 r0 x1 x2 x3 x4 x5 q0 s1 s2 h = f337_123 r0 x1 x2 x3 x4 x5 q0 s1 s2 1 h := sorry
theorem e337_123 (r0 : Nat) (x1 x2 x3 x4 x5 : Int) (q0 : Nat) (s1 s2 s3 : Int) (h : z_M) : f337_123 r0 x1 x2 x3 x4 x5 q0 s1 s2 s3 h = z_if (hK h q0 = 21) (z_ki (f341_0 q0 s1 s2 s3 h) (fun v3 h3 => z_if (¬ v3 = (-1)) (f337_136 r0 x1 x2 x3 x4 x5 v3 h3) (z_g (z_01 0) (z_ri 0 h3))) z_ex) (z_if (hK h q0 = 22) (z_ki (f347_0 q0 s1 s2 s3 h) (fun v1 h1 => z_if (¬ v1 = (-1)) (f337_136 r0 x1 x2 x3 x4 x5 v1 h1) (z_g (z_01 0) (z_ri 0 h1))) z_ex) (none)) := sorry
theorem e337_136 (r0 : Nat) (x1 x2 x3 x4 x5 x6 : Int) (h : z_M) : f337_136 r0 x1 x2 x3 x4 x5 x6 h = z_g (z_isk r0 h [21, 22]) (z_g (z_isa (hP h r0 0) h 1000 (z_w ((z_w (16 * x4)) + x3)) ∧ z_new (hP h r0 0)) (z_g (z_isk r0 (sI h (hP h r0 0) (Int.toNat (z_w ((z_w (16 * x4)) + x3))) x6) [21, 22]) (z_kv (f339_0 r0 x5 x6 (sI h (hP h r0 0) (Int.toNat (z_w ((z_w (16 * x4)) + x3))) x6)) (fun h1 => f337_158 r0 x1 x2 h1) z_ex))) := sorry
theorem e337_158 (r0 : Nat) (x1 x2 : Int) (h : z_M) : f337_158 r0 x1 x2 h = f337_31 r0 x1 (z_w (x2 + 1)) h := sorry
theorem e337_164 (r0 : Nat) (x1 : Int) (h : z_M) : f337_164 r0 x1 h = f337_21 r0 (z_w (x1 + (-1))) h := sorry
theorem e337_170 (h : z_M) : f337_170 h = z_g (z_01 1) (z_ri 1 h) := sorry
theorem e339_0 (r0 : Nat) (x1 x2 : Int) (h : z_M) : f339_0 r0 x1 x2 h = z_g (z_isk r0 h [21, 22]) (z_g (z_isk (hP h r0 2) h [17]) (z_g (z_isa (hP h (hP h r0 2) 17) h 1000 x1) (z_g (z_isk r0 h [21, 22]) (z_g (z_isk (hP h r0 2) h [17]) (z_if (¬ x2 = 1) (f339_44 r0 x1 (hI h (hP h (hP h r0 2) 17) (Int.toNat x1)) (hP h (hP h r0 2) 17) x1 h) (z_if (0 ≤ (hI h (hP h (hP h r0 2) 17) (Int.toNat x1))) (f339_35 r0 x1 (hI h (hP h (hP h r0 2) 17) (Int.toNat x1)) (hP h (hP h r0 2) 17) x1 7 h) (f339_38 r0 x1 (hP h (hP h r0 2) 17) x1 7 (z_w ((hI h (hP h (hP h r0 2) 17) (Int.toNat x1)) + 2)) h))))))) := sorry
theorem e339_35 (r0 : Nat) (x1 x3 : Int) (q0 : Nat) (s1 s2 : Int) (h : z_M) : f339_35 r0 x1 x3 q0 s1 s2 h = f339_38 r0 x1 q0 s1 s2 (z_w (x3 + 1)) h := sorry
theorem e339_38 (r0 : Nat) (x1 : Int) (q0 : Nat) (s1 s2 s3 : Int) (h : z_M) : f339_38 r0 x1 q0 s1 s2 s3 h = z_ki (f2_0 s2 s3 h) (fun v1 h1 => f339_62 r0 x1 q0 s1 v1 h1) z_ex := sorry
theorem e339_44 (r0 : Nat) (x1 x3 : Int) (q0 : Nat) (s1 : Int) (h : z_M) : f339_44 r0 x1 x3 q0 s1 h = z_if (0 ≤ x3) (f339_56 r0 x1 x3 q0 s1 (-8) h) (f339_59 r0 x1 q0 s1 (-8) (z_w (x3 - 1)) h) := sorry
theorem e339_56 (r0 : Nat) (x1 x3 : Int) (q0 : Nat) (s1 s2 : Int) (h : z_M) : f339_56 r0 x1 x3 q0 s1 s2 h = f339_59 r0 x1 q0 s1 s2 (z_w (x3 - 2)) h := sorry
theorem e339_59 (r0 : Nat) (x1 : Int) (q0 : Nat) (s1 s2 s3 : Int) (h : z_M) : f339_59 r0 x1 q0 s1 s2 s3 h = z_ki (f1_0 s2 s3 h) (fun v1 h1 => f339_62 r0 x1 q0 s1 v1 h1) z_ex := sorry
theorem e339_62 (r0 : Nat) (x1 : Int) (q0 : Nat) (s1 s2 : Int) (h : z_M) : f339_62 r0 x1 q0 s1 s2 h = z_g (z_isa q0 h 1000 s1 ∧ z_new q0) (z_g (z_isk r0 (sI h q0 (Int.toNat s1) s2) [21, 22]) (z_g (z_isk (hP (sI h q0 (Int.toNat s1) s2) r0 2) (sI h q0 (Int.toNat s1) s2) [17]) (z_g (z_isa (hP (sI h q0 (Int.toNat s1) s2) (hP (sI h q0 (Int.toNat s1) s2) r0 2) 18) (sI h q0 (Int.toNat s1) s2) 1000 x1) (z_g (z_isa (hP (sI h q0 (Int.toNat s1) s2) (hP (sI h q0 (Int.toNat s1) s2) r0 2) 18) (sI h q0 (Int.toNat s1) s2) 1000 x1 ∧ z_new (hP (sI h q0 (Int.toNat s1) s2) (hP (sI h q0 (Int.toNat s1) s2) r0 2) 18)) (z_rv (sI (sI h q0 (Int.toNat s1) s2) (hP (sI h q0 (Int.toNat s1) s2) (hP (sI h q0 (Int.toNat s1) s2) r0 2) 18) (Int.toNat x1) (z_w ((hI (sI h q0 (Int.toNat s1) s2) (hP (sI h q0 (Int.toNat s1) s2) (hP (sI h q0 (Int.toNat s1) s2) r0 2) 18) (Int.toNat x1)) + 1)))))))) := sorry
theorem e340_0 (r0 : Nat) (x1 x2 : Int) (h : z_M) : f340_0 r0 x1 x2 h = z_g (z_isk r0 h [21, 22]) (z_g (z_isk (hP h r0 2) h [17]) (z_ki (f317_0 x1 0 (z_w ((hI h (hP h r0 2) 5) - 1)) h) (fun v1 h1 => z_if (v1 = 0) (f340_35 h1) (z_if (x2 < 0) (f340_35 h1) (z_g (z_isk r0 h1 [21, 22]) (z_g (z_isa (hP h1 r0 0) h1 1000 (z_w ((z_w (16 * x2)) + x1))) (f340_36 (hI h1 (hP h1 r0 0) (Int.toNat (z_w ((z_w (16 * x2)) + x1)))) h1))))) z_ex)) := sorry
theorem e340_35 (h : z_M) : f340_35 h = f340_36 0 h := sorry
theorem e340_36 (s0 : Int) (h : z_M) : f340_36 s0 h = z_ri s0 h := sorry
theorem e341_0 (r0 : Nat) (x1 x2 x3 : Int) (h : z_M) : f341_0 r0 x1 x2 x3 h = z_g (z_isk r0 h [21]) (z_g (z_isk (hP h r0 6) h [17]) (z_g (z_isa (hP h (hP h r0 6) 11) h 1000 x1) (z_g (z_isk r0 h [21]) (z_g (z_isk (hP h r0 6) h [17]) (z_g (z_isa (hP h (hP h r0 6) 11) h 1000 x1) (z_if (¬ (z_and (z_shr (z_xor (hI h (hP h (hP h r0 6) 11) (Int.toNat x1)) (z_shr (hI h (hP h (hP h r0 6) 11) (Int.toNat x1)) 1)) x2) 1) = x3) (f341_46 r0 (z_and (z_shr (z_xor (hI h (hP h (hP h r0 6) 11) (Int.toNat x1)) (z_shr (hI h (hP h (hP h r0 6) 11) (Int.toNat x1)) 1)) x2) 1) h) (z_g (z_isk r0 h [21]) (z_g (z_isk r0 h [21]) (f341_50 (z_and (z_shr (z_xor (hI h (hP h (hP h r0 6) 11) (Int.toNat x1)) (z_shr (hI h (hP h (hP h r0 6) 11) (Int.toNat x1)) 1)) x2) 1) (sI h r0 3 (z_w ((hI h r0 3) + 1)))))))))))) := sorry
theorem e341_46 (r0 : Nat) (x4 : Int) (h : z_M) : f341_46 r0 x4 h = z_g (z_isk r0 h [21]) (z_kv (f345_0 r0 h) (fun h1 => f341_50 x4 h1) z_ex) := sorry
theorem e341_50 (x4 : Int) (h : z_M) : f341_50 x4 h = z_ri x4 h := sorry
theorem e343_0 (r0 : Nat) (h : z_M) : f343_0 r0 h = z_g (z_isk r0 h [21]) (z_g (z_isk r0 (sI h r0 3 0) [21]) (z_g (z_isk r0 (sI (sI h r0 3 0) r0 5 0) [21]) (z_g (z_isk (hP (sI (sI h r0 3 0) r0 5 0) r0 6) (sI (sI h r0 3 0) r0 5 0) [17]) (z_g (z_isk r0 (sI (sI (sI h r0 3 0) r0 5 0) (hP (sI (sI h r0 3 0) r0 5 0) r0 6) 20 0) [21]) (z_g (z_isk (hP (sI (sI (sI h r0 3 0) r0 5 0) (hP (sI (sI h r0 3 0) r0 5 0) r0 6) 20 0) r0 6) (sI (sI (sI h r0 3 0) r0 5 0) (hP (sI (sI h r0 3 0) r0 5 0) r0 6) 20 0) [17]) (z_g (z_isk (hP (sI (sI (sI h r0 3 0) r0 5 0) (hP (sI (sI h r0 3 0) r0 5 0) r0 6) 20 0) (hP (sI (sI (sI h r0 3 0) r0 5 0) (hP (sI (sI h r0 3 0) r0 5 0) r0 6) 20 0) r0 6) 16) (sI (sI (sI h r0 3 0) r0 5 0) (hP (sI (sI h r0 3 0) r0 5 0) r0 6) 20 0) [20]) (z_kv (f331_0 (hP (sI (sI (sI h r0 3 0) r0 5 0) (hP (sI (sI h r0 3 0) r0 5 0) r0 6) 20 0) (hP (sI (sI (sI h r0 3 0) r0 5 0) (hP (sI (sI h r0 3 0) r0 5 0) r0 6) 20 0) r0 6) 16) (sI (sI (sI h r0 3 0) r0 5 0) (hP (sI (sI h r0 3 0) r0 5 0) r0 6) 20 0)) (fun h1 => z_g (z_isk r0 h1 [21]) (z_ki (f337_0 r0 h1) (fun v2 h2 => z_g (z_isk r0 h2 [21]) (z_kv (f345_0 r0 h2) (fun h3 => z_g (z_isk r0 h3 [21]) (z_g (z_isk (hP h3 r0 6) h3 [17]) (z_ri (hI h3 (hP h3 r0 6) 20) h3))) z_ex)) z_ex)) z_ex))))))) := sorry
theorem e344_0 (r0 : Nat) (x1 : Int) (h : z_M) : f344_0 r0 x1 h = z_g (z_isk r0 h [21]) (z_if (¬ (hI h r0 5) = 0) (f344_36 r0 x1 h) (z_g (z_isk r0 h [21]) (z_g (z_isk (hP h r0 6) h [17]) (z_g (z_isk r0 h [21]) (z_g (z_isk (hP h r0 6) h [17]) (z_g (z_isk (hP h r0 6) h [17]) (z_g (z_isz (hP h (hP h r0 6) 19) (sI h (hP h r0 6) 20 (z_w ((hI h (hP h r0 6) 20) + 1))) (hI h (hP h r0 6) 20) ∧ z_new (hP h (hP h r0 6) 19) ∧ (hK (sI h (hP h r0 6) 20 (z_w ((hI h (hP h r0 6) 20) + 1))) (hP h (hP h r0 6) 19) = 1002 ∨ z_01 0)) (z_g (z_isk r0 (sI (sI h (hP h r0 6) 20 (z_w ((hI h (hP h r0 6) 20) + 1))) (hP h (hP h r0 6) 19) (Int.toNat (hI h (hP h r0 6) 20)) (z_i8 0)) [21]) (f344_36 r0 x1 (sI (sI (sI h (hP h r0 6) 20 (z_w ((hI h (hP h r0 6) 20) + 1))) (hP h (hP h r0 6) 19) (Int.toNat (hI h (hP h r0 6) 20)) (z_i8 0)) r0 5 8)))))))))) := sorry
theorem e344_36 (r0 : Nat) (x1 : Int) (h : z_M) : f344_36 r0 x1 h = z_g (z_isk r0 h [21]) (z_g (z_isk r0 h [21]) (z_g (z_isk r0 (sI h r0 5 (z_w ((hI h r0 5) - 1))) [21]) (z_g (z_isk (hP (sI h r0 5 (z_w ((hI h r0 5) - 1))) r0 6) (sI h r0 5 (z_w ((hI h r0 5) - 1))) [17]) (z_g (z_isk r0 (sI h r0 5 (z_w ((hI h r0 5) - 1))) [21]) (z_g (z_isk (hP (sI h r0 5 (z_w ((hI h r0 5) - 1))) r0 6) (sI h r0 5 (z_w ((hI h r0 5) - 1))) [17]) (z_g (z_isz (hP (sI h r0 5 (z_w ((hI h r0 5) - 1))) (hP (sI h r0 5 (z_w ((hI h r0 5) - 1))) r0 6) 19) (sI h r0 5 (z_w ((hI h r0 5) - 1))) (z_w ((hI (sI h r0 5 (z_w ((hI h r0 5) - 1))) (hP (sI h r0 5 (z_w ((hI h r0 5) - 1))) r0 6) 20) - 1))) (z_g (z_isk r0 (sI h r0 5 (z_w ((hI h r0 5) - 1))) [21]) (z_g (z_isz (hP (sI h r0 5 (z_w ((hI h r0 5) - 1))) (hP (sI h r0 5 (z_w ((hI h r0 5) - 1))) r0 6) 19) (sI h r0 5 (z_w ((hI h r0 5) - 1))) (z_w ((hI (sI h r0 5 (z_w ((hI h r0 5) - 1))) (hP (sI h r0 5 (z_w ((hI h r0 5) - 1))) r0 6) 20) - 1)) ∧ z_new (hP (sI h r0 5 (z_w ((hI h r0 5) - 1))) (hP (sI h r0 5 (z_w ((hI h r0 5) - 1))) r0 6) 19) ∧ (hK (sI h r0 5 (z_w ((hI h r0 5) - 1))) (hP (sI h r0 5 (z_w ((hI h r0 5) - 1))) (hP (sI h r0 5 (z_w ((hI h r0 5) - 1))) r0 6) 19) = 1002 ∨ z_01 (z_i8 (z_or (hI (sI h r0 5 (z_w ((hI h r0 5) - 1))) (hP (sI h r0 5 (z_w ((hI h r0 5) - 1))) (hP (sI h r0 5 (z_w ((hI h r0 5) - 1))) r0 6) 19) (Int.toNat (z_w ((hI (sI h r0 5 (z_w ((hI h r0 5) - 1))) (hP (sI h r0 5 (z_w ((hI h r0 5) - 1))) r0 6) 20) - 1)))) (z_i8 (z_shl x1 (hI (sI h r0 5 (z_w ((hI h r0 5) - 1))) r0 5))))))) (z_rv (sI (sI h r0 5 (z_w ((hI h r0 5) - 1))) (hP (sI h r0 5 (z_w ((hI h r0 5) - 1))) (hP (sI h r0 5 (z_w ((hI h r0 5) - 1))) r0 6) 19) (Int.toNat (z_w ((hI (sI h r0 5 (z_w ((hI h r0 5) - 1))) (hP (sI h r0 5 (z_w ((hI h r0 5) - 1))) r0 6) 20) - 1))) (z_i8 (z_i8 (z_or (hI (sI h r0 5 (z_w ((hI h r0 5) - 1))) (hP (sI h r0 5 (z_w ((hI h r0 5) - 1))) (hP (sI h r0 5 (z_w ((hI h r0 5) - 1))) r0 6) 19) (Int.toNat (z_w ((hI (sI h r0 5 (z_w ((hI h r0 5) - 1))) (hP (sI h r0 5 (z_w ((hI h r0 5) - 1))) r0 6) 20) - 1)))) (z_i8 (z_shl x1 (hI (sI h r0 5 (z_w ((hI h r0 5) - 1))) r0 5)))))))))))))))) := sorry
theorem e345_0 (r0 : Nat) (h : z_M) : f345_0 r0 h = z_g (z_isk r0 h [21]) (z_g (z_isk (hP h r0 6) h [17]) (z_g (z_isk (hP h (hP h r0 6) 16) h [20]) (z_ki (f332_0 (hP h (hP h r0 6) 16) h) (fun v1 h1 => z_g (z_isk r0 h1 [21]) (z_ki (f2_0 12 (z_shr (hI h1 r0 3) v1) h1) (fun v2 h2 => f345_25 r0 v1 v2 0 h2) z_ex)) z_ex))) := sorry
theorem e345_25 (r0 : Nat) (x1 x2 x3 : Int) (h : z_M) : f345_25 r0 x1 x2 x3 h = z_if (x2 ≤ x3) (f345_41 r0 x1 x2 h) (z_g (z_isk r0 h [21]) (z_kv (f344_0 r0 1 h) (fun h1 => f345_25 r0 x1 x2 (z_w (x3 + 1)) h1) z_ex)) := sorry
theorem e345_41 (r0 : Nat) (x1 x2 : Int) (h : z_M) : f345_41 r0 x1 x2 h = z_if (¬ x2 = 12) (f345_60 r0 x1 h) (z_g (z_isk r0 h [21]) (z_g (z_isk r0 h [21]) (z_kv (f346_0 r0 (hI h r0 3) 13 h) (fun h1 => f345_74 r0 h1) z_ex))) := sorry
theorem e345_60 (r0 : Nat) (x1 : Int) (h : z_M) : f345_60 r0 x1 h = z_g (z_isk r0 h [21]) (z_kv (f344_0 r0 0 h) (fun h1 => z_g (z_isk r0 h1 [21]) (z_g (z_isk r0 h1 [21]) (z_kv (f346_0 r0 (hI h1 r0 3) x1 h1) (fun h2 => f345_74 r0 h2) z_ex))) z_ex) := sorry
theorem e345_74 (r0 : Nat) (h : z_M) : f345_74 r0 h = z_g (z_isk r0 h [21]) (z_g (z_isk (hP h r0 6) h [17]) (z_g (z_isk r0 h [21]) (z_g (z_isk (hP h (hP h r0 6) 16) h [20]) (z_kv (f334_0 (hP h (hP h r0 6) 16) (hI h r0 3) h) (fun h1 => z_g (z_isk r0 h1 [21]) (z_rv (sI h1 r0 3 0))) z_ex)))) := sorry
theorem e346_0 (r0 : Nat) (x1 x2 : Int) (h : z_M) : f346_0 r0 x1 x2 h = f346_4 r0 x1 (z_w (x2 - 1)) h := sorry
theorem e346_4 (r0 : Nat) (x1 x3 : Int) (h : z_M) : f346_4 r0 x1 x3 h = z_if (x3 < 0) (f346_23 h) (z_g (z_isk r0 h [21]) (z_kv (f344_0 r0 (z_and (z_shr x1 x3) 1) h) (fun h1 => f346_4 r0 x1 (z_w (x3 + (-1))) h1) z_ex)) := sorry
theorem e346_23 (h : z_M) : f346_23 h = z_rv h := sorry
theorem e347_0 (r0 : Nat) (x1 x2 x3 : Int) (h : z_M) : f347_0 r0 x1 x2 x3 h = z_g (z_isk r0 h [22]) (z_ki (f351_0 r0 h) (fun v1 h1 => z_if (¬ v1 = 0) (f347_9 r0 x1 x2 x3 h1) (z_ri (-1) h1)) z_ex) := sorry
theorem e347_9 (r0 : Nat) (x1 x2 x3 : Int) (h : z_M) : f347_9 r0 x1 x2 x3 h = z_g (z_isk r0 h [22]) (z_g (z_isk r0 h [22]) (z_g (z_isk r0 (sI h r0 7 (z_w ((hI h r0 7) - 1))) [22]) (z_if ((hI (sI h r0 7 (z_w ((hI h r0 7) - 1))) r0 5) ≤ 0) (f347_30 r0 x1 x2 x3 (sI h r0 7 (z_w ((hI h r0 7) - 1)))) (f347_31 r0 x1 x2 x3 1 (sI h r0 7 (z_w ((hI h r0 7) - 1))))))) := sorry
theorem e347_30 (r0 : Nat) (x1 x2 x3 : Int) (h : z_M) : f347_30 r0 x1 x2 x3 h = f347_31 r0 x1 x2 x3 0 h := sorry
theorem e347_31 (r0 : Nat) (x1 x2 x3 s0 : Int) (h : z_M) : f347_31 r0 x1 x2 x3 s0 h = z_g (z_isk r0 h [22]) (z_if (s0 = 0) (f347_47 r0 x1 x2 x3 s0 r0 (hI h r0 5) h) (f347_48 r0 x1 x2 x3 s0 r0 (hI h r0 5) 1 h)) := sorry
theorem e347_47 (r0 : Nat) (x1 x2 x3 x4 : Int) (q0 : Nat) (s1 : Int) (h : z_M) : f347_47 r0 x1 x2 x3 x4 q0 s1 h = f347_48 r0 x1 x2 x3 x4 q0 s1 0 h := sorry
theorem e347_48 (r0 : Nat) (x1 x2 x3 x4 : Int) (q0 : Nat) (s1 s2 : Int) (h : z_M) : f347_48 r0 x1 x2 x3 x4 q0 s1 s2 h = z_g (z_isk q0 h [22]) (z_g (z_isk r0 (sI h q0 5 (z_w (s1 - s2))) [22] ∧ z_01 x4) (z_if (x4 = 0) (f347_67 r0 x1 x2 x3 (sI (sI h q0 5 (z_w (s1 - s2))) r0 6 x4)) (f347_70 r0 x1 x2 x3 (sI (sI h q0 5 (z_w (s1 - s2))) r0 6 x4)))) := sorry
theorem e347_67 (r0 : Nat) (x1 x2 x3 : Int) (h : z_M) : f347_67 r0 x1 x2 x3 h = f347_70 r0 x1 x2 (z_w (1 - x3)) h := sorry
theorem e347_70 (r0 : Nat) (x1 x2 s0 : Int) (h : z_M) : f347_70 r0 x1 x2 s0 h = z_g (z_isk r0 h [22]) (z_g (z_isa (hP h r0 3) h 1000 x1) (z_g (z_isk r0 h [22]) (z_g (z_isa (hP h r0 3) h 1000 x1) (z_g (z_isa (hP h r0 3) h 1000 x1 ∧ z_new (hP h r0 3)) (z_ri s0 (sI h (hP h r0 3) (Int.toNat x1) (z_or (hI h (hP h r0 3) (Int.toNat x1)) (z_shl (z_xor s0 (z_and (z_shr (hI h (hP h r0 3) (Int.toNat x1)) (z_w (x2 + 1))) 1)) x2)))))))) := sorry
theorem e348_0 (r0 : Nat) (h : z_M) : f348_0 r0 h = z_g (z_isk r0 h [22]) (z_ki (f351_0 r0 h) (fun v1 h1 => z_if (¬ v1 = 0) (f348_9 r0 h1) (z_g (z_01 0) (z_ri 0 h1))) z_ex) := sorry
theorem e348_9 (r0 : Nat) (h : z_M) : f348_9 r0 h = z_g (z_isk r0 h [22]) (z_g (z_isk (hP h r0 9) h [17]) (z_g (z_isk r0 h [22]) (z_if (¬ (z_w ((hI h (hP h r0 9) 22) - (z_shr (z_w ((hI h r0 4) + 7)) 3))) = 0) (f348_33 r0 h) (f348_34 r0 1 h)))) := sorry
theorem e348_33 (r0 : Nat) (h : z_M) : f348_33 r0 h = f348_34 r0 0 h := sorry
theorem e348_34 (r0 : Nat) (s0 : Int) (h : z_M) : f348_34 r0 s0 h = f348_35 r0 s0 h := sorry
theorem e348_35 (r0 : Nat) (x1 : Int) (h : z_M) : f348_35 r0 x1 h = z_g (z_isk r0 h [22]) (z_if ((z_and (hI h r0 4) 7) = 0) (f348_65 r0 x1 h) (z_if (x1 = 0) (f348_65 r0 x1 h) (z_g (z_isk r0 h [22]) (z_ki (f352_0 r0 h) (fun v1 h1 => z_if (¬ v1 = 0) (f348_60 r0 h1) (f348_61 r0 1 h1)) z_ex)))) := sorry
theorem e348_60 (r0 : Nat) (h : z_M) : f348_60 r0 h = f348_61 r0 0 h := sorry
theorem e348_61 (r0 : Nat) (s0 : Int) (h : z_M) : f348_61 r0 s0 h = f348_35 r0 s0 h := sorry
theorem e348_65 (r0 : Nat) (x1 : Int) (h : z_M) : f348_65 r0 x1 h = z_if (x1 = 0) (f348_74 r0 r0 h) (f348_75 r0 r0 0 h) := sorry
theorem e348_74 (r0 q0 : Nat) (h : z_M) : f348_74 r0 q0 h = f348_75 r0 q0 3 h := sorry
theorem e348_75 (r0 q0 : Nat) (s1 : Int) (h : z_M) : f348_75 r0 q0 s1 h = z_g (z_isk q0 h [22]) (f348_80 r0 0 (sI h q0 8 s1)) := sorry
theorem e348_80 (r0 : Nat) (x2 : Int) (h : z_M) : f348_80 r0 x2 h = z_g (z_isk r0 h [22]) (z_g (1000 ≤ hK h (hP h r0 3)) (z_if ((hN h (hP h r0 3) : Int) ≤ x2) (f348_130 r0 h) (z_g (z_isk r0 h [22]) (z_if (¬ (hI h r0 8) = 0) (f348_130 r0 h) (z_g (z_isk r0 h [22]) (z_g (z_isa (hP h r0 3) h 1000 x2) (z_g (z_isk r0 h [22]) (z_g (z_isk (hP h r0 9) h [17]) (z_g (z_isk (hP h (hP h r0 9) 2) h [18]) (z_if ((hI h (hP h (hP h r0 9) 2) 3) ≤ (hI h (hP h r0 3) (Int.toNat x2))) (f348_120 r0 x2 r0 h) (f348_121 r0 x2 r0 0 h))))))))))) := sorry
theorem e348_120 (r0 : Nat) (x2 : Int) (q0 : Nat) (h : z_M) : f348_120 r0 x2 q0 h = f348_121 r0 x2 q0 4 h := sorry
theorem e348_121 (r0 : Nat) (x2 : Int) (q0 : Nat) (s1 : Int) (h : z_M) : f348_121 r0 x2 q0 s1 h = z_g (z_isk q0 h [22]) (f348_80 r0 (z_w (x2 + 1)) (sI h q0 8 s1)) := sorry
theorem e348_130 (r0 : Nat) (h : z_M) : f348_130 r0 h = z_g (z_isk r0 h [22]) (z_if (¬ (hI h r0 8) = 0) (f348_141 h) (f348_142 1 h)) := sorry
theorem e348_141 (h : z_M) : f348_141 h = f348_142 0 h := sorry
theorem e348_142 (s0 : Int) (h : z_M) : f348_142 s0 h = z_g (z_01 s0) (z_ri s0 h) := sorry
theorem e349_0 (r0 : Nat) (h : z_M) : f349_0 r0 h = f349_4 r0 0 0 h := sorry
theorem e349_4 (r0 : Nat) (x1 x2 : Int) (h : z_M) : f349_4 r0 x1 x2 h = z_g (z_isk r0 h [22]) (z_g (z_isk (hP h r0 9) h [17]) (z_g (z_isk r0 h [22]) (z_g (z_isk (hP h r0 9) h [17]) (z_if ((z_w ((hI h (hP h r0 9) 5) * (hI h (hP h r0 9) 6))) ≤ x2) (f349_65 r0 x1 h) (z_g (z_isk r0 h [22]) (z_g (z_isk r0 h [22]) (z_g (z_isk (hP h r0 9) h [17]) (z_g (¬ (hI h (hP h r0 9) 5) = 0) (z_g (z_isk r0 h [22]) (z_g (z_isk (hP h r0 9) h [17]) (z_g (¬ (hI h (hP h r0 9) 5) = 0) (z_g (z_isk (hP h r0 9) h [17]) (z_ki (f306_0 (hP h r0 9) (z_rem x2 (hI h (hP h r0 9) 5)) (z_div x2 (hI h (hP h r0 9) 5)) h) (fun v1 h1 => z_if (v1 = 0) (f349_56 r0 x2 x1 h1) (f349_57 r0 x2 x1 0 h1)) z_ex))))))))))))) := sorry
theorem e349_56 (r0 : Nat) (x2 s0 : Int) (h : z_M) : f349_56 r0 x2 s0 h = f349_57 r0 x2 s0 1 h := sorry
theorem e349_57 (r0 : Nat) (x2 s0 s1 : Int) (h : z_M) : f349_57 r0 x2 s0 s1 h = f349_4 r0 (z_w (s0 + s1)) (z_w (x2 + 1)) h := sorry
theorem e349_65 (r0 : Nat) (x1 : Int) (h : z_M) : f349_65 r0 x1 h = f349_67 r0 x1 0 h := sorry
theorem e349_67 (r0 : Nat) (x1 x2 : Int) (h : z_M) : f349_67 r0 x1 x2 h = z_g (z_isk r0 h [22]) (z_g (1000 ≤ hK h (hP h r0 3)) (z_if ((hN h (hP h r0 3) : Int) ≤ x2) (f349_89 r0 x1 h) (z_g (z_isk r0 h [22]) (z_g (z_isa (hP h r0 3) h 1000 x2 ∧ z_new (hP h r0 3)) (f349_67 r0 x1 (z_w (x2 + 1)) (sI h (hP h r0 3) (Int.toNat x2) 0)))))) := sorry
theorem e349_89 (r0 : Nat) (x1 : Int) (h : z_M) : f349_89 r0 x1 h = z_g (z_isk r0 h [22]) (z_g (z_isk r0 (sI h r0 4 0) [22] ∧ z_01 0) (z_g (z_isk r0 (sI (sI h r0 4 0) r0 6 0) [22]) (z_g (z_isk r0 (sI (sI (sI h r0 4 0) r0 6 0) r0 8 0) [22]) (z_g (z_isk (hP (sI (sI (sI h r0 4 0) r0 6 0) r0 8 0) r0 9) (sI (sI (sI h r0 4 0) r0 6 0) r0 8 0) [17]) (z_g (z_isk (hP (sI (sI (sI h r0 4 0) r0 6 0) r0 8 0) (hP (sI (sI (sI h r0 4 0) r0 6 0) r0 8 0) r0 9) 2) (sI (sI (sI h r0 4 0) r0 6 0) r0 8 0) [18]) (z_ki (f323_0 (hP (sI (sI (sI h r0 4 0) r0 6 0) r0 8 0) (hP (sI (sI (sI h r0 4 0) r0 6 0) r0 8 0) r0 9) 2) (sI (sI (sI h r0 4 0) r0 6 0) r0 8 0)) (fun v1 h1 => z_g (z_isk r0 h1 [22]) (z_g (z_isk r0 (sI h1 r0 7 (z_w (v1 * x1))) [22]) (z_g (z_isk (hP (sI h1 r0 7 (z_w (v1 * x1))) r0 9) (sI h1 r0 7 (z_w (v1 * x1))) [17]) (z_g (z_isk (hP (sI h1 r0 7 (z_w (v1 * x1))) (hP (sI h1 r0 7 (z_w (v1 * x1))) r0 9) 16) (sI h1 r0 7 (z_w (v1 * x1))) [20]) (z_kv (f331_0 (hP (sI h1 r0 7 (z_w (v1 * x1))) (hP (sI h1 r0 7 (z_w (v1 * x1))) r0 9) 16) (sI h1 r0 7 (z_w (v1 * x1)))) (fun h2 => z_g (z_isk r0 h2 [22]) (z_ki (f337_0 r0 h2) (fun v3 h3 => z_if (v3 = 0) (f349_148 r0 x1 h3) (z_g (z_isk r0 h3 [22]) (z_ki (f348_0 r0 h3) (fun v4 h4 => z_if (v4 = 0) (f349_148 r0 x1 h4) (f349_149 r0 x1 1 h4)) z_ex))) z_ex)) z_ex))))) z_ex)))))) := sorry
theorem e349_148 (r0 : Nat) (x1 : Int) (h : z_M) : f349_148 r0 x1 h = f349_149 r0 x1 0 h := sorry
theorem e349_149 (r0 : Nat) (x1 s0 : Int) (h : z_M) : f349_149 r0 x1 s0 h = z_g (z_isk r0 h [22]) (z_g (z_isk (hP h r0 9) h [17]) (z_if (¬ s0 = 0) (f349_169 r0 x1 (sI h (hP h r0 9) 22 0)) (z_g (z_isk r0 (sI h (hP h r0 9) 22 0) [22]) (z_ri (z_w ((-1) - (hI (sI h (hP h r0 9) 22 0) r0 8))) (sI h (hP h r0 9) 22 0))))) := sorry
theorem e349_169 (r0 : Nat) (x1 : Int) (h : z_M) : f349_169 r0 x1 h = z_g (z_isk r0 h [22]) (z_g (z_isk r0 h [22]) (z_g (z_isk (hP h r0 9) h [17]) (z_g (z_isk r0 h [22]) (z_g (z_isk (hP h r0 9) h [17]) (z_g (1000 ≤ hK h (hP h (hP h r0 9) 11)) (z_g (z_cpo z_elc h (hP h r0 3) (hP h (hP h r0 9) 11) 0 0 (hN h (hP h (hP h r0 9) 11) : Int)) (z_ri x1 (z_cpy h (hP h r0 3) (Int.toNat 0) (hP h (hP h r0 9) 11) (Int.toNat 0) (Int.toNat (hN h (hP h (hP h r0 9) 11) : Int)))))))))) := sorry
theorem e351_0 (r0 : Nat) (h : z_M) : f351_0 r0 h = z_g (z_isk r0 h [22]) (z_if ((hI h r0 6) = 0) (f351_9 r0 h) (z_g (z_01 1) (z_ri 1 h))) := sorry
theorem e351_9 (r0 : Nat) (h : z_M) : f351_9 r0 h = z_g (z_isk r0 h [22]) (z_ki (f353_0 r0 h) (fun v1 h1 => z_g (z_isk r0 h1 [22]) (z_g (z_isk r0 (sI h1 r0 5 v1) [22]) (z_if (¬ (hI (sI h1 r0 5 v1) r0 5) = (-1)) (f351_27 r0 (sI h1 r0 5 v1)) (z_g (z_01 0) (z_ri 0 (sI h1 r0 5 v1)))))) z_ex) := sorry
theorem e351_27 (r0 : Nat) (h : z_M) : f351_27 r0 h = z_g (z_isk r0 h [22]) (z_g (z_isk (hP h r0 9) h [17]) (z_g (z_isk r0 h [22]) (z_g (z_isk (hP h (hP h r0 9) 16) h [20]) (z_kv (f334_0 (hP h (hP h r0 9) 16) (hI h r0 5) h) (fun h1 => z_g (z_isk r0 h1 [22]) (z_g (z_isk r0 h1 [22]) (z_if ((hI h1 r0 5) ≤ (hI h1 r0 7)) (f351_57 r0 r0 h1) (f351_58 r0 r0 2 h1)))) z_ex)))) := sorry
theorem e351_57 (r0 q0 : Nat) (h : z_M) : f351_57 r0 q0 h = f351_58 r0 q0 0 h := sorry
theorem e351_58 (r0 q0 : Nat) (s1 : Int) (h : z_M) : f351_58 r0 q0 s1 h = z_g (z_isk q0 h [22]) (z_g (z_isk r0 (sI h q0 8 s1) [22] ∧ z_01 1) (z_g (z_isk r0 (sI (sI h q0 8 s1) r0 6 1) [22]) (z_if (¬ (hI (sI (sI h q0 8 s1) r0 6 1) r0 8) = 0) (f351_77 (sI (sI h q0 8 s1) r0 6 1)) (f351_78 1 (sI (sI h q0 8 s1) r0 6 1))))) := sorry
theorem e351_77 (h : z_M) : f351_77 h = f351_78 0 h := sorry
theorem e351_78 (s0 : Int) (h : z_M) : f351_78 s0 h = z_g (z_01 s0) (z_ri s0 h) := sorry
theorem e352_0 (r0 : Nat) (h : z_M) : f352_0 r0 h = z_g (z_isk r0 h [22]) (z_g (z_isk r0 h [22]) (z_g (z_isk (hP h r0 9) h [17]) (z_if (¬ (hI h r0 4) = (z_w (8 * (hI h (hP h r0 9) 22)))) (f352_24 r0 h) (z_g (z_isk r0 h [22]) (z_ri (-1) (sI h r0 8 1)))))) := sorry
theorem e352_24 (r0 : Nat) (h : z_M) : f352_24 r0 h = z_g (z_isk r0 h [22]) (z_g (z_isk (hP h r0 9) h [17]) (z_g (z_isk r0 h [22]) (z_g (z_isz (hP h (hP h r0 9) 21) h (z_shr (hI h r0 4) 3)) (z_g (z_isk r0 h [22]) (z_g (z_isk r0 h [22]) (z_g (z_isk r0 h [22]) (z_ri (z_and (z_shr (hI h (hP h (hP h r0 9) 21) (Int.toNat (z_shr (hI h r0 4) 3))) (z_w (7 - (z_and (hI h r0 4) 7)))) 1) (sI h r0 4 (z_w ((hI h r0 4) + 1)))))))))) := sorry
theorem e353_0 (r0 : Nat) (h : z_M) : f353_0 r0 h = z_g (z_isk r0 h [22]) (z_g (z_isk (hP h r0 9) h [17]) (z_g (z_isk (hP h (hP h r0 9) 16) h [20]) (z_ki (f332_0 (hP h (hP h r0 9) 16) h) (fun v1 h1 => z_g (z_isk r0 h1 [22]) (z_ki (f352_0 r0 h1) (fun v2 h2 => f353_18 r0 v1 0 v2 h2) z_ex)) z_ex))) := sorry
theorem e353_18 (r0 : Nat) (x1 x2 x3 : Int) (h : z_M) : f353_18 r0 x1 x2 x3 h = z_if (¬ x3 = 1) (f353_40 r0 x1 x2 x3 h) (z_if (12 ≤ (z_w (x2 + 1))) (f353_40 r0 x1 (z_w (x2 + 1)) x3 h) (z_g (z_isk r0 h [22]) (z_ki (f352_0 r0 h) (fun v1 h1 => f353_18 r0 x1 (z_w (x2 + 1)) v1 h1) z_ex))) := sorry
theorem e353_40 (r0 : Nat) (x1 x2 x3 : Int) (h : z_M) : f353_40 r0 x1 x2 x3 h = z_if (¬ x3 = (-1)) (f353_49 r0 x1 x2 h) (f353_65 x1 x2 (-1) h) := sorry
theorem e353_49 (r0 : Nat) (x1 x2 : Int) (h : z_M) : f353_49 r0 x1 x2 h = z_if (¬ x2 = 12) (f353_61 x1 x2 r0 h) (f353_62 x1 x2 r0 13 h) := sorry
theorem e353_61 (x1 x2 : Int) (q0 : Nat) (h : z_M) : f353_61 x1 x2 q0 h = f353_62 x1 x2 q0 x1 h := sorry
theorem e353_62 (x1 x2 : Int) (q0 : Nat) (s1 : Int) (h : z_M) : f353_62 x1 x2 q0 s1 h = z_g (z_isk q0 h [22]) (z_ki (f354_0 q0 s1 h) (fun v1 h1 => f353_65 x1 x2 v1 h1) z_ex) := sorry
theorem e353_65 (x1 x2 s0 : Int) (h : z_M) : f353_65 x1 x2 s0 h = z_if (s0 = (-1)) (f353_79 s0 h) (z_if (¬ x2 = 12) (f353_84 x1 x2 s0 h) (f353_79 s0 h)) := sorry
theorem e353_79 (x4 : Int) (h : z_M) : f353_79 x4 h = f353_90 x4 h := sorry
theorem e353_84 (x1 x2 x4 : Int) (h : z_M) : f353_84 x1 x2 x4 h = f353_90 (z_or (z_shl x2 x1) x4) h := sorry
theorem e353_90 (s0 : Int) (h : z_M) : f353_90 s0 h = z_ri s0 h := sorry
theorem e354_0 (r0 : Nat) (x1 : Int) (h : z_M) : f354_0 r0 x1 h = f354_4 r0 x1 0 0 h := sorry
theorem e354_4 (r0 : Nat) (x1 x2 x3 : Int) (h : z_M) : f354_4 r0 x1 x2 x3 h = z_if (x1 ≤ x3) (f354_43 x2 h) (z_if (x2 = (-1)) (f354_43 x2 h) (z_g (z_isk r0 h [22]) (z_ki (f352_0 r0 h) (fun v1 h1 => z_if (¬ v1 = (-1)) (f354_30 r0 x1 x2 x3 v1 h1) (f354_36 r0 x1 x3 (-1) h1)) z_ex))) := sorry
theorem e354_30 (r0 : Nat) (x1 x2 x3 x4 : Int) (h : z_M) : f354_30 r0 x1 x2 x3 x4 h = f354_36 r0 x1 x3 (z_or (z_shl x2 1) x4) h := sorry
theorem e354_36 (r0 : Nat) (x1 x3 s0 : Int) (h : z_M) : f354_36 r0 x1 x3 s0 h = f354_4 r0 x1 s0 (z_w (x3 + 1)) h := sorry
theorem e354_43 (x2 : Int) (h : z_M) : f354_43 x2 h = z_ri x2 h := sorry
theorem e406_0 (r0 : Nat) (x1 : Int) (h : z_M) : f406_0 r0 x1 h = z_g (z_isk r0 h [26]) (z_kr (f413_0 r0 x1 h) (fun v1 h1 => z_g (z_isk v1 h1 [27]) (z_g (z_isk (hP h1 v1 1) h1 [0]) (z_ki (f18_0 (hP h1 v1 1) h1) (fun v2 h2 => z_g (z_isk v1 h2 [27]) (z_g (z_isk (hP h2 v1 1) h2 [0]) (z_kv (f8_0 (hP h2 v1 1) h2) (fun h3 => z_ri v2 h3) z_ex))) z_ex))) z_ex) := sorry
theorem e413_0 (r0 : Nat) (x1 : Int) (h : z_M) : f413_0 r0 x1 h = z_g (z_isk r0 h [26]) (z_g (1000 ≤ hK h (hP h r0 1)) (z_ki (f419_0 x1 0 (z_w ((hN h (hP h r0 1) : Int) - 1)) h) (fun v1 h1 => z_if (¬ v1 = 0) (f413_23 r0 x1 h1) (z_g (z_isk (hZ h1 + 1) (sN h1 2 6) [2, 3]) (z_kv (f27_0 (hZ h1 + 1) (sN h1 2 6)) (fun h2 => z_g (0 < (hZ h1 + 1) ∧ z_isk (hZ h1 + 1) h2 z_exk) (z_ex (hZ h1 + 1) h2)) z_ex))) z_ex)) := sorry
theorem e413_23 (r0 : Nat) (x1 : Int) (h : z_M) : f413_23 r0 x1 h = z_g (z_isk r0 h [26]) (z_g (z_isr (hP h r0 1) h x1) (z_rr (hP h (hP h r0 1) (Int.toNat x1)) h)) := sorry
theorem e427_0 (r0 : Nat) (x1 x2 : Int) (h : z_M) : f427_0 r0 x1 x2 h = z_g (z_isk r0 h [28]) (z_g (z_isk r0 (sI h r0 0 x1) [28]) (f427_12 r0 0 (sI (sI h r0 0 x1) r0 1 x2))) := sorry
theorem e427_12 (r0 : Nat) (x3 : Int) (h : z_M) : f427_12 r0 x3 h = z_if (24 ≤ x3) (f427_31 h) (z_g (z_isk r0 h [28]) (z_g (z_isa (hP h r0 2) h 1000 x3 ∧ z_new (hP h r0 2)) (f427_12 r0 (z_w (x3 + 1)) (sI h (hP h r0 2) (Int.toNat x3) 0)))) := sorry
theorem e427_31 (h : z_M) : f427_31 h = z_rv h := sorry
theorem e428_0 (r0 : Nat) (h : z_M) : f428_0 r0 h = f428_4 r0 0 0 h := sorry
theorem e428_4 (r0 : Nat) (x1 x2 : Int) (h : z_M) : f428_4 r0 x1 x2 h = z_g (z_isk r0 h [28]) (z_if ((hI h r0 1) ≤ x2) (f428_30 x1 h) (z_g (z_isk r0 h [28]) (z_g (z_isa (hP h r0 2) h 1000 x2) (z_ki (f31_0 (hI h (hP h r0 2) (Int.toNat x2)) h) (fun v1 h1 => f428_4 r0 (z_w (x1 + v1)) (z_w (x2 + 1)) h1) z_ex)))) := sorry
theorem e428_30 (x1 : Int) (h : z_M) : f428_30 x1 h = z_ri x1 h := sorry
theorem e429_0 (r0 : Nat) (x1 x2 x3 x4 : Int) (h : z_M) : f429_0 r0 x1 x2 x3 x4 h = f429_6 r0 x1 x2 x3 x4 0 0 h := sorry
theorem e429_6 (r0 : Nat) (x1 x2 x3 x4 x5 x6 : Int) (h : z_M) : f429_6 r0 x1 x2 x3 x4 x5 x6 h = z_if ((z_w (x3 * x4)) ≤ x6) (f429_50 x5 h) (z_g (¬ x3 = 0) (z_g (¬ x3 = 0) (z_g (z_isk r0 h [28]) (z_ki (f432_0 r0 (z_w (x1 + (z_rem x6 x3))) (z_w (x2 + (z_div x6 x3))) h) (fun v1 h1 => z_if (v1 = 0) (f429_40 r0 x1 x2 x3 x4 x6 x5 h1) (f429_41 r0 x1 x2 x3 x4 x6 x5 1 h1)) z_ex)))) := sorry
theorem e429_40 (r0 : Nat) (x1 x2 x3 x4 x6 s0 : Int) (h : z_M) : f429_40 r0 x1 x2 x3 x4 x6 s0 h = f429_41 r0 x1 x2 x3 x4 x6 s0 0 h := sorry
theorem e429_41 (r0 : Nat) (x1 x2 x3 x4 x6 s0 s1 : Int) (h : z_M) : f429_41 r0 x1 x2 x3 x4 x6 s0 s1 h = f429_6 r0 x1 x2 x3 x4 (z_w (s0 + s1)) (z_w (x6 + 1)) h := sorry
theorem e429_50 (x5 : Int) (h : z_M) : f429_50 x5 h = z_ri x5 h := sorry
theorem e432_0 (r0 : Nat) (x1 x2 : Int) (h : z_M) : f432_0 r0 x1 x2 h = z_g (z_isk r0 h [28]) (z_g (z_isa (hP h r0 2) h 1000 x2) (z_if (¬ (z_and (z_shr (hI h (hP h r0 2) (Int.toNat x2)) x1) 1) = 1) (f432_18 h) (f432_19 1 h))) := sorry
theorem e432_18 (h : z_M) : f432_18 h = f432_19 0 h := sorry
theorem e432_19 (s0 : Int) (h : z_M) : f432_19 s0 h = z_g (z_01 s0) (z_ri s0 h) := sorry
theorem e433_0 (r0 : Nat) (h : z_M) : f433_0 r0 h = z_g (z_isk r0 h [28]) (z_if ((hI h r0 0) ≤ 0) (f433_11 h) (f433_12 1 h)) := sorry
theorem e433_11 (h : z_M) : f433_11 h = f433_12 0 h := sorry
theorem e433_12 (s0 : Int) (h : z_M) : f433_12 s0 h = z_g (z_01 s0) (z_ri s0 h) := sorry
theorem e435_0 (r0 : Nat) (x1 : Int) (h : z_M) : f435_0 r0 x1 h = z_g (z_isk r0 h [29]) (z_g (z_isz (hP h r0 0) h x1) (z_ri (z_and (hI h (hP h r0 0) (Int.toNat x1)) 255) h)) := sorry
theorem e522_0 (r0 : Nat) (x1 x2 x3 x4 : Int) (h : z_M) : f522_0 r0 x1 x2 x3 x4 h = z_ki (f540_0 x1 1 12 h) (fun v1 h1 => z_if (v1 = 0) (f522_44 r0 x1 x2 x3 x4 h1) (z_ki (f540_0 x2 1 12 h1) (fun v2 h2 => z_if (v2 = 0) (f522_44 r0 x1 x2 x3 x4 h2) (z_ki (f540_0 x3 2 8 h2) (fun v3 h3 => z_if (v3 = 0) (f522_44 r0 x1 x2 x3 x4 h3) (z_ki (f540_0 x4 1 4 h3) (fun v4 h4 => z_if (v4 = 0) (f522_44 r0 x1 x2 x3 x4 h4) (f522_45 r0 x1 x2 x3 x4 1 h4)) z_ex)) z_ex)) z_ex)) z_ex := sorry
theorem e522_44 (r0 : Nat) (x1 x2 x3 x4 : Int) (h : z_M) : f522_44 r0 x1 x2 x3 x4 h = f522_45 r0 x1 x2 x3 x4 0 h := sorry
theorem e522_45 (r0 : Nat) (x1 x2 x3 x4 s0 : Int) (h : z_M) : f522_45 r0 x1 x2 x3 x4 s0 h = z_kv (f536_0 s0 h) (fun h1 => z_g (z_isk r0 h1 [39]) (z_g (z_isk (hP h1 r0 1) h1 [40]) (z_kv (f544_0 (hP h1 r0 1) h1) (fun h2 => z_g (z_isk r0 h2 [39]) (z_g (z_isk (hP h2 r0 1) h2 [40]) (z_kv (f547_0 (hP h2 r0 1) x1 x2 x3 x4 h2) (fun h3 => z_g (z_isk r0 h3 [39] ∧ z_01 1) (z_ri (z_w ((z_w (x1 * x2)) * x4)) (sI h3 r0 3 1))) z_ex))) z_ex))) z_ex := sorry
theorem e523_0 (r0 : Nat) (x1 x2 : Int) (h : z_M) : f523_0 r0 x1 x2 h = z_g (z_isk r0 h [39]) (z_kv (f510_0 (hI h r0 3) h) (fun h1 => z_if (¬ x1 = 0) (f523_22 r0 x1 x2 h1) (z_ki (f540_0 x2 3 255 h1) (fun v2 h2 => z_if (¬ v2 = 0) (f523_53 r0 x1 x2 h2) (f523_22 r0 x1 x2 h2)) z_ex)) z_ex) := sorry
theorem e523_22 (r0 : Nat) (x1 x2 : Int) (h : z_M) : f523_22 r0 x1 x2 h = z_if (¬ x1 = 1) (f523_38 r0 x1 x2 h) (z_ki (f540_0 x2 1 255 h) (fun v1 h1 => z_if (¬ v1 = 0) (f523_53 r0 x1 x2 h1) (f523_38 r0 x1 x2 h1)) z_ex) := sorry
theorem e523_38 (r0 : Nat) (x1 x2 : Int) (h : z_M) : f523_38 r0 x1 x2 h = z_if (¬ x1 = 2) (f523_57 r0 x1 x2 h) (z_ki (f540_0 x2 0 12 h) (fun v1 h1 => z_if (v1 = 0) (f523_57 r0 x1 x2 h1) (f523_53 r0 x1 x2 h1)) z_ex) := sorry
theorem e523_53 (r0 : Nat) (x1 x2 : Int) (h : z_M) : f523_53 r0 x1 x2 h = f523_58 r0 x1 x2 1 h := sorry
theorem e523_57 (r0 : Nat) (x1 x2 : Int) (h : z_M) : f523_57 r0 x1 x2 h = f523_58 r0 x1 x2 0 h := sorry
theorem e523_58 (r0 : Nat) (x1 x2 s0 : Int) (h : z_M) : f523_58 r0 x1 x2 s0 h = z_kv (f536_0 s0 h) (fun h1 => z_if (¬ x1 = 0) (f523_75 r0 x1 x2 h1) (z_g (z_isk r0 h1 [39]) (z_g (z_isk (hP h1 r0 1) h1 [40]) (f523_97 r0 x1 x2 (hI h1 (hP h1 r0 1) 7) h1)))) z_ex := sorry
theorem e523_75 (r0 : Nat) (x1 x2 : Int) (h : z_M) : f523_75 r0 x1 x2 h = z_if (¬ x1 = 1) (f523_90 r0 x1 x2 h) (z_g (z_isk r0 h [39]) (z_g (z_isk (hP h r0 1) h [40]) (f523_97 r0 x1 x2 (hI h (hP h r0 1) 8) h))) := sorry
theorem e523_90 (r0 : Nat) (x1 x2 : Int) (h : z_M) : f523_90 r0 x1 x2 h = z_g (z_isk r0 h [39]) (z_g (z_isk (hP h r0 1) h [40]) (f523_97 r0 x1 x2 (hI h (hP h r0 1) 9) h)) := sorry
theorem e523_97 (r0 : Nat) (x1 x2 s0 : Int) (h : z_M) : f523_97 r0 x1 x2 s0 h = z_g (z_isk r0 h [39]) (z_if (¬ x1 = 0) (f523_110 r0 x1 x2 s0 (hP h r0 1) h) (f523_117 r0 x1 x2 s0 (hP h r0 1) x2 h)) := sorry
theorem e523_110 (r0 : Nat) (x1 x2 x3 : Int) (q0 : Nat) (h : z_M) : f523_110 r0 x1 x2 x3 q0 h = z_g (z_isk r0 h [39]) (z_g (z_isk (hP h r0 1) h [40]) (f523_117 r0 x1 x2 x3 q0 (hI h (hP h r0 1) 7) h)) := sorry
theorem e523_117 (r0 : Nat) (x1 x2 x3 : Int) (q0 : Nat) (s1 : Int) (h : z_M) : f523_117 r0 x1 x2 x3 q0 s1 h = z_g (z_isk q0 h [40]) (z_g (z_isk r0 (sI h q0 7 s1) [39]) (z_if (¬ x1 = 1) (f523_133 r0 x1 x2 x3 (hP (sI h q0 7 s1) r0 1) (sI h q0 7 s1)) (f523_140 r0 x1 x2 x3 (hP (sI h q0 7 s1) r0 1) x2 (sI h q0 7 s1)))) := sorry
theorem e523_133 (r0 : Nat) (x1 x2 x3 : Int) (q0 : Nat) (h : z_M) : f523_133 r0 x1 x2 x3 q0 h = z_g (z_isk r0 h [39]) (z_g (z_isk (hP h r0 1) h [40]) (f523_140 r0 x1 x2 x3 q0 (hI h (hP h r0 1) 8) h)) := sorry
theorem e523_140 (r0 : Nat) (x1 x2 x3 : Int) (q0 : Nat) (s1 : Int) (h : z_M) : f523_140 r0 x1 x2 x3 q0 s1 h = z_g (z_isk q0 h [40]) (z_g (z_isk r0 (sI h q0 8 s1) [39]) (z_if (¬ x1 = 2) (f523_156 r0 x3 (hP (sI h q0 8 s1) r0 1) (sI h q0 8 s1)) (f523_163 x3 (hP (sI h q0 8 s1) r0 1) x2 (sI h q0 8 s1)))) := sorry
theorem e523_156 (r0 : Nat) (x3 : Int) (q0 : Nat) (h : z_M) : f523_156 r0 x3 q0 h = z_g (z_isk r0 h [39]) (z_g (z_isk (hP h r0 1) h [40]) (f523_163 x3 q0 (hI h (hP h r0 1) 9) h)) := sorry
theorem e523_163 (x3 : Int) (q0 : Nat) (s1 : Int) (h : z_M) : f523_163 x3 q0 s1 h = z_g (z_isk q0 h [40]) (z_ri x3 (sI h q0 9 s1)) := sorry
theorem e527_0 (r0 : Nat) (x1 : Int) (h : z_M) : f527_0 r0 x1 h = z_g (z_isk r0 h [39]) (z_g (z_isk r0 h [39]) (z_g (z_isk r0 h [39]) (z_g (z_isz (hP h r0 5) (sI h r0 6 (z_w ((hI h r0 6) + 1))) (hI h r0 6) ∧ z_new (hP h r0 5) ∧ (hK (sI h r0 6 (z_w ((hI h r0 6) + 1))) (hP h r0 5) = 1002 ∨ z_01 (z_i8 x1))) (z_rv (sI (sI h r0 6 (z_w ((hI h r0 6) + 1))) (hP h r0 5) (Int.toNat (hI h r0 6)) (z_i8 (z_i8 x1))))))) := sorry
theorem e541_0 (r0 : Nat) (x1 : Int) (h : z_M) : f541_0 r0 x1 h = z_g (z_isk r0 h [39]) (z_kv (f510_0 (hI h r0 3) h) (fun h1 => z_ki (f540_0 x1 0 3 h1) (fun v2 h2 => z_kv (f536_0 v2 h2) (fun h3 => z_g (z_isk r0 h3 [39]) (z_g (z_isk r0 (sI h3 r0 6 0) [39]) (z_kv (f542_0 r0 (sI h3 r0 6 0)) (fun h4 => f541_25 r0 x1 h4) z_ex))) z_ex) z_ex) z_ex) := sorry
theorem e541_25 (r0 : Nat) (x1 : Int) (h : z_M) : f541_25 r0 x1 h = f541_27 r0 x1 0 h := sorry
theorem e541_27 (r0 : Nat) (x1 x2 : Int) (h : z_M) : f541_27 r0 x1 x2 h = z_g (z_isk r0 h [39]) (z_g (z_isk (hP h r0 1) h [40]) (z_if ((hI h (hP h r0 1) 5) ≤ x2) (f541_79 r0 h) (z_g (z_isk r0 h [39]) (z_if ((hI h r0 0) = 0) (f541_49 r0 x1 x2 h) (z_if (¬ x2 = 0) (f541_79 r0 h) (f541_49 r0 x1 x2 h)))))) := sorry
theorem e541_49 (r0 : Nat) (x1 x2 : Int) (h : z_M) : f541_49 r0 x1 x2 h = z_g (z_isk r0 h [39]) (z_if (¬ (hI h r0 0) = 0) (f541_63 r0 x1 x2 r0 x1 x2 h) (f541_70 r0 x1 x2 r0 x1 x2 1 h)) := sorry
theorem e541_63 (r0 : Nat) (x1 x2 : Int) (q0 : Nat) (s1 s2 : Int) (h : z_M) : f541_63 r0 x1 x2 q0 s1 s2 h = z_g (z_isk r0 h [39]) (z_g (z_isk (hP h r0 1) h [40]) (f541_70 r0 x1 x2 q0 s1 s2 (hI h (hP h r0 1) 5) h)) := sorry
theorem e541_70 (r0 : Nat) (x1 x2 : Int) (q0 : Nat) (s1 s2 s3 : Int) (h : z_M) : f541_70 r0 x1 x2 q0 s1 s2 s3 h = z_g (z_isk q0 h [39]) (z_kv (f543_0 q0 s1 s2 s3 h) (fun h1 => f541_27 r0 x1 (z_w (x2 + 1)) h1) (fun e2 h2 => z_if (z_isk e2 h2 [54]) (f541_82 e2 h2) (none))) := sorry
theorem e541_79 (r0 : Nat) (h : z_M) : f541_79 r0 h = f541_85 r0 h := sorry
theorem e541_82 (q0 : Nat) (h : z_M) : f541_82 q0 h = z_ri (-1) h := sorry
theorem e541_85 (r0 : Nat) (h : z_M) : f541_85 r0 h = z_g (z_isk r0 h [39]) (z_kv (f525_0 r0 217 h) (fun h1 => z_g (z_isk r0 h1 [39]) (z_ri (hI h1 r0 6) h1)) z_ex) := sorry
theorem e542_0 (r0 : Nat) (h : z_M) : f542_0 r0 h = z_g (z_isk r0 h [39]) (z_kv (f525_0 r0 216 h) (fun h1 => f542_9 r0 0 h1) z_ex) := sorry
theorem e542_9 (r0 : Nat) (x1 : Int) (h : z_M) : f542_9 r0 x1 h = z_g (z_isk r0 h [39]) (z_g (z_isk (hP h r0 1) h [40]) (z_if ((hI h (hP h r0 1) 6) ≤ x1) (f542_99 r0 h) (z_g (z_isk r0 h [39]) (z_g (z_isk (hP h r0 1) h [40]) (z_g (z_isr (hP h (hP h r0 1) 1) h x1) (z_g (z_isk (hP h (hP h (hP h r0 1) 1) (Int.toNat x1)) h [56]) (z_if (¬ (hI h (hP h (hP h (hP h r0 1) 1) (Int.toNat x1)) 0) = 16) (f542_46 r0 x1 (hP h (hP h (hP h r0 1) 1) (Int.toNat x1)) r0 h) (f542_54 r0 x1 (hP h (hP h (hP h r0 1) 1) (Int.toNat x1)) r0 254 h)))))))) := sorry
theorem e542_46 (r0 : Nat) (x1 : Int) (r2 q0 : Nat) (h : z_M) : f542_46 r0 x1 r2 q0 h = z_g (z_isk r2 h [56]) (f542_54 r0 x1 r2 q0 (z_w (224 + (hI h r2 0))) h) := sorry
theorem e542_54 (r0 : Nat) (x1 : Int) (r2 q0 : Nat) (s1 : Int) (h : z_M) : f542_54 r0 x1 r2 q0 s1 h = z_g (z_isk q0 h [39]) (z_kv (f525_0 q0 s1 h) (fun h1 => z_g (z_isk r2 h1 [56]) (z_g (z_isk r0 h1 [39]) (z_kv (f526_0 r0 (z_w (2 + (hI h1 r2 2))) h1) (fun h2 => f542_69 r0 x1 r2 0 h2) z_ex))) z_ex) := sorry
theorem e542_69 (r0 : Nat) (x1 : Int) (r2 : Nat) (x3 : Int) (h : z_M) : f542_69 r0 x1 r2 x3 h = z_g (z_isk r2 h [56]) (z_if ((hI h r2 2) ≤ x3) (f542_93 r0 x1 h) (z_g (z_isk r2 h [56]) (z_g (z_isz (hP h r2 1) h x3) (z_g (z_isk r0 h [39]) (z_kv (f527_0 r0 (hI h (hP h r2 1) (Int.toNat x3)) h) (fun h1 => f542_69 r0 x1 r2 (z_w (x3 + 1)) h1) z_ex))))) := sorry
theorem e542_93 (r0 : Nat) (x1 : Int) (h : z_M) : f542_93 r0 x1 h = f542_9 r0 (z_w (x1 + 1)) h := sorry
theorem e542_99 (r0 : Nat) (h : z_M) : f542_99 r0 h = z_g (z_isk r0 h [39]) (z_kv (f525_0 r0 247 h) (fun h1 => z_g (z_isk r0 h1 [39]) (z_g (z_isk (hP h1 r0 1) h1 [40]) (z_g (z_isk r0 h1 [39]) (z_kv (f526_0 r0 (z_w (8 + (z_w (3 * (hI h1 (hP h1 r0 1) 5))))) h1) (fun h2 => z_g (z_isk r0 h2 [39]) (z_g (z_isk (hP h2 r0 1) h2 [40]) (z_g (z_isk r0 h2 [39]) (z_kv (f527_0 r0 (hI h2 (hP h2 r0 1) 4) h2) (fun h3 => z_g (z_isk r0 h3 [39]) (z_g (z_isk (hP h3 r0 1) h3 [40]) (z_g (z_isk r0 h3 [39]) (z_kv (f526_0 r0 (hI h3 (hP h3 r0 1) 3) h3) (fun h4 => z_g (z_isk r0 h4 [39]) (z_g (z_isk (hP h4 r0 1) h4 [40]) (z_g (z_isk r0 h4 [39]) (z_kv (f526_0 r0 (hI h4 (hP h4 r0 1) 2) h4) (fun h5 => z_g (z_isk r0 h5 [39]) (z_g (z_isk (hP h5 r0 1) h5 [40]) (z_g (z_isk r0 h5 [39]) (z_kv (f527_0 r0 (hI h5 (hP h5 r0 1) 5) h5) (fun h6 => f542_168 r0 0 h6) z_ex)))) z_ex)))) z_ex)))) z_ex)))) z_ex)))) z_ex) := sorry
theorem e542_168 (r0 : Nat) (x1 : Int) (h : z_M) : f542_168 r0 x1 h = z_g (z_isk r0 h [39]) (z_g (z_isk (hP h r0 1) h [40]) (z_if ((hI h (hP h r0 1) 5) ≤ x1) (f542_203 r0 h) (z_g (z_isk r0 h [39]) (z_kv (f527_0 r0 (z_w (x1 + 1)) h) (fun h1 => z_g (z_isk r0 h1 [39]) (z_kv (f527_0 r0 17 h1) (fun h2 => z_g (z_isk r0 h2 [39]) (z_kv (f527_0 r0 0 h2) (fun h3 => f542_168 r0 (z_w (x1 + 1)) h3) z_ex)) z_ex)) z_ex)))) := sorry
theorem e542_203 (r0 : Nat) (h : z_M) : f542_203 r0 h = z_g (z_isk r0 h [39]) (z_g (z_isk (hP h r0 1) h [40]) (z_if (¬ (hI h (hP h r0 1) 7) = 64) (f542_226 r0 h) (z_g (z_isk r0 h [39]) (z_g (z_isk (hP h r0 1) h [40]) (z_if ((hI h (hP h r0 1) 8) = 4) (f542_265 r0 h) (f542_226 r0 h)))))) := sorry
theorem e542_226 (r0 : Nat) (h : z_M) : f542_226 r0 h = z_g (z_isk r0 h [39]) (z_kv (f525_0 r0 248 h) (fun h1 => z_g (z_isk r0 h1 [39]) (z_kv (f526_0 r0 5 h1) (fun h2 => z_g (z_isk r0 h2 [39]) (z_kv (f527_0 r0 1 h2) (fun h3 => z_g (z_isk r0 h3 [39]) (z_g (z_isk (hP h3 r0 1) h3 [40]) (z_g (z_isk r0 h3 [39]) (z_kv (f527_0 r0 (hI h3 (hP h3 r0 1) 7) h3) (fun h4 => z_g (z_isk r0 h4 [39]) (z_g (z_isk (hP h4 r0 1) h4 [40]) (z_g (z_isk r0 h4 [39]) (z_kv (f527_0 r0 (hI h4 (hP h4 r0 1) 8) h4) (fun h5 => f542_265 r0 h5) z_ex)))) z_ex)))) z_ex)) z_ex)) z_ex) := sorry
theorem e542_265 (r0 : Nat) (h : z_M) : f542_265 r0 h = f542_267 r0 0 h := sorry
theorem e542_267 (r0 : Nat) (x1 : Int) (h : z_M) : f542_267 r0 x1 h = z_g (z_isk r0 h [39]) (z_g (z_isk (hP h r0 1) h [40]) (z_if ((hI h (hP h r0 1) 5) ≤ x1) (f542_387 r0 h) (z_g (z_isk r0 h [39]) (z_g (z_isk (hP h r0 1) h [40]) (z_g (z_isr (hP h (hP h r0 1) 0) h x1) (z_g (z_isk (hP h (hP h (hP h r0 1) 0) (Int.toNat x1)) h [41]) (z_if ((hP h (hP h (hP h (hP h r0 1) 0) (Int.toNat x1)) 1) = 0) (f542_381 r0 x1 h) (z_g (z_isk r0 h [39]) (z_kv (f525_0 r0 248 h) (fun h1 => z_g (z_isk r0 h1 [39]) (z_g (z_isk (hP h1 r0 1) h1 [40]) (z_g (z_isr (hP h1 (hP h1 r0 1) 0) h1 x1) (z_g (z_isk (hP h1 (hP h1 (hP h1 r0 1) 0) (Int.toNat x1)) h1 [41]) (z_g (1000 ≤ hK h1 (hP h1 (hP h1 (hP h1 (hP h1 r0 1) 0) (Int.toNat x1)) 1)) (z_g (z_isk r0 h1 [39]) (z_kv (f526_0 r0 (z_w (5 + (z_w (2 * (hN h1 (hP h1 (hP h1 (hP h1 (hP h1 r0 1) 0) (Int.toNat x1)) 1) : Int))))) h1) (fun h2 => z_g (z_isk r0 h2 [39]) (z_kv (f527_0 r0 2 h2) (fun h3 => z_g (z_isk r0 h3 [39]) (z_kv (f527_0 r0 (z_w (x1 + 1)) h3) (fun h4 => z_g (z_isk r0 h4 [39]) (z_kv (f527_0 r0 2 h4) (fun h5 => z_g (z_isk r0 h5 [39]) (z_g (z_isk (hP h5 r0 1) h5 [40]) (z_g (z_isr (hP h5 (hP h5 r0 1) 0) h5 x1) (z_g (z_isk (hP h5 (hP h5 (hP h5 r0 1) 0) (Int.toNat x1)) h5 [41]) (z_g (1000 ≤ hK h5 (hP h5 (hP h5 (hP h5 (hP h5 r0 1) 0) (Int.toNat x1)) 1)) (f542_357 r0 x1 (hP h5 (hP h5 (hP h5 (hP h5 r0 1) 0) (Int.toNat x1)) 1) (hN h5 (hP h5 (hP h5 (hP h5 (hP h5 r0 1) 0) (Int.toNat x1)) 1) : Int) 0 h5)))))) z_ex)) z_ex)) z_ex)) z_ex))))))) z_ex))))))))) := sorry
theorem e542_357 (r0 : Nat) (x1 : Int) (r2 : Nat) (x3 x4 : Int) (h : z_M) : f542_357 r0 x1 r2 x3 x4 h = z_if (x3 ≤ x4) (f542_381 r0 x1 h) (z_g (z_isa r2 h 1000 x4) (z_g (z_isk r0 h [39]) (z_kv (f526_0 r0 (hI h r2 (Int.toNat x4)) h) (fun h1 => f542_357 r0 x1 r2 x3 (z_w (x4 + 1)) h1) z_ex))) := sorry
theorem e542_381 (r0 : Nat) (x1 : Int) (h : z_M) : f542_381 r0 x1 h = f542_267 r0 (z_w (x1 + 1)) h := sorry
theorem e542_387 (r0 : Nat) (h : z_M) : f542_387 r0 h = z_g (z_isk r0 h [39]) (z_g (z_isk (hP h r0 1) h [40]) (z_if ((hI h (hP h r0 1) 9) ≤ 0) (f542_420 h) (z_g (z_isk r0 h [39]) (z_kv (f525_0 r0 221 h) (fun h1 => z_g (z_isk r0 h1 [39]) (z_kv (f526_0 r0 4 h1) (fun h2 => z_g (z_isk r0 h2 [39]) (z_g (z_isk (hP h2 r0 1) h2 [40]) (z_g (z_isk r0 h2 [39]) (z_kv (f526_0 r0 (hI h2 (hP h2 r0 1) 9) h2) (fun h3 => f542_420 h3) z_ex)))) z_ex)) z_ex)))) := sorry
theorem e542_420 (h : z_M) : f542_420 h = z_rv h := sorry
theorem e543_0 (r0 : Nat) (x1 x2 x3 : Int) (h : z_M) : f543_0 r0 x1 x2 x3 h = z_if (¬ x3 = 1) (f543_9 r0 x1 x2 x3 h) (f543_13 r0 x1 x2 x3 0 h) := sorry
theorem e543_9 (r0 : Nat) (x1 x2 x3 : Int) (h : z_M) : f543_9 r0 x1 x2 x3 h = z_g (z_isk r0 h [39]) (f543_13 r0 x1 x2 x3 (hI h r0 0) h) := sorry
theorem e543_13 (r0 : Nat) (x1 x2 x3 s0 : Int) (h : z_M) : f543_13 r0 x1 x2 x3 s0 h = z_g (z_isk r0 h [39]) (z_kv (f525_0 r0 218 h) (fun h1 => z_g (z_isk r0 h1 [39]) (z_kv (f526_0 r0 (z_w (6 + (z_w (2 * x3)))) h1) (fun h2 => z_g (z_isk r0 h2 [39]) (z_kv (f527_0 r0 x3 h2) (fun h3 => f543_40 r0 x1 x2 x3 s0 x2 h3) z_ex)) z_ex)) z_ex) := sorry
theorem e543_40 (r0 : Nat) (x1 x2 x3 x4 x5 : Int) (h : z_M) : f543_40 r0 x1 x2 x3 x4 x5 h = z_if ((z_w (x2 + x3)) ≤ x5) (f543_90 r0 x1 x2 x3 x4 h) (z_g (z_isk r0 h [39]) (z_kv (f527_0 r0 (z_w (x5 + 1)) h) (fun h1 => z_g (z_isk r0 h1 [39]) (z_g (z_isk (hP h1 r0 1) h1 [40]) (z_g (z_isr (hP h1 (hP h1 r0 1) 0) h1 x5) (z_g (z_isk (hP h1 (hP h1 (hP h1 r0 1) 0) (Int.toNat x5)) h1 [41]) (z_if (¬ (hP h1 (hP h1 (hP h1 (hP h1 r0 1) 0) (Int.toNat x5)) 1) = 0) (f543_77 r0 x1 x2 x3 x4 x5 r0 h1) (f543_81 r0 x1 x2 x3 x4 x5 r0 0 h1)))))) z_ex)) := sorry
theorem e543_77 (r0 : Nat) (x1 x2 x3 x4 x5 : Int) (q0 : Nat) (h : z_M) : f543_77 r0 x1 x2 x3 x4 x5 q0 h = f543_81 r0 x1 x2 x3 x4 x5 q0 (z_w (x5 + 1)) h := sorry
theorem e543_81 (r0 : Nat) (x1 x2 x3 x4 x5 : Int) (q0 : Nat) (s1 : Int) (h : z_M) : f543_81 r0 x1 x2 x3 x4 x5 q0 s1 h = z_g (z_isk q0 h [39]) (z_kv (f527_0 q0 s1 h) (fun h1 => f543_40 r0 x1 x2 x3 x4 (z_w (x5 + 1)) h1) z_ex) := sorry
theorem e543_90 (r0 : Nat) (x1 x2 x3 x4 : Int) (h : z_M) : f543_90 r0 x1 x2 x3 x4 h = z_g (z_isk r0 h [39]) (z_kv (f527_0 r0 x1 h) (fun h1 => z_g (z_isk r0 h1 [39]) (z_kv (f527_0 r0 x4 h1) (fun h2 => z_g (z_isk r0 h2 [39]) (z_kv (f527_0 r0 0 h2) (fun h3 => z_g (z_isk r0 (sN h3 52 13) [39]) (z_g (z_isk (hZ h3 + 1) (sN h3 52 13) [52]) (z_kv (f1064_0 (hZ h3 + 1) r0 (hP (sN h3 52 13) r0 1) x1 x2 x3 x4 (sN h3 52 13)) (fun h4 => z_g (z_isk (hZ h3 + 1) h4 [52]) (z_kv (f1057_0 (hZ h3 + 1) h4) (fun h5 => z_rv h5) z_ex)) z_ex))) z_ex)) z_ex)) z_ex) := sorry
theorem e544_0 (r0 : Nat) (h : z_M) : f544_0 r0 h = z_g (z_isk r0 h [40]) (z_g (1000 ≤ hK h (hP h r0 0)) (f544_10 r0 (hP h r0 0) (hN h (hP h r0 0) : Int) 0 h)) := sorry
theorem e544_10 (r0 r1 : Nat) (x2 x3 : Int) (h : z_M) : f544_10 r0 r1 x2 x3 h = z_if (x2 ≤ x3) (f544_31 r0 h) (z_g (z_isr r1 h x3) (z_g (z_isk (hP h r1 (Int.toNat x3)) h [41]) (z_kv (f549_0 (hP h r1 (Int.toNat x3)) h) (fun h1 => f544_10 r0 r1 x2 (z_w (x3 + 1)) h1) z_ex))) := sorry
theorem e544_31 (r0 : Nat) (h : z_M) : f544_31 r0 h = z_g (z_isk r0 h [40]) (z_g (z_isk r0 (sI h r0 5 0) [40]) (z_g (z_isk r0 (sI (sI h r0 5 0) r0 6 0) [40]) (z_g (z_isk r0 (sI (sI (sI h r0 5 0) r0 6 0) r0 7 64) [40]) (z_g (z_isk r0 (sI (sI (sI (sI h r0 5 0) r0 6 0) r0 7 64) r0 8 4) [40]) (z_g (z_isk r0 (sI (sI (sI (sI (sI h r0 5 0) r0 6 0) r0 7 64) r0 8 4) r0 9 0) [40]) (f544_62 r0 (sI (sI (sI (sI (sI (sI h r0 5 0) r0 6 0) r0 7 64) r0 8 4) r0 9 0) r0 10 0))))))) := sorry
theorem e544_62 (r0 : Nat) (h : z_M) : f544_62 r0 h = z_g (z_isk r0 h [40]) (z_rv (sI h r0 11 0)) := sorry
theorem e549_0 (r0 : Nat) (h : z_M) : f549_0 r0 h = f549_2 r0 0 h := sorry
theorem e549_2 (r0 : Nat) (x1 : Int) (h : z_M) : f549_2 r0 x1 h = z_if (144 ≤ x1) (f549_22 r0 h) (z_g (z_isk r0 h [41]) (z_g (z_isa (hP h r0 0) h 1000 x1 ∧ z_new (hP h r0 0)) (f549_2 r0 (z_w (x1 + 1)) (sI h (hP h r0 0) (Int.toNat x1) 0)))) := sorry
theorem e549_22 (r0 : Nat) (h : z_M) : f549_22 r0 h = z_g (z_isk r0 h [41]) (z_g (z_isk r0 (sP h r0 1 0) [41] ∧ z_01 0) (z_rv (sI (sP h r0 1 0) r0 2 0))) := sorry
theorem e689_0 (x1 x2 x3 : Int) (h : z_M) : f689_0 x1 x2 x3 h = z_ki (f881_0 x1 x2 h) (fun v1 h1 => z_ki (f885_0 x3 0 255 h1) (fun v2 h2 => z_ki (f954_0 v1 v2 1 1 h2) (fun v3 h3 => z_if (¬ v3 = 0) (f689_25 x1 x2 x3 h3) (z_ri 0 h3)) z_ex) z_ex) z_ex := sorry
theorem e689_25 (x1 x2 x3 : Int) (h : z_M) : f689_25 x1 x2 x3 h = z_g (z_inb (z_w ((z_w (1500 * x1)) + x2)) 18000) (z_g (z_inb (z_w ((z_w (1500 * x1)) + x2)) 18000) (z_ri (hI h 1073 (Int.toNat (z_w ((z_w (1500 * x1)) + x2)))) (sI h 1073 (Int.toNat (z_w ((z_w (1500 * x1)) + x2))) x3))) := sorry
theorem e690_0 (x1 x2 : Int) (h : z_M) : f690_0 x1 x2 h = z_ki (f890_0 x1 h) (fun v1 h1 => z_if (v1 = 0) (f690_18 x1 x2 h1) (z_ki (f890_0 x2 h1) (fun v2 h2 => z_if (v2 = 0) (f690_18 x1 x2 h2) (f690_19 x1 x2 1 h2)) z_ex)) z_ex := sorry
theorem e690_18 (x1 x2 : Int) (h : z_M) : f690_18 x1 x2 h = f690_19 x1 x2 0 h := sorry
theorem e690_19 (x1 x2 s0 : Int) (h : z_M) : f690_19 x1 x2 s0 h = z_if (s0 = 0) (f690_74 x1 x2 s0 h) (z_ki (f891_0 x1 h) (fun v1 h1 => z_if (v1 = 0) (f690_74 x1 x2 s0 h1) (z_ki (f891_0 x2 h1) (fun v2 h2 => z_if (v2 = 0) (f690_74 x1 x2 s0 h2) (z_g (z_inb x1 4) (z_g (z_inb x2 4) (z_if (¬ (hI h2 1069 (Int.toNat x1)) = (hI h2 1069 (Int.toNat x2))) (f690_74 x1 x2 s0 h2) (z_g (z_inb x1 4) (z_g (z_inb x2 4) (z_if (¬ (hI h2 1070 (Int.toNat x1)) = (hI h2 1070 (Int.toNat x2))) (f690_74 x1 x2 s0 h2) (f690_75 x1 x2 s0 1 h2)))))))) z_ex)) z_ex) := sorry
theorem e690_74 (x1 x2 x3 : Int) (h : z_M) : f690_74 x1 x2 x3 h = f690_75 x1 x2 x3 0 h := sorry
theorem e690_75 (x1 x2 x3 s0 : Int) (h : z_M) : f690_75 x1 x2 x3 s0 h = z_ki (f954_0 x3 s0 1 1 h) (fun v1 h1 => z_if (¬ v1 = 0) (f690_91 x1 x2 h1) (z_ri 0 h1)) z_ex := sorry
theorem e690_91 (x1 x2 : Int) (h : z_M) : f690_91 x1 x2 h = f690_97 x1 x2 0 0 h := sorry
theorem e690_97 (x1 x2 x5 x6 : Int) (h : z_M) : f690_97 x1 x2 x5 x6 h = z_if (576 ≤ x6) (f690_150 x5 h) (z_g (z_inb (z_w ((z_w (576 * x1)) + x6)) 2304) (z_g (z_inb (z_w ((z_w (576 * x2)) + x6)) 2304) (z_if (¬ (hI h 1071 (Int.toNat (z_w ((z_w (576 * x1)) + x6)))) = (hI h 1071 (Int.toNat (z_w ((z_w (576 * x2)) + x6))))) (f690_140 x1 x2 x6 x5 h) (f690_141 x1 x2 x6 x5 0 h)))) := sorry
theorem e690_140 (x1 x2 x6 s0 : Int) (h : z_M) : f690_140 x1 x2 x6 s0 h = f690_141 x1 x2 x6 s0 1 h := sorry
theorem e690_141 (x1 x2 x6 s0 s1 : Int) (h : z_M) : f690_141 x1 x2 x6 s0 s1 h = f690_97 x1 x2 (z_w (s0 + s1)) (z_w (x6 + 1)) h := sorry
theorem e690_150 (x5 : Int) (h : z_M) : f690_150 x5 h = z_ri x5 h := sorry
theorem e691_0 (x1 x2 : Int) (h : z_M) : f691_0 x1 x2 h = f691_5 x1 x2 1 x1 h := sorry
theorem e691_5 (x1 x2 x3 x4 : Int) (h : z_M) : f691_5 x1 x2 x3 x4 h = z_if ((z_w (x1 + x2)) ≤ x4) (f691_70 x3 h) (z_if (x3 = 0) (f691_70 x3 h) (z_ki (f892_0 x4 h) (fun v1 h1 => z_if (v1 = 0) (f691_62 x1 x2 x4 h1) (z_g (z_inb x4 8) (z_g (z_inb x1 8) (z_if (¬ (hI h1 1065 (Int.toNat x4)) = (hI h1 1065 (Int.toNat x1))) (f691_62 x1 x2 x4 h1) (z_g (z_inb x4 8) (z_g (z_inb x1 8) (z_if (¬ (hI h1 1066 (Int.toNat x4)) = (hI h1 1066 (Int.toNat x1))) (f691_62 x1 x2 x4 h1) (f691_63 x1 x2 x4 1 h1)))))))) z_ex)) := sorry
theorem e691_62 (x1 x2 x4 : Int) (h : z_M) : f691_62 x1 x2 x4 h = f691_63 x1 x2 x4 0 h := sorry
theorem e691_63 (x1 x2 x4 s0 : Int) (h : z_M) : f691_63 x1 x2 x4 s0 h = f691_5 x1 x2 s0 (z_w (x4 + 1)) h := sorry
theorem e691_70 (x3 : Int) (h : z_M) : f691_70 x3 h = z_g (z_01 x3) (z_ri x3 h) := sorry
theorem e693_0 (x1 x2 x3 : Int) (h : z_M) : f693_0 x1 x2 x3 h = z_ki (f955_0 x1 x2 x3 h) (fun v1 h1 => z_if (v1 = 0) (f693_30 h1) (z_g (z_inb (z_w ((z_w ((z_w (144 * x1)) + (z_w (12 * x3)))) + x2)) 1152) (f693_31 (hI h1 1067 (Int.toNat (z_w ((z_w ((z_w (144 * x1)) + (z_w (12 * x3)))) + x2)))) h1))) z_ex := sorry
theorem e693_30 (h : z_M) : f693_30 h = f693_31 0 h := sorry
theorem e693_31 (s0 : Int) (h : z_M) : f693_31 s0 h = z_ri s0 h := sorry
theorem e697_0 (h : z_M) : f697_0 h = f697_2 0 h := sorry
theorem e697_2 (x1 : Int) (h : z_M) : f697_2 x1 h = z_if (64 ≤ x1) (f697_21 h) (z_g (z_inb x1 64) (f697_2 (z_w (x1 + 1)) (sI h 1078 (Int.toNat x1) (-1)))) := sorry
theorem e697_21 (h : z_M) : f697_21 h = f697_23 0 h := sorry
theorem e697_23 (x1 : Int) (h : z_M) : f697_23 x1 h = z_if (144 ≤ x1) (f697_43 h) (z_g (z_inb x1 144) (f697_23 (z_w (x1 + 1)) (sI h 1076 (Int.toNat x1) 0))) := sorry
theorem e697_43 (h : z_M) : f697_43 h = z_rv h := sorry
theorem e698_0 (h : z_M) : f698_0 h = f698_12 0 (sI (sI h 1064 23 4) 1064 24 1) := sorry
theorem e698_12 (x1 : Int) (h : z_M) : f698_12 x1 h = z_if (144 ≤ x1) (f698_32 h) (z_g (z_inb x1 144) (f698_12 (z_w (x1 + 1)) (sI h 1077 (Int.toNat x1) 0))) := sorry
theorem e698_32 (h : z_M) : f698_32 h = z_rv h := sorry
theorem e749_0 (x1 : Int) (h : z_M) : f749_0 x1 h = z_ki (f752_0 x1 h) (fun v1 h1 => z_if (v1 = 0) (f749_13 x1 h1) (f749_14 x1 0 h1)) z_ex := sorry
theorem e749_13 (x1 : Int) (h : z_M) : f749_13 x1 h = f749_14 x1 1 h := sorry
theorem e749_14 (x1 s1 : Int) (h : z_M) : f749_14 x1 s1 h = z_if ((hI (sI h 1064 342 s1) 1064 342) ≤ 0) (f749_26 x1 (sI h 1064 342 s1)) (z_ri 0 (sI h 1064 342 s1)) := sorry
theorem e749_26 (x1 : Int) (h : z_M) : f749_26 x1 h = z_g (z_inb x1 16) (z_g (z_inb x1 16) (z_ri (hI h 1254 (Int.toNat x1)) (sI h 1254 (Int.toNat x1) 0))) := sorry
theorem e752_0 (x1 : Int) (h : z_M) : f752_0 x1 h = z_if (x1 < 0) (f752_14 h) (z_if (8 ≤ x1) (f752_14 h) (f752_15 1 h)) := sorry
theorem e752_14 (h : z_M) : f752_14 h = f752_15 0 h := sorry
theorem e752_15 (s0 : Int) (h : z_M) : f752_15 s0 h = z_g (z_01 s0) (z_ri s0 h) := sorry
theorem e760_0 (x1 x2 : Int) (h : z_M) : f760_0 x1 x2 h = z_ki (f881_0 x1 x2 h) (fun v1 h1 => z_ki (f954_0 v1 1 1 1 h1) (fun v2 h2 => z_if (v2 = 0) (f760_31 h2) (z_g (z_inb (z_w ((z_w (1500 * x1)) + x2)) 18000) (f760_32 (hI h2 1073 (Int.toNat (z_w ((z_w (1500 * x1)) + x2)))) h2))) z_ex) z_ex := sorry
theorem e760_31 (h : z_M) : f760_31 h = f760_32 0 h := sorry
theorem e760_32 (s0 : Int) (h : z_M) : f760_32 s0 h = z_ri s0 h := sorry
theorem e806_0 (x1 x2 : Int) (h : z_M) : f806_0 x1 x2 h = z_ki (f984_0 (z_w (x1 - 1)) x2 x2 h) (fun v1 h1 => z_ki (f984_0 (z_w (x1 - 2)) x2 x2 h1) (fun v2 h2 => z_ki (f984_0 (z_w (x1 - 1)) (z_w (x2 - 1)) x2 h2) (fun v3 h3 => z_ki (f984_0 x1 (z_w (x2 - 1)) x2 h3) (fun v4 h4 => z_ki (f984_0 (z_w (x1 + 1)) (z_w (x2 - 1)) x2 h4) (fun v5 h5 => z_g (z_inb (z_w ((z_w (12 * x2)) + x1)) 144) (z_ri (z_w ((z_w ((z_w ((z_w ((z_w (v1 + (z_w (2 * v2)))) + (z_w (4 * v3)))) + (z_w (8 * v4)))) + (z_w (16 * v5)))) + (z_w (32 * (hI h5 1077 (Int.toNat (z_w ((z_w (12 * x2)) + x1)))))))) h5)) z_ex) z_ex) z_ex) z_ex) z_ex := sorry
theorem e807_0 (x1 x2 : Int) (h : z_M) : f807_0 x1 x2 h = z_ki (f888_0 x1 h) (fun v1 h1 => z_if (v1 = 0) (f807_19 x1 x2 h1) (z_ki (f888_0 x2 h1) (fun v2 h2 => z_if (v2 = 0) (f807_19 x1 x2 h2) (f807_20 x1 x2 1 h2)) z_ex)) z_ex := sorry
theorem e807_19 (x1 x2 : Int) (h : z_M) : f807_19 x1 x2 h = f807_20 x1 x2 0 h := sorry
theorem e807_20 (x1 x2 s1 : Int) (h : z_M) : f807_20 x1 x2 s1 h = z_ki (f954_0 s1 1 1 1 h) (fun v1 h1 => z_if (¬ v1 = 0) (f807_30 x1 x2 h1) (z_rv h1)) z_ex := sorry
theorem e807_30 (x1 x2 : Int) (h : z_M) : f807_30 x1 x2 h = z_g (z_inb x2 8) (z_g (z_inb x1 8) (z_g (z_inb x2 8) (z_g (z_inb x1 8) (f807_56 x1 x2 0 (sI (sI h 1065 (Int.toNat x1) (hI h 1065 (Int.toNat x2))) 1066 (Int.toNat x1) (hI (sI h 1065 (Int.toNat x1) (hI h 1065 (Int.toNat x2))) 1066 (Int.toNat x2))))))) := sorry
theorem e807_56 (x1 x2 x3 : Int) (h : z_M) : f807_56 x1 x2 x3 h = z_if (144 ≤ x3) (f807_117 h) (z_g (z_inb (z_w ((z_w (144 * x2)) + x3)) 1152) (z_g (z_inb (z_w ((z_w (144 * x1)) + x3)) 1152) (z_g (z_inb (z_w ((z_w (144 * x2)) + x3)) 1152) (z_g (z_inb (z_w ((z_w (144 * x1)) + x3)) 1152) (z_g (z_01 (hI (sI h 1067 (Int.toNat (z_w ((z_w (144 * x1)) + x3))) (hI h 1067 (Int.toNat (z_w ((z_w (144 * x2)) + x3))))) 1068 (Int.toNat (z_w ((z_w (144 * x2)) + x3))))) (f807_56 x1 x2 (z_w (x3 + 1)) (sI (sI h 1067 (Int.toNat (z_w ((z_w (144 * x1)) + x3))) (hI h 1067 (Int.toNat (z_w ((z_w (144 * x2)) + x3))))) 1068 (Int.toNat (z_w ((z_w (144 * x1)) + x3))) (hI (sI h 1067 (Int.toNat (z_w ((z_w (144 * x1)) + x3))) (hI h 1067 (Int.toNat (z_w ((z_w (144 * x2)) + x3))))) 1068 (Int.toNat (z_w ((z_w (144 * x2)) + x3))))))))))) := sorry
theorem e807_117 (h : z_M) : f807_117 h = z_rv h := sorry
theorem e808_0 (x1 x2 : Int) (h : z_M) : f808_0 x1 x2 h = f808_5 x1 x2 0 0 h := sorry
theorem e808_5 (x1 x2 x3 x4 : Int) (h : z_M) : f808_5 x1 x2 x3 x4 h = z_if (144 ≤ x4) (f808_74 x1 x2 x3 h) (z_if (¬ x1 = 0) (f808_74 x1 x2 x3 h) (z_g (z_inb x2 8) (z_if ((hI h 1065 (Int.toNat x2)) ≤ 0) (f808_74 x1 x2 x3 h) (z_g (¬ (12 : Int) = 0) (z_g (¬ (12 : Int) = 0) (z_ki (f889_0 x2 (z_rem x4 12) (z_div x4 12) h) (fun v1 h1 => z_if (v1 = 0) (f808_65 x1 x2 x4 x3 h1) (z_g (z_inb (z_w ((z_w (144 * x2)) + x4)) 1152) (z_if ((hI h1 1068 (Int.toNat (z_w ((z_w (144 * x2)) + x4)))) = 0) (f808_65 x1 x2 x4 x3 h1) (f808_66 x1 x2 x4 x3 1 h1)))) z_ex)))))) := sorry
theorem e808_65 (x1 x2 x4 s0 : Int) (h : z_M) : f808_65 x1 x2 x4 s0 h = f808_66 x1 x2 x4 s0 0 h := sorry
theorem e808_66 (x1 x2 x4 s0 s1 : Int) (h : z_M) : f808_66 x1 x2 x4 s0 s1 h = f808_5 x1 x2 (z_w (s0 + s1)) (z_w (x4 + 1)) h := sorry
theorem e808_74 (x1 x2 x3 : Int) (h : z_M) : f808_74 x1 x2 x3 h = f808_77 x1 x2 x3 0 h := sorry
theorem e808_77 (x1 x2 x3 x4 : Int) (h : z_M) : f808_77 x1 x2 x3 x4 h = z_if (576 ≤ x4) (f808_120 x3 h) (z_if (¬ x1 = 1) (f808_120 x3 h) (z_g (z_inb (z_w ((z_w (576 * x2)) + x4)) 2304) (z_if ((hI h 1071 (Int.toNat (z_w ((z_w (576 * x2)) + x4)))) = 0) (f808_111 x1 x2 x4 x3 h) (f808_112 x1 x2 x4 x3 1 h)))) := sorry
theorem e808_111 (x1 x2 x4 s0 : Int) (h : z_M) : f808_111 x1 x2 x4 s0 h = f808_112 x1 x2 x4 s0 0 h := sorry
theorem e808_112 (x1 x2 x4 s0 s1 : Int) (h : z_M) : f808_112 x1 x2 x4 s0 s1 h = f808_77 x1 x2 (z_w (s0 + s1)) (z_w (x4 + 1)) h := sorry
theorem e808_120 (x3 : Int) (h : z_M) : f808_120 x3 h = z_ri x3 h := sorry
theorem e809_0 (x1 : Int) (h : z_M) : f809_0 x1 h = z_if (¬ (hI (sI (sI h 1064 23 (z_w ((hI h 1064 23) + x1))) 1064 24 (z_w ((hI (sI h 1064 23 (z_w ((hI h 1064 23) + x1))) 1064 24) + 1))) 1064 24) = 32) (f809_49 (sI (sI h 1064 23 (z_w ((hI h 1064 23) + x1))) 1064 24 (z_w ((hI (sI h 1064 23 (z_w ((hI h 1064 23) + x1))) 1064 24) + 1)))) (z_g (¬ (2 : Int) = 0) (z_g (¬ (2 : Int) = 0) (f809_49 (sI (sI (sI (sI h 1064 23 (z_w ((hI h 1064 23) + x1))) 1064 24 (z_w ((hI (sI h 1064 23 (z_w ((hI h 1064 23) + x1))) 1064 24) + 1))) 1064 23 (z_div (hI (sI (sI h 1064 23 (z_w ((hI h 1064 23) + x1))) 1064 24 (z_w ((hI (sI h 1064 23 (z_w ((hI h 1064 23) + x1))) 1064 24) + 1))) 1064 23) 2)) 1064 24 (z_div (hI (sI (sI (sI h 1064 23 (z_w ((hI h 1064 23) + x1))) 1064 24 (z_w ((hI (sI h 1064 23 (z_w ((hI h 1064 23) + x1))) 1064 24) + 1))) 1064 23 (z_div (hI (sI (sI h 1064 23 (z_w ((hI h 1064 23) + x1))) 1064 24 (z_w ((hI (sI h 1064 23 (z_w ((hI h 1064 23) + x1))) 1064 24) + 1))) 1064 23) 2)) 1064 24) 2))))) := sorry
theorem e809_49 (h : z_M) : f809_49 h = z_rv h := sorry
theorem e811_0 (x1 x2 : Int) (h : z_M) : f811_0 x1 x2 h = z_ki (f883_0 x1 h) (fun v1 h1 => z_if (x2 < 0) (f811_13 x1 x2 v1 h1) (f811_14 x1 x2 v1 1 h1)) z_ex := sorry
theorem e811_13 (x1 x2 s1 : Int) (h : z_M) : f811_13 x1 x2 s1 h = f811_14 x1 x2 s1 0 h := sorry
theorem e811_14 (x1 x2 s1 s2 : Int) (h : z_M) : f811_14 x1 x2 s1 s2 h = z_ki (f954_0 s1 s2 1 1 h) (fun v1 h1 => z_if (¬ v1 = 0) (f811_24 x1 x2 h1) (z_ri 0 h1)) z_ex := sorry
theorem e811_24 (x1 x2 : Int) (h : z_M) : f811_24 x1 x2 h = z_g (z_inb x1 12) (z_if ((hI h 1072 (Int.toNat x1)) ≤ x2) (f811_43 x1 x1 h) (f811_49 x1 x1 x2 h)) := sorry
theorem e811_43 (x1 s1 : Int) (h : z_M) : f811_43 x1 s1 h = z_g (z_inb x1 12) (f811_49 x1 s1 (hI h 1072 (Int.toNat x1)) h) := sorry
theorem e811_49 (x1 s1 s2 : Int) (h : z_M) : f811_49 x1 s1 s2 h = z_g (z_inb s1 12) (z_g (z_inb x1 12) (z_ri (hI (sI h 1072 (Int.toNat s1) s2) 1072 (Int.toNat x1)) (sI h 1072 (Int.toNat s1) s2))) := sorry
theorem e863_0 (h : z_M) : f863_0 h = f863_2 0 h := sorry
theorem e863_2 (x1 : Int) (h : z_M) : f863_2 x1 h = z_if (144 ≤ x1) (f863_27 h) (z_g (z_inb x1 144) (z_g (z_inb x1 144) (f863_2 (z_w (x1 + 1)) (sI h 1077 (Int.toNat x1) (hI h 1076 (Int.toNat x1)))))) := sorry
theorem e863_27 (h : z_M) : f863_27 h = z_rv h := sorry
theorem e865_0 (x1 : Int) (h : z_M) : f865_0 x1 h = z_ki (f885_0 x1 0 1 h) (fun v1 h1 => z_ki (f954_0 v1 1 1 1 h1) (fun v2 h2 => z_if (¬ v2 = 0) (f865_18 x1 h2) (z_ri 0 h2)) z_ex) z_ex := sorry
theorem e865_18 (x1 : Int) (h : z_M) : f865_18 x1 h = z_if (¬ x1 = 0) (f865_29 h) (f865_33 (hI h 1064 2) h) := sorry
theorem e865_29 (h : z_M) : f865_29 h = f865_33 (hI h 1064 3) h := sorry
theorem e865_33 (s0 : Int) (h : z_M) : f865_33 s0 h = z_ri s0 h := sorry
theorem e866_0 (x1 x2 : Int) (h : z_M) : f866_0 x1 x2 h = z_ki (f883_0 x1 h) (fun v1 h1 => z_ki (f885_0 x2 0 255 h1) (fun v2 h2 => z_ki (f883_0 x1 h2) (fun v3 h3 => z_if (v3 = 0) (f866_36 x1 x2 v1 v2 h3) (z_g (z_inb x1 12) (z_if (1500 ≤ (hI h3 1072 (Int.toNat x1))) (f866_36 x1 x2 v1 v2 h3) (f866_37 x1 x2 v1 v2 1 h3)))) z_ex) z_ex) z_ex := sorry
theorem e866_36 (x1 x2 s1 s2 : Int) (h : z_M) : f866_36 x1 x2 s1 s2 h = f866_37 x1 x2 s1 s2 0 h := sorry
theorem e866_37 (x1 x2 s1 s2 s3 : Int) (h : z_M) : f866_37 x1 x2 s1 s2 s3 h = z_ki (f954_0 s1 s2 s3 1 h) (fun v1 h1 => z_if (¬ v1 = 0) (f866_46 x1 x2 h1) (z_ri 0 h1)) z_ex := sorry
theorem e866_46 (x1 x2 : Int) (h : z_M) : f866_46 x1 x2 h = z_g (z_inb x1 12) (z_g (z_inb (z_w ((z_w (1500 * x1)) + (hI h 1072 (Int.toNat x1)))) 18000) (z_g (z_inb x1 12) (z_g (z_inb x1 12) (z_g (z_inb x1 12) (z_ri (hI (sI (sI h 1073 (Int.toNat (z_w ((z_w (1500 * x1)) + (hI h 1072 (Int.toNat x1))))) x2) 1072 (Int.toNat x1) (z_w ((hI (sI h 1073 (Int.toNat (z_w ((z_w (1500 * x1)) + (hI h 1072 (Int.toNat x1))))) x2) 1072 (Int.toNat x1)) + 1))) 1072 (Int.toNat x1)) (sI (sI h 1073 (Int.toNat (z_w ((z_w (1500 * x1)) + (hI h 1072 (Int.toNat x1))))) x2) 1072 (Int.toNat x1) (z_w ((hI (sI h 1073 (Int.toNat (z_w ((z_w (1500 * x1)) + (hI h 1072 (Int.toNat x1))))) x2) 1072 (Int.toNat x1)) + 1)))))))) := sorry
theorem e870_0 (x1 : Int) (h : z_M) : f870_0 x1 h = z_ki (f749_0 x1 h) (fun v1 h1 => z_ri v1 (sI h1 1064 0 (hI h1 1064 342))) z_ex := sorry
theorem e871_0 (x1 x2 x3 x4 : Int) (h : z_M) : f871_0 x1 x2 x3 x4 h = z_g (z_inb (z_w ((z_w ((z_w (144 * x1)) + (z_w (12 * x3)))) + x2)) 1152) (z_if ((hI h 1068 (Int.toNat (z_w ((z_w ((z_w (144 * x1)) + (z_w (12 * x3)))) + x2)))) = 0) (f871_51 h) (z_g (z_inb (z_w ((z_w ((z_w (144 * x1)) + (z_w (12 * x3)))) + x2)) 1152) (z_g (¬ (255 : Int) = 0) (f871_52 (z_div (z_w ((z_w ((z_w ((z_w (255 - (hI h 1067 (Int.toNat (z_w ((z_w ((z_w (144 * x1)) + (z_w (12 * x3)))) + x2)))))) * x4)) * x4)) + 127)) 255) h)))) := sorry
theorem e871_51 (h : z_M) : f871_51 h = f871_52 0 h := sorry
theorem e871_52 (s0 : Int) (h : z_M) : f871_52 s0 h = z_ri s0 h := sorry
theorem e872_0 (x1 x2 x3 : Int) (h : z_M) : f872_0 x1 x2 x3 h = z_ki (f888_0 x1 h) (fun v1 h1 => z_if (v1 = 0) (f872_19 x1 x2 x3 h1) (z_ki (f883_0 x3 h1) (fun v2 h2 => z_if (v2 = 0) (f872_19 x1 x2 x3 h2) (f872_20 x1 x2 x3 1 h2)) z_ex)) z_ex := sorry
theorem e872_19 (x1 x2 x3 : Int) (h : z_M) : f872_19 x1 x2 x3 h = f872_20 x1 x2 x3 0 h := sorry
theorem e872_20 (x1 x2 x3 s1 : Int) (h : z_M) : f872_20 x1 x2 x3 s1 h = z_ki (f892_0 x1 h) (fun v1 h1 => z_ki (f885_0 x2 1 2 h1) (fun v2 h2 => z_ki (f874_0 h2) (fun v3 h3 => z_ki (f954_0 s1 v1 v2 v3 h3) (fun v4 h4 => z_if (¬ v4 = 0) (f872_43 x1 x2 x3 h4) (z_ri 0 h4)) z_ex) z_ex) z_ex) z_ex := sorry
theorem e872_43 (x1 x2 x3 : Int) (h : z_M) : f872_43 x1 x2 x3 h = z_kv (f948_0 x1 x2 h) (fun h1 => z_ki (f982_0 x3 (sI h1 1064 1 (z_w ((hI h1 1064 1) + 1)))) (fun v2 h2 => z_ri v2 h2) z_ex) z_ex := sorry
theorem e874_0 (h : z_M) : f874_0 h = z_if (300 ≤ (hI h 1064 1)) (f874_14 h) (f874_15 1 h) := sorry
theorem e874_14 (h : z_M) : f874_14 h = f874_15 0 h := sorry
theorem e874_15 (s0 : Int) (h : z_M) : f874_15 s0 h = z_g (z_01 s0) (z_ri s0 h) := sorry
theorem e875_0 (h : z_M) : f875_0 h = z_if (¬ (hI h 1064 30) = 0) (f875_24 h) (z_if (¬ (hI h 1064 27) = (hI h 1064 28)) (f875_24 h) (f875_24 (sI h 1064 30 11))) := sorry
theorem e875_24 (h : z_M) : f875_24 h = z_if ((hI h 1064 30) ≤ 0) (f875_33 h) (z_ri 0 h) := sorry
theorem e875_33 (h : z_M) : f875_33 h = z_g (¬ (8 : Int) = 0) (z_g (z_inb (z_w ((z_w (1500 * (hI h 1064 29))) + (z_div (hI h 1064 27) 8))) 18000) (z_g (¬ (8 : Int) = 0) (z_ri (z_and (z_shr (hI h 1073 (Int.toNat (z_w ((z_w (1500 * (hI h 1064 29))) + (z_div (hI h 1064 27) 8))))) (z_w (7 - (z_rem (hI h 1064 27) 8)))) 1) (sI h 1064 27 (z_w ((hI h 1064 27) + 1)))))) := sorry
theorem e876_0 (h : z_M) : f876_0 h = z_ki (f963_0 (hI h 1064 16) h) (fun v1 h1 => z_kv (f698_0 h1) (fun h2 => z_g (z_01 0) (f876_33 (z_w ((z_w (v1 * (hI h1 1064 17))) * (hI h1 1064 18))) (z_w (v1 - 1)) (sI h2 1064 26 0))) z_ex) z_ex := sorry
theorem e876_33 (x2 x3 : Int) (h : z_M) : f876_33 x2 x3 h = z_if (x3 < 0) (f876_255 h) (z_kv (f697_0 h) (fun h1 => f876_44 x2 x3 0 h1) z_ex) := sorry
theorem e876_44 (x2 x3 x4 : Int) (h : z_M) : f876_44 x2 x3 x4 h = z_if ((z_w ((hI h 1064 17) * (hI h 1064 18))) ≤ x4) (f876_245 x2 x3 h) (z_if (¬ (hI h 1064 30) = 0) (f876_245 x2 x3 h) (z_g (¬ (hI h 1064 17) = 0) (z_g (¬ (hI h 1064 17) = 0) (z_if (¬ (hI h 1064 26) = 0) (f876_95 x2 x3 x4 (z_rem x4 (hI h 1064 17)) (z_div x4 (hI h 1064 17)) h) (z_kv (f878_0 x2 h) (fun h1 => f876_95 x2 x3 x4 (z_rem x4 (hI h 1064 17)) (z_div x4 (hI h 1064 17)) h1) z_ex))))) := sorry
theorem e876_95 (x2 x3 x4 x5 x6 : Int) (h : z_M) : f876_95 x2 x3 x4 x5 x6 h = z_ki (f806_0 x5 x6 h) (fun v1 h1 => z_g (z_inb v1 64) (z_if ((hI h1 1078 (Int.toNat v1)) < 0) (f876_119 x2 x3 x4 x5 x6 v1 h1) (f876_120 x2 x3 x4 x5 x6 v1 1 h1))) z_ex := sorry
theorem e876_119 (x2 x3 x4 x5 x6 x7 : Int) (h : z_M) : f876_119 x2 x3 x4 x5 x6 x7 h = f876_120 x2 x3 x4 x5 x6 x7 0 h := sorry
theorem e876_120 (x2 x3 x4 x5 x6 x7 s0 : Int) (h : z_M) : f876_120 x2 x3 x4 x5 x6 x7 s0 h = z_if ((hI h 1064 25) ≤ 0) (f876_133 x2 x3 x4 x5 x6 x7 s0 h) (f876_134 x2 x3 x4 x5 x6 x7 s0 1 h) := sorry
theorem e876_133 (x2 x3 x4 x5 x6 x7 x8 : Int) (h : z_M) : f876_133 x2 x3 x4 x5 x6 x7 x8 h = f876_134 x2 x3 x4 x5 x6 x7 x8 0 h := sorry
theorem e876_134 (x2 x3 x4 x5 x6 x7 x8 s0 : Int) (h : z_M) : f876_134 x2 x3 x4 x5 x6 x7 x8 s0 h = z_if (¬ s0 = x8) (f876_147 x2 x3 x4 x5 x6 x7 s0 h) (f876_148 x2 x3 x4 x5 x6 x7 s0 1 h) := sorry
theorem e876_147 (x2 x3 x4 x5 x6 x7 x9 : Int) (h : z_M) : f876_147 x2 x3 x4 x5 x6 x7 x9 h = f876_148 x2 x3 x4 x5 x6 x7 x9 0 h := sorry
theorem e876_148 (x2 x3 x4 x5 x6 x7 x9 s0 : Int) (h : z_M) : f876_148 x2 x3 x4 x5 x6 x7 x9 s0 h = z_g (z_01 x9) (z_kv (f906_0 x7 s0 (sI (sI h 1064 25 (z_w ((hI h 1064 25) - 1))) 1064 26 x9)) (fun h1 => z_g (z_inb (z_w ((z_w (12 * x6)) + x5)) 144) (z_g (z_inb (z_w ((z_w (12 * x6)) + x5)) 144) (z_g (z_inb (z_w ((z_w (12 * x6)) + x5)) 144) (z_g (z_inb (z_w ((z_w (12 * x6)) + x5)) 144) (f876_44 (z_w (x2 + (-1))) x3 (z_w (x4 + 1)) (sI (sI h1 1076 (Int.toNat (z_w ((z_w (12 * x6)) + x5))) s0) 1075 (Int.toNat (z_w ((z_w (12 * x6)) + x5))) (z_w ((z_w (2 * (hI (sI h1 1076 (Int.toNat (z_w ((z_w (12 * x6)) + x5))) s0) 1075 (Int.toNat (z_w ((z_w (12 * x6)) + x5)))))) + (z_xor s0 (z_and (hI (sI h1 1076 (Int.toNat (z_w ((z_w (12 * x6)) + x5))) s0) 1075 (Int.toNat (z_w ((z_w (12 * x6)) + x5)))) 1)))))))))) z_ex) := sorry
theorem e876_245 (x2 x3 : Int) (h : z_M) : f876_245 x2 x3 h = z_kv (f863_0 h) (fun h1 => f876_33 x2 (z_w (x3 + (-1))) h1) z_ex := sorry
theorem e876_255 (h : z_M) : f876_255 h = z_if (¬ (hI h 1064 30) = 0) (f876_274 h) (z_if (¬ (hI h 1064 26) = 0) (f876_274 h) (z_kv (f878_0 0 h) (fun h1 => f876_274 h1) z_ex)) := sorry
theorem e876_274 (h : z_M) : f876_274 h = z_rv h := sorry
theorem e877_0 (x1 : Int) (h : z_M) : f877_0 x1 h = f877_4 x1 0 0 h := sorry
theorem e877_4 (x1 x2 x3 : Int) (h : z_M) : f877_4 x1 x2 x3 h = z_if (x1 ≤ x3) (f877_24 x2 h) (z_ki (f875_0 h) (fun v1 h1 => f877_4 x1 (z_w ((z_w (2 * x2)) + v1)) (z_w (x3 + 1)) h1) z_ex) := sorry
theorem e877_24 (x2 : Int) (h : z_M) : f877_24 x2 h = z_ri x2 h := sorry
theorem e878_0 (x1 : Int) (h : z_M) : f878_0 x1 h = z_ki (f967_0 h) (fun v1 h1 => f878_7 x1 v1 0 h1) z_ex := sorry
theorem e878_7 (x1 x2 x3 : Int) (h : z_M) : f878_7 x1 x2 x3 h = z_if (¬ (hI h 1064 30) = 0) (f878_34 x1 x2 x3 h) (z_if (12 ≤ x3) (f878_34 x1 x2 x3 h) (z_ki (f875_0 h) (fun v1 h1 => z_if (¬ v1 = 1) (f878_34 x1 x2 x3 h1) (f878_7 x1 x2 (z_w (x3 + 1)) h1)) z_ex)) := sorry
theorem e878_34 (x1 x2 x3 : Int) (h : z_M) : f878_34 x1 x2 x3 h = z_if (12 ≤ x3) (f878_52 x1 h) (z_ki (f877_0 x2 h) (fun v1 h1 => f878_58 x1 (z_w ((z_shl x3 x2) + v1)) h1) z_ex) := sorry
theorem e878_52 (x1 : Int) (h : z_M) : f878_52 x1 h = z_ki (f877_0 13 h) (fun v1 h1 => f878_58 x1 v1 h1) z_ex := sorry
theorem e878_58 (x1 s0 : Int) (h : z_M) : f878_58 x1 s0 h = z_if (¬ (hI h 1064 30) = 0) (f878_79 s0 h) (z_if (s0 ≤ x1) (f878_79 s0 h) (f878_79 s0 (sI h 1064 30 12))) := sorry
theorem e878_79 (x4 : Int) (h : z_M) : f878_79 x4 h = z_g (z_01 1) (z_kv (f809_0 x4 (sI (sI h 1064 25 x4) 1064 26 1)) (fun h1 => z_rv h1) z_ex) := sorry
theorem e880_0 (x1 x2 x3 x4 x5 : Int) (h : z_M) : f880_0 x1 x2 x3 x4 x5 h = z_ki (f956_0 x1 x2 x3 h) (fun v1 h1 => z_if (v1 = 0) (f880_30 h1) (z_if (x4 ≤ 0) (f880_22 x1 x2 x3 x4 x5 1 1 h1) (f880_23 x1 x2 x3 x4 x5 1 1 1 h1))) z_ex := sorry
theorem e880_22 (x1 x2 x3 x4 x5 s1 s2 : Int) (h : z_M) : f880_22 x1 x2 x3 x4 x5 s1 s2 h = f880_23 x1 x2 x3 x4 x5 s1 s2 0 h := sorry
theorem e880_23 (x1 x2 x3 x4 x5 s1 s2 s3 : Int) (h : z_M) : f880_23 x1 x2 x3 x4 x5 s1 s2 s3 h = z_ki (f954_0 s1 s2 s3 1 h) (fun v1 h1 => z_if (¬ v1 = 0) (f880_32 x1 x2 x3 x4 x5 h1) (f880_30 h1)) z_ex := sorry
theorem e880_30 (h : z_M) : f880_30 h = z_ri 0 h := sorry
theorem e880_32 (x1 x2 x3 x4 x5 : Int) (h : z_M) : f880_32 x1 x2 x3 x4 x5 h = f880_38 x1 x2 x3 x4 x5 0 x2 h := sorry
theorem e880_38 (x1 x2 x3 x4 x5 x6 x7 : Int) (h : z_M) : f880_38 x1 x2 x3 x4 x5 x6 x7 h = z_g (z_inb x1 4) (z_if ((hI h 1069 (Int.toNat x1)) ≤ x7) (f880_110 x6 h) (z_if (x4 ≤ (z_w (x7 - x2))) (f880_110 x6 h) (z_g (z_inb (z_w ((z_w ((z_w (576 * x1)) + (z_w (24 * x3)))) + x7)) 2304) (z_if (¬ (hI h 1071 (Int.toNat (z_w ((z_w ((z_w (576 * x1)) + (z_w (24 * x3)))) + x7)))) = x5) (f880_91 x1 x2 x3 x4 x5 x7 (z_w ((z_w ((z_w (576 * x1)) + (z_w (24 * x3)))) + x7)) x6 h) (f880_92 x1 x2 x3 x4 x5 x7 (z_w ((z_w ((z_w (576 * x1)) + (z_w (24 * x3)))) + x7)) x6 0 h))))) := sorry
theorem e880_91 (x1 x2 x3 x4 x5 x7 x8 s0 : Int) (h : z_M) : f880_91 x1 x2 x3 x4 x5 x7 x8 s0 h = f880_92 x1 x2 x3 x4 x5 x7 x8 s0 1 h := sorry
theorem e880_92 (x1 x2 x3 x4 x5 x7 x8 s0 s1 : Int) (h : z_M) : f880_92 x1 x2 x3 x4 x5 x7 x8 s0 s1 h = z_g (z_inb x8 2304) (z_g (z_01 x5) (f880_38 x1 x2 x3 x4 x5 (z_w (s0 + s1)) (z_w (x7 + 1)) (sI h 1071 (Int.toNat x8) x5))) := sorry
theorem e880_110 (x6 : Int) (h : z_M) : f880_110 x6 h = z_ri x6 h := sorry
theorem e881_0 (x1 x2 : Int) (h : z_M) : f881_0 x1 x2 h = z_ki (f883_0 x1 h) (fun v1 h1 => z_if (v1 = 0) (f881_27 h1) (z_g (z_inb x1 12) (z_ki (f885_0 x2 0 (z_w ((hI h1 1072 (Int.toNat x1)) - 1)) h1) (fun v2 h2 => z_if (v2 = 0) (f881_27 h2) (f881_28 1 h2)) z_ex))) z_ex := sorry
theorem e881_27 (h : z_M) : f881_27 h = f881_28 0 h := sorry
theorem e881_28 (s0 : Int) (h : z_M) : f881_28 s0 h = z_g (z_01 s0) (z_ri s0 h) := sorry
theorem e882_0 (x1 x2 x3 : Int) (h : z_M) : f882_0 x1 x2 x3 h = z_ki (f956_0 x1 x2 x3 h) (fun v1 h1 => z_if (v1 = 0) (f882_34 h1) (z_g (z_inb (z_w ((z_w ((z_w (576 * x1)) + (z_w (24 * x3)))) + x2)) 2304) (z_if ((hI h1 1071 (Int.toNat (z_w ((z_w ((z_w (576 * x1)) + (z_w (24 * x3)))) + x2)))) = 0) (f882_34 h1) (f882_35 1 h1)))) z_ex := sorry
theorem e882_34 (h : z_M) : f882_34 h = f882_35 0 h := sorry
theorem e882_35 (s0 : Int) (h : z_M) : f882_35 s0 h = z_g (z_01 s0) (z_ri s0 h) := sorry
theorem e883_0 (x0 : Int) (h : z_M) : f883_0 x0 h = z_ki (f885_0 x0 0 11 h) (fun v1 h1 => z_g (z_01 v1) (z_ri v1 h1)) z_ex := sorry
theorem e885_0 (x0 x1 x2 : Int) (h : z_M) : f885_0 x0 x1 x2 h = z_if (x0 < x1) (f885_14 h) (z_if (x2 < x0) (f885_14 h) (f885_15 1 h)) := sorry
theorem e885_14 (h : z_M) : f885_14 h = f885_15 0 h := sorry
theorem e885_15 (s0 : Int) (h : z_M) : f885_15 s0 h = z_g (z_01 s0) (z_ri s0 h) := sorry
theorem e887_0 (x1 x2 x3 : Int) (h : z_M) : f887_0 x1 x2 x3 h = z_ki (f955_0 x1 x2 x3 h) (fun v1 h1 => z_if (v1 = 0) (f887_34 h1) (z_g (z_inb (z_w ((z_w ((z_w (144 * x1)) + (z_w (12 * x3)))) + x2)) 1152) (z_if ((hI h1 1068 (Int.toNat (z_w ((z_w ((z_w (144 * x1)) + (z_w (12 * x3)))) + x2)))) = 0) (f887_34 h1) (f887_35 1 h1)))) z_ex := sorry
theorem e887_34 (h : z_M) : f887_34 h = f887_35 0 h := sorry
theorem e887_35 (s0 : Int) (h : z_M) : f887_35 s0 h = z_g (z_01 s0) (z_ri s0 h) := sorry
theorem e888_0 (x0 : Int) (h : z_M) : f888_0 x0 h = z_ki (f885_0 x0 0 7 h) (fun v1 h1 => z_g (z_01 v1) (z_ri v1 h1)) z_ex := sorry
theorem e889_0 (x1 x2 x3 : Int) (h : z_M) : f889_0 x1 x2 x3 h = z_g (z_inb x1 8) (z_ki (f885_0 x2 0 (z_w ((hI h 1065 (Int.toNat x1)) - 1)) h) (fun v1 h1 => z_if (v1 = 0) (f889_36 h1) (z_g (z_inb x1 8) (z_ki (f885_0 x3 0 (z_w ((hI h1 1066 (Int.toNat x1)) - 1)) h1) (fun v2 h2 => z_if (v2 = 0) (f889_36 h2) (f889_37 1 h2)) z_ex))) z_ex) := sorry
theorem e889_36 (h : z_M) : f889_36 h = f889_37 0 h := sorry
theorem e889_37 (s0 : Int) (h : z_M) : f889_37 s0 h = z_g (z_01 s0) (z_ri s0 h) := sorry
theorem e890_0 (x0 : Int) (h : z_M) : f890_0 x0 h = z_ki (f885_0 x0 0 3 h) (fun v1 h1 => z_g (z_01 v1) (z_ri v1 h1)) z_ex := sorry
theorem e891_0 (x1 : Int) (h : z_M) : f891_0 x1 h = z_ki (f890_0 x1 h) (fun v1 h1 => z_if (v1 = 0) (f891_20 h1) (z_g (z_inb x1 4) (z_if ((hI h1 1069 (Int.toNat x1)) ≤ 0) (f891_20 h1) (f891_21 1 h1)))) z_ex := sorry
theorem e891_20 (h : z_M) : f891_20 h = f891_21 0 h := sorry
theorem e891_21 (s0 : Int) (h : z_M) : f891_21 s0 h = z_g (z_01 s0) (z_ri s0 h) := sorry
theorem e892_0 (x1 : Int) (h : z_M) : f892_0 x1 h = z_ki (f888_0 x1 h) (fun v1 h1 => z_if (v1 = 0) (f892_20 h1) (z_g (z_inb x1 8) (z_if ((hI h1 1065 (Int.toNat x1)) ≤ 0) (f892_20 h1) (f892_21 1 h1)))) z_ex := sorry
theorem e892_20 (h : z_M) : f892_20 h = f892_21 0 h := sorry
theorem e892_21 (s0 : Int) (h : z_M) : f892_21 s0 h = z_g (z_01 s0) (z_ri s0 h) := sorry
theorem e895_0 (x1 x2 x3 x4 : Int) (h : z_M) : f895_0 x1 x2 x3 x4 h = z_ki (f881_0 x1 x2 h) (fun v1 h1 => z_if (v1 = 0) (f895_21 x1 x2 x3 x4 h1) (z_ki (f883_0 x4 h1) (fun v2 h2 => z_if (v2 = 0) (f895_21 x1 x2 x3 x4 h2) (f895_22 x1 x2 x3 x4 1 h2)) z_ex)) z_ex := sorry
theorem e895_21 (x1 x2 x3 x4 : Int) (h : z_M) : f895_21 x1 x2 x3 x4 h = f895_22 x1 x2 x3 x4 0 h := sorry
theorem e895_22 (x1 x2 x3 x4 s0 : Int) (h : z_M) : f895_22 x1 x2 x3 x4 s0 h = z_if (¬ s0 = 0) (f895_33 x1 x2 x3 x4 s0 h) (f895_57 x1 x2 x3 x4 s0 0 h) := sorry
theorem e895_33 (x1 x2 x3 x4 x5 : Int) (h : z_M) : f895_33 x1 x2 x3 x4 x5 h = z_g (z_inb x1 12) (z_if ((z_w ((hI h 1072 (Int.toNat x1)) - x2)) ≤ x3) (f895_49 x1 x2 x3 x4 x5 h) (f895_57 x1 x2 x3 x4 x5 x3 h)) := sorry
theorem e895_49 (x1 x2 x3 x4 x5 : Int) (h : z_M) : f895_49 x1 x2 x3 x4 x5 h = z_g (z_inb x1 12) (f895_57 x1 x2 x3 x4 x5 (z_w ((hI h 1072 (Int.toNat x1)) - x2)) h) := sorry
theorem e895_57 (x1 x2 x3 x4 x5 s0 : Int) (h : z_M) : f895_57 x1 x2 x3 x4 x5 s0 h = z_if (x3 < 0) (f895_70 x1 x2 x4 x5 s0 x5 h) (f895_71 x1 x2 x4 x5 s0 x5 1 h) := sorry
theorem e895_70 (x1 x2 x4 x5 x6 s1 : Int) (h : z_M) : f895_70 x1 x2 x4 x5 x6 s1 h = f895_71 x1 x2 x4 x5 x6 s1 0 h := sorry
theorem e895_71 (x1 x2 x4 x5 x6 s1 s2 : Int) (h : z_M) : f895_71 x1 x2 x4 x5 x6 s1 s2 h = z_if (x5 = 0) (f895_96 x1 x2 x4 x6 s1 s2 h) (z_g (z_inb x4 12) (z_if (1500 < (z_w ((hI h 1072 (Int.toNat x4)) + x6))) (f895_96 x1 x2 x4 x6 s1 s2 h) (f895_97 x1 x2 x4 x6 s1 s2 1 h))) := sorry
theorem e895_96 (x1 x2 x4 x6 s1 s2 : Int) (h : z_M) : f895_96 x1 x2 x4 x6 s1 s2 h = f895_97 x1 x2 x4 x6 s1 s2 0 h := sorry
theorem e895_97 (x1 x2 x4 x6 s1 s2 s3 : Int) (h : z_M) : f895_97 x1 x2 x4 x6 s1 s2 s3 h = z_ki (f954_0 s1 s2 s3 1 h) (fun v1 h1 => z_if (¬ v1 = 0) (f895_106 x1 x2 x4 x6 h1) (z_ri 0 h1)) z_ex := sorry
theorem e895_106 (x1 x2 x4 x6 : Int) (h : z_M) : f895_106 x1 x2 x4 x6 h = f895_109 x1 x2 x4 x6 0 h := sorry
theorem e895_109 (x1 x2 x4 x6 x7 : Int) (h : z_M) : f895_109 x1 x2 x4 x6 x7 h = z_if (x6 ≤ x7) (f895_159 x4 x6 h) (z_g (z_inb x4 12) (z_g (z_inb (z_w ((z_w ((z_w (1500 * x1)) + x2)) + x7)) 18000) (z_g (z_inb (z_w ((z_w ((z_w (1500 * x4)) + (hI h 1072 (Int.toNat x4)))) + x7)) 18000) (f895_109 x1 x2 x4 x6 (z_w (x7 + 1)) (sI h 1073 (Int.toNat (z_w ((z_w ((z_w (1500 * x4)) + (hI h 1072 (Int.toNat x4)))) + x7))) (hI h 1073 (Int.toNat (z_w ((z_w ((z_w (1500 * x1)) + x2)) + x7))))))))) := sorry
theorem e895_159 (x4 x6 : Int) (h : z_M) : f895_159 x4 x6 h = z_g (z_inb x4 12) (z_g (z_inb x4 12) (z_ri x6 (sI h 1072 (Int.toNat x4) (z_w ((hI h 1072 (Int.toNat x4)) + x6))))) := sorry
theorem e896_0 (x1 : Int) (h : z_M) : f896_0 x1 h = z_g (z_inb (hI h 1064 14) 12000) (z_rv (sI (sI h 1074 (Int.toNat (hI h 1064 14)) (z_and x1 255)) 1064 14 (z_w ((hI (sI h 1074 (Int.toNat (hI h 1064 14)) (z_and x1 255)) 1064 14) + 1)))) := sorry
theorem e897_0 (x1 : Int) (h : z_M) : f897_0 x1 h = z_g (¬ (8 : Int) = 0) (z_if (¬ (z_rem (hI h 1064 15) 8) = 0) (f897_15 x1 h) (z_kv (f896_0 0 h) (fun h1 => f897_15 x1 h1) z_ex)) := sorry
theorem e897_15 (x1 : Int) (h : z_M) : f897_15 x1 h = z_g (z_inb (z_w ((hI h 1064 14) - 1)) 12000) (z_g (¬ (8 : Int) = 0) (z_g (z_inb (z_w ((hI h 1064 14) - 1)) 12000) (z_rv (sI (sI h 1074 (Int.toNat (z_w ((hI h 1064 14) - 1))) (z_or (hI h 1074 (Int.toNat (z_w ((hI h 1064 14) - 1)))) (z_shl x1 (z_w (7 - (z_rem (hI h 1064 15) 8)))))) 1064 15 (z_w ((hI (sI h 1074 (Int.toNat (z_w ((hI h 1064 14) - 1))) (z_or (hI h 1074 (Int.toNat (z_w ((hI h 1064 14) - 1)))) (z_shl x1 (z_w (7 - (z_rem (hI h 1064 15) 8)))))) 1064 15) + 1)))))) := sorry
theorem e899_0 (x1 x2 : Int) (h : z_M) : f899_0 x1 x2 h = f899_4 x1 (z_w (x2 - 1)) h := sorry
theorem e899_4 (x1 x3 : Int) (h : z_M) : f899_4 x1 x3 h = z_if (x3 < 0) (f899_23 h) (z_kv (f897_0 (z_and (z_shr x1 x3) 1) h) (fun h1 => f899_4 x1 (z_w (x3 + (-1))) h1) z_ex) := sorry
theorem e899_23 (h : z_M) : f899_23 h = z_rv h := sorry
theorem e902_0 (x1 : Int) (h : z_M) : f902_0 x1 h = z_ki (f967_0 h) (fun v1 h1 => z_if (12 ≤ (z_shr x1 v1)) (f902_19 x1 v1 h1) (f902_21 x1 v1 (z_shr x1 v1) h1)) z_ex := sorry
theorem e902_19 (x1 x2 : Int) (h : z_M) : f902_19 x1 x2 h = f902_21 x1 x2 12 h := sorry
theorem e902_21 (x1 x2 s0 : Int) (h : z_M) : f902_21 x1 x2 s0 h = f902_25 x1 x2 s0 0 h := sorry
theorem e902_25 (x1 x2 x3 x4 : Int) (h : z_M) : f902_25 x1 x2 x3 x4 h = z_if (x3 ≤ x4) (f902_42 x1 x2 x3 h) (z_kv (f897_0 1 h) (fun h1 => f902_25 x1 x2 x3 (z_w (x4 + 1)) h1) z_ex) := sorry
theorem e902_42 (x1 x2 x3 : Int) (h : z_M) : f902_42 x1 x2 x3 h = z_if (12 ≤ x3) (f902_62 x1 h) (z_kv (f897_0 0 h) (fun h1 => z_kv (f899_0 x1 x2 h1) (fun h2 => f902_69 x1 h2) z_ex) z_ex) := sorry
theorem e902_62 (x1 : Int) (h : z_M) : f902_62 x1 h = z_kv (f899_0 x1 13 h) (fun h1 => f902_69 x1 h1) z_ex := sorry
theorem e902_69 (x1 : Int) (h : z_M) : f902_69 x1 h = z_kv (f809_0 x1 h) (fun h1 => z_rv h1) z_ex := sorry
theorem e906_0 (x1 x2 : Int) (h : z_M) : f906_0 x1 x2 h = z_g (z_inb x1 64) (z_if (¬ x2 = 1) (f906_28 x1 (hI h 1078 (Int.toNat x1)) h) (z_if (0 ≤ (hI h 1078 (Int.toNat x1))) (f906_22 x1 (hI h 1078 (Int.toNat x1)) h) (f906_41 x1 (z_w ((hI h 1078 (Int.toNat x1)) + 2)) h))) := sorry
theorem e906_22 (x1 x3 : Int) (h : z_M) : f906_22 x1 x3 h = f906_41 x1 (z_w (x3 + 1)) h := sorry
theorem e906_28 (x1 x3 : Int) (h : z_M) : f906_28 x1 x3 h = z_if (0 ≤ x3) (f906_38 x1 x3 h) (f906_41 x1 (z_w (x3 - 1)) h) := sorry
theorem e906_38 (x1 x3 : Int) (h : z_M) : f906_38 x1 x3 h = f906_41 x1 (z_w (x3 - 2)) h := sorry
theorem e906_41 (x1 s0 : Int) (h : z_M) : f906_41 x1 s0 h = z_if (s0 ≤ 7) (f906_60 s0 x1 h) (f906_74 x1 7 h) := sorry
theorem e906_60 (x4 s1 : Int) (h : z_M) : f906_60 x4 s1 h = z_if ((-8) ≤ x4) (f906_72 x4 s1 h) (f906_74 s1 (-8) h) := sorry
theorem e906_72 (x4 s1 : Int) (h : z_M) : f906_72 x4 s1 h = f906_74 s1 x4 h := sorry
theorem e906_74 (s1 s2 : Int) (h : z_M) : f906_74 s1 s2 h = z_g (z_inb s1 64) (z_rv (sI h 1078 (Int.toNat s1) s2)) := sorry
theorem e907_0 (x1 x2 x3 x4 x5 x6 : Int) (h : z_M) : f907_0 x1 x2 x3 x4 x5 x6 h = z_ki (f888_0 x1 h) (fun v1 h1 => z_if (v1 = 0) (f907_20 x1 x2 x3 x4 x5 x6 h1) (z_ki (f883_0 x6 h1) (fun v2 h2 => z_if (v2 = 0) (f907_20 x1 x2 x3 x4 x5 x6 h2) (f907_21 x1 x2 x3 x4 x5 x6 1 h2)) z_ex)) z_ex := sorry
theorem e907_20 (x1 x2 x3 x4 x5 x6 : Int) (h : z_M) : f907_20 x1 x2 x3 x4 x5 x6 h = f907_21 x1 x2 x3 x4 x5 x6 0 h := sorry
theorem e907_21 (x1 x2 x3 x4 x5 x6 s1 : Int) (h : z_M) : f907_21 x1 x2 x3 x4 x5 x6 s1 h = z_ki (f885_0 x2 1 3 h) (fun v1 h1 => z_ki (f954_0 s1 1 v1 1 h1) (fun v2 h2 => z_if (¬ v2 = 0) (f907_37 x1 x2 x3 x4 x5 x6 h2) (z_ri 0 h2)) z_ex) z_ex := sorry
theorem e907_37 (x1 x2 x3 x4 x5 x6 : Int) (h : z_M) : f907_37 x1 x2 x3 x4 x5 x6 h = z_ki (f885_0 x3 0 2 h) (fun v1 h1 => z_if (v1 = 0) (f907_71 x1 x2 x3 x4 x5 x6 h1) (z_ki (f885_0 x4 0 3 h1) (fun v2 h2 => z_if (v2 = 0) (f907_71 x1 x2 x3 x4 x5 x6 h2) (z_ki (f885_0 x5 0 12 h2) (fun v3 h3 => z_if (v3 = 0) (f907_71 x1 x2 x3 x4 x5 x6 h3) (f907_72 x1 x2 x3 x4 x5 x6 1 h3)) z_ex)) z_ex)) z_ex := sorry
theorem e907_71 (x1 x2 x3 x4 x5 x6 : Int) (h : z_M) : f907_71 x1 x2 x3 x4 x5 x6 h = f907_72 x1 x2 x3 x4 x5 x6 0 h := sorry
theorem e907_72 (x1 x2 x3 x4 x5 x6 s0 : Int) (h : z_M) : f907_72 x1 x2 x3 x4 x5 x6 s0 h = z_if (8 < (z_w (x1 + x2))) (f907_87 x1 x2 x3 x4 x5 x6 s0 h) (f907_88 x1 x2 x3 x4 x5 x6 s0 1 h) := sorry
theorem e907_87 (x1 x2 x3 x4 x5 x6 x7 : Int) (h : z_M) : f907_87 x1 x2 x3 x4 x5 x6 x7 h = f907_88 x1 x2 x3 x4 x5 x6 x7 0 h := sorry
theorem e907_88 (x1 x2 x3 x4 x5 x6 x7 s1 : Int) (h : z_M) : f907_88 x1 x2 x3 x4 x5 x6 x7 s1 h = z_ki (f691_0 x1 x2 h) (fun v1 h1 => z_ki (f874_0 h1) (fun v2 h2 => z_ki (f954_0 s1 v1 x7 v2 h2) (fun v3 h3 => z_if (¬ v3 = 0) (f907_108 x1 x2 x3 x4 x5 x6 h3) (z_ri 0 h3)) z_ex) z_ex) z_ex := sorry
theorem e907_108 (x1 x2 x3 x4 x5 x6 : Int) (h : z_M) : f907_108 x1 x2 x3 x4 x5 x6 h = z_kv (f949_0 x1 x2 x3 x4 x5 h) (fun h1 => z_ki (f982_0 x6 (sI h1 1064 1 (z_w ((hI h1 1064 1) + 1)))) (fun v2 h2 => z_ri v2 h2) z_ex) z_ex := sorry
theorem e908_0 (x1 x2 : Int) (h : z_M) : f908_0 x1 x2 h = f908_7 x2 0 (sI h 1064 99 x1) := sorry
theorem e908_7 (x2 x3 : Int) (h : z_M) : f908_7 x2 x3 h = z_if (4 ≤ x3) (f908_32 h) (z_g (z_inb x3 4) (z_g (z_inb x3 4) (f908_7 x2 (z_w (x3 + 1)) (sI (sI h 1111 (Int.toNat x3) x2) 1112 (Int.toNat x3) 1)))) := sorry
theorem e908_32 (h : z_M) : f908_32 h = z_rv h := sorry
theorem e909_0 (x1 : Int) (h : z_M) : f909_0 x1 h = z_if (¬ (hI (sI (sI h 1064 100 (z_w ((z_w (2 * (hI h 1064 100))) + x1))) 1064 101 (z_w ((hI (sI h 1064 100 (z_w ((z_w (2 * (hI h 1064 100))) + x1))) 1064 101) + 1))) 1064 101) = (hI (sI (sI h 1064 100 (z_w ((z_w (2 * (hI h 1064 100))) + x1))) 1064 101 (z_w ((hI (sI h 1064 100 (z_w ((z_w (2 * (hI h 1064 100))) + x1))) 1064 101) + 1))) 1064 102)) (f909_72 (sI (sI h 1064 100 (z_w ((z_w (2 * (hI h 1064 100))) + x1))) 1064 101 (z_w ((hI (sI h 1064 100 (z_w ((z_w (2 * (hI h 1064 100))) + x1))) 1064 101) + 1)))) (z_kv (f931_0 (hI (sI (sI h 1064 100 (z_w ((z_w (2 * (hI h 1064 100))) + x1))) 1064 101 (z_w ((hI (sI h 1064 100 (z_w ((z_w (2 * (hI h 1064 100))) + x1))) 1064 101) + 1))) 1064 100) (sI (sI h 1064 100 (z_w ((z_w (2 * (hI h 1064 100))) + x1))) 1064 101 (z_w ((hI (sI h 1064 100 (z_w ((z_w (2 * (hI h 1064 100))) + x1))) 1064 101) + 1)))) (fun h1 => z_if (¬ (hI h1 1064 100) = 255) (f909_57 h1) (f909_59 7 h1)) z_ex) := sorry
theorem e909_57 (h : z_M) : f909_57 h = f909_59 8 h := sorry
theorem e909_59 (s1 : Int) (h : z_M) : f909_59 s1 h = f909_72 (sI (sI (sI h 1064 102 s1) 1064 100 0) 1064 101 0) := sorry
theorem e909_72 (h : z_M) : f909_72 h = z_rv h := sorry
theorem e912_0 (x1 : Int) (h : z_M) : f912_0 x1 h = z_if (0 ≤ x1) (f912_8 x1 h) (f912_24 0 h) := sorry
theorem e912_8 (x1 : Int) (h : z_M) : f912_8 x1 h = z_if (x1 ≤ (hI h 1064 98)) (f912_23 x1 h) (f912_24 (hI h 1064 98) h) := sorry
theorem e912_23 (x1 : Int) (h : z_M) : f912_23 x1 h = f912_24 x1 h := sorry
theorem e912_24 (s0 : Int) (h : z_M) : f912_24 s0 h = z_ri s0 h := sorry
theorem e913_0 (x1 x2 x3 : Int) (h : z_M) : f913_0 x1 x2 x3 h = z_g (z_inb x1 4) (z_if (¬ (hI h 1112 (Int.toNat x1)) = x3) (f913_30 x1 x2 h) (z_g (z_inb x1 4) (z_g (¬ (2 : Int) = 0) (z_g (z_inb x1 4) (z_g (z_inb x1 4) (z_g (¬ (2 : Int) = 0) (z_g (z_inb x1 4) (f913_30 x1 x2 (sI (sI h 1111 (Int.toNat x1) (z_div (hI h 1111 (Int.toNat x1)) 2)) 1112 (Int.toNat x1) (z_div (hI (sI h 1111 (Int.toNat x1) (z_div (hI h 1111 (Int.toNat x1)) 2)) 1112 (Int.toNat x1)) 2)))))))))) := sorry
theorem e913_30 (x1 x2 : Int) (h : z_M) : f913_30 x1 x2 h = z_g (z_inb x1 4) (z_if (0 ≤ x2) (f913_46 x1 x2 x1 (hI h 1111 (Int.toNat x1)) h) (f913_47 x1 x1 (hI h 1111 (Int.toNat x1)) (z_w (-x2)) h)) := sorry
theorem e913_46 (x1 x2 s1 s2 : Int) (h : z_M) : f913_46 x1 x2 s1 s2 h = f913_47 x1 s1 s2 x2 h := sorry
theorem e913_47 (x1 s1 s2 s3 : Int) (h : z_M) : f913_47 x1 s1 s2 s3 h = z_g (z_inb s1 4) (z_g (z_inb x1 4) (z_g (z_inb x1 4) (z_rv (sI (sI h 1111 (Int.toNat s1) (z_w (s2 + s3))) 1112 (Int.toNat x1) (z_w ((hI (sI h 1111 (Int.toNat s1) (z_w (s2 + s3))) 1112 (Int.toNat x1)) + 1)))))) := sorry
theorem e914_0 (x1 x2 x3 : Int) (h : z_M) : f914_0 x1 x2 x3 h = z_kv (f908_0 0 (hI (sI (sI (sI h 1064 100 0) 1064 101 0) 1064 102 8) 1064 53) (sI (sI (sI h 1064 100 0) 1064 101 0) 1064 102 8)) (fun h1 => f914_31 x1 x2 x3 0 0 h1) z_ex := sorry
theorem e914_31 (x1 x2 x3 x4 x5 : Int) (h : z_M) : f914_31 x1 x2 x3 x4 x5 h = z_if ((hI h 1064 46) ≤ x5) (f914_209 h) (z_if (¬ x3 = 2) (f914_91 x1 x2 x3 x4 x5 h) (f914_48 x1 x2 x3 x4 x5 0 h)) := sorry
theorem e914_48 (x1 x2 x3 x4 x5 x6 : Int) (h : z_M) : f914_48 x1 x2 x3 x4 x5 x6 h = z_if ((hI h 1064 45) ≤ x6) (f914_88 x1 x2 x3 x4 x5 h) (f914_60 x1 x2 x3 x4 x5 x6 x1 h) := sorry
theorem e914_60 (x1 x2 x3 x4 x5 x6 x7 : Int) (h : z_M) : f914_60 x1 x2 x3 x4 x5 x6 x7 h = z_if (x2 ≤ x7) (f914_82 x1 x2 x3 x4 x5 x6 h) (z_kv (f942_0 x7 x6 x5 h) (fun h1 => f914_60 x1 x2 x3 x4 x5 x6 (z_w (x7 + 1)) h1) z_ex) := sorry
theorem e914_82 (x1 x2 x3 x4 x5 x6 : Int) (h : z_M) : f914_82 x1 x2 x3 x4 x5 x6 h = f914_48 x1 x2 x3 x4 x5 (z_w (x6 + 1)) h := sorry
theorem e914_88 (x1 x2 x3 x4 x5 : Int) (h : z_M) : f914_88 x1 x2 x3 x4 x5 h = f914_134 x1 x2 x3 x4 x5 h := sorry
theorem e914_91 (x1 x2 x3 x4 x5 : Int) (h : z_M) : f914_91 x1 x2 x3 x4 x5 h = f914_94 x1 x2 x3 x4 x5 x1 h := sorry
theorem e914_94 (x1 x2 x3 x4 x5 x6 : Int) (h : z_M) : f914_94 x1 x2 x3 x4 x5 x6 h = z_if (x2 ≤ x6) (f914_134 x1 x2 x3 x4 x5 h) (f914_103 x1 x2 x3 x4 x5 x6 0 h) := sorry
theorem e914_103 (x1 x2 x3 x4 x5 x6 x7 : Int) (h : z_M) : f914_103 x1 x2 x3 x4 x5 x6 x7 h = z_if ((hI h 1064 45) ≤ x7) (f914_128 x1 x2 x3 x4 x5 x6 h) (z_kv (f942_0 x6 x7 x5 h) (fun h1 => f914_103 x1 x2 x3 x4 x5 x6 (z_w (x7 + 1)) h1) z_ex) := sorry
theorem e914_128 (x1 x2 x3 x4 x5 x6 : Int) (h : z_M) : f914_128 x1 x2 x3 x4 x5 x6 h = f914_94 x1 x2 x3 x4 x5 (z_w (x6 + 1)) h := sorry
theorem e914_134 (x1 x2 x3 x4 x5 : Int) (h : z_M) : f914_134 x1 x2 x3 x4 x5 h = z_if ((hI h 1064 54) ≤ 0) (f914_203 x1 x2 x3 x4 x5 h) (z_g (¬ (hI h 1064 54) = 0) (z_if (¬ (z_rem (z_w (x5 + 1)) (hI h 1064 54)) = 0) (f914_203 x1 x2 x3 x4 x5 h) (z_if ((hI h 1064 46) ≤ (z_w (x5 + 1))) (f914_203 x1 x2 x3 x4 x5 h) (z_kv (f915_0 h) (fun h1 => z_kv (f931_0 255 h1) (fun h2 => z_g (¬ (8 : Int) = 0) (z_kv (f931_0 (z_w (208 + (z_rem x4 8))) h2) (fun h3 => z_kv (f908_0 (z_w (x5 + 1)) (hI h3 1064 53) h3) (fun h4 => f914_203 x1 x2 x3 (z_w (x4 + 1)) x5 h4) z_ex) z_ex)) z_ex) z_ex)))) := sorry
theorem e914_203 (x1 x2 x3 x4 x5 : Int) (h : z_M) : f914_203 x1 x2 x3 x4 x5 h = f914_31 x1 x2 x3 x4 (z_w (x5 + 1)) h := sorry
theorem e914_209 (h : z_M) : f914_209 h = z_kv (f915_0 h) (fun h1 => z_rv h1) z_ex := sorry
theorem e915_0 (h : z_M) : f915_0 h = z_if ((hI h 1064 101) ≤ 0) (f915_15 h) (z_kv (f909_0 0 h) (fun h1 => f915_0 h1) z_ex) := sorry
theorem e915_15 (h : z_M) : f915_15 h = z_if (¬ (hI h 1064 102) = 7) (f915_29 h) (z_kv (f931_0 0 h) (fun h1 => f915_29 h1) z_ex) := sorry
theorem e915_29 (h : z_M) : f915_29 h = z_rv (sI h 1064 102 8) := sorry
theorem e916_0 (x1 x2 x3 : Int) (h : z_M) : f916_0 x1 x2 x3 h = z_if (¬ x3 = (hI h 1064 99)) (f916_26 x2 x3 (z_w ((z_w ((z_w (144 * x1)) + (z_w (12 * x3)))) + x2)) h) (f916_36 x2 x3 (z_w ((z_w ((z_w (144 * x1)) + (z_w (12 * x3)))) + x2)) 0 h) := sorry
theorem e916_26 (x2 x3 x4 : Int) (h : z_M) : f916_26 x2 x3 x4 h = z_g (z_inb (z_w (x4 - 12)) 576) (f916_36 x2 x3 x4 (hI h 1110 (Int.toNat (z_w (x4 - 12)))) h) := sorry
theorem e916_36 (x2 x3 x4 s0 : Int) (h : z_M) : f916_36 x2 x3 x4 s0 h = z_if (¬ x2 = 0) (f916_47 x2 x3 x4 s0 h) (f916_56 x2 x3 x4 s0 s0 h) := sorry
theorem e916_47 (x2 x3 x4 x5 : Int) (h : z_M) : f916_47 x2 x3 x4 x5 h = z_g (z_inb (z_w (x4 - 1)) 576) (f916_56 x2 x3 x4 x5 (hI h 1110 (Int.toNat (z_w (x4 - 1)))) h) := sorry
theorem e916_56 (x2 x3 x4 x5 s0 : Int) (h : z_M) : f916_56 x2 x3 x4 x5 s0 h = z_if (¬ x2 = 0) (f916_67 x3 x4 x5 s0 h) (f916_91 x5 s0 x5 h) := sorry
theorem e916_67 (x3 x4 x5 x6 : Int) (h : z_M) : f916_67 x3 x4 x5 x6 h = z_if (¬ x3 = (hI h 1064 99)) (f916_79 x4 x5 x6 h) (f916_91 x5 x6 0 h) := sorry
theorem e916_79 (x4 x5 x6 : Int) (h : z_M) : f916_79 x4 x5 x6 h = z_g (z_inb (z_w ((z_w (x4 - 12)) - 1)) 576) (f916_91 x5 x6 (hI h 1110 (Int.toNat (z_w ((z_w (x4 - 12)) - 1)))) h) := sorry
theorem e916_91 (x5 x6 s0 : Int) (h : z_M) : f916_91 x5 x6 s0 h = z_if (x5 ≤ x6) (f916_105 x5 x6 s0 h) (f916_107 x5 x6 s0 x6 h) := sorry
theorem e916_105 (x5 x6 x7 : Int) (h : z_M) : f916_105 x5 x6 x7 h = f916_107 x5 x6 x7 x5 h := sorry
theorem e916_107 (x5 x6 x7 s0 : Int) (h : z_M) : f916_107 x5 x6 x7 s0 h = z_if (x5 ≤ x6) (f916_121 x5 x6 x7 s0 h) (f916_123 x5 x6 x7 s0 x5 h) := sorry
theorem e916_121 (x5 x6 x7 x8 : Int) (h : z_M) : f916_121 x5 x6 x7 x8 h = f916_123 x5 x6 x7 x8 x6 h := sorry
theorem e916_123 (x5 x6 x7 x8 s0 : Int) (h : z_M) : f916_123 x5 x6 x7 x8 s0 h = z_if (x7 < s0) (f916_137 x5 x6 x7 x8 s0 h) (f916_157 x8 h) := sorry
theorem e916_137 (x5 x6 x7 x8 x9 : Int) (h : z_M) : f916_137 x5 x6 x7 x8 x9 h = z_if (x8 < x7) (f916_149 x5 x6 x7 h) (f916_157 x9 h) := sorry
theorem e916_149 (x5 x6 x7 : Int) (h : z_M) : f916_149 x5 x6 x7 h = f916_157 (z_w ((z_w (x6 + x5)) - x7)) h := sorry
theorem e916_157 (s0 : Int) (h : z_M) : f916_157 s0 h = z_ri s0 h := sorry
theorem e931_0 (x1 : Int) (h : z_M) : f931_0 x1 h = z_g (z_inb (hI h 1064 60) 9000) (z_rv (sI (sI h 1094 (Int.toNat (hI h 1064 60)) x1) 1064 60 (z_w ((hI (sI h 1094 (Int.toNat (hI h 1064 60)) x1) 1064 60) + 1)))) := sorry
theorem e933_0 (x1 : Int) (h : z_M) : f933_0 x1 h = f933_2 x1 0 h := sorry
theorem e933_2 (x1 x2 : Int) (h : z_M) : f933_2 x1 x2 h = z_if (12 ≤ x2) (f933_31 x2 h) (z_g (z_inb x1 4) (z_g (z_inb x1 4) (z_if ((hI h 1111 (Int.toNat x1)) ≤ (z_shl (hI h 1112 (Int.toNat x1)) x2)) (f933_31 x2 h) (f933_2 x1 (z_w (x2 + 1)) h)))) := sorry
theorem e933_31 (x2 : Int) (h : z_M) : f933_31 x2 h = z_ri x2 h := sorry
theorem e934_0 (x1 x2 : Int) (h : z_M) : f934_0 x1 x2 h = f934_4 x1 (z_w (x2 - 1)) h := sorry
theorem e934_4 (x1 x3 : Int) (h : z_M) : f934_4 x1 x3 h = z_if (x3 < 0) (f934_23 h) (z_kv (f909_0 (z_and (z_shr x1 x3) 1) h) (fun h1 => f934_4 x1 (z_w (x3 + (-1))) h1) z_ex) := sorry
theorem e934_23 (h : z_M) : f934_23 h = z_rv h := sorry
theorem e936_0 (h : z_M) : f936_0 h = z_ki (f939_0 h) (fun v1 h1 => z_g (¬ v1 = 0) (z_ri (z_w ((z_div (z_w ((hI h 1064 98) + (z_w (2 * (hI h 1064 97))))) v1) + 1)) h1)) z_ex := sorry
theorem e938_0 (x1 x2 x3 : Int) (h : z_M) : f938_0 x1 x2 x3 h = z_kv (f935_0 218 (z_w (6 + (z_w (2 * (z_w (x2 - x1)))))) h) (fun h1 => z_kv (f931_0 (z_w (x2 - x1)) h1) (fun h2 => f938_25 x1 x2 x3 x1 h2) z_ex) z_ex := sorry
theorem e938_25 (x1 x2 x3 x4 : Int) (h : z_M) : f938_25 x1 x2 x3 x4 h = z_if (x2 ≤ x4) (f938_67 x1 x2 x3 h) (z_kv (f931_0 (z_w (x4 + 1)) h) (fun h1 => z_g (z_inb x4 4) (z_if ((hI h1 1089 (Int.toNat x4)) = 0) (f938_57 x1 x2 x3 x4 h1) (f938_58 x1 x2 x3 x4 (z_w (x4 + 1)) h1))) z_ex) := sorry
theorem e938_57 (x1 x2 x3 x4 : Int) (h : z_M) : f938_57 x1 x2 x3 x4 h = f938_58 x1 x2 x3 x4 0 h := sorry
theorem e938_58 (x1 x2 x3 x4 s1 : Int) (h : z_M) : f938_58 x1 x2 x3 x4 s1 h = z_kv (f931_0 s1 h) (fun h1 => f938_25 x1 x2 x3 (z_w (x4 + 1)) h1) z_ex := sorry
theorem e938_67 (x1 x2 x3 : Int) (h : z_M) : f938_67 x1 x2 x3 h = z_kv (f931_0 (hI h 1064 97) h) (fun h1 => z_kv (f931_0 x3 h1) (fun h2 => z_kv (f931_0 0 h2) (fun h3 => z_kv (f914_0 x1 x2 x3 h3) (fun h4 => z_rv h4) z_ex) z_ex) z_ex) z_ex := sorry
theorem e939_0 (h : z_M) : f939_0 h = z_ri (z_w ((z_w (2 * (hI h 1064 97))) + 1)) h := sorry
theorem e942_0 (x1 x2 x3 : Int) (h : z_M) : f942_0 x1 x2 x3 h = z_ki (f916_0 x1 x2 x3 h) (fun v1 h1 => z_g (z_inb (z_w ((z_w ((z_w (144 * x1)) + (z_w (12 * x3)))) + x2)) 576) (z_if ((z_w ((hI h1 1088 (Int.toNat (z_w ((z_w ((z_w (144 * x1)) + (z_w (12 * x3)))) + x2)))) - v1)) ≤ 0) (f942_55 x1 (z_w ((z_w ((z_w (144 * x1)) + (z_w (12 * x3)))) + x2)) v1 (z_w ((hI h1 1088 (Int.toNat (z_w ((z_w ((z_w (144 * x1)) + (z_w (12 * x3)))) + x2)))) - v1)) h1) (z_ki (f939_0 h1) (fun v2 h2 => z_g (¬ v2 = 0) (f942_68 x1 (z_w ((z_w ((z_w (144 * x1)) + (z_w (12 * x3)))) + x2)) v1 (z_div (z_w ((z_w ((hI h1 1088 (Int.toNat (z_w ((z_w ((z_w (144 * x1)) + (z_w (12 * x3)))) + x2)))) - v1)) + (hI h1 1064 97))) v2) h2)) z_ex))) z_ex := sorry
theorem e942_55 (x1 x4 x5 x6 : Int) (h : z_M) : f942_55 x1 x4 x5 x6 h = z_ki (f939_0 h) (fun v1 h1 => z_g (¬ v1 = 0) (f942_68 x1 x4 x5 (z_w (-(z_div (z_w ((hI h 1064 97) - x6)) v1))) h1)) z_ex := sorry
theorem e942_68 (x1 x4 x5 s0 : Int) (h : z_M) : f942_68 x1 x4 x5 s0 h = z_ki (f939_0 h) (fun v1 h1 => z_ki (f912_0 (z_w (x5 + (z_w (v1 * s0)))) h1) (fun v2 h2 => z_g (z_inb x4 576) (z_if (0 ≤ s0) (f942_106 x1 s0 (sI h2 1110 (Int.toNat x4) v2)) (z_ki (f936_0 (sI h2 1110 (Int.toNat x4) v2)) (fun v3 h3 => f942_108 x1 (z_w (s0 + v3)) h3) z_ex))) z_ex) z_ex := sorry
theorem e942_106 (x1 x7 : Int) (h : z_M) : f942_106 x1 x7 h = f942_108 x1 x7 h := sorry
theorem e942_108 (x1 s0 : Int) (h : z_M) : f942_108 x1 s0 h = z_ki (f936_0 h) (fun v1 h1 => z_g (¬ (2 : Int) = 0) (z_if (s0 < (z_div (z_w (v1 + 1)) 2)) (f942_133 x1 s0 h1) (z_ki (f936_0 h1) (fun v2 h2 => f942_135 x1 (z_w (s0 - v2)) h2) z_ex))) z_ex := sorry
theorem e942_133 (x1 x7 : Int) (h : z_M) : f942_133 x1 x7 h = f942_135 x1 x7 h := sorry
theorem e942_135 (x1 s0 : Int) (h : z_M) : f942_135 x1 s0 h = z_if (0 ≤ s0) (f942_152 x1 s0 h) (f942_156 x1 s0 (z_w ((z_w ((-2) * s0)) - 1)) h) := sorry
theorem e942_152 (x1 x7 : Int) (h : z_M) : f942_152 x1 x7 h = f942_156 x1 x7 (z_w (2 * x7)) h := sorry
theorem e942_156 (x1 x7 s0 : Int) (h : z_M) : f942_156 x1 x7 s0 h = z_ki (f933_0 x1 h) (fun v1 h1 => z_if (20 ≤ (z_shr s0 v1)) (f942_183 x1 x7 s0 v1 h1) (f942_185 x1 x7 s0 v1 (z_shr s0 v1) h1)) z_ex := sorry
theorem e942_183 (x1 x7 x8 x9 : Int) (h : z_M) : f942_183 x1 x7 x8 x9 h = f942_185 x1 x7 x8 x9 20 h := sorry
theorem e942_185 (x1 x7 x8 x9 s0 : Int) (h : z_M) : f942_185 x1 x7 x8 x9 s0 h = f942_190 x1 x7 x8 x9 s0 0 h := sorry
theorem e942_190 (x1 x7 x8 x9 x10 x11 : Int) (h : z_M) : f942_190 x1 x7 x8 x9 x10 x11 h = z_if (x10 ≤ x11) (f942_208 x1 x7 x8 x9 x10 h) (z_kv (f909_0 0 h) (fun h1 => f942_190 x1 x7 x8 x9 x10 (z_w (x11 + 1)) h1) z_ex) := sorry
theorem e942_208 (x1 x7 x8 x9 x10 : Int) (h : z_M) : f942_208 x1 x7 x8 x9 x10 h = z_kv (f909_0 1 h) (fun h1 => z_if (20 ≤ x10) (f942_231 x1 x7 x8 h1) (z_kv (f934_0 x8 x9 h1) (fun h2 => f942_239 x1 x7 h2) z_ex)) z_ex := sorry
theorem e942_231 (x1 x7 x8 : Int) (h : z_M) : f942_231 x1 x7 x8 h = z_kv (f934_0 x8 9 h) (fun h1 => f942_239 x1 x7 h1) z_ex := sorry
theorem e942_239 (x1 x7 : Int) (h : z_M) : f942_239 x1 x7 h = z_kv (f913_0 x1 x7 (hI h 1064 52) h) (fun h1 => z_rv h1) z_ex := sorry
theorem e945_0 (x1 : Int) (h : z_M) : f945_0 x1 h = z_if (¬ (hI h 1064 48) = 0) (f945_12 x1 h) (f945_26 x1 1 h) := sorry
theorem e945_12 (x1 : Int) (h : z_M) : f945_12 x1 h = z_ki (f924_0 x1 0 3 h) (fun v1 h1 => z_if (¬ v1 = 0) (f945_25 x1 h1) (f945_26 x1 2 h1)) z_ex := sorry
theorem e945_25 (x1 : Int) (h : z_M) : f945_25 x1 h = f945_26 x1 0 h := sorry
theorem e945_26 (x1 s1 : Int) (h : z_M) : f945_26 x1 s1 h = z_if ((hI (sI h 1064 44 s1) 1064 44) ≤ 0) (f945_38 x1 (sI h 1064 44 s1)) (z_ri 0 (sI h 1064 44 s1)) := sorry
theorem e945_38 (x1 : Int) (h : z_M) : f945_38 x1 h = z_ki (f943_0 (hI (sI h 1064 97 x1) 1064 47) (sI h 1064 97 x1)) (fun v1 h1 => z_kv (f931_0 255 (sI (sI h1 1064 98 v1) 1064 60 0)) (fun h2 => z_kv (f931_0 216 h2) (fun h3 => f945_75 0 h3) z_ex) z_ex) z_ex := sorry
theorem e945_75 (x2 : Int) (h : z_M) : f945_75 x2 h = z_if ((hI h 1064 55) ≤ x2) (f945_161 h) (z_g (z_inb x2 6) (z_if (¬ (hI h 1091 (Int.toNat x2)) = 16) (f945_101 x2 h) (f945_111 x2 254 h))) := sorry
theorem e945_101 (x2 : Int) (h : z_M) : f945_101 x2 h = z_g (z_inb x2 6) (f945_111 x2 (z_w (224 + (hI h 1091 (Int.toNat x2)))) h) := sorry
theorem e945_111 (x2 s1 : Int) (h : z_M) : f945_111 x2 s1 h = z_g (z_inb x2 6) (z_kv (f935_0 s1 (z_w (2 + (hI h 1092 (Int.toNat x2)))) h) (fun h1 => f945_124 x2 0 h1) z_ex) := sorry
theorem e945_124 (x2 x3 : Int) (h : z_M) : f945_124 x2 x3 h = z_g (z_inb x2 6) (z_if ((hI h 1092 (Int.toNat x2)) ≤ x3) (f945_155 x2 h) (z_g (z_inb (z_w ((z_w (30 * x2)) + x3)) 180) (z_kv (f931_0 (hI h 1093 (Int.toNat (z_w ((z_w (30 * x2)) + x3)))) h) (fun h1 => f945_124 x2 (z_w (x3 + 1)) h1) z_ex))) := sorry
theorem e945_155 (x2 : Int) (h : z_M) : f945_155 x2 h = f945_75 (z_w (x2 + 1)) h := sorry
theorem e945_161 (h : z_M) : f945_161 h = z_kv (f935_0 247 (z_w (8 + (z_w (3 * (hI h 1064 48))))) h) (fun h1 => z_kv (f931_0 (hI h1 1064 47) h1) (fun h2 => z_kv (f932_0 (hI h2 1064 46) h2) (fun h3 => z_kv (f932_0 (hI h3 1064 45) h3) (fun h4 => z_kv (f931_0 (hI h4 1064 48) h4) (fun h5 => f945_211 0 h5) z_ex) z_ex) z_ex) z_ex) z_ex := sorry
theorem e945_211 (x2 : Int) (h : z_M) : f945_211 x2 h = z_if ((hI h 1064 48) ≤ x2) (f945_243 h) (z_kv (f931_0 (z_w (x2 + 1)) h) (fun h1 => z_kv (f931_0 17 h1) (fun h2 => z_kv (f931_0 0 h2) (fun h3 => f945_211 (z_w (x2 + 1)) h3) z_ex) z_ex) z_ex) := sorry
theorem e945_243 (h : z_M) : f945_243 h = z_if (¬ (hI h 1064 52) = 64) (f945_260 h) (z_if ((hI h 1064 53) = 4) (f945_289 h) (f945_260 h)) := sorry
theorem e945_260 (h : z_M) : f945_260 h = z_kv (f935_0 248 5 h) (fun h1 => z_kv (f931_0 1 h1) (fun h2 => z_kv (f931_0 (hI h2 1064 52) h2) (fun h3 => z_kv (f931_0 (hI h3 1064 53) h3) (fun h4 => f945_289 h4) z_ex) z_ex) z_ex) z_ex := sorry
theorem e945_289 (h : z_M) : f945_289 h = f945_291 0 h := sorry
theorem e945_291 (x2 : Int) (h : z_M) : f945_291 x2 h = z_if ((hI h 1064 48) ≤ x2) (f945_380 h) (z_g (z_inb x2 4) (z_if ((hI h 1089 (Int.toNat x2)) = 0) (f945_374 x2 h) (z_kv (f935_0 248 (z_w (5 + (z_w (2 * (z_w ((hI h 1064 98) + 1)))))) h) (fun h1 => z_kv (f931_0 2 h1) (fun h2 => z_kv (f931_0 (z_w (x2 + 1)) h2) (fun h3 => z_kv (f931_0 2 h3) (fun h4 => f945_344 x2 0 h4) z_ex) z_ex) z_ex) z_ex))) := sorry
theorem e945_344 (x2 x3 : Int) (h : z_M) : f945_344 x2 x3 h = z_if ((hI h 1064 98) < x3) (f945_374 x2 h) (z_g (z_inb (z_w ((z_w (256 * x2)) + x3)) 1024) (z_kv (f932_0 (hI h 1090 (Int.toNat (z_w ((z_w (256 * x2)) + x3)))) h) (fun h1 => f945_344 x2 (z_w (x3 + 1)) h1) z_ex)) := sorry
theorem e945_374 (x2 : Int) (h : z_M) : f945_374 x2 h = f945_291 (z_w (x2 + 1)) h := sorry
theorem e945_380 (h : z_M) : f945_380 h = z_if ((hI h 1064 54) ≤ 0) (f945_403 h) (z_kv (f935_0 221 4 h) (fun h1 => z_kv (f932_0 (hI h1 1064 54) h1) (fun h2 => f945_403 h2) z_ex) z_ex) := sorry
theorem e945_403 (h : z_M) : f945_403 h = z_if ((hI h 1064 43) = 0) (f945_418 h) (z_if (¬ (hI h 1064 48) = 1) (f945_446 h) (f945_418 h)) := sorry
theorem e945_418 (h : z_M) : f945_418 h = f945_420 0 h := sorry
theorem e945_420 (x2 : Int) (h : z_M) : f945_420 x2 h = z_if ((hI h 1064 48) ≤ x2) (f945_443 h) (z_kv (f938_0 x2 (z_w (x2 + 1)) 0 h) (fun h1 => f945_420 (z_w (x2 + 1)) h1) z_ex) := sorry
theorem e945_443 (h : z_M) : f945_443 h = f945_459 h := sorry
theorem e945_446 (h : z_M) : f945_446 h = z_kv (f938_0 0 (hI h 1064 48) (hI h 1064 43) h) (fun h1 => f945_459 h1) z_ex := sorry
theorem e945_459 (h : z_M) : f945_459 h = z_kv (f931_0 255 h) (fun h1 => z_kv (f931_0 217 h1) (fun h2 => z_ri (hI h2 1064 60) h2) z_ex) z_ex := sorry
theorem e948_0 (x1 x2 : Int) (h : z_M) : f948_0 x1 x2 h = z_kv (f896_0 72 (sI (sI h 1064 14 0) 1064 15 0)) (fun h1 => z_kv (f896_0 x2 h1) (fun h2 => z_g (z_inb x1 8) (z_kv (f896_0 (hI h2 1065 (Int.toNat x1)) h2) (fun h3 => z_g (z_inb x1 8) (z_kv (f896_0 (hI h3 1066 (Int.toNat x1)) h3) (fun h4 => z_g (z_inb x1 8) (z_g (z_inb x1 8) (z_kv (f698_0 (sI (sI h4 1064 17 (hI h4 1065 (Int.toNat x1))) 1064 18 (hI (sI h4 1064 17 (hI h4 1065 (Int.toNat x1))) 1066 (Int.toNat x1)))) (fun h5 => z_ki (f963_0 x2 h5) (fun v6 h6 => f948_75 x1 x2 0 (z_w (v6 - 1)) h6) z_ex) z_ex))) z_ex)) z_ex)) z_ex) z_ex := sorry
theorem e948_75 (x1 x2 x3 x4 : Int) (h : z_M) : f948_75 x1 x2 x3 x4 h = z_if (x4 < 0) (f948_248 x3 h) (z_kv (f697_0 h) (fun h1 => f948_87 x1 x2 x3 x4 0 h1) z_ex) := sorry
theorem e948_87 (x1 x2 x3 x4 x5 : Int) (h : z_M) : f948_87 x1 x2 x3 x4 x5 h = z_if ((hI h 1064 18) ≤ x5) (f948_238 x1 x2 x3 x4 h) (f948_99 x1 x2 x3 x4 x5 0 h) := sorry
theorem e948_99 (x1 x2 x3 x4 x5 x6 : Int) (h : z_M) : f948_99 x1 x2 x3 x4 x5 x6 h = z_if ((hI h 1064 17) ≤ x6) (f948_232 x1 x2 x3 x4 x5 h) (z_ki (f871_0 x1 x6 x5 x2 h) (fun v1 h1 => z_ki (f806_0 x6 x5 h1) (fun v2 h2 => z_g (z_inb v2 64) (z_if ((hI h2 1078 (Int.toNat v2)) < 0) (f948_163 x1 x2 x3 x4 x5 x6 (z_xor (z_and (z_shr v1 x4) 1) (z_and (z_shr v1 (z_w (x4 + 1))) 1)) v2 h2) (f948_164 x1 x2 x3 x4 x5 x6 (z_xor (z_and (z_shr v1 x4) 1) (z_and (z_shr v1 (z_w (x4 + 1))) 1)) v2 1 h2))) z_ex) z_ex) := sorry
theorem e948_163 (x1 x2 x3 x4 x5 x6 x8 x9 : Int) (h : z_M) : f948_163 x1 x2 x3 x4 x5 x6 x8 x9 h = f948_164 x1 x2 x3 x4 x5 x6 x8 x9 0 h := sorry
theorem e948_164 (x1 x2 x3 x4 x5 x6 x8 x9 s0 : Int) (h : z_M) : f948_164 x1 x2 x3 x4 x5 x6 x8 x9 s0 h = z_if (¬ x8 = 1) (f948_174 x1 x2 x3 x4 x5 x6 x8 x9 s0 h) (f948_175 x1 x2 x3 x4 x5 x6 x8 x9 s0 1 h) := sorry
theorem e948_174 (x1 x2 x3 x4 x5 x6 x8 x9 s0 : Int) (h : z_M) : f948_174 x1 x2 x3 x4 x5 x6 x8 x9 s0 h = f948_175 x1 x2 x3 x4 x5 x6 x8 x9 s0 0 h := sorry
theorem e948_175 (x1 x2 x3 x4 x5 x6 x8 x9 s0 s1 : Int) (h : z_M) : f948_175 x1 x2 x3 x4 x5 x6 x8 x9 s0 s1 h = z_if (¬ s0 = s1) (f948_182 x1 x2 x3 x4 x5 x6 x8 x9 h) (f948_183 x1 x2 x3 x4 x5 x6 x8 x9 1 h) := sorry
theorem e948_182 (x1 x2 x3 x4 x5 x6 x8 x9 : Int) (h : z_M) : f948_182 x1 x2 x3 x4 x5 x6 x8 x9 h = f948_183 x1 x2 x3 x4 x5 x6 x8 x9 0 h := sorry
theorem e948_183 (x1 x2 x3 x4 x5 x6 x8 x9 s0 : Int) (h : z_M) : f948_183 x1 x2 x3 x4 x5 x6 x8 x9 s0 h = z_if (s0 = 0) (f948_196 x1 x2 x3 x4 x5 x6 x8 x9 h) (f948_203 x1 x2 (z_w (x3 + 1)) x4 x5 x6 x8 x9 h) := sorry
theorem e948_196 (x1 x2 x3 x4 x5 x6 x8 x9 : Int) (h : z_M) : f948_196 x1 x2 x3 x4 x5 x6 x8 x9 h = z_kv (f902_0 x3 h) (fun h1 => f948_203 x1 x2 0 x4 x5 x6 x8 x9 h1) z_ex := sorry
theorem e948_203 (x1 x2 x3 x4 x5 x6 x8 x9 : Int) (h : z_M) : f948_203 x1 x2 x3 x4 x5 x6 x8 x9 h = z_kv (f906_0 x9 x8 h) (fun h1 => z_g (z_inb (z_w ((z_w (12 * x5)) + x6)) 144) (f948_99 x1 x2 x3 x4 x5 (z_w (x6 + 1)) (sI h1 1076 (Int.toNat (z_w ((z_w (12 * x5)) + x6))) x8))) z_ex := sorry
theorem e948_232 (x1 x2 x3 x4 x5 : Int) (h : z_M) : f948_232 x1 x2 x3 x4 x5 h = f948_87 x1 x2 x3 x4 (z_w (x5 + 1)) h := sorry
theorem e948_238 (x1 x2 x3 x4 : Int) (h : z_M) : f948_238 x1 x2 x3 x4 h = z_kv (f863_0 h) (fun h1 => f948_75 x1 x2 x3 (z_w (x4 + (-1))) h1) z_ex := sorry
theorem e948_248 (x3 : Int) (h : z_M) : f948_248 x3 h = z_kv (f902_0 x3 h) (fun h1 => z_rv h1) z_ex := sorry
theorem e949_0 (x1 x2 x3 x4 x5 : Int) (h : z_M) : f949_0 x1 x2 x3 x4 x5 h = z_g (z_inb x1 8) (z_g (z_inb x1 8) (f949_39 x1 x2 x4 x5 0 (sI (sI (sI (sI (sI h 1064 43 x3) 1064 45 (hI (sI h 1064 43 x3) 1065 (Int.toNat x1))) 1064 46 (hI (sI (sI h 1064 43 x3) 1064 45 (hI (sI h 1064 43 x3) 1065 (Int.toNat x1))) 1066 (Int.toNat x1))) 1064 47 8) 1064 48 x2))) := sorry
theorem e949_39 (x1 x2 x4 x5 x6 : Int) (h : z_M) : f949_39 x1 x2 x4 x5 x6 h = z_if ((z_w (144 * x2)) ≤ x6) (f949_75 x4 x5 h) (z_g (z_inb (z_w ((z_w (144 * x1)) + x6)) 1152) (z_g (z_inb x6 576) (f949_39 x1 x2 x4 x5 (z_w (x6 + 1)) (sI h 1088 (Int.toNat x6) (hI h 1067 (Int.toNat (z_w ((z_w (144 * x1)) + x6)))))))) := sorry
theorem e949_75 (x4 x5 : Int) (h : z_M) : f949_75 x4 x5 h = f949_78 x4 x5 0 h := sorry
theorem e949_78 (x4 x5 x6 : Int) (h : z_M) : f949_78 x4 x5 x6 h = z_if (4 ≤ x6) (f949_98 x4 x5 h) (z_g (z_inb x6 4) (z_g (z_01 0) (f949_78 x4 x5 (z_w (x6 + 1)) (sI h 1089 (Int.toNat x6) 0)))) := sorry
theorem e949_98 (x4 x5 : Int) (h : z_M) : f949_98 x4 x5 h = z_ki (f945_0 x4 (sI (sI (sI (sI h 1064 52 64) 1064 53 4) 1064 54 x5) 1064 55 0)) (fun v1 h1 => f949_133 0 (sI h1 1064 14 v1)) z_ex := sorry
theorem e949_133 (x6 : Int) (h : z_M) : f949_133 x6 h = z_if ((hI h 1064 14) ≤ x6) (f949_162 h) (z_g (z_inb x6 9000) (z_g (z_inb x6 12000) (f949_133 (z_w (x6 + 1)) (sI h 1074 (Int.toNat x6) (hI h 1094 (Int.toNat x6)))))) := sorry
theorem e949_162 (h : z_M) : f949_162 h = z_rv h := sorry
theorem e950_0 (x1 x2 x3 x4 : Int) (h : z_M) : f950_0 x1 x2 x3 x4 h = z_g (z_inb x1 8) (z_g (z_inb x1 8) (f950_21 x1 x4 (z_w (144 * x1)) (sI (sI h 1065 (Int.toNat x1) x2) 1066 (Int.toNat x1) x3))) := sorry
theorem e950_21 (x1 x4 x5 : Int) (h : z_M) : f950_21 x1 x4 x5 h = z_if ((z_w ((z_w (144 * x1)) + 144)) ≤ x5) (f950_58 h) (z_g (z_inb x5 1152) (z_g (z_inb x5 1152) (z_g (z_01 x4) (f950_21 x1 x4 (z_w (x5 + 1)) (sI (sI h 1067 (Int.toNat x5) 0) 1068 (Int.toNat x5) x4))))) := sorry
theorem e950_58 (h : z_M) : f950_58 h = z_rv h := sorry
theorem e951_0 (x1 x2 x3 : Int) (h : z_M) : f951_0 x1 x2 x3 h = z_g (z_inb x1 4) (z_g (z_inb x1 4) (f951_21 x1 (z_w (576 * x1)) (sI (sI h 1069 (Int.toNat x1) x2) 1070 (Int.toNat x1) x3))) := sorry
theorem e951_21 (x1 x4 : Int) (h : z_M) : f951_21 x1 x4 h = z_if ((z_w ((z_w (576 * x1)) + 576)) ≤ x4) (f951_49 h) (z_g (z_inb x4 2304) (z_g (z_01 0) (f951_21 x1 (z_w (x4 + 1)) (sI h 1071 (Int.toNat x4) 0)))) := sorry
theorem e951_49 (h : z_M) : f951_49 h = z_rv h := sorry
theorem e954_0 (x1 x2 x3 x4 : Int) (h : z_M) : f954_0 x1 x2 x3 x4 h = z_if (¬ x1 = 0) (f954_9 x2 x3 x4 h) (f954_35 1 h) := sorry
theorem e954_9 (x2 x3 x4 : Int) (h : z_M) : f954_9 x2 x3 x4 h = z_if (¬ x2 = 0) (f954_17 x3 x4 h) (f954_35 2 h) := sorry
theorem e954_17 (x3 x4 : Int) (h : z_M) : f954_17 x3 x4 h = z_if (¬ x3 = 0) (f954_25 x4 h) (f954_35 3 h) := sorry
theorem e954_25 (x4 : Int) (h : z_M) : f954_25 x4 h = z_if (¬ x4 = 0) (f954_34 h) (f954_35 4 h) := sorry
theorem e954_34 (h : z_M) : f954_34 h = f954_35 0 h := sorry
theorem e954_35 (s1 : Int) (h : z_M) : f954_35 s1 h = z_if (¬ (hI (sI h 1064 0 s1) 1064 0) = 0) (f954_49 (sI h 1064 0 s1)) (f954_50 1 (sI h 1064 0 s1)) := sorry
theorem e954_49 (h : z_M) : f954_49 h = f954_50 0 h := sorry
theorem e954_50 (s0 : Int) (h : z_M) : f954_50 s0 h = z_g (z_01 s0) (z_ri s0 h) := sorry
theorem e961_0 (x1 x2 x3 : Int) (h : z_M) : f961_0 x1 x2 x3 h = z_ki (f888_0 x1 h) (fun v1 h1 => z_ki (f885_0 x2 1 12 h1) (fun v2 h2 => z_if (v2 = 0) (f961_29 x1 x2 x3 v1 h2) (z_ki (f885_0 x3 1 12 h2) (fun v3 h3 => z_if (v3 = 0) (f961_29 x1 x2 x3 v1 h3) (f961_30 x1 x2 x3 v1 1 h3)) z_ex)) z_ex) z_ex := sorry
theorem e961_29 (x1 x2 x3 s1 : Int) (h : z_M) : f961_29 x1 x2 x3 s1 h = f961_30 x1 x2 x3 s1 0 h := sorry
theorem e961_30 (x1 x2 x3 s1 s2 : Int) (h : z_M) : f961_30 x1 x2 x3 s1 s2 h = z_ki (f954_0 s1 s2 1 1 h) (fun v1 h1 => z_if (v1 = 0) (f961_46 h1) (z_kv (f950_0 x1 x2 x3 1 h1) (fun h2 => f961_46 h2) z_ex)) z_ex := sorry
theorem e961_46 (h : z_M) : f961_46 h = z_rv h := sorry
theorem e963_0 (x0 : Int) (h : z_M) : f963_0 x0 h = z_if (¬ x0 = 1) (f963_9 h) (f963_10 1 h) := sorry
theorem e963_9 (h : z_M) : f963_9 h = f963_10 3 h := sorry
theorem e963_10 (s0 : Int) (h : z_M) : f963_10 s0 h = z_ri s0 h := sorry
theorem e964_0 (x1 x2 x3 x4 x5 : Int) (h : z_M) : f964_0 x1 x2 x3 x4 x5 h = z_ki (f955_0 x1 x2 x3 h) (fun v1 h1 => z_if (v1 = 0) (f964_42 h1) (z_if (x4 ≤ 0) (f964_34 x1 x2 x3 x4 x5 1 1 h1) (z_ki (f885_0 x5 0 255 h1) (fun v2 h2 => z_if (v2 = 0) (f964_34 x1 x2 x3 x4 x5 1 1 h2) (f964_35 x1 x2 x3 x4 x5 1 1 1 h2)) z_ex))) z_ex := sorry
theorem e964_34 (x1 x2 x3 x4 x5 s1 s2 : Int) (h : z_M) : f964_34 x1 x2 x3 x4 x5 s1 s2 h = f964_35 x1 x2 x3 x4 x5 s1 s2 0 h := sorry
theorem e964_35 (x1 x2 x3 x4 x5 s1 s2 s3 : Int) (h : z_M) : f964_35 x1 x2 x3 x4 x5 s1 s2 s3 h = z_ki (f954_0 s1 s2 s3 1 h) (fun v1 h1 => z_if (¬ v1 = 0) (f964_44 x1 x2 x3 x4 x5 h1) (f964_42 h1)) z_ex := sorry
theorem e964_42 (h : z_M) : f964_42 h = z_ri 0 h := sorry
theorem e964_44 (x1 x2 x3 x4 x5 : Int) (h : z_M) : f964_44 x1 x2 x3 x4 x5 h = f964_50 x1 x2 x3 x4 x5 0 x2 h := sorry
theorem e964_50 (x1 x2 x3 x4 x5 x6 x7 : Int) (h : z_M) : f964_50 x1 x2 x3 x4 x5 x6 x7 h = z_g (z_inb x1 8) (z_if ((hI h 1065 (Int.toNat x1)) ≤ x7) (f964_122 x6 h) (z_if (x4 ≤ (z_w (x7 - x2))) (f964_122 x6 h) (z_g (z_inb (z_w ((z_w ((z_w (144 * x1)) + (z_w (12 * x3)))) + x7)) 1152) (z_if (¬ (hI h 1067 (Int.toNat (z_w ((z_w ((z_w (144 * x1)) + (z_w (12 * x3)))) + x7)))) = x5) (f964_103 x1 x2 x3 x4 x5 x7 (z_w ((z_w ((z_w (144 * x1)) + (z_w (12 * x3)))) + x7)) x6 h) (f964_104 x1 x2 x3 x4 x5 x7 (z_w ((z_w ((z_w (144 * x1)) + (z_w (12 * x3)))) + x7)) x6 0 h))))) := sorry
theorem e964_103 (x1 x2 x3 x4 x5 x7 x8 s0 : Int) (h : z_M) : f964_103 x1 x2 x3 x4 x5 x7 x8 s0 h = f964_104 x1 x2 x3 x4 x5 x7 x8 s0 1 h := sorry
theorem e964_104 (x1 x2 x3 x4 x5 x7 x8 s0 s1 : Int) (h : z_M) : f964_104 x1 x2 x3 x4 x5 x7 x8 s0 s1 h = z_g (z_inb x8 1152) (f964_50 x1 x2 x3 x4 x5 (z_w (s0 + s1)) (z_w (x7 + 1)) (sI h 1067 (Int.toNat x8) x5)) := sorry
theorem e964_122 (x6 : Int) (h : z_M) : f964_122 x6 h = z_ri x6 h := sorry
theorem e967_0 (h : z_M) : f967_0 h = f967_2 0 h := sorry
theorem e967_2 (x1 : Int) (h : z_M) : f967_2 x1 h = z_if (8 ≤ x1) (f967_27 x1 h) (z_if ((hI h 1064 23) ≤ (z_shl (hI h 1064 24) x1)) (f967_27 x1 h) (f967_2 (z_w (x1 + 1)) h)) := sorry
theorem e967_27 (x1 : Int) (h : z_M) : f967_27 x1 h = z_ri x1 h := sorry
theorem e969_0 (x1 x2 x3 : Int) (h : z_M) : f969_0 x1 x2 x3 h = z_ki (f885_0 x2 1 3 h) (fun v1 h1 => z_ki (f891_0 x1 h1) (fun v2 h2 => z_if (v2 = 0) (f969_73 x1 x2 x3 v1 v2 h2) (z_if (v1 = 0) (f969_73 x1 x2 x3 v1 v2 h2) (z_g (z_inb x1 4) (z_g (¬ x2 = 0) (z_if (¬ (z_rem (hI h2 1069 (Int.toNat x1)) x2) = 0) (f969_77 x1 x2 x3 v1 v2 h2) (z_g (z_inb x1 4) (z_g (¬ x2 = 0) (z_if (¬ (z_rem (hI h2 1070 (Int.toNat x1)) x2) = 0) (f969_77 x1 x2 x3 v1 v2 h2) (z_g (z_inb x1 4) (z_g (¬ x2 = 0) (z_if (12 < (z_div (hI h2 1069 (Int.toNat x1)) x2)) (f969_77 x1 x2 x3 v1 v2 h2) (z_g (z_inb x1 4) (z_g (¬ x2 = 0) (z_if (12 < (z_div (hI h2 1070 (Int.toNat x1)) x2)) (f969_77 x1 x2 x3 v1 v2 h2) (f969_73 x1 x2 x3 v1 v2 h2))))))))))))))) z_ex) z_ex := sorry
theorem e969_73 (x1 x2 x3 x4 x5 : Int) (h : z_M) : f969_73 x1 x2 x3 x4 x5 h = f969_78 x1 x2 x3 x4 x5 1 h := sorry
theorem e969_77 (x1 x2 x3 x4 x5 : Int) (h : z_M) : f969_77 x1 x2 x3 x4 x5 h = f969_78 x1 x2 x3 x4 x5 0 h := sorry
theorem e969_78 (x1 x2 x3 x4 x5 s0 : Int) (h : z_M) : f969_78 x1 x2 x3 x4 x5 s0 h = z_ki (f890_0 x1 h) (fun v1 h1 => z_if (v1 = 0) (f969_99 x1 x2 x3 x4 x5 s0 h1) (z_ki (f888_0 x3 h1) (fun v2 h2 => z_if (v2 = 0) (f969_99 x1 x2 x3 x4 x5 s0 h2) (f969_100 x1 x2 x3 x4 x5 s0 1 h2)) z_ex)) z_ex := sorry
theorem e969_99 (x1 x2 x3 x4 x5 x6 : Int) (h : z_M) : f969_99 x1 x2 x3 x4 x5 x6 h = f969_100 x1 x2 x3 x4 x5 x6 0 h := sorry
theorem e969_100 (x1 x2 x3 x4 x5 x6 s1 : Int) (h : z_M) : f969_100 x1 x2 x3 x4 x5 x6 s1 h = z_if (x5 = 0) (f969_114 x1 x2 x3 x4 s1 h) (z_if (x6 = 0) (f969_114 x1 x2 x3 x4 s1 h) (f969_115 x1 x2 x3 x4 s1 1 h)) := sorry
theorem e969_114 (x1 x2 x3 x4 s1 : Int) (h : z_M) : f969_114 x1 x2 x3 x4 s1 h = f969_115 x1 x2 x3 x4 s1 0 h := sorry
theorem e969_115 (x1 x2 x3 x4 s1 s2 : Int) (h : z_M) : f969_115 x1 x2 x3 x4 s1 s2 h = z_ki (f954_0 s1 s2 x4 1 h) (fun v1 h1 => z_if (¬ v1 = 0) (f969_126 x1 x2 x3 h1) (z_ri 0 h1)) z_ex := sorry
theorem e969_126 (x1 x2 x3 : Int) (h : z_M) : f969_126 x1 x2 x3 h = z_g (z_inb x1 4) (z_g (¬ x2 = 0) (z_g (z_inb x1 4) (z_g (¬ x2 = 0) (z_kv (f950_0 x3 (z_div (hI h 1069 (Int.toNat x1)) x2) (z_div (hI h 1070 (Int.toNat x1)) x2) 1 h) (fun h1 => f969_154 x1 x2 x3 0 0 h1) z_ex)))) := sorry
theorem e969_154 (x1 x2 x3 x7 x8 : Int) (h : z_M) : f969_154 x1 x2 x3 x7 x8 h = z_g (z_inb x3 8) (z_if ((hI h 1066 (Int.toNat x3)) ≤ x8) (f969_314 x7 h) (f969_168 x1 x2 x3 x7 x8 0 h)) := sorry
theorem e969_168 (x1 x2 x3 x7 x8 x9 : Int) (h : z_M) : f969_168 x1 x2 x3 x7 x8 x9 h = z_g (z_inb x3 8) (z_if ((hI h 1065 (Int.toNat x3)) ≤ x9) (f969_308 x1 x2 x3 x7 x8 h) (f969_185 x1 x2 x3 x7 x8 x9 0 0 h)) := sorry
theorem e969_185 (x1 x2 x3 x7 x8 x9 x10 x11 : Int) (h : z_M) : f969_185 x1 x2 x3 x7 x8 x9 x10 x11 h = z_if ((z_w (x2 * x2)) ≤ x11) (f969_245 x1 x2 x3 x7 x8 x9 x10 h) (z_g (¬ x2 = 0) (z_g (¬ x2 = 0) (z_g (z_inb (z_w ((z_w ((z_w ((z_w (576 * x1)) + (z_w (24 * (z_w ((z_w (x2 * x8)) + (z_div x11 x2))))))) + (z_w (x2 * x9)))) + (z_rem x11 x2))) 2304) (z_if ((hI h 1071 (Int.toNat (z_w ((z_w ((z_w ((z_w (576 * x1)) + (z_w (24 * (z_w ((z_w (x2 * x8)) + (z_div x11 x2))))))) + (z_w (x2 * x9)))) + (z_rem x11 x2))))) = 0) (f969_235 x1 x2 x3 x7 x8 x9 x11 x10 h) (f969_236 x1 x2 x3 x7 x8 x9 x11 x10 1 h))))) := sorry
theorem e969_235 (x1 x2 x3 x7 x8 x9 x11 s0 : Int) (h : z_M) : f969_235 x1 x2 x3 x7 x8 x9 x11 s0 h = f969_236 x1 x2 x3 x7 x8 x9 x11 s0 0 h := sorry
theorem e969_236 (x1 x2 x3 x7 x8 x9 x11 s0 s1 : Int) (h : z_M) : f969_236 x1 x2 x3 x7 x8 x9 x11 s0 s1 h = f969_185 x1 x2 x3 x7 x8 x9 (z_w (s0 + s1)) (z_w (x11 + 1)) h := sorry
theorem e969_245 (x1 x2 x3 x7 x8 x9 x10 : Int) (h : z_M) : f969_245 x1 x2 x3 x7 x8 x9 x10 h = z_g (¬ (z_w (x2 * x2)) = 0) (z_g (z_inb (z_w ((z_w ((z_w (144 * x3)) + (z_w (12 * x8)))) + x9)) 1152) (z_g (z_inb (z_w ((z_w ((z_w (144 * x3)) + (z_w (12 * x8)))) + x9)) 1152) (f969_168 x1 x2 x3 (z_w (x7 + (hI (sI h 1067 (Int.toNat (z_w ((z_w ((z_w (144 * x3)) + (z_w (12 * x8)))) + x9))) (z_w (255 - (z_div (z_w (255 * x10)) (z_w (x2 * x2)))))) 1067 (Int.toNat (z_w ((z_w ((z_w (144 * x3)) + (z_w (12 * x8)))) + x9)))))) x8 (z_w (x9 + 1)) (sI h 1067 (Int.toNat (z_w ((z_w ((z_w (144 * x3)) + (z_w (12 * x8)))) + x9))) (z_w (255 - (z_div (z_w (255 * x10)) (z_w (x2 * x2))))))))) := sorry
theorem e969_308 (x1 x2 x3 x7 x8 : Int) (h : z_M) : f969_308 x1 x2 x3 x7 x8 h = f969_154 x1 x2 x3 x7 (z_w (x8 + 1)) h := sorry
theorem e969_314 (x7 : Int) (h : z_M) : f969_314 x7 h = z_ri x7 h := sorry
theorem e970_0 (x1 x2 x3 x4 x5 : Int) (h : z_M) : f970_0 x1 x2 x3 x4 x5 h = z_ki (f955_0 x1 x2 x3 h) (fun v1 h1 => z_if (v1 = 0) (f970_30 h1) (z_if (x4 ≤ 0) (f970_22 x1 x2 x3 x4 x5 1 1 h1) (f970_23 x1 x2 x3 x4 x5 1 1 1 h1))) z_ex := sorry
theorem e970_22 (x1 x2 x3 x4 x5 s1 s2 : Int) (h : z_M) : f970_22 x1 x2 x3 x4 x5 s1 s2 h = f970_23 x1 x2 x3 x4 x5 s1 s2 0 h := sorry
theorem e970_23 (x1 x2 x3 x4 x5 s1 s2 s3 : Int) (h : z_M) : f970_23 x1 x2 x3 x4 x5 s1 s2 s3 h = z_ki (f954_0 s1 s2 s3 1 h) (fun v1 h1 => z_if (¬ v1 = 0) (f970_32 x1 x2 x3 x4 x5 h1) (f970_30 h1)) z_ex := sorry
theorem e970_30 (h : z_M) : f970_30 h = z_ri 0 h := sorry
theorem e970_32 (x1 x2 x3 x4 x5 : Int) (h : z_M) : f970_32 x1 x2 x3 x4 x5 h = f970_38 x1 x2 x3 x4 x5 0 x2 h := sorry
theorem e970_38 (x1 x2 x3 x4 x5 x6 x7 : Int) (h : z_M) : f970_38 x1 x2 x3 x4 x5 x6 x7 h = z_g (z_inb x1 8) (z_if ((hI h 1065 (Int.toNat x1)) ≤ x7) (f970_110 x6 h) (z_if (x4 ≤ (z_w (x7 - x2))) (f970_110 x6 h) (z_g (z_inb (z_w ((z_w ((z_w (144 * x1)) + (z_w (12 * x3)))) + x7)) 1152) (z_if (¬ (hI h 1068 (Int.toNat (z_w ((z_w ((z_w (144 * x1)) + (z_w (12 * x3)))) + x7)))) = x5) (f970_91 x1 x2 x3 x4 x5 x7 (z_w ((z_w ((z_w (144 * x1)) + (z_w (12 * x3)))) + x7)) x6 h) (f970_92 x1 x2 x3 x4 x5 x7 (z_w ((z_w ((z_w (144 * x1)) + (z_w (12 * x3)))) + x7)) x6 0 h))))) := sorry
theorem e970_91 (x1 x2 x3 x4 x5 x7 x8 s0 : Int) (h : z_M) : f970_91 x1 x2 x3 x4 x5 x7 x8 s0 h = f970_92 x1 x2 x3 x4 x5 x7 x8 s0 1 h := sorry
theorem e970_92 (x1 x2 x3 x4 x5 x7 x8 s0 s1 : Int) (h : z_M) : f970_92 x1 x2 x3 x4 x5 x7 x8 s0 s1 h = z_g (z_inb x8 1152) (z_g (z_01 x5) (f970_38 x1 x2 x3 x4 x5 (z_w (s0 + s1)) (z_w (x7 + 1)) (sI h 1068 (Int.toNat x8) x5))) := sorry
theorem e970_110 (x6 : Int) (h : z_M) : f970_110 x6 h = z_ri x6 h := sorry
theorem e971_0 (x1 x2 x3 : Int) (h : z_M) : f971_0 x1 x2 x3 h = z_ki (f890_0 x1 h) (fun v1 h1 => z_ki (f885_0 x2 1 24 h1) (fun v2 h2 => z_if (v2 = 0) (f971_29 x1 x2 x3 v1 h2) (z_ki (f885_0 x3 1 24 h2) (fun v3 h3 => z_if (v3 = 0) (f971_29 x1 x2 x3 v1 h3) (f971_30 x1 x2 x3 v1 1 h3)) z_ex)) z_ex) z_ex := sorry
theorem e971_29 (x1 x2 x3 s1 : Int) (h : z_M) : f971_29 x1 x2 x3 s1 h = f971_30 x1 x2 x3 s1 0 h := sorry
theorem e971_30 (x1 x2 x3 s1 s2 : Int) (h : z_M) : f971_30 x1 x2 x3 s1 s2 h = z_ki (f954_0 s1 s2 1 1 h) (fun v1 h1 => z_if (v1 = 0) (f971_45 h1) (z_kv (f951_0 x1 x2 x3 h1) (fun h2 => f971_45 h2) z_ex)) z_ex := sorry
theorem e971_45 (h : z_M) : f971_45 h = z_rv h := sorry
theorem e974_0 (x1 x2 x3 : Int) (h : z_M) : f974_0 x1 x2 x3 h = z_ki (f885_0 x1 0 2 h) (fun v1 h1 => z_if (v1 = 0) (f974_49 x1 x2 x3 v1 h1) (z_if (¬ x1 = 0) (f974_27 x1 x2 x3 v1 h1) (z_ki (f888_0 x2 h1) (fun v2 h2 => z_if (v2 = 0) (f974_53 x1 x2 x3 v1 h2) (f974_49 x1 x2 x3 v1 h2)) z_ex))) z_ex := sorry
theorem e974_27 (x1 x2 x3 x4 : Int) (h : z_M) : f974_27 x1 x2 x3 x4 h = z_if (¬ x1 = 1) (f974_42 x1 x2 x3 x4 h) (z_ki (f890_0 x2 h) (fun v1 h1 => z_if (v1 = 0) (f974_53 x1 x2 x3 x4 h1) (f974_49 x1 x2 x3 x4 h1)) z_ex) := sorry
theorem e974_42 (x1 x2 x3 x4 : Int) (h : z_M) : f974_42 x1 x2 x3 x4 h = z_ki (f883_0 x2 h) (fun v1 h1 => z_if (v1 = 0) (f974_53 x1 x2 x3 x4 h1) (f974_49 x1 x2 x3 x4 h1)) z_ex := sorry
theorem e974_49 (x1 x2 x3 x4 : Int) (h : z_M) : f974_49 x1 x2 x3 x4 h = f974_54 x1 x2 x3 x4 1 h := sorry
theorem e974_53 (x1 x2 x3 x4 : Int) (h : z_M) : f974_53 x1 x2 x3 x4 h = f974_54 x1 x2 x3 x4 0 h := sorry
theorem e974_54 (x1 x2 x3 x4 s0 : Int) (h : z_M) : f974_54 x1 x2 x3 x4 s0 h = z_if (x4 = 0) (f974_86 x1 x2 x3 s0 h) (z_if (¬ x1 = 2) (f974_75 x1 x2 x3 s0 x3 0 h) (f974_76 x1 x2 x3 s0 x3 0 0 h)) := sorry
theorem e974_75 (x1 x2 x3 s1 s2 s3 : Int) (h : z_M) : f974_75 x1 x2 x3 s1 s2 s3 h = f974_76 x1 x2 x3 s1 s2 s3 2 h := sorry
theorem e974_76 (x1 x2 x3 s1 s2 s3 s4 : Int) (h : z_M) : f974_76 x1 x2 x3 s1 s2 s3 s4 h = z_ki (f885_0 s2 s3 s4 h) (fun v1 h1 => z_if (v1 = 0) (f974_86 x1 x2 x3 s1 h1) (f974_87 x1 x2 x3 s1 1 h1)) z_ex := sorry
theorem e974_86 (x1 x2 x3 s1 : Int) (h : z_M) : f974_86 x1 x2 x3 s1 h = f974_87 x1 x2 x3 s1 0 h := sorry
theorem e974_87 (x1 x2 x3 s1 s2 : Int) (h : z_M) : f974_87 x1 x2 x3 s1 s2 h = z_ki (f954_0 s1 s2 1 1 h) (fun v1 h1 => z_if (¬ v1 = 0) (f974_97 x1 x2 x3 h1) (z_ri 0 h1)) z_ex := sorry
theorem e974_97 (x1 x2 x3 : Int) (h : z_M) : f974_97 x1 x2 x3 h = z_if (¬ x1 = 2) (f974_109 x1 x2 x3 h) (z_g (z_inb x2 12) (z_ri (hI h 1072 (Int.toNat x2)) h)) := sorry
theorem e974_109 (x1 x2 x3 : Int) (h : z_M) : f974_109 x1 x2 x3 h = z_if (¬ x1 = 0) (f974_122 x1 x2 x3 h) (z_g (z_inb x2 8) (f974_128 x1 x2 x3 (hI h 1065 (Int.toNat x2)) h)) := sorry
theorem e974_122 (x1 x2 x3 : Int) (h : z_M) : f974_122 x1 x2 x3 h = z_g (z_inb x2 4) (f974_128 x1 x2 x3 (hI h 1069 (Int.toNat x2)) h) := sorry
theorem e974_128 (x1 x2 x3 s0 : Int) (h : z_M) : f974_128 x1 x2 x3 s0 h = z_if (¬ x1 = 0) (f974_143 x1 x2 x3 s0 h) (z_g (z_inb x2 8) (f974_149 x1 x2 x3 s0 (hI h 1066 (Int.toNat x2)) h)) := sorry
theorem e974_143 (x1 x2 x3 x6 : Int) (h : z_M) : f974_143 x1 x2 x3 x6 h = z_g (z_inb x2 4) (f974_149 x1 x2 x3 x6 (hI h 1070 (Int.toNat x2)) h) := sorry
theorem e974_149 (x1 x2 x3 x6 s0 : Int) (h : z_M) : f974_149 x1 x2 x3 x6 s0 h = z_if (¬ x3 = 2) (f974_165 x3 x6 s0 h) (z_ki (f808_0 x1 x2 h) (fun v1 h1 => f974_185 v1 h1) z_ex) := sorry
theorem e974_165 (x3 x6 x7 : Int) (h : z_M) : f974_165 x3 x6 x7 h = z_if (¬ x6 = 0) (f974_174 x3 x6 x7 h) (f974_185 (-1) h) := sorry
theorem e974_174 (x3 x6 x7 : Int) (h : z_M) : f974_174 x3 x6 x7 h = z_if (¬ x3 = 0) (f974_183 x7 h) (f974_185 x6 h) := sorry
theorem e974_183 (x7 : Int) (h : z_M) : f974_183 x7 h = f974_185 x7 h := sorry
theorem e974_185 (s0 : Int) (h : z_M) : f974_185 s0 h = z_ri s0 h := sorry
theorem e975_0 (x1 : Int) (h : z_M) : f975_0 x1 h = z_ki (f756_0 x1 h) (fun v1 h1 => z_ri v1 (sI h1 1064 0 (hI h1 1064 342))) z_ex := sorry
theorem e982_0 (x1 : Int) (h : z_M) : f982_0 x1 h = z_if ((hI h 1064 14) ≤ 1500) (f982_12 x1 h) (z_ri (-1) h) := sorry
theorem e982_12 (x1 : Int) (h : z_M) : f982_12 x1 h = f982_14 x1 0 h := sorry
theorem e982_14 (x1 x2 : Int) (h : z_M) : f982_14 x1 x2 h = z_if ((hI h 1064 14) ≤ x2) (f982_46 x1 h) (z_g (z_inb x2 12000) (z_g (z_inb (z_w ((z_w (1500 * x1)) + x2)) 18000) (f982_14 x1 (z_w (x2 + 1)) (sI h 1073 (Int.toNat (z_w ((z_w (1500 * x1)) + x2))) (hI h 1074 (Int.toNat x2)))))) := sorry
theorem e982_46 (x1 : Int) (h : z_M) : f982_46 x1 h = z_g (z_inb x1 12) (z_ri (hI (sI h 1072 (Int.toNat x1) (hI h 1064 14)) 1064 14) (sI h 1072 (Int.toNat x1) (hI h 1064 14))) := sorry
theorem e984_0 (x1 x2 x3 : Int) (h : z_M) : f984_0 x1 x2 x3 h = z_if (x1 < 0) (f984_25 h) (z_if ((hI h 1064 17) ≤ x1) (f984_25 h) (z_if (x2 < 0) (f984_25 h) (z_if (¬ x2 = x3) (f984_29 x1 x2 h) (z_if (0 ≤ x1) (f984_29 x1 x2 h) (f984_25 h))))) := sorry
theorem e984_25 (h : z_M) : f984_25 h = f984_40 0 h := sorry
theorem e984_29 (x1 x2 : Int) (h : z_M) : f984_29 x1 x2 h = z_g (z_inb (z_w ((z_w (12 * x2)) + x1)) 144) (f984_40 (hI h 1076 (Int.toNat (z_w ((z_w (12 * x2)) + x1)))) h) := sorry
theorem e984_40 (s0 : Int) (h : z_M) : f984_40 s0 h = z_ri s0 h := sorry
theorem e985_0 (x1 x2 x3 : Int) (h : z_M) : f985_0 x1 x2 x3 h = z_if (¬ x1 = 0) (f985_14 x1 x2 x3 (sI h 1064 2 x1)) (f985_15 x1 x2 x3 (-1) (sI h 1064 2 x1)) := sorry
theorem e985_14 (x1 x2 x3 : Int) (h : z_M) : f985_14 x1 x2 x3 h = f985_15 x1 x2 x3 x2 h := sorry
theorem e985_15 (x1 x2 x3 s1 : Int) (h : z_M) : f985_15 x1 x2 x3 s1 h = z_if (¬ x1 = 0) (f985_36 x2 (sI (sI h 1064 3 s1) 1064 1 (z_w ((hI (sI h 1064 3 s1) 1064 1) + 1)))) (f985_39 x3 (sI (sI h 1064 3 s1) 1064 1 (z_w ((hI (sI h 1064 3 s1) 1064 1) + 1)))) := sorry
theorem e985_36 (x2 : Int) (h : z_M) : f985_36 x2 h = f985_39 (z_w ((-1) - x2)) h := sorry
theorem e985_39 (s0 : Int) (h : z_M) : f985_39 s0 h = z_ri s0 h := sorry
theorem e1023_0 (x1 x2 : Int) (h : z_M) : f1023_0 x1 x2 h = z_ki (f883_0 x1 h) (fun v1 h1 => z_if (v1 = 0) (f1023_19 x1 x2 h1) (z_ki (f888_0 x2 h1) (fun v2 h2 => z_if (v2 = 0) (f1023_19 x1 x2 h2) (f1023_20 x1 x2 1 h2)) z_ex)) z_ex := sorry
theorem e1023_19 (x1 x2 : Int) (h : z_M) : f1023_19 x1 x2 h = f1023_20 x1 x2 0 h := sorry
theorem e1023_20 (x1 x2 s1 : Int) (h : z_M) : f1023_20 x1 x2 s1 h = z_ki (f874_0 h) (fun v1 h1 => z_ki (f954_0 s1 v1 1 1 h1) (fun v2 h2 => z_if (¬ v2 = 0) (f1023_34 x1 x2 h2) (z_ri 0 h2)) z_ex) z_ex := sorry
theorem e1023_34 (x1 x2 : Int) (h : z_M) : f1023_34 x1 x2 h = z_g (z_inb x1 12) (z_if ((hI h 1072 (Int.toNat x1)) < 4) (f1023_111 h) (z_g (z_inb (z_w (1500 * x1)) 18000) (z_if (¬ (hI h 1073 (Int.toNat (z_w (1500 * x1)))) = 72) (f1023_111 h) (z_g (z_inb (z_w ((z_w (1500 * x1)) + 1)) 18000) (z_ki (f885_0 (hI h 1073 (Int.toNat (z_w ((z_w (1500 * x1)) + 1)))) 1 2 h) (fun v1 h1 => z_if (v1 = 0) (f1023_111 h1) (z_g (z_inb (z_w ((z_w (1500 * x1)) + 2)) 18000) (z_ki (f885_0 (hI h1 1073 (Int.toNat (z_w ((z_w (1500 * x1)) + 2)))) 1 12 h1) (fun v2 h2 => z_if (v2 = 0) (f1023_111 h2) (z_g (z_inb (z_w ((z_w (1500 * x1)) + 3)) 18000) (z_ki (f885_0 (hI h2 1073 (Int.toNat (z_w ((z_w (1500 * x1)) + 3)))) 1 12 h2) (fun v3 h3 => z_if (¬ v3 = 0) (f1023_119 x1 x2 (z_w (1500 * x1)) h3) (f1023_111 h3)) z_ex))) z_ex))) z_ex))))) := sorry
theorem e1023_111 (h : z_M) : f1023_111 h = z_ki (f985_0 1 0 0 h) (fun v1 h1 => z_ri v1 h1) z_ex := sorry
theorem e1023_119 (x1 x2 x3 : Int) (h : z_M) : f1023_119 x1 x2 x3 h = z_g (z_inb (z_w (x3 + 1)) 18000) (z_g (z_inb (z_w (x3 + 2)) 18000) (z_g (z_inb (z_w (x3 + 3)) 18000) (f1023_158 x1 x2 0 (sI (sI (sI h 1064 16 (hI h 1073 (Int.toNat (z_w (x3 + 1))))) 1064 17 (hI (sI h 1064 16 (hI h 1073 (Int.toNat (z_w (x3 + 1))))) 1073 (Int.toNat (z_w (x3 + 2))))) 1064 18 (hI (sI (sI h 1064 16 (hI h 1073 (Int.toNat (z_w (x3 + 1))))) 1064 17 (hI (sI h 1064 16 (hI h 1073 (Int.toNat (z_w (x3 + 1))))) 1073 (Int.toNat (z_w (x3 + 2))))) 1073 (Int.toNat (z_w (x3 + 3)))))))) := sorry
theorem e1023_158 (x1 x2 x4 : Int) (h : z_M) : f1023_158 x1 x2 x4 h = z_if (144 ≤ x4) (f1023_180 x1 x2 h) (z_g (z_inb x4 144) (f1023_158 x1 x2 (z_w (x4 + 1)) (sI h 1075 (Int.toNat x4) 0))) := sorry
theorem e1023_180 (x1 x2 : Int) (h : z_M) : f1023_180 x1 x2 h = z_g (z_inb x1 12) (z_kv (f876_0 (sI (sI (sI (sI h 1064 29 x1) 1064 30 0) 1064 27 32) 1064 28 (z_w (8 * (hI (sI (sI (sI h 1064 29 x1) 1064 30 0) 1064 27 32) 1072 (Int.toNat x1)))))) (fun h1 => f1023_213 x2 h1) z_ex) := sorry
theorem e1023_213 (x2 : Int) (h : z_M) : f1023_213 x2 h = z_if (¬ (hI h 1064 30) = 0) (f1023_262 x2 h) (z_if ((hI h 1064 28) ≤ (hI h 1064 27)) (f1023_262 x2 h) (z_g (¬ (8 : Int) = 0) (z_if ((z_rem (hI h 1064 27) 8) ≤ 0) (f1023_262 x2 h) (z_ki (f875_0 h) (fun v1 h1 => z_if (¬ v1 = 1) (f1023_255 x2 h1) (f1023_256 x2 13 h1)) z_ex)))) := sorry
theorem e1023_255 (x2 : Int) (h : z_M) : f1023_255 x2 h = f1023_256 x2 0 h := sorry
theorem e1023_256 (x2 s1 : Int) (h : z_M) : f1023_256 x2 s1 h = f1023_213 x2 (sI h 1064 30 s1) := sorry
theorem e1023_262 (x2 : Int) (h : z_M) : f1023_262 x2 h = z_if (¬ (hI h 1064 30) = 0) (f1023_286 x2 h) (z_if ((hI h 1064 28) ≤ (hI h 1064 27)) (f1023_286 x2 h) (f1023_290 x2 13 h)) := sorry
theorem e1023_286 (x2 : Int) (h : z_M) : f1023_286 x2 h = f1023_290 x2 (hI h 1064 30) h := sorry
theorem e1023_290 (x2 s1 : Int) (h : z_M) : f1023_290 x2 s1 h = f1023_307 x2 (z_w ((hI (sI h 1064 30 s1) 1064 16) * (hI (sI h 1064 30 s1) 1064 16))) 0 (sI h 1064 30 s1) := sorry
theorem e1023_307 (x2 x4 x5 : Int) (h : z_M) : f1023_307 x2 x4 x5 h = z_if (144 ≤ x5) (f1023_353 x2 x4 h) (z_if (¬ (hI h 1064 30) = 0) (f1023_340 x2 x4 x5 h) (z_g (z_inb x5 144) (z_if ((hI h 1075 (Int.toNat x5)) ≤ x4) (f1023_340 x2 x4 x5 h) (f1023_344 x2 x4 x5 14 h)))) := sorry
theorem e1023_340 (x2 x4 x5 : Int) (h : z_M) : f1023_340 x2 x4 x5 h = f1023_344 x2 x4 x5 (hI h 1064 30) h := sorry
theorem e1023_344 (x2 x4 x5 s1 : Int) (h : z_M) : f1023_344 x2 x4 x5 s1 h = f1023_307 x2 x4 (z_w (x5 + 1)) (sI h 1064 30 s1) := sorry
theorem e1023_353 (x2 x4 : Int) (h : z_M) : f1023_353 x2 x4 h = z_if ((hI h 1064 30) ≤ 0) (f1023_371 x2 x4 h) (z_ki (f985_0 (hI h 1064 30) 4 0 h) (fun v1 h1 => z_ri v1 h1) z_ex) := sorry
theorem e1023_371 (x2 x4 : Int) (h : z_M) : f1023_371 x2 x4 h = z_kv (f950_0 x2 (hI h 1064 17) (hI h 1064 18) 1 h) (fun h1 => f1023_388 x2 x4 0 h1) z_ex := sorry
theorem e1023_388 (x2 x4 x5 : Int) (h : z_M) : f1023_388 x2 x4 x5 h = z_if (144 ≤ x5) (f1023_455 h) (z_g (¬ (12 : Int) = 0) (z_g (¬ (12 : Int) = 0) (z_ki (f889_0 x2 (z_rem x5 12) (z_div x5 12) h) (fun v1 h1 => z_if (v1 = 0) (f1023_447 x2 x4 x5 (z_w ((z_w (144 * x2)) + x5)) h1) (z_g (z_inb x5 144) (z_g (¬ x4 = 0) (f1023_448 x2 x4 x5 (z_w ((z_w (144 * x2)) + x5)) (z_w (255 - (z_div (z_w (255 * (hI h1 1075 (Int.toNat x5)))) x4))) h1)))) z_ex))) := sorry
theorem e1023_447 (x2 x4 x5 s1 : Int) (h : z_M) : f1023_447 x2 x4 x5 s1 h = f1023_448 x2 x4 x5 s1 0 h := sorry
theorem e1023_448 (x2 x4 x5 s1 s2 : Int) (h : z_M) : f1023_448 x2 x4 x5 s1 s2 h = z_g (z_inb s1 1152) (f1023_388 x2 x4 (z_w (x5 + 1)) (sI h 1067 (Int.toNat s1) s2)) := sorry
theorem e1023_455 (h : z_M) : f1023_455 h = z_ki (f985_0 0 0 (z_w ((hI h 1064 17) * (hI h 1064 18))) h) (fun v1 h1 => z_ri v1 h1) z_ex := sorry
theorem e1056_0 (r0 : Nat) (x1 x2 x3 : Int) (h : z_M) : f1056_0 r0 x1 x2 x3 h = z_g (z_isk r0 h [52, 55]) (z_g (z_isr (hP h r0 7) h x1) (z_g (z_isk (hP h (hP h r0 7) (Int.toNat x1)) h [53]) (z_ki (f1070_0 (hP h (hP h r0 7) (Int.toNat x1)) x2 x3 h) (fun v1 h1 => z_g (z_isk r0 h1 [52, 55]) (z_g (z_isk (hP h1 r0 0) h1 [40]) (z_g (z_isr (hP h1 (hP h1 r0 0) 0) h1 x1) (z_if (hK h1 r0 = 52) (z_ki (f1062_0 r0 (hP h1 (hP h1 (hP h1 r0 0) 0) (Int.toNat x1)) (z_w ((z_w (12 * x3)) + x2)) v1 (hP h (hP h r0 7) (Int.toNat x1)) h1) (fun v4 h4 => z_g (z_isk r0 h4 [52, 55]) (z_g (z_isk r0 h4 [52, 55]) (z_if ((z_w (-(hI h4 r0 1))) ≤ (z_w (v1 + (z_w ((hI h4 r0 2) * v4))))) (f1056_78 r0 x1 x2 x3 (hP h (hP h r0 7) (Int.toNat x1)) v4 (z_w (v1 + (z_w ((hI h4 r0 2) * v4)))) (z_w (v1 + (z_w ((hI h4 r0 2) * v4)))) h4) (z_g (z_isk r0 h4 [52, 55]) (z_g (z_isk r0 h4 [52, 55]) (f1056_109 r0 x1 x2 x3 (hP h (hP h r0 7) (Int.toNat x1)) v4 (z_w (v1 + (z_w ((hI h4 r0 2) * v4)))) (z_w ((hI h4 r0 2) * (hI h4 r0 3))) h4)))))) z_ex) (z_if (hK h1 r0 = 55) (z_ki (f1077_0 r0 (hP h1 (hP h1 (hP h1 r0 0) 0) (Int.toNat x1)) (z_w ((z_w (12 * x3)) + x2)) v1 (hP h (hP h r0 7) (Int.toNat x1)) h1) (fun v2 h2 => z_g (z_isk r0 h2 [52, 55]) (z_g (z_isk r0 h2 [52, 55]) (z_if ((z_w (-(hI h2 r0 1))) ≤ (z_w (v1 + (z_w ((hI h2 r0 2) * v2))))) (f1056_78 r0 x1 x2 x3 (hP h (hP h r0 7) (Int.toNat x1)) v2 (z_w (v1 + (z_w ((hI h2 r0 2) * v2)))) (z_w (v1 + (z_w ((hI h2 r0 2) * v2)))) h2) (z_g (z_isk r0 h2 [52, 55]) (z_g (z_isk r0 h2 [52, 55]) (f1056_109 r0 x1 x2 x3 (hP h (hP h r0 7) (Int.toNat x1)) v2 (z_w (v1 + (z_w ((hI h2 r0 2) * v2)))) (z_w ((hI h2 r0 2) * (hI h2 r0 3))) h2)))))) z_ex) (none)))))) z_ex))) := sorry
theorem e1056_78 (r0 : Nat) (x1 x2 x3 : Int) (r4 : Nat) (x6 x7 s0 : Int) (h : z_M) : f1056_78 r0 x1 x2 x3 r4 x6 x7 s0 h = z_g (z_isk r0 h [52, 55]) (z_g (z_isk (hP h r0 0) h [40]) (z_ki (f548_0 (hP h r0 0) h) (fun v1 h1 => z_g (z_isk r0 h1 [52, 55]) (z_if (x7 ≤ (z_w (v1 + (hI h1 r0 1)))) (f1056_108 r0 x1 x2 x3 r4 x6 s0 h1) (z_g (z_isk r0 h1 [52, 55]) (z_g (z_isk r0 h1 [52, 55]) (f1056_109 r0 x1 x2 x3 r4 x6 s0 (z_w ((z_w (-(hI h1 r0 2))) * (hI h1 r0 3))) h1))))) z_ex)) := sorry
theorem e1056_108 (r0 : Nat) (x1 x2 x3 : Int) (r4 : Nat) (x6 s0 : Int) (h : z_M) : f1056_108 r0 x1 x2 x3 r4 x6 s0 h = f1056_109 r0 x1 x2 x3 r4 x6 s0 0 h := sorry
theorem e1056_109 (r0 : Nat) (x1 x2 x3 : Int) (r4 : Nat) (x6 s0 s1 : Int) (h : z_M) : f1056_109 r0 x1 x2 x3 r4 x6 s0 s1 h = z_g (z_isk r4 h [53]) (z_g (z_isk r0 h [52, 55]) (z_g (z_isk (hP h r0 0) h [40]) (z_ki (f548_0 (hP h r0 0) h) (fun v1 h1 => z_ki (f512_0 (z_w (s0 + s1)) 0 v1 h1) (fun v2 h2 => z_g (z_isa (hP h r4 0) h2 1000 (z_w ((z_w (12 * x3)) + x2)) ∧ z_new (hP h r4 0)) (z_g (z_isk r0 (sI h2 (hP h r4 0) (Int.toNat (z_w ((z_w (12 * x3)) + x2))) v2) [52, 55]) (z_g (z_isk (hP (sI h2 (hP h r4 0) (Int.toNat (z_w ((z_w (12 * x3)) + x2))) v2) r0 0) (sI h2 (hP h r4 0) (Int.toNat (z_w ((z_w (12 * x3)) + x2))) v2) [40]) (z_g (z_isr (hP (sI h2 (hP h r4 0) (Int.toNat (z_w ((z_w (12 * x3)) + x2))) v2) (hP (sI h2 (hP h r4 0) (Int.toNat (z_w ((z_w (12 * x3)) + x2))) v2) r0 0) 0) (sI h2 (hP h r4 0) (Int.toNat (z_w ((z_w (12 * x3)) + x2))) v2) x1) (z_g (z_isk r4 (sI h2 (hP h r4 0) (Int.toNat (z_w ((z_w (12 * x3)) + x2))) v2) [53]) (z_g (z_isa (hP (sI h2 (hP h r4 0) (Int.toNat (z_w ((z_w (12 * x3)) + x2))) v2) r4 0) (sI h2 (hP h r4 0) (Int.toNat (z_w ((z_w (12 * x3)) + x2))) v2) 1000 (z_w ((z_w (12 * x3)) + x2))) (z_if (hK (sI h2 (hP h r4 0) (Int.toNat (z_w ((z_w (12 * x3)) + x2))) v2) r0 = 52) (z_kv (f1059_0 r0 (hP (sI h2 (hP h r4 0) (Int.toNat (z_w ((z_w (12 * x3)) + x2))) v2) (hP (sI h2 (hP h r4 0) (Int.toNat (z_w ((z_w (12 * x3)) + x2))) v2) (hP (sI h2 (hP h r4 0) (Int.toNat (z_w ((z_w (12 * x3)) + x2))) v2) r0 0) 0) (Int.toNat x1)) (z_w ((z_w (12 * x3)) + x2)) (hI (sI h2 (hP h r4 0) (Int.toNat (z_w ((z_w (12 * x3)) + x2))) v2) (hP (sI h2 (hP h r4 0) (Int.toNat (z_w ((z_w (12 * x3)) + x2))) v2) r4 0) (Int.toNat (z_w ((z_w (12 * x3)) + x2)))) (sI h2 (hP h r4 0) (Int.toNat (z_w ((z_w (12 * x3)) + x2))) v2)) (fun h7 => z_g (z_isk r0 h7 [52, 55]) (z_g (z_isk (hP h7 r0 0) h7 [40]) (z_g (z_isk r4 h7 [53]) (z_kv (f1072_0 r4 x6 (hI h7 (hP h7 r0 0) 7) h7) (fun h8 => z_rv h8) z_ex)))) z_ex) (z_if (hK (sI h2 (hP h r4 0) (Int.toNat (z_w ((z_w (12 * x3)) + x2))) v2) r0 = 55) (z_kv (f1078_0 r0 (hP (sI h2 (hP h r4 0) (Int.toNat (z_w ((z_w (12 * x3)) + x2))) v2) (hP (sI h2 (hP h r4 0) (Int.toNat (z_w ((z_w (12 * x3)) + x2))) v2) (hP (sI h2 (hP h r4 0) (Int.toNat (z_w ((z_w (12 * x3)) + x2))) v2) r0 0) 0) (Int.toNat x1)) (z_w ((z_w (12 * x3)) + x2)) (hI (sI h2 (hP h r4 0) (Int.toNat (z_w ((z_w (12 * x3)) + x2))) v2) (hP (sI h2 (hP h r4 0) (Int.toNat (z_w ((z_w (12 * x3)) + x2))) v2) r4 0) (Int.toNat (z_w ((z_w (12 * x3)) + x2)))) (sI h2 (hP h r4 0) (Int.toNat (z_w ((z_w (12 * x3)) + x2))) v2)) (fun h3 => z_g (z_isk r0 h3 [52, 55]) (z_g (z_isk (hP h3 r0 0) h3 [40]) (z_g (z_isk r4 h3 [53]) (z_kv (f1072_0 r4 x6 (hI h3 (hP h3 r0 0) 7) h3) (fun h4 => z_rv h4) z_ex)))) z_ex) (none))))))))) z_ex) z_ex))) := sorry
theorem e1057_0 (r0 : Nat) (h : z_M) : f1057_0 r0 h = f1057_4 r0 0 0 h := sorry
theorem e1057_4 (r0 : Nat) (x1 x2 : Int) (h : z_M) : f1057_4 r0 x1 x2 h = z_g (z_isk r0 h [52, 55]) (z_g (z_isk (hP h r0 0) h [40]) (z_if ((hI h (hP h r0 0) 3) ≤ x2) (f1057_123 r0 h) (z_g (z_isk r0 h [52, 55]) (z_g (z_isk (hP h r0 0) h [40]) (z_if ((hI h (hP h r0 0) 9) ≤ 0) (f1057_45 r0 x1 x2 h) (z_if (x2 ≤ 0) (f1057_45 r0 x1 x2 h) (z_g (z_isk r0 h [52, 55]) (z_g (z_isk (hP h r0 0) h [40]) (z_g (¬ (hI h (hP h r0 0) 9) = 0) (z_if (¬ (z_rem x2 (hI h (hP h r0 0) 9)) = 0) (f1057_45 r0 x1 x2 h) (f1057_46 r0 x1 x2 1 h))))))))))) := sorry
theorem e1057_45 (r0 : Nat) (x1 x2 : Int) (h : z_M) : f1057_45 r0 x1 x2 h = f1057_46 r0 x1 x2 0 h := sorry
theorem e1057_46 (r0 : Nat) (x1 x2 s0 : Int) (h : z_M) : f1057_46 r0 x1 x2 s0 h = z_if (s0 = 0) (f1057_63 r0 x1 x2 s0 h) (z_if (hK h r0 = 52) (z_kv (f1061_0 r0 h) (fun h7 => z_if (hK h7 r0 = 52) (z_kv (f1065_0 r0 x1 h7) (fun h10 => f1057_63 r0 (z_w (x1 + 1)) x2 s0 h10) z_ex) (z_if (hK h7 r0 = 55) (z_kv (f1080_0 r0 x1 h7) (fun h8 => f1057_63 r0 (z_w (x1 + 1)) x2 s0 h8) z_ex) (none))) z_ex) (z_if (hK h r0 = 55) (z_kv (f1076_0 r0 h) (fun h1 => z_if (hK h1 r0 = 52) (z_kv (f1065_0 r0 x1 h1) (fun h4 => f1057_63 r0 (z_w (x1 + 1)) x2 s0 h4) z_ex) (z_if (hK h1 r0 = 55) (z_kv (f1080_0 r0 x1 h1) (fun h2 => f1057_63 r0 (z_w (x1 + 1)) x2 s0 h2) z_ex) (none))) z_ex) (none))) := sorry
theorem e1057_63 (r0 : Nat) (x1 x2 x3 : Int) (h : z_M) : f1057_63 r0 x1 x2 x3 h = z_g (z_isk r0 h [52, 55]) (f1057_69 r0 x1 x2 x3 (hI h r0 4) h) := sorry
theorem e1057_69 (r0 : Nat) (x1 x2 x3 x4 : Int) (h : z_M) : f1057_69 r0 x1 x2 x3 x4 h = z_g (z_isk r0 h [52, 55]) (z_g (z_isk r0 h [52, 55]) (z_if ((z_w ((hI h r0 4) + (hI h r0 5))) ≤ x4) (f1057_112 r0 x1 x2 h) (z_if (¬ x3 = 0) (f1057_91 r0 x1 x2 x3 x4 h) (z_if (¬ x2 = 0) (f1057_112 r0 x1 x2 h) (f1057_91 r0 x1 x2 x3 x4 h))))) := sorry
theorem e1057_91 (r0 : Nat) (x1 x2 x3 x4 : Int) (h : z_M) : f1057_91 r0 x1 x2 x3 x4 h = z_g (z_isk r0 h [52, 55]) (z_g (z_isr (hP h r0 7) h x4) (z_g (z_isk r0 h [52, 55]) (z_g (z_isk (hP h (hP h r0 7) (Int.toNat x4)) h [53]) (z_kv (f1068_0 (hP h (hP h r0 7) (Int.toNat x4)) x2 (hP h r0 0) h) (fun h1 => f1057_69 r0 x1 x2 x3 (z_w (x4 + 1)) h1) z_ex)))) := sorry
theorem e1057_112 (r0 : Nat) (x1 x2 : Int) (h : z_M) : f1057_112 r0 x1 x2 h = z_g (z_isk r0 h [52, 55]) (z_kv (f1058_0 r0 x2 h) (fun h1 => f1057_4 r0 x1 (z_w (x2 + 1)) h1) z_ex) := sorry
theorem e1057_123 (r0 : Nat) (h : z_M) : f1057_123 r0 h = z_if (hK h r0 = 52) (z_kv (f1061_0 r0 h) (fun h3 => z_rv h3) z_ex) (z_if (hK h r0 = 55) (z_kv (f1076_0 r0 h) (fun h1 => z_rv h1) z_ex) (none)) := sorry
theorem e1058_0 (r0 : Nat) (x1 : Int) (h : z_M) : f1058_0 r0 x1 h = z_g (z_isk r0 h [52, 55]) (z_if (¬ (hI h r0 6) = 2) (f1058_55 r0 x1 h) (f1058_10 r0 x1 0 h)) := sorry
theorem e1058_10 (r0 : Nat) (x1 x2 : Int) (h : z_M) : f1058_10 r0 x1 x2 h = z_g (z_isk r0 h [52, 55]) (z_g (z_isk (hP h r0 0) h [40]) (z_g (z_isk r0 h [52, 55]) (z_if ((z_w ((hI h (hP h r0 0) 2) * (hI h r0 5))) ≤ x2) (f1058_54 h) (z_g (z_isk r0 h [52, 55]) (z_g (z_isk r0 h [52, 55]) (z_g (¬ (hI h r0 5) = 0) (z_g (z_isk r0 h [52, 55]) (z_g (¬ (hI h r0 5) = 0) (z_g (z_isk r0 h [52, 55]) (z_kv (f1056_0 r0 (z_w ((hI h r0 4) + (z_rem x2 (hI h r0 5)))) (z_div x2 (hI h r0 5)) x1 h) (fun h1 => f1058_10 r0 x1 (z_w (x2 + 1)) h1) z_ex)))))))))) := sorry
theorem e1058_54 (h : z_M) : f1058_54 h = z_rv h := sorry
theorem e1058_55 (r0 : Nat) (x1 : Int) (h : z_M) : f1058_55 r0 x1 h = z_g (z_isk r0 h [52, 55]) (f1058_60 r0 x1 (hI h r0 4) h) := sorry
theorem e1058_60 (r0 : Nat) (x1 x2 : Int) (h : z_M) : f1058_60 r0 x1 x2 h = z_g (z_isk r0 h [52, 55]) (z_g (z_isk r0 h [52, 55]) (z_if ((z_w ((hI h r0 4) + (hI h r0 5))) ≤ x2) (f1058_105 h) (f1058_75 r0 x1 x2 0 h))) := sorry
theorem e1058_75 (r0 : Nat) (x1 x2 x3 : Int) (h : z_M) : f1058_75 r0 x1 x2 x3 h = z_g (z_isk r0 h [52, 55]) (z_g (z_isk (hP h r0 0) h [40]) (z_if ((hI h (hP h r0 0) 2) ≤ x3) (f1058_99 r0 x1 x2 h) (z_g (z_isk r0 h [52, 55]) (z_kv (f1056_0 r0 x2 x3 x1 h) (fun h1 => f1058_75 r0 x1 x2 (z_w (x3 + 1)) h1) z_ex)))) := sorry
theorem e1058_99 (r0 : Nat) (x1 x2 : Int) (h : z_M) : f1058_99 r0 x1 x2 h = f1058_60 r0 x1 (z_w (x2 + 1)) h := sorry
theorem e1058_105 (h : z_M) : f1058_105 h = z_rv h := sorry
theorem e1060_0 (r0 r1 r2 : Nat) (x3 x4 x5 x6 : Int) (h : z_M) : f1060_0 r0 r1 r2 x3 x4 x5 x6 h = z_g (z_isk r0 h [52, 55]) (z_g (0 < r0 ∧ z_new r0) (z_g (z_sz 4) (z_g (z_isk r0 (sN (sP h r0 8 r1) 1110 (Int.toNat 4)) [52, 55]) (z_g (z_isk r0 (sP (sN (sP h r0 8 r1) 1110 (Int.toNat 4)) r0 7 (hZ (sP h r0 8 r1) + 1)) [52, 55]) (z_g (z_isk r0 (sP (sP (sN (sP h r0 8 r1) 1110 (Int.toNat 4)) r0 7 (hZ (sP h r0 8 r1) + 1)) r0 0 r2) [52, 55]) (z_g (z_isk r0 (sI (sP (sP (sN (sP h r0 8 r1) 1110 (Int.toNat 4)) r0 7 (hZ (sP h r0 8 r1) + 1)) r0 0 r2) r0 1 x3) [52, 55]) (f1060_33 r0 r2 x3 x4 x5 x6 (sI (sI (sP (sP (sN (sP h r0 8 r1) 1110 (Int.toNat 4)) r0 7 (hZ (sP h r0 8 r1) + 1)) r0 0 r2) r0 1 x3) r0 4 x4)))))))) := sorry
theorem e1060_33 (r0 r2 : Nat) (x3 x4 x5 x6 : Int) (h : z_M) : f1060_33 r0 r2 x3 x4 x5 x6 h = z_g (z_isk r0 h [52, 55]) (z_g (z_isk r0 (sI h r0 5 x5) [52, 55]) (z_g (z_isk r0 (sI (sI h r0 5 x5) r0 6 x6) [52, 55]) (z_g (z_isk r2 (sI (sI (sI h r0 5 x5) r0 6 x6) r0 2 (z_w ((z_w (2 * x3)) + 1))) [40]) (z_ki (f548_0 r2 (sI (sI (sI h r0 5 x5) r0 6 x6) r0 2 (z_w ((z_w (2 * x3)) + 1)))) (fun v1 h1 => z_g (z_isk r0 h1 [52, 55]) (z_g (¬ (hI h1 r0 2) = 0) (z_g (z_isk r0 h1 [52, 55]) (f1060_77 r0 x4 x5 x4 (sI h1 r0 3 (z_w ((z_div (z_w (v1 + (z_w (2 * x3)))) (hI h1 r0 2)) + 1))))))) z_ex)))) := sorry
theorem e1060_77 (r0 : Nat) (x4 x5 x7 : Int) (h : z_M) : f1060_77 r0 x4 x5 x7 h = z_if ((z_w (x4 + x5)) ≤ x7) (f1060_107 h) (z_g (z_isk r0 h [52, 55]) (z_g (z_isk (hZ h + 1) (sN h 53 4) [53]) (z_kv (f1071_0 (hZ h + 1) (sN h 53 4)) (fun h1 => z_g (z_isr (hP h r0 7) h1 x7 ∧ z_new (hP h r0 7) ∧ ((hZ h + 1) = 0 ∨ z_isk (hZ h + 1) h1 (z_elc (hK h1 (hP h r0 7))))) (f1060_77 r0 x4 x5 (z_w (x7 + 1)) (sP h1 (hP h r0 7) (Int.toNat x7) (hZ h + 1)))) z_ex))) := sorry
theorem e1060_107 (h : z_M) : f1060_107 h = z_rv h := sorry
theorem e1061_0 (r0 : Nat) (h : z_M) : f1061_0 r0 h = z_g (z_isk r0 h [52]) (z_if (¬ (hI h r0 11) = 0) (f1061_16 r0 h) (z_g (z_isk r0 h [52]) (z_if (¬ (hI h r0 10) = 7) (f1061_20 r0 h) (f1061_16 r0 h)))) := sorry
theorem e1061_16 (r0 : Nat) (h : z_M) : f1061_16 r0 h = z_g (z_isk r0 h [52]) (z_kv (f1063_0 r0 h) (fun h1 => f1061_20 r0 h1) z_ex) := sorry
theorem e1061_20 (r0 : Nat) (h : z_M) : f1061_20 r0 h = z_g (z_isk r0 h [52]) (z_if (¬ (hI h r0 10) = 7) (f1061_33 h) (z_g (z_isk r0 h [52]) (z_kv (f1063_0 r0 h) (fun h1 => f1061_33 h1) z_ex))) := sorry
theorem e1061_33 (h : z_M) : f1061_33 h = z_rv h := sorry
theorem e1062_0 (r0 r1 : Nat) (x2 x3 : Int) (r4 : Nat) (h : z_M) : f1062_0 r0 r1 x2 x3 r4 h = z_g (z_isk r1 h [41]) (z_g (z_isa (hP h r1 0) h 1000 x2) (z_if ((z_w ((hI h (hP h r1 0) (Int.toNat x2)) - x3)) ≤ 0) (f1062_30 r0 r4 (z_w ((hI h (hP h r1 0) (Int.toNat x2)) - x3)) h) (z_g (z_isk r0 h [52]) (z_g (z_isk r0 h [52]) (z_g (¬ (hI h r0 2) = 0) (f1062_43 r0 r4 (z_div (z_w ((z_w ((hI h (hP h r1 0) (Int.toNat x2)) - x3)) + (hI h r0 1))) (hI h r0 2)) h)))))) := sorry
theorem e1062_30 (r0 r4 : Nat) (x5 : Int) (h : z_M) : f1062_30 r0 r4 x5 h = z_g (z_isk r0 h [52]) (z_g (z_isk r0 h [52]) (z_g (¬ (hI h r0 2) = 0) (f1062_43 r0 r4 (z_w (-(z_div (z_w ((hI h r0 1) - x5)) (hI h r0 2)))) h))) := sorry
theorem e1062_43 (r0 r4 : Nat) (s0 : Int) (h : z_M) : f1062_43 r0 r4 s0 h = z_if (0 ≤ s0) (f1062_59 r0 r4 s0 h) (z_g (z_isk r0 h [52]) (f1062_60 r0 r4 s0 (hI h r0 3) h)) := sorry
theorem e1062_59 (r0 r4 : Nat) (s0 : Int) (h : z_M) : f1062_59 r0 r4 s0 h = f1062_60 r0 r4 s0 0 h := sorry
theorem e1062_60 (r0 r4 : Nat) (s0 s1 : Int) (h : z_M) : f1062_60 r0 r4 s0 s1 h = z_g (z_isk r0 h [52]) (z_g (¬ (2 : Int) = 0) (z_if ((z_w (s0 + s1)) < (z_div (z_w ((hI h r0 3) + 1)) 2)) (f1062_85 r0 r4 (z_w (s0 + s1)) h) (z_g (z_isk r0 h [52]) (f1062_86 r0 r4 (z_w (s0 + s1)) (hI h r0 3) h)))) := sorry
theorem e1062_85 (r0 r4 : Nat) (s0 : Int) (h : z_M) : f1062_85 r0 r4 s0 h = f1062_86 r0 r4 s0 0 h := sorry
theorem e1062_86 (r0 r4 : Nat) (s0 s1 : Int) (h : z_M) : f1062_86 r0 r4 s0 s1 h = z_if (0 ≤ (z_w (s0 - s1))) (f1062_104 r0 r4 (z_w (s0 - s1)) h) (f1062_108 r0 r4 (z_w (s0 - s1)) (z_w ((z_w ((-2) * (z_w (s0 - s1)))) - 1)) h) := sorry
theorem e1062_104 (r0 r4 : Nat) (x6 : Int) (h : z_M) : f1062_104 r0 r4 x6 h = f1062_108 r0 r4 x6 (z_w (2 * x6)) h := sorry
theorem e1062_108 (r0 r4 : Nat) (x6 s0 : Int) (h : z_M) : f1062_108 r0 r4 x6 s0 h = z_g (z_isk r4 h [53]) (z_ki (f1069_0 r4 h) (fun v1 h1 => z_ki (f2_0 20 (z_shr s0 v1) h1) (fun v2 h2 => z_g (z_isk r0 h2 [52]) (z_kv (f1066_0 r0 0 v2 h2) (fun h3 => z_g (z_isk r0 h3 [52]) (z_kv (f1067_0 r0 1 h3) (fun h4 => z_if (¬ v2 = 20) (f1062_156 x6 v1 r0 s0 h4) (f1062_158 x6 r0 s0 9 h4)) z_ex)) z_ex)) z_ex) z_ex) := sorry
theorem e1062_156 (x6 x8 : Int) (q0 : Nat) (s1 : Int) (h : z_M) : f1062_156 x6 x8 q0 s1 h = f1062_158 x6 q0 s1 x8 h := sorry
theorem e1062_158 (x6 : Int) (q0 : Nat) (s1 s2 : Int) (h : z_M) : f1062_158 x6 q0 s1 s2 h = z_g (z_isk q0 h [52]) (z_kv (f1066_0 q0 s1 s2 h) (fun h1 => z_ri x6 h1) z_ex) := sorry
theorem e1063_0 (r0 : Nat) (h : z_M) : f1063_0 r0 h = z_g (z_isk r0 h [52]) (z_g (z_isk r0 h [52]) (z_g (z_isk (hP h r0 12) h [39]) (z_kv (f527_0 (hP h r0 12) (hI h r0 9) h) (fun h1 => z_g (z_isk r0 h1 [52]) (z_if (¬ (hI h1 r0 9) = 255) (f1063_27 r0 r0 h1) (f1063_29 r0 r0 7 h1))) z_ex))) := sorry
theorem e1063_27 (r0 q0 : Nat) (h : z_M) : f1063_27 r0 q0 h = f1063_29 r0 q0 8 h := sorry
theorem e1063_29 (r0 q0 : Nat) (s1 : Int) (h : z_M) : f1063_29 r0 q0 s1 h = z_g (z_isk q0 h [52]) (z_g (z_isk r0 (sI h q0 10 s1) [52]) (z_g (z_isk r0 (sI (sI h q0 10 s1) r0 9 0) [52] ∧ z_01 0) (z_rv (sI (sI (sI h q0 10 s1) r0 9 0) r0 11 0)))) := sorry
theorem e1064_0 (r0 r1 r2 : Nat) (x3 x4 x5 x6 : Int) (h : z_M) : f1064_0 r0 r1 r2 x3 x4 x5 x6 h = z_g (z_isk r0 h [52]) (z_g (z_isk r0 (sP h r0 12 r1) [52, 55]) (z_kv (f1060_0 r0 r1 r2 x3 x4 x5 x6 (sP h r0 12 r1)) (fun h1 => z_g (z_isk r0 h1 [52]) (z_rv (sI h1 r0 10 8))) z_ex)) := sorry
theorem e1065_0 (r0 : Nat) (x1 : Int) (h : z_M) : f1065_0 r0 x1 h = z_g (z_isk r0 h [52]) (z_g (¬ (8 : Int) = 0) (z_g (z_isk (hP h r0 12) h [39]) (z_kv (f525_0 (hP h r0 12) (z_w (208 + (z_rem x1 8))) h) (fun h1 => z_g (z_isk r0 h1 [52]) (z_rv (sI h1 r0 10 8))) z_ex))) := sorry
theorem e1066_0 (r0 : Nat) (x1 x2 : Int) (h : z_M) : f1066_0 r0 x1 x2 h = f1066_4 r0 x1 (z_w (x2 - 1)) h := sorry
theorem e1066_4 (r0 : Nat) (x1 x3 : Int) (h : z_M) : f1066_4 r0 x1 x3 h = z_if (x3 < 0) (f1066_23 h) (z_g (z_isk r0 h [52]) (z_kv (f1067_0 r0 (z_and (z_shr x1 x3) 1) h) (fun h1 => f1066_4 r0 x1 (z_w (x3 + (-1))) h1) z_ex)) := sorry
theorem e1066_23 (h : z_M) : f1066_23 h = z_rv h := sorry
theorem e1067_0 (r0 : Nat) (x1 : Int) (h : z_M) : f1067_0 r0 x1 h = z_g (z_isk r0 h [52]) (z_g (z_isk r0 h [52]) (z_g (z_isk r0 (sI h r0 10 (z_w ((hI h r0 10) - 1))) [52]) (z_g (z_isk r0 (sI h r0 10 (z_w ((hI h r0 10) - 1))) [52]) (z_g (z_isk r0 (sI h r0 10 (z_w ((hI h r0 10) - 1))) [52]) (z_g (z_isk r0 (sI (sI h r0 10 (z_w ((hI h r0 10) - 1))) r0 9 (z_or (hI (sI h r0 10 (z_w ((hI h r0 10) - 1))) r0 9) (z_shl x1 (hI (sI h r0 10 (z_w ((hI h r0 10) - 1))) r0 10)))) [52] ∧ z_01 1) (z_g (z_isk r0 (sI (sI (sI h r0 10 (z_w ((hI h r0 10) - 1))) r0 9 (z_or (hI (sI h r0 10 (z_w ((hI h r0 10) - 1))) r0 9) (z_shl x1 (hI (sI h r0 10 (z_w ((hI h r0 10) - 1))) r0 10)))) r0 11 1) [52]) (z_if (¬ (hI (sI (sI (sI h r0 10 (z_w ((hI h r0 10) - 1))) r0 9 (z_or (hI (sI h r0 10 (z_w ((hI h r0 10) - 1))) r0 9) (z_shl x1 (hI (sI h r0 10 (z_w ((hI h r0 10) - 1))) r0 10)))) r0 11 1) r0 10) = 0) (f1067_41 (sI (sI (sI h r0 10 (z_w ((hI h r0 10) - 1))) r0 9 (z_or (hI (sI h r0 10 (z_w ((hI h r0 10) - 1))) r0 9) (z_shl x1 (hI (sI h r0 10 (z_w ((hI h r0 10) - 1))) r0 10)))) r0 11 1)) (z_g (z_isk r0 (sI (sI (sI h r0 10 (z_w ((hI h r0 10) - 1))) r0 9 (z_or (hI (sI h r0 10 (z_w ((hI h r0 10) - 1))) r0 9) (z_shl x1 (hI (sI h r0 10 (z_w ((hI h r0 10) - 1))) r0 10)))) r0 11 1) [52]) (z_kv (f1063_0 r0 (sI (sI (sI h r0 10 (z_w ((hI h r0 10) - 1))) r0 9 (z_or (hI (sI h r0 10 (z_w ((hI h r0 10) - 1))) r0 9) (z_shl x1 (hI (sI h r0 10 (z_w ((hI h r0 10) - 1))) r0 10)))) r0 11 1)) (fun h1 => f1067_41 h1) z_ex))))))))) := sorry
theorem e1067_41 (h : z_M) : f1067_41 h = z_rv h := sorry
theorem e1068_0 (r0 : Nat) (x1 : Int) (r2 : Nat) (h : z_M) : f1068_0 r0 x1 r2 h = z_g (z_isk r0 h [53]) (z_g (z_isk r2 (sI h r0 1 x1) [40]) (z_g (z_isk r0 (sI h r0 1 x1) [53]) (z_g (z_isk r0 (sI (sI h r0 1 x1) r0 2 (hI (sI h r0 1 x1) r2 8)) [53]) (z_rv (sI (sI (sI h r0 1 x1) r0 2 (hI (sI h r0 1 x1) r2 8)) r0 3 1))))) := sorry
theorem e1069_0 (r0 : Nat) (h : z_M) : f1069_0 r0 h = f1069_2 r0 0 h := sorry
theorem e1069_2 (r0 : Nat) (x1 : Int) (h : z_M) : f1069_2 r0 x1 h = z_if (12 ≤ x1) (f1069_27 x1 h) (z_g (z_isk r0 h [53]) (z_g (z_isk r0 h [53]) (z_if ((hI h r0 2) ≤ (z_shl (hI h r0 3) x1)) (f1069_27 x1 h) (f1069_2 r0 (z_w (x1 + 1)) h)))) := sorry
theorem e1069_27 (x1 : Int) (h : z_M) : f1069_27 x1 h = z_ri x1 h := sorry
theorem e1070_0 (r0 : Nat) (x1 x2 : Int) (h : z_M) : f1070_0 r0 x1 x2 h = z_g (z_isk r0 h [53]) (z_if (x2 ≤ (hI h r0 1)) (f1070_24 r0 x1 x2 h) (z_g (z_isk r0 h [53]) (z_g (z_isa (hP h r0 0) h 1000 (z_w ((z_w (12 * (z_w (x2 - 1)))) + x1))) (f1070_25 r0 x1 x2 (hI h (hP h r0 0) (Int.toNat (z_w ((z_w (12 * (z_w (x2 - 1)))) + x1)))) h)))) := sorry
theorem e1070_24 (r0 : Nat) (x1 x2 : Int) (h : z_M) : f1070_24 r0 x1 x2 h = f1070_25 r0 x1 x2 0 h := sorry
theorem e1070_25 (r0 : Nat) (x1 x2 s0 : Int) (h : z_M) : f1070_25 r0 x1 x2 s0 h = z_if (x1 ≤ 0) (f1070_46 r0 x1 x2 s0 h) (z_g (z_isk r0 h [53]) (z_g (z_isa (hP h r0 0) h 1000 (z_w ((z_w ((z_w (12 * x2)) + x1)) - 1))) (f1070_47 r0 x1 x2 s0 (hI h (hP h r0 0) (Int.toNat (z_w ((z_w ((z_w (12 * x2)) + x1)) - 1)))) h))) := sorry
theorem e1070_46 (r0 : Nat) (x1 x2 x3 : Int) (h : z_M) : f1070_46 r0 x1 x2 x3 h = f1070_47 r0 x1 x2 x3 x3 h := sorry
theorem e1070_47 (r0 : Nat) (x1 x2 x3 s0 : Int) (h : z_M) : f1070_47 r0 x1 x2 x3 s0 h = z_if (x1 ≤ 0) (f1070_83 x3 s0 h) (z_g (z_isk r0 h [53]) (z_if (x2 ≤ (hI h r0 1)) (f1070_79 x3 s0 h) (z_g (z_isk r0 h [53]) (z_g (z_isa (hP h r0 0) h 1000 (z_w ((z_w ((z_w (12 * (z_w (x2 - 1)))) + x1)) - 1))) (f1070_84 x3 s0 (hI h (hP h r0 0) (Int.toNat (z_w ((z_w ((z_w (12 * (z_w (x2 - 1)))) + x1)) - 1)))) h))))) := sorry
theorem e1070_79 (x3 x4 : Int) (h : z_M) : f1070_79 x3 x4 h = f1070_84 x3 x4 0 h := sorry
theorem e1070_83 (x3 x4 : Int) (h : z_M) : f1070_83 x3 x4 h = f1070_84 x3 x4 x3 h := sorry
theorem e1070_84 (x3 x4 s0 : Int) (h : z_M) : f1070_84 x3 x4 s0 h = z_ki (f1_0 x4 x3 h) (fun v1 h1 => z_if (s0 < v1) (f1070_106 x3 x4 s0 h1) (z_ki (f2_0 x4 x3 h1) (fun v2 h2 => f1070_133 v2 h2) z_ex)) z_ex := sorry
theorem e1070_106 (x3 x4 x5 : Int) (h : z_M) : f1070_106 x3 x4 x5 h = z_ki (f2_0 x4 x3 h) (fun v1 h1 => z_if (v1 < x5) (f1070_126 x3 x4 x5 h1) (z_ki (f1_0 x4 x3 h1) (fun v2 h2 => f1070_133 v2 h2) z_ex)) z_ex := sorry
theorem e1070_126 (x3 x4 x5 : Int) (h : z_M) : f1070_126 x3 x4 x5 h = f1070_133 (z_w ((z_w (x4 + x3)) - x5)) h := sorry
theorem e1070_133 (s0 : Int) (h : z_M) : f1070_133 s0 h = z_ri s0 h := sorry
theorem e1071_0 (r0 : Nat) (h : z_M) : f1071_0 r0 h = z_g (0 < r0 ∧ z_new r0) (z_g (z_sz 144) (z_g (z_isk r0 (sN h 1000 (Int.toNat 144)) [53]) (z_rv (sP (sN h 1000 (Int.toNat 144)) r0 0 (hZ h + 1))))) := sorry
theorem e1072_0 (r0 : Nat) (x1 x2 : Int) (h : z_M) : f1072_0 r0 x1 x2 h = z_g (z_isk r0 h [53]) (z_if (¬ (hI h r0 3) = x2) (f1072_28 r0 x1 h) (z_g (z_isk r0 h [53]) (z_g (z_isk r0 h [53]) (z_g (z_isk r0 (sI h r0 2 (z_shr (hI h r0 2) 1)) [53]) (z_g (z_isk r0 (sI h r0 2 (z_shr (hI h r0 2) 1)) [53]) (f1072_28 r0 x1 (sI (sI h r0 2 (z_shr (hI h r0 2) 1)) r0 3 (z_shr (hI (sI h r0 2 (z_shr (hI h r0 2) 1)) r0 3) 1)))))))) := sorry
theorem e1072_28 (r0 : Nat) (x1 : Int) (h : z_M) : f1072_28 r0 x1 h = z_g (z_isk r0 h [53]) (z_ki (f0_0 x1 h) (fun v1 h1 => z_g (z_isk r0 h1 [53]) (z_g (z_isk r0 (sI h1 r0 2 (z_w ((hI h r0 2) + v1))) [53]) (z_g (z_isk r0 (sI h1 r0 2 (z_w ((hI h r0 2) + v1))) [53]) (z_rv (sI (sI h1 r0 2 (z_w ((hI h r0 2) + v1))) r0 3 (z_w ((hI (sI h1 r0 2 (z_w ((hI h r0 2) + v1))) r0 3) + 1))))))) z_ex) := sorry
end
section
set_option maxRecDepth 100000
set_option linter.unusedVariables false
set_option maxHeartbeats 200000
/-! PLAIN 1: truths as numbers, compares, frames -/
noncomputable def z_bi (p : Prop) : Int := match Classical.propDecidable p with
  | .isTrue _ => 1
  | .isFalse _ => 0
theorem bi_t {p : Prop} (h : p) : z_bi p = 1 := sorry
theorem bi_f {p : Prop} (h : ¬ p) : z_bi p = 0 := sorry
theorem bi_0 {p : Prop} : z_bi p = 0 ↔ ¬ p := sorry
theorem bi_01 (p : Prop) : z_01 (z_bi p) := sorry
theorem bi_cg {p q : Prop} (h : p ↔ q) : z_bi p = z_bi q := sorry
theorem if_bi {p : Prop} {x y : z_Z} : z_if (z_bi p = 0) x y = z_if p y x := sorry
theorem if_nb {p : Prop} {x y : z_Z} : z_if (¬ z_bi p = 0) x y = z_if p x y := sorry
theorem gb_b {p : Prop} {x : z_Z} : z_g (z_01 (z_bi p)) x = x := sorry
theorem gb_0 {x : z_Z} : z_g (z_01 0) x = x := sorry
theorem gb_1 {x : z_Z} : z_g (z_01 1) x = x := sorry
theorem lc_lt {x y : Int} : z_lcmp x y < 0 ↔ x < y := sorry
theorem lc_gt {x y : Int} : 0 < z_lcmp x y ↔ y < x := sorry
theorem lc_eq {x y : Int} : z_lcmp x y = 0 ↔ x = y := sorry
/-- a choice whose both ways answer the truth of p -/
theorem if_bb {p q : Prop} {h : z_M} : z_if p (z_ri 0 h) (z_ri (z_bi q) h) = z_ri (z_bi (¬ p ∧ q)) h := sorry
theorem if_b1 {p : Prop} {h : z_M} : z_if p (z_ri 0 h) (z_ri 1 h) = z_ri (z_bi (¬ p)) h := sorry
/-- h' is h but for the cells in W and new ones: at most z of them, with s slots -/
def z_fr (W : Nat → Prop) (z s : Nat) (h h' : z_M) : Prop := (∀ a, (a ≤ hZ h ∨ 4294967296 ≤ a) → ¬ W a → z_sme a h h') ∧ (hX h' = hX h ∧ hG h' = hG h ∧ hW h' = hW h) ∧ hZ h ≤ hZ h' ∧ hZ h' ≤ hZ h + z ∧ hS h' ≤ hS h + s
theorem fr_rfl {W : Nat → Prop} {z s : Nat} {h : z_M} : z_fr W z s h h := sorry
theorem fr_tr {W : Nat → Prop} {z z' s s' : Nat} {h h1 h2 : z_M} (p : z_fr W z s h h1) (q : z_fr W z' s' h1 h2) : z_fr W (z + z') (s + s') h h2 := sorry
theorem fr_le {W V : Nat → Prop} {z z' s s' : Nat} {h h' : z_M} (p : z_fr W z s h h') (w : ∀ a, W a → V a) (hz : z ≤ z') (hs : s ≤ s') : z_fr V z' s' h h' := sorry
theorem fr_sI {W : Nat → Prop} {b i : Nat} {v : Int} {h : z_M} (hb : W b) : z_fr W 0 0 h (sI h b i v) := sorry
theorem fr_sL {W : Nat → Prop} {b i : Nat} {v : Int} {h : z_M} (hb : W b) : z_fr W 0 0 h (sL h b i v) := sorry
theorem fr_sP {W : Nat → Prop} {b i : Nat} {v : Nat} {h : z_M} (hb : W b) : z_fr W 0 0 h (sP h b i v) := sorry
theorem fr_sN {W : Nat → Prop} {k n : Nat} {h : z_M} (hz : hZ h < 4294967295) : z_fr W 1 n h (sN h k n) := sorry
/-! loops: from where the invariant I holds, on till D -/
theorem z_lpm {σ : Type} {F : σ → z_M → z_Z} (μ : σ → Nat) (I D : σ → z_M → Prop) (step : ∀ s h, I s h → ¬ D s h → ∃ s1 h1, F s h = F s1 h1 ∧ I s1 h1 ∧ μ s1 < μ s) : ∀ s h, I s h → ∃ s' h', F s h = F s' h' ∧ I s' h' ∧ D s' h' := sorry
/-- an up-counting loop over x, till hi -/
theorem z_lpu {F : Int → z_M → z_Z} (hi : Int) (I : Int → z_M → Prop) (step : ∀ x h, I x h → x < hi → ∃ h1, F x h = F (x + 1) h1 ∧ I (x + 1) h1) : ∀ x h, x ≤ hi → I x h → ∃ h', F x h = F hi h' ∧ I hi h' := sorry
end
section
set_option maxRecDepth 100000
set_option linter.unusedVariables false
set_option maxHeartbeats 200000
/-! PLAIN: bits -/
theorem i32_nat {x : Int} (a : 0 ≤ x) (b : x < 2147483648) : (Int32.ofInt x).toBitVec.toNat = x.toNat := sorry
theorem i32_mod (x : Int) : ((Int32.ofInt x).toBitVec.toNat : Int) = x % 4294967296 := sorry
theorem i32_int {v : Int32} (b : v.toBitVec.toNat < 2147483648) : v.toInt = (v.toBitVec.toNat : Int) := sorry
theorem and_nat {a b : Int} (a0 : 0 ≤ a) (a1 : a < 2147483648) (b0 : 0 ≤ b) (b1 : b < 2147483648) : z_and a b = ((a.toNat &&& b.toNat : Nat) : Int) := sorry
theorem or_nat {a b : Int} (a0 : 0 ≤ a) (a1 : a < 2147483648) (b0 : 0 ≤ b) (b1 : b < 2147483648) : z_or a b = ((a.toNat ||| b.toNat : Nat) : Int) := sorry
theorem xor_nat {a b : Int} (a0 : 0 ≤ a) (a1 : a < 2147483648) (b0 : 0 ≤ b) (b1 : b < 2147483648) : z_xor a b = ((a.toNat ^^^ b.toNat : Nat) : Int) := sorry
/-- the low k bits -/
theorem and_mask (a : Int) {k : Nat} {m : Int} (hk : k < 32) (hm : m = ((2 ^ k - 1 : Nat) : Int)) (hm2 : m < 2147483648) : z_and a m = a % (2 ^ k : Nat) := sorry
theorem and_1 (a : Int) : z_and a 1 = a % 2 := sorry
theorem and_63 (a : Int) : z_and a 63 = a % 64 := sorry
theorem and_255 (a : Int) : z_and a 255 = a % 256 := sorry
end
section
set_option maxRecDepth 100000
set_option linter.unusedVariables false
set_option maxHeartbeats 200000
/-! PLAIN 2: the house's small words; what is thrown -/
theorem c_within (x a b : Int) (h : z_M) : f201_0 x a b h = z_ri (z_bi (a ≤ x ∧ x ≤ b)) h := sorry
theorem t_isIn (x a b : Int) (h : z_M) : f885_0 x a b h = z_ri (z_bi (a ≤ x ∧ x ≤ b)) h := sorry
theorem t_isPicture (x : Int) (h : z_M) : f888_0 x h = z_ri (z_bi (0 ≤ x ∧ x ≤ 7)) h := sorry
theorem t_isSheet (x : Int) (h : z_M) : f890_0 x h = z_ri (z_bi (0 ≤ x ∧ x ≤ 3)) h := sorry
theorem t_isFile (x : Int) (h : z_M) : f883_0 x h = z_ri (z_bi (0 ≤ x ∧ x ≤ 11)) h := sorry
end
section
set_option maxRecDepth 100000
set_option linter.unusedVariables false
set_option maxHeartbeats 200000
/-! PLAIN 3: choices pushed through; what is thrown; pictures -/
theorem kv_if {p : Prop} {x y : z_Z} {f : z_M → z_Z} {g : Nat → z_M → z_Z} : z_kv (z_if p x y) f g = z_if p (z_kv x f g) (z_kv y f g) := sorry
theorem ki_if {p : Prop} {x y : z_Z} {f : Int → z_M → z_Z} {g : Nat → z_M → z_Z} : z_ki (z_if p x y) f g = z_if p (z_ki x f g) (z_ki y f g) := sorry
theorem kj_if {p : Prop} {x y : z_Z} {f : Int → z_M → z_Z} {g : Nat → z_M → z_Z} : z_kj (z_if p x y) f g = z_if p (z_kj x f g) (z_kj y f g) := sorry
theorem kr_if {p : Prop} {x y : z_Z} {f : Nat → z_M → z_Z} {g : Nat → z_M → z_Z} : z_kr (z_if p x y) f g = z_if p (z_kr x f g) (z_kr y f g) := sorry
/-- a choice, each way under what it knows -/
theorem if_cg {p q : Prop} {x x' y y' : z_Z} (e : p ↔ q) (a : p → x = x') (b : ¬ p → y = y') : z_if p x y = z_if q x' y' := sorry
theorem isk_new {h : z_M} {k n : Nat} {cs : List Nat} (q : z_has cs k = true) : z_isk (hZ h + 1) (sN h k n) cs := sorry
theorem x_rt {h : z_M} {k n : Nat} (q : z_has [2, 3, 5, 6, 7, 54, 63, 64, 65, 66, 67, 68, 69, 70, 76] k = true) : f26_0 (hZ h + 1) (sN h k n) = z_rv (sN h k n) := sorry
theorem c_wantIndex (p : Prop) (h : z_M) : f195_0 (z_bi p) h = z_if p (z_rv h) (z_ex (hZ h + 1) (sN h 2 6)) := sorry
theorem c_allow (p : Prop) (h : z_M) : f110_0 (z_bi p) h = z_if p (z_rv h) (z_ex (hZ h + 1) (sN h 6 6)) := sorry
theorem c_want (p : Prop) (h : z_M) : f194_0 (z_bi p) h = z_if p (z_rv h) (z_ex (hZ h + 1) (sN h 5 6)) := sorry
theorem c_wantRoom (p : Prop) (h : z_M) : f196_0 (z_bi p) h = z_if p (z_rv h) (z_ex (hZ h + 1) (sN h 7 6)) := sorry
theorem c_wantIndex1 (h : z_M) : f195_0 1 h = z_rv h := sorry
theorem c_wantIndex0 (h : z_M) : f195_0 0 h = z_ex (hZ h + 1) (sN h 2 6) := sorry
theorem c_allow1 (h : z_M) : f110_0 1 h = z_rv h := sorry
theorem c_allow0 (h : z_M) : f110_0 0 h = z_ex (hZ h + 1) (sN h 6 6) := sorry
theorem c_want1 (h : z_M) : f194_0 1 h = z_rv h := sorry
theorem c_want0 (h : z_M) : f194_0 0 h = z_ex (hZ h + 1) (sN h 5 6) := sorry
theorem c_wantRoom1 (h : z_M) : f196_0 1 h = z_rv h := sorry
theorem c_wantRoom0 (h : z_M) : f196_0 0 h = z_ex (hZ h + 1) (sN h 7 6) := sorry
/-- the pictures' cells -/
def z_shp (h : z_M) : Prop := (hK h 1 = 10 ∧ 1063 ≤ hZ h) ∧ hP h 1 0 = 2 ∧ (hK h 2 = 1112 ∧ hN h 2 = 8) ∧ ∀ k, k < 8 → hP h 2 k = 103 + 3 * k ∧ hK h (103 + 3 * k) = 11 ∧ (hP h (103 + 3 * k) 2 = 104 + 3 * k ∧ hP h (103 + 3 * k) 3 = 105 + 3 * k) ∧ (hK h (104 + 3 * k) = 1000 ∧ hN h (104 + 3 * k) = 144) ∧ (hK h (105 + 3 * k) = 1001 ∧ hN h (105 + 3 * k) = 144)
theorem isk_1 {a k : Nat} {h : z_M} {cs : List Nat} (e : hK h a = k) (q : z_has cs k = true) : z_isk a h cs := sorry
theorem c_pictureAt {h : z_M} (S : z_shp h) (x : Int) : f158_0 1 x h = z_if (0 ≤ x ∧ x ≤ 7) (z_rr (103 + 3 * x.toNat) h) (z_ex (hZ h + 1) (sN h 2 6)) := sorry
end
section
set_option maxRecDepth 100000
set_option linter.unusedVariables false
set_option maxHeartbeats 200000
/-! PLAIN: memory, one array anew; guards as rewriting rules; loops that lay an array -/
def sA (h : z_M) (a : Nat) (f : Nat → Int) : z_M := (h.1, fun x j => if x = a then f j else h.2.1 x j, h.2.2)
theorem hI_sA {h : z_M} {a b j : Nat} {f : Nat → Int} : hI (sA h a f) b j = if b = a then f j else hI h b j := sorry
theorem hL_sA {h : z_M} {a b j : Nat} {f : Nat → Int} : hL (sA h a f) b j = hL h b j := sorry
theorem hP_sA {h : z_M} {a b j : Nat} {f : Nat → Int} : hP (sA h a f) b j = hP h b j := sorry
theorem hK_sA {h : z_M} {a b : Nat} {f : Nat → Int} : hK (sA h a f) b = hK h b := sorry
theorem hN_sA {h : z_M} {a b : Nat} {f : Nat → Int} : hN (sA h a f) b = hN h b := sorry
theorem hZ_sA {h : z_M} {a : Nat} {f : Nat → Int} : hZ (sA h a f) = hZ h := sorry
theorem hS_sA {h : z_M} {a : Nat} {f : Nat → Int} : hS (sA h a f) = hS h := sorry
theorem hX_sA {h : z_M} {a : Nat} {f : Nat → Int} : hX (sA h a f) = hX h := sorry
theorem hG_sA {h : z_M} {a : Nat} {f : Nat → Int} : hG (sA h a f) = hG h := sorry
theorem hW_sA {h : z_M} {a : Nat} {f : Nat → Int} : hW (sA h a f) = hW h := sorry
theorem sI_sA {h : z_M} {a i : Nat} {f : Nat → Int} {v : Int} : sI (sA h a f) a i v = sA h a (fun j => if j = i then v else f j) := sorry
theorem sA_id {h : z_M} {a : Nat} : sA h a (hI h a) = h := sorry
theorem sI_to {h : z_M} {a i : Nat} {v : Int} : sI h a i v = sA h a (fun j => if j = i then v else hI h a j) := sorry
theorem sA_sw {h : z_M} {a b : Nat} {f g : Nat → Int} (n : a ≠ b) : sA (sA h a f) b g = sA (sA h b g) a f := sorry
theorem sI_sA2 {h : z_M} {a b i : Nat} {f g : Nat → Int} {v : Int} (n : a ≠ b) : sI (sA (sA h a f) b g) a i v = sA (sA h a (fun j => if j = i then v else f j)) b g := sorry
theorem sI_same {h : z_M} {a i : Nat} {v w : Int} : sI (sI h a i v) a i w = sI h a i w := sorry
theorem sm_sA {a b : Nat} {f : Nat → Int} {h : z_M} (q : a ≠ b) : z_sme a h (sA h b f) := sorry
theorem fr_sA {W : Nat → Prop} {b : Nat} {f : Nat → Int} {h : z_M} (hb : W b) : z_fr W 0 0 h (sA h b f) := sorry
/-! reads -/
theorem hI_s1 {h : z_M} {a i : Nat} {v : Int} : hI (sI h a i v) a i = v := sorry
theorem hI_s1e {h : z_M} {a i b j : Nat} {v : Int} (e : b = a) (f : j = i) : hI (sI h a i v) b j = v := sorry
theorem hI_s0 {h : z_M} {a i b j : Nat} {v : Int} (n : ¬ (b = a ∧ j = i)) : hI (sI h a i v) b j = hI h b j := sorry
theorem hI_A1 {h : z_M} {a j : Nat} {f : Nat → Int} : hI (sA h a f) a j = f j := sorry
theorem hI_A1e {h : z_M} {a b j : Nat} {f : Nat → Int} (e : b = a) : hI (sA h a f) b j = f j := sorry
theorem hI_A0 {h : z_M} {a b j : Nat} {f : Nat → Int} (n : ¬ b = a) : hI (sA h a f) b j = hI h b j := sorry
theorem hI_N0 {h : z_M} {k n b j : Nat} (q : ¬ b = hZ h + 1) : hI (sN h k n) b j = hI h b j := sorry
theorem hL_s1 {h : z_M} {a i : Nat} {v : Int} : hL (sL h a i v) a i = v := sorry
theorem hI_cpy {h : z_M} {s sp t dp n b j : Nat} : hI (z_cpy h s sp t dp n) b j = if b = t ∧ dp ≤ j ∧ j < dp + n then hI h s (sp + (j - dp)) else hI h b j := sorry
theorem hP_cpy {h : z_M} {s sp t dp n b j : Nat} : hP (z_cpy h s sp t dp n) b j = if b = t ∧ dp ≤ j ∧ j < dp + n then hP h s (sp + (j - dp)) else hP h b j := sorry
theorem hI_c0 {h : z_M} {s sp t dp n b j : Nat} (q : ¬ b = t) : hI (z_cpy h s sp t dp n) b j = hI h b j := sorry
theorem hI_c1 {h : z_M} {s sp t dp n b j : Nat} (q : b = t ∧ dp ≤ j ∧ j < dp + n) : hI (z_cpy h s sp t dp n) b j = hI h s (sp + (j - dp)) := sorry
theorem hP_c0 {h : z_M} {s sp t dp n b j : Nat} (q : ¬ b = t) : hP (z_cpy h s sp t dp n) b j = hP h b j := sorry
/-! guards do not see ints -/
theorem isk_sI {r a i : Nat} {v : Int} {h : z_M} {cs : List Nat} : z_isk r (sI h a i v) cs = z_isk r h cs := sorry
theorem isk_sL {r a i : Nat} {v : Int} {h : z_M} {cs : List Nat} : z_isk r (sL h a i v) cs = z_isk r h cs := sorry
theorem isk_sP {r a i v : Nat} {h : z_M} {cs : List Nat} : z_isk r (sP h a i v) cs = z_isk r h cs := sorry
theorem isk_sA {r a : Nat} {f : Nat → Int} {h : z_M} {cs : List Nat} : z_isk r (sA h a f) cs = z_isk r h cs := sorry
theorem isa_sI {r a i t : Nat} {v x : Int} {h : z_M} : z_isa r (sI h a i v) t x = z_isa r h t x := sorry
theorem isa_sL {r a i t : Nat} {v x : Int} {h : z_M} : z_isa r (sL h a i v) t x = z_isa r h t x := sorry
theorem isa_sP {r a i t v : Nat} {x : Int} {h : z_M} : z_isa r (sP h a i v) t x = z_isa r h t x := sorry
theorem isa_sA {r a t : Nat} {f : Nat → Int} {x : Int} {h : z_M} : z_isa r (sA h a f) t x = z_isa r h t x := sorry
theorem isz_sI {r a i : Nat} {v x : Int} {h : z_M} : z_isz r (sI h a i v) x = z_isz r h x := sorry
theorem isz_sA {r a : Nat} {f : Nat → Int} {x : Int} {h : z_M} : z_isz r (sA h a f) x = z_isz r h x := sorry
theorem isr_sI {r a i : Nat} {v x : Int} {h : z_M} : z_isr r (sI h a i v) x = z_isr r h x := sorry
theorem isr_sA {r a : Nat} {f : Nat → Int} {x : Int} {h : z_M} : z_isr r (sA h a f) x = z_isr r h x := sorry
/-! a guard that holds, by numbers -/
theorem gk1 {r c : Nat} {h : z_M} {x : z_Z} (e : hK h r = c) : z_g (z_isk r h [c]) x = x := sorry
theorem gin {i n : Int} {x : z_Z} (a : 0 ≤ i) (b : i < n) : z_g (z_inb i n) x = x := sorry
theorem g01 {v : Int} {x : z_Z} (e : v = 0 ∨ v = 1) : z_g (z_01 v) x = x := sorry
/-! loops that lay one array, two arrays -/
theorem up_k (b k : Nat) (u z : Nat → Int) : (fun j => if j = b + k then u k else if b ≤ j ∧ j < b + k then u (j - b) else z j) = (fun j => if b ≤ j ∧ j < b + (k + 1) then u (j - b) else z j) := sorry
theorem up_0 (b : Nat) (u z : Nat → Int) : (fun j => if b ≤ j ∧ j < b + 0 then u (j - b) else z j) = z := sorry
theorem loop_A {F : Int → z_M → z_Z} {a b : Nat} {v : Nat → Int} {h : z_M} {x0 : Int} {n : Nat}
    (step : ∀ (k : Nat) (f : Nat → Int), k < n → F (x0 + k) (sA h a f) = F (x0 + k + 1) (sA h a (fun j => if j = b + k then v k else f j))) (f : Nat → Int) :
    F x0 (sA h a f) = F (x0 + n) (sA h a (fun j => if b ≤ j ∧ j < b + n then v (j - b) else f j)) := sorry
theorem loop_B {F : Int → z_M → z_Z} {a c b : Nat} {v w : Nat → Int} {h : z_M} {x0 : Int} {n : Nat}
    (step : ∀ (k : Nat) (f g : Nat → Int), k < n → F (x0 + k) (sA (sA h a f) c g) = F (x0 + k + 1) (sA (sA h a (fun j => if j = b + k then v k else f j)) c (fun j => if j = b + k then w k else g j))) (f g : Nat → Int) :
    F x0 (sA (sA h a f) c g) = F (x0 + n) (sA (sA h a (fun j => if b ≤ j ∧ j < b + n then v (j - b) else f j)) c (fun j => if b ≤ j ∧ j < b + n then w (j - b) else g j)) := sorry
theorem loop_A0 {F : Int → z_M → z_Z} {a b : Nat} {v : Nat → Int} {h : z_M} {x0 : Int} {n : Nat}
    (step : ∀ (k : Nat) (f : Nat → Int), k < n → F (x0 + k) (sA h a f) = F (x0 + k + 1) (sA h a (fun j => if j = b + k then v k else f j))) :
    F x0 h = F (x0 + n) (sA h a (fun j => if b ≤ j ∧ j < b + n then v (j - b) else hI h a j)) := sorry
theorem loop_B0 {F : Int → z_M → z_Z} {a c b : Nat} {v w : Nat → Int} {h : z_M} {x0 : Int} {n : Nat} (ac : c ≠ a)
    (step : ∀ (k : Nat) (f g : Nat → Int), k < n → F (x0 + k) (sA (sA h a f) c g) = F (x0 + k + 1) (sA (sA h a (fun j => if j = b + k then v k else f j)) c (fun j => if j = b + k then w k else g j))) :
    F x0 h = F (x0 + n) (sA (sA h a (fun j => if b ≤ j ∧ j < b + n then v (j - b) else hI h a j)) c (fun j => if b ≤ j ∧ j < b + n then w (j - b) else hI h c j)) := sorry
/-- ints in a range: no wrap -/
theorem w_id {x : Int} (a : -2147483648 ≤ x) (b : x ≤ 2147483647) : z_w x = x := sorry
theorem i8_01 {v : Int} (a : 0 ≤ v) (b : v ≤ 127) : z_i8 v = v := sorry
/-! guards, by facts of this memory -/
theorem gks {r k : Nat} {cs : List Nat} {h : z_M} {x : z_Z} (e : hK h r = k) (q : z_has cs k = true) : z_g (z_isk r h cs) x = x := sorry
theorem gia_n {r t n : Nat} {i : Int} {h : z_M} {x : z_Z} (e : hK h r = t) (m : hN h r = n) (a : 0 ≤ i) (b : i < (n : Int)) : z_g (z_isa r h t i) x = x := sorry
theorem gian_n {r t n : Nat} {i : Int} {h : z_M} {x : z_Z} (e : hK h r = t) (m : hN h r = n) (a : 0 ≤ i) (b : i < (n : Int)) (w : r < 4294967296) : z_g (z_isa r h t i ∧ z_new r) x = x := sorry
theorem giz_n {r n : Nat} {i : Int} {h : z_M} {x : z_Z} (e : hK h r = 1001 ∨ hK h r = 1002) (m : hN h r = n) (a : 0 ≤ i) (b : i < (n : Int)) : z_g (z_isz r h i) x = x := sorry
theorem gizn_n {r n : Nat} {i v : Int} {h : z_M} {x : z_Z} (e : hK h r = 1001 ∨ hK h r = 1002) (m : hN h r = n) (a : 0 ≤ i) (b : i < (n : Int)) (w : r < 4294967296) (q : hK h r = 1002 ∨ v = 0 ∨ v = 1) : z_g (z_isz r h i ∧ z_new r ∧ (hK h r = 1002 ∨ z_01 v)) x = x := sorry
theorem gir_n {r n k : Nat} {i : Int} {h : z_M} {x : z_Z} (e : hK h r = k) (m : hN h r = n) (k1 : 1100 ≤ k) (a : 0 ≤ i) (b : i < (n : Int)) : z_g (z_isr r h i) x = x := sorry
theorem nq1 {h : z_M} {k n : Nat} {cs : List Nat} {x y : z_Z} (q : z_has cs k = true) : z_if (z_isk (hZ h + 1) (sN h k n) cs) x y = x := sorry
theorem nq0 {h : z_M} {k n : Nat} {cs : List Nat} {x y : z_Z} (q : z_has cs k = false) : z_if (z_isk (hZ h + 1) (sN h k n) cs) x y = y := sorry
theorem sI_com {h : z_M} {a i b j : Nat} {v w : Int} (n : ¬ (a = b ∧ i = j)) : sI (sI h a i v) b j w = sI (sI h b j w) a i v := sorry
/-- the same, where a step may look at what lies there -/
theorem loop_A1 {F : Int → z_M → z_Z} {a b : Nat} {v : Nat → Int} {h : z_M} {x0 : Int} {n : Nat}
    (step : ∀ (k : Nat), k < n → F (x0 + k) (sA h a (fun j => if b ≤ j ∧ j < b + k then v (j - b) else hI h a j)) = F (x0 + k + 1) (sA h a (fun j => if j = b + k then v k else if b ≤ j ∧ j < b + k then v (j - b) else hI h a j))) :
    F x0 h = F (x0 + n) (sA h a (fun j => if b ≤ j ∧ j < b + n then v (j - b) else hI h a j)) := sorry
theorem loop_B1 {F : Int → z_M → z_Z} {a c b : Nat} {v w : Nat → Int} {h : z_M} {x0 : Int} {n : Nat}
    (step : ∀ (k : Nat), k < n → F (x0 + k) (sA (sA h a (fun j => if b ≤ j ∧ j < b + k then v (j - b) else hI h a j)) c (fun j => if b ≤ j ∧ j < b + k then w (j - b) else hI h c j)) = F (x0 + k + 1) (sA (sA h a (fun j => if j = b + k then v k else if b ≤ j ∧ j < b + k then v (j - b) else hI h a j)) c (fun j => if j = b + k then w k else if b ≤ j ∧ j < b + k then w (j - b) else hI h c j))) :
    F x0 h = F (x0 + n) (sA (sA h a (fun j => if b ≤ j ∧ j < b + n then v (j - b) else hI h a j)) c (fun j => if b ≤ j ∧ j < b + n then w (j - b) else hI h c j)) := sorry
theorem gcp_n {q r k nq nr : Nat} {sp dp n : Int} {h : z_M} {x : z_Z} (kq : hK h q = k) (kr : hK h r = k) (mq : hN h q = nq) (mr : hN h r = nr) (kk : (1000 ≤ k ∧ ¬ k = 1004) ∧ k < 1100) (n1 : r < 4294967296) (n2 : q < 4294967296) (a : 0 ≤ sp) (b : 0 ≤ dp) (c : 0 ≤ n) (d : sp + n ≤ (nq : Int)) (e : dp + n ≤ (nr : Int)) : z_g (z_cpo z_elc h q r sp dp n) x = x := sorry
theorem i8_mod (x : Int) : z_i8 x % 256 = x % 256 := sorry
theorem gkz {r c : Nat} {v : Int} {h : z_M} {x : z_Z} (e : hK h r = c) (q : v = 0 ∨ v = 1) : z_g (z_isk r h [c] ∧ z_01 v) x = x := sorry
end
section
set_option maxRecDepth 100000
set_option linter.unusedVariables false
set_option maxHeartbeats 200000
/-! PLAIN: how many bits (24 of them) are set; sums -/
theorem land16 (a b c d : Nat) (hb : b < 16) (hd : d < 16) : (b + 16 * a) &&& (d + 16 * c) = (b &&& d) + 16 * (a &&& c) := sorry
theorem land6 (m : Nat) {a0 a1 a2 a3 a4 a5 : Nat} (h0 : a0 < 16) (h1 : a1 < 16) (h2 : a2 < 16) (h3 : a3 < 16) (h4 : a4 < 16) (h5 : a5 < 16) :
    (a0 + 16 * (a1 + 16 * (a2 + 16 * (a3 + 16 * (a4 + 16 * (a5 + 16 * 0)))))) &&& m = (a0 &&& m % 16) + 16 * ((a1 &&& m / 16 % 16) + 16 * ((a2 &&& m / 256 % 16) + 16 * ((a3 &&& m / 4096 % 16) + 16 * ((a4 &&& m / 65536 % 16) + 16 * (a5 &&& m / 1048576 % 16))))) := sorry
def z_p4 (d : Nat) : Nat := d % 2 + d / 2 % 2 + d / 4 % 2 + d / 8 % 2
theorem p4_1 : ∀ d, d < 16 → (d / 2 &&& 5) ≤ d ∧ d - (d / 2 &&& 5) < 16 ∧ ((d - (d / 2 &&& 5)) &&& 3) + ((d - (d / 2 &&& 5)) / 4 &&& 3) = z_p4 d := sorry
theorem and5 : ∀ d b, d < 8 → b < 2 → (d + 8 * b) &&& 5 = d &&& 5 := sorry
theorem and3 : ∀ d b, d < 4 → b < 4 → (d + 4 * b) &&& 3 = d &&& 3 := sorry
theorem and15 : ∀ d, d < 16 → d &&& 15 = d := sorry
theorem p4_le (d : Nat) : z_p4 d ≤ 4 := sorry
/-- the JDK's way to count them -/
def z_bc (n : Nat) : Nat :=
  let x1 := n - (n / 2 &&& 1431655765)
  let x2 := (x1 &&& 858993459) + (x1 / 4 &&& 858993459)
  let x3 := (x2 + x2 / 16) &&& 252645135
  let x4 := x3 + x3 / 256
  (x4 + x4 / 65536) &&& 63
theorem bc_6 {a0 a1 a2 a3 a4 a5 : Nat} (h0 : a0 < 16) (h1 : a1 < 16) (h2 : a2 < 16) (h3 : a3 < 16) (h4 : a4 < 16) (h5 : a5 < 16) :
    z_bc (a0 + 16 * (a1 + 16 * (a2 + 16 * (a3 + 16 * (a4 + 16 * (a5 + 16 * 0)))))) = z_p4 a0 + z_p4 a1 + z_p4 a2 + z_p4 a3 + z_p4 a4 + z_p4 a5 := sorry
/-- the sum of the low 24 bits -/
def z_b24 (n : Nat) : Nat → Nat
  | 0 => 0
  | k + 1 => z_b24 n k + n / 2 ^ k % 2
theorem bc_24 {n : Nat} (h : n < 16777216) : z_bc n = z_b24 n 24 := sorry
end
section
set_option maxRecDepth 100000
set_option linter.unusedVariables false
set_option maxHeartbeats 200000
/-! PLAIN: a picture begins -/
theorem c_begin {k : Nat} (hk : k < 8) {v w g : Int} (hv : v = 0 ∨ v = 1) {h : z_M} (S : z_shp h) :
    f205_0 (103 + 3 * k) w g v h = z_rv (sA (sA (sI (sI h (103 + 3 * k) 0 w) (103 + 3 * k) 1 g) (104 + 3 * k) (fun j => if 0 ≤ j ∧ j < 0 + 144 then 0 else hI h (104 + 3 * k) j)) (105 + 3 * k) (fun j => if 0 ≤ j ∧ j < 0 + 144 then v else hI h (105 + 3 * k) j)) := sorry
theorem t_makePicture {k : Nat} (hk : k < 8) {v w g : Int} (hv : v = 0 ∨ v = 1) (h : z_M) :
    f950_0 (k : Int) w g v h = z_rv (sA (sA (sI (sI h 1065 k w) 1066 k g) 1067 (fun j => if 144 * k ≤ j ∧ j < 144 * k + 144 then 0 else hI h 1067 j)) 1068 (fun j => if 144 * k ≤ j ∧ j < 144 * k + 144 then v else hI h 1068 j)) := sorry
end
section
set_option maxRecDepth 100000
set_option linter.unusedVariables false
set_option maxHeartbeats 200000
/-! PLAIN: pictures, the component's and the twin's; how a call ends -/
def R_pic (hc ht : z_M) : Prop := ∀ k, k < 8 → (hI hc (103 + 3 * k) 0 = hI ht 1065 k ∧ hI hc (103 + 3 * k) 1 = hI ht 1066 k) ∧ (0 ≤ hI ht 1065 k ∧ hI ht 1065 k ≤ 12 ∧ 0 ≤ hI ht 1066 k ∧ hI ht 1066 k ≤ 12) ∧
  ∀ i, i < 144 → (hI hc (104 + 3 * k) i = hI ht 1067 (144 * k + i) ∧ hI hc (105 + 3 * k) i = hI ht 1068 (144 * k + i)) ∧ (0 ≤ hI ht 1067 (144 * k + i) ∧ hI ht 1067 (144 * k + i) ≤ 255) ∧ (hI ht 1068 (144 * k + i) = 0 ∨ hI ht 1068 (144 * k + i) = 1)
theorem pic_s {hc ht : z_M} (R : R_pic hc ht) {k i j : Int} (hk : 0 ≤ k ∧ k ≤ 7) (a : 0 ≤ i) (b : i < 144) (e : j = 144 * k + i) : hI hc (104 + 3 * (Int.toNat k)) (Int.toNat i) = hI ht 1067 (Int.toNat j) ∧ True ∧ (0 ≤ hI ht 1067 (Int.toNat j) ∧ hI ht 1067 (Int.toNat j) ≤ 255) := sorry
theorem pic_i {hc ht : z_M} (R : R_pic hc ht) {k i j : Int} (hk : 0 ≤ k ∧ k ≤ 7) (a : 0 ≤ i) (b : i < 144) (e : j = 144 * k + i) : hI hc (105 + 3 * (Int.toNat k)) (Int.toNat i) = hI ht 1068 (Int.toNat j) ∧ True ∧ (hI ht 1068 (Int.toNat j) = 0 ∨ hI ht 1068 (Int.toNat j) = 1) := sorry
theorem R_put {hc ht : z_M} (R : R_pic hc ht) {k i j v : Int} (hk : 0 ≤ k ∧ k ≤ 7) (a : 0 ≤ i) (b : i < 144) (e : j = 144 * k + i) (hv : 0 ≤ v ∧ v ≤ 255) : R_pic (sI hc (104 + 3 * (Int.toNat k)) (Int.toNat i) v) (sI ht 1067 (Int.toNat j) v) := sorry
theorem R_shp {hc ht : z_M} (R : R_pic hc ht) {k i j v : Int} (hk : 0 ≤ k ∧ k ≤ 7) (a : 0 ≤ i) (b : i < 144) (e : j = 144 * k + i) (hv : v = 0 ∨ v = 1) : R_pic (sI hc (105 + 3 * (Int.toNat k)) (Int.toNat i) v) (sI ht 1068 (Int.toNat j) v) := sorry
theorem R_code {hc ht : z_M} (R : R_pic hc ht) {f : Nat} {v : Int} : R_pic hc (sI ht 1064 f v) := sorry
theorem R_lout {hc ht : z_M} (R : R_pic hc ht) {a i : Nat} {v : Int} : R_pic (sL hc a i v) ht := sorry
/-- the law's own array -/
def z_out (h : z_M) : Prop := hK h 1272 = 1003 ∧ hN h 1272 = 1 ∧ 1272 ≤ hZ h
def z_pc0 (a : Nat) : Prop := 103 ≤ a ∧ a ≤ 126
def z_pcell (a : Nat) : Prop := (103 ≤ a ∧ a ≤ 126) ∨ a = 1272
/-- how a call ends: a number that is no 0, one cell for what was thrown, the twin's code; or 0, and more -/
def z_q (P : z_M → z_M → Prop) (hc ht : z_M) (rc : Int) (hc' ht' : z_M) : Prop := (¬ rc = 0 ∧ (∃ K, hc' = sN hc K 6) ∧ ht' = sI ht 1064 0 rc) ∨ (rc = 0 ∧ P hc' ht')
def z_cv (C D : z_Z) (Q : Int → z_M → z_M → Prop) : Prop := ∃ rc hc' ht', C = z_ri rc hc' ∧ D = z_rv ht' ∧ hI ht' 1064 0 = rc ∧ Q rc hc' ht'
def z_ci (C D : z_Z) (Q : Int → z_M → z_M → Prop) : Prop := ∃ rc hc' b ht', C = z_ri rc hc' ∧ D = z_ri b ht' ∧ hI ht' 1064 0 = rc ∧ (rc = 0 → hL hc' 1272 0 = b) ∧ Q rc hc' ht'
theorem cv_f {P : z_M → z_M → Prop} {hc ht : z_M} {C D : z_Z} (K : Nat) {c : Int} (n : ¬ c = 0) (e1 : C = z_ri c (sN hc K 6)) (e2 : D = z_rv (sI ht 1064 0 c)) : z_cv C D (z_q P hc ht) := sorry
theorem ci_f {P : z_M → z_M → Prop} {hc ht : z_M} {C D : z_Z} (K : Nat) {c b : Int} (n : ¬ c = 0) (e1 : C = z_ri c (sN hc K 6)) (e2 : D = z_ri b (sI ht 1064 0 c)) : z_ci C D (z_q P hc ht) := sorry
theorem cv_0 {P : z_M → z_M → Prop} {hc ht hc' ht' : z_M} {C D : z_Z} (e1 : C = z_ri 0 hc') (e2 : D = z_rv ht') (t : hI ht' 1064 0 = 0) (p : P hc' ht') : z_cv C D (z_q P hc ht) := sorry
theorem ci_0 {P : z_M → z_M → Prop} {hc ht h1 ht' : z_M} {v : Int} {C D : z_Z} (e1 : C = z_ri 0 (sL h1 1272 0 v)) (e2 : D = z_ri v ht') (t : hI ht' 1064 0 = 0) (p : P (sL h1 1272 0 v) ht') : z_ci C D (z_q P hc ht) := sorry
/-- nothing is changed but the law's array and the twin's code -/
def z_rd (hc ht : z_M) (hc' ht' : z_M) : Prop := (∃ v, hc' = sL hc 1272 0 v) ∧ ht' = sI ht 1064 0 0
/-- pictures are changed -/
def z_pch (hc : z_M) (hc' ht' : z_M) : Prop := z_shp hc' ∧ R_pic hc' ht' ∧ z_fr z_pcell 0 0 hc hc'
theorem frO {hc h1 : z_M} {v : Int} (p : z_fr z_pc0 0 0 hc h1) : z_fr z_pcell 0 0 hc (sL h1 1272 0 v) := sorry
theorem out_fr {hc h1 : z_M} (O : z_out hc) (p : z_fr z_pc0 0 0 hc h1) : hK h1 1272 = 1003 ∧ hN h1 1272 = 1 := sorry
theorem R_begin {hc ht : z_M} (R : R_pic hc ht) {k : Nat} (hk : k < 8) {w g v : Int} (hw : 0 ≤ w ∧ w ≤ 12 ∧ 0 ≤ g ∧ g ≤ 12) (hv : v = 0 ∨ v = 1) : R_pic (sA (sA (sI (sI hc (103 + 3 * k) 0 w) (103 + 3 * k) 1 g) (104 + 3 * k) (fun j => if 0 ≤ j ∧ j < 0 + 144 then 0 else hI hc (104 + 3 * k) j)) (105 + 3 * k) (fun j => if 0 ≤ j ∧ j < 0 + 144 then v else hI hc (105 + 3 * k) j))
    (sA (sA (sI (sI ht 1065 k w) 1066 k g) 1067 (fun j => if 144 * k ≤ j ∧ j < 144 * k + 144 then 0 else hI ht 1067 j)) 1068 (fun j => if 144 * k ≤ j ∧ j < 144 * k + 144 then v else hI ht 1068 j)) := sorry
theorem fr_begin {hc : z_M} {k : Nat} (hk : k < 8) {w g : Int} {f f' : Nat → Int} : z_fr z_pcell 0 0 hc (sA (sA (sI (sI hc (103 + 3 * k) 0 w) (103 + 3 * k) 1 g) (104 + 3 * k) f) (105 + 3 * k) f') := sorry
/-- a picture is copied -/
theorem fr_cpy {W : Nat → Prop} {s sp t dp n : Nat} {h : z_M} (hb : W t) : z_fr W 0 0 h (z_cpy h s sp t dp n) := sorry
theorem t_copy_l {k m : Nat} (hk : k < 8) (hm : m < 8) (h : z_M) (hv : ∀ i, i < 144 → hI h 1068 (144 * m + i) = 0 ∨ hI h 1068 (144 * m + i) = 1) :
    f807_56 (k : Int) (m : Int) 0 h = z_rv (sA (sA h 1067 (fun j => if 144 * k ≤ j ∧ j < 144 * k + 144 then hI h 1067 (144 * m + (j - 144 * k)) else hI h 1067 j)) 1068 (fun j => if 144 * k ≤ j ∧ j < 144 * k + 144 then hI h 1068 (144 * m + (j - 144 * k)) else hI h 1068 j)) := sorry
theorem R_copy {hc ht : z_M} (R : R_pic hc ht) {k m : Nat} (hk : k < 8) (hm : m < 8) : R_pic (z_cpy (z_cpy (sI (sI hc (103 + 3 * k) 0 (hI ht 1065 m)) (103 + 3 * k) 1 (hI ht 1066 m)) (104 + 3 * m) 0 (104 + 3 * k) 0 144) (105 + 3 * m) 0 (105 + 3 * k) 0 144)
    (sA (sA (sI (sI ht 1065 k (hI ht 1065 m)) 1066 k (hI ht 1066 m)) 1067 (fun j => if 144 * k ≤ j ∧ j < 144 * k + 144 then hI ht 1067 (144 * m + (j - 144 * k)) else hI ht 1067 j)) 1068 (fun j => if 144 * k ≤ j ∧ j < 144 * k + 144 then hI ht 1068 (144 * m + (j - 144 * k)) else hI ht 1068 j)) := sorry
theorem fr_copy {hc : z_M} {k a b : Nat} (hk : k < 8) {w g : Int} : z_fr z_pcell 0 0 hc (z_cpy (z_cpy (sI (sI hc (103 + 3 * k) 0 w) (103 + 3 * k) 1 g) a 0 (104 + 3 * k) 0 144) b 0 (105 + 3 * k) 0 144) := sorry
theorem shp_cpy {h : z_M} (S : z_shp h) {a b c d n : Nat} (hk : ∀ k, k < 8 → a ≠ 103 + 3 * k) (h2 : a ≠ 2) (h1 : a ≠ 1) : z_shp (z_cpy h b c a d n) := sorry
end
section
set_option maxRecDepth 100000
set_option linter.unusedVariables false
set_option maxHeartbeats 200000
/-! PLAIN: the calls on pictures (printed) -/
theorem put_loop {k x y n v : Int} (hk : 0 ≤ k ∧ k ≤ 7) (hx : 0 ≤ x) (hy : 0 ≤ y ∧ y ≤ 11) (hn : 0 < n ∧ n ≤ 2147483647) (hv : 0 ≤ v ∧ v ≤ 255) : ∀ (m : Nat) (o c : Int) (hc ht : z_M), z_shp hc → R_pic hc ht → x ≤ c → c ≤ 12 → (0 ≤ o ∧ o ≤ c) → (12 - c).toNat = m →
    ∃ o' hc' ht', f161_49 x y n v (103 + 3 * (Int.toNat k)) o c hc = z_ri o' hc' ∧ f964_50 k x y n v o c ht = z_ri o' ht' ∧ z_shp hc' ∧ R_pic hc' ht' ∧ z_fr z_pc0 0 0 hc hc' ∧ hI ht' 1064 0 = hI ht 1064 0 := sorry
theorem shape_loop {k x y n v : Int} (hk : 0 ≤ k ∧ k ≤ 7) (hx : 0 ≤ x) (hy : 0 ≤ y ∧ y ≤ 11) (hn : 0 < n ∧ n ≤ 2147483647) (hv : v = 0 ∨ v = 1) : ∀ (m : Nat) (o c : Int) (hc ht : z_M), z_shp hc → R_pic hc ht → x ≤ c → c ≤ 12 → (0 ≤ o ∧ o ≤ c) → (12 - c).toNat = m →
    ∃ o' hc' ht', f165_36 x y n v (103 + 3 * (Int.toNat k)) o c hc = z_ri o' hc' ∧ f970_38 k x y n v o c ht = z_ri o' ht' ∧ z_shp hc' ∧ R_pic hc' ht' ∧ z_fr z_pc0 0 0 hc hc' ∧ hI ht' 1064 0 = hI ht 1064 0 := sorry
theorem call_picture {hc ht : z_M} (S : z_shp hc) (O : z_out hc) (R : R_pic hc ht) (k : Int) (w : Int) (g : Int)  : z_cv (f84_0 1 k w g hc) (f961_0 k w g ht) (z_q (z_pch hc) hc ht) := sorry
theorem call_put {hc ht : z_M} (S : z_shp hc) (O : z_out hc) (R : R_pic hc ht) (k : Int) (x : Int) (y : Int) (n : Int) (v : Int) (hn : n ≤ 2147483647) : z_ci (f86_0 1 k x y n v 1272 hc) (f964_0 k x y n v ht) (z_q (z_pch hc) hc ht) := sorry
theorem call_shape {hc ht : z_M} (S : z_shp hc) (O : z_out hc) (R : R_pic hc ht) (k : Int) (x : Int) (y : Int) (n : Int) (v : Int) (hn : n ≤ 2147483647) (hv : v = 0 ∨ v = 1) : z_ci (f89_0 1 k x y n v 1272 hc) (f970_0 k x y n v ht) (z_q (z_pch hc) hc ht) := sorry
theorem call_copy {hc ht : z_M} (S : z_shp hc) (O : z_out hc) (R : R_pic hc ht) (k : Int) (m : Int)  : z_cv (f65_0 1 k m hc) (f807_0 k m ht) (z_q (z_pch hc) hc ht) := sorry
theorem call_at {hc ht : z_M} (S : z_shp hc) (O : z_out hc) (R : R_pic hc ht) (k : Int) (x : Int) (y : Int)  : z_ci (f59_0 1 k x y 1272 hc) (f693_0 k x y ht) (z_q (z_rd hc ht) hc ht) := sorry
theorem call_isInside {hc ht : z_M} (S : z_shp hc) (O : z_out hc) (R : R_pic hc ht) (k : Int) (x : Int) (y : Int)  : z_ci (f77_0 1 k x y 1272 hc) (f887_0 k x y ht) (z_q (z_rd hc ht) hc ht) := sorry
end
section
set_option maxRecDepth 100000
set_option linter.unusedVariables false
set_option maxHeartbeats 200000
/-! PLAIN: files, the component's and the twin's -/
def z_shf (h : z_M) : Prop := hK h 1 = 10 ∧ hP h 1 2 = 4 ∧ (hK h 4 = 1104 ∧ hN h 4 = 12) ∧ ∀ f, f < 12 → hP h 4 f = 135 + 2 * f ∧ hK h (135 + 2 * f) = 29 ∧ hP h (135 + 2 * f) 0 = 136 + 2 * f ∧ hK h (136 + 2 * f) = 1002 ∧ hN h (136 + 2 * f) = 1500
theorem c_fileAt {h : z_M} (S : z_shf h) (x : Int) : f128_0 1 x h = z_if (0 ≤ x ∧ x ≤ 11) (z_rr (135 + 2 * (Int.toNat x)) h) (z_ex (hZ h + 1) (sN h 2 6)) := sorry
def R_fil (hc ht : z_M) : Prop := ∀ f, f < 12 → hI hc (135 + 2 * f) 1 = hI ht 1072 f ∧ (0 ≤ hI ht 1072 f ∧ hI ht 1072 f ≤ 1500) ∧ ∀ i, i < 1500 → hI hc (136 + 2 * f) i % 256 = hI ht 1073 (1500 * f + i)
theorem file_b {hc ht : z_M} (R : R_fil hc ht) {f i j : Int} (hf : 0 ≤ f ∧ f ≤ 11) (a : 0 ≤ i) (b : i < 1500) (e : j = 1500 * f + i) : z_and (hI hc (136 + 2 * (Int.toNat f)) (Int.toNat i)) 255 = hI ht 1073 (Int.toNat j) := sorry
theorem R_alter {hc ht : z_M} (R : R_fil hc ht) {f i j b : Int} (hf : 0 ≤ f ∧ f ≤ 11) (a0 : 0 ≤ i) (a1 : i < 1500) (e : j = 1500 * f + i) (hb : 0 ≤ b ∧ b ≤ 255) : R_fil (sI hc (136 + 2 * (Int.toNat f)) (Int.toNat i) (z_i8 (z_i8 b))) (sI ht 1073 (Int.toNat j) b) := sorry
theorem R_size {hc ht : z_M} (R : R_fil hc ht) {f v : Int} (hf : 0 ≤ f ∧ f ≤ 11) (a0 : 0 ≤ v) (a1 : v ≤ 1500) : R_fil (sI hc (135 + 2 * (Int.toNat f)) 1 v) (sI ht 1072 (Int.toNat f) v) := sorry
theorem R_feed {hc ht : z_M} (R : R_fil hc ht) {f b s j : Int} (hf : 0 ≤ f ∧ f ≤ 11) (hs : 0 ≤ s ∧ s < 1500) (hb : 0 ≤ b ∧ b ≤ 255) (e : j = 1500 * f + s) : R_fil (sI (sI hc (135 + 2 * (Int.toNat f)) 1 (s + 1)) (136 + 2 * (Int.toNat f)) (Int.toNat s) (z_i8 (z_i8 b))) (sI (sI ht 1073 (Int.toNat j) b) 1072 (Int.toNat f) (s + 1)) := sorry
theorem R_flo {hc ht : z_M} (R : R_fil hc ht) {a i : Nat} {v : Int} : R_fil (sL hc a i v) ht := sorry
theorem R_fco {hc ht : z_M} (R : R_fil hc ht) {f : Nat} {v : Int} : R_fil hc (sI ht 1064 f v) := sorry
def z_fc0 (a : Nat) : Prop := 135 ≤ a ∧ a ≤ 158
def z_fcell (a : Nat) : Prop := (135 ≤ a ∧ a ≤ 158) ∨ a = 1272
def z_fch (hc : z_M) (hc' ht' : z_M) : Prop := z_shf hc' ∧ R_fil hc' ht' ∧ z_fr z_fcell 0 0 hc hc'
theorem frF {hc h1 : z_M} {v : Int} (p : z_fr z_fc0 0 0 hc h1) : z_fr z_fcell 0 0 hc (sL h1 1272 0 v) := sorry
/-- the faults and the work done -/
def R_num (hc ht : z_M) : Prop := hI hc 1 8 = hI ht 1064 2 ∧ hI hc 1 9 = hI ht 1064 3 ∧ hI hc 1 7 = hI ht 1064 1 ∧ 0 ≤ hI ht 1064 1 ∧ hI ht 1064 1 ≤ 300
end
section
set_option maxRecDepth 100000
set_option linter.unusedVariables false
set_option maxHeartbeats 200000
/-! PLAIN: the calls on files (printed) -/
theorem call_byteAt {hc ht : z_M} (S : z_shf hc) (O : z_out hc) (R : R_fil hc ht) (f : Int) (i : Int)  : z_ci (f63_0 1 f i 1272 hc) (f760_0 f i ht) (z_q (z_rd hc ht) hc ht) := sorry
theorem call_feed {hc ht : z_M} (S : z_shf hc) (O : z_out hc) (R : R_fil hc ht) (f : Int) (b : Int)  : z_ci (f70_0 1 f b 1272 hc) (f866_0 f b ht) (z_q (z_fch hc) hc ht) := sorry
theorem call_alter {hc ht : z_M} (S : z_shf hc) (O : z_out hc) (R : R_fil hc ht) (f : Int) (i : Int) (b : Int)  : z_ci (f57_0 1 f i b 1272 hc) (f689_0 f i b ht) (z_q (z_fch hc) hc ht) := sorry
theorem call_cut {hc ht : z_M} (S : z_shf hc) (O : z_out hc) (R : R_fil hc ht) (f : Int) (n : Int)  : z_ci (f67_0 1 f n 1272 hc) (f811_0 f n ht) (z_q (z_fch hc) hc ht) := sorry
theorem call_fault {hc ht : z_M} (S : z_shf hc) (O : z_out hc) (R : R_num hc ht) (w : Int)  : z_ci (f69_0 1 w 1272 hc) (f865_0 w ht) (z_q (z_rd hc ht) hc ht) := sorry
end
section
set_option maxRecDepth 100000
set_option linter.unusedVariables false
set_option maxHeartbeats 200000
/-! PLAIN: sheets, the component's rows of bits and the twin's -/
theorem shl_1 {x : Int} {P : Nat} (hP : 2 ^ x.toNat = P) (a : 0 ≤ x) (b : x < 24) : z_shl 1 x = (P : Int) ∧ P ≤ 8388608 := sorry
theorem bit_i (n j : Nat) : ((n : Nat) : Int) / 2 ^ j % 2 = ((Nat.testBit n j).toNat : Int) := sorry
theorem dark_i {r x : Int} (a : 0 ≤ x) (b : x < 24) : z_and (z_shr r x) 1 = r / 2 ^ x.toNat % 2 := sorry
theorem or_bit {r x : Int} (r0 : 0 ≤ r) (r1 : r < 16777216) (a : 0 ≤ x) (b : x < 24) : (0 ≤ z_or r (z_shl 1 x) ∧ z_or r (z_shl 1 x) < 16777216) ∧ ∀ j, j < 24 → z_or r (z_shl 1 x) / 2 ^ j % 2 = if j = x.toNat then 1 else r / 2 ^ j % 2 := sorry
theorem clr_bit {r x : Int} (r0 : 0 ≤ r) (r1 : r < 16777216) (a : 0 ≤ x) (b : x < 24) : (0 ≤ z_and r (z_xor (z_shl 1 x) (-1)) ∧ z_and r (z_xor (z_shl 1 x) (-1)) < 16777216) ∧ ∀ j, j < 24 → z_and r (z_xor (z_shl 1 x) (-1)) / 2 ^ j % 2 = if j = x.toNat then 0 else r / 2 ^ j % 2 := sorry
def z_shs (h : z_M) : Prop := hK h 1 = 10 ∧ hP h 1 1 = 3 ∧ (hK h 3 = 1113 ∧ hN h 3 = 4) ∧ ∀ s, s < 4 → hP h 3 s = 127 + 2 * s ∧ hK h (127 + 2 * s) = 28 ∧ hP h (127 + 2 * s) 2 = 128 + 2 * s ∧ hK h (128 + 2 * s) = 1000 ∧ hN h (128 + 2 * s) = 24
theorem c_sheetAt {h : z_M} (S : z_shs h) (x : Int) : f167_0 1 x h = z_if (0 ≤ x ∧ x ≤ 3) (z_rr (127 + 2 * (Int.toNat x)) h) (z_ex (hZ h + 1) (sN h 2 6)) := sorry
def R_sh (hc ht : z_M) : Prop := ∀ s, s < 4 → (hI hc (127 + 2 * s) 0 = hI ht 1069 s ∧ hI hc (127 + 2 * s) 1 = hI ht 1070 s) ∧ (0 ≤ hI ht 1069 s ∧ hI ht 1069 s ≤ 24 ∧ 0 ≤ hI ht 1070 s ∧ hI ht 1070 s ≤ 24) ∧ (∀ y x : Nat, y < 24 → x < 24 → (hI ht 1069 s ≤ (x : Int) ∨ hI ht 1070 s ≤ (y : Int)) → hI ht 1071 (576 * s + 24 * y + x) = 0) ∧
  (0 < hI ht 1069 s → ∀ y, y < 24 → (0 ≤ hI hc (128 + 2 * s) y ∧ hI hc (128 + 2 * s) y < 16777216) ∧ ∀ x, x < 24 → hI hc (128 + 2 * s) y / 2 ^ x % 2 = hI ht 1071 (576 * s + 24 * y + x))
theorem sh_at {hc ht : z_M} (R : R_sh hc ht) {s x y j : Int} (hs : 0 ≤ s ∧ s ≤ 3) (a : 0 ≤ y ∧ y < 24) (b : 0 ≤ x ∧ x < 24) (e : j = 576 * s + 24 * y + x) (hw : 0 < hI ht 1069 (Int.toNat s)) : z_and (z_shr (hI hc (128 + 2 * (Int.toNat s)) (Int.toNat y)) x) 1 = hI ht 1071 (Int.toNat j) ∧ (hI ht 1071 (Int.toNat j) = 0 ∨ hI ht 1071 (Int.toNat j) = 1) ∧ (0 ≤ hI hc (128 + 2 * (Int.toNat s)) (Int.toNat y) ∧ hI hc (128 + 2 * (Int.toNat s)) (Int.toNat y) < 16777216) := sorry
theorem R_ink {hc ht : z_M} (R : R_sh hc ht) {s x y j v d : Int} (hs : 0 ≤ s ∧ s ≤ 3) (a : 0 ≤ y ∧ y < 24) (b : 0 ≤ x ∧ x < 24) (e : j = 576 * s + 24 * y + x) (hx : x < hI ht 1069 (Int.toNat s)) (hy : y < hI ht 1070 (Int.toNat s))
    (hv : (0 ≤ v ∧ v < 16777216) ∧ ∀ i, i < 24 → v / 2 ^ i % 2 = if i = Int.toNat x then d else hI hc (128 + 2 * (Int.toNat s)) (Int.toNat y) / 2 ^ i % 2) : R_sh (sI hc (128 + 2 * (Int.toNat s)) (Int.toNat y) v) (sI ht 1071 (Int.toNat j) d) := sorry
theorem R_sco {hc ht : z_M} (R : R_sh hc ht) {f : Nat} {v : Int} : R_sh hc (sI ht 1064 f v) := sorry
theorem R_slo {hc ht : z_M} (R : R_sh hc ht) {a i : Nat} {v : Int} : R_sh (sL hc a i v) ht := sorry
def z_sc0 (a : Nat) : Prop := 127 ≤ a ∧ a ≤ 134
def z_scell (a : Nat) : Prop := (127 ≤ a ∧ a ≤ 134) ∨ a = 1272
def z_sch (hc : z_M) (hc' ht' : z_M) : Prop := z_shs hc' ∧ R_sh hc' ht' ∧ z_fr z_scell 0 0 hc hc'
theorem frS {hc h1 : z_M} {v : Int} (p : z_fr z_sc0 0 0 hc h1) : z_fr z_scell 0 0 hc (sL h1 1272 0 v) := sorry
theorem out_frS {hc h1 : z_M} (O : z_out hc) (p : z_fr z_sc0 0 0 hc h1) : hK h1 1272 = 1003 ∧ hN h1 1272 = 1 := sorry
/-- a sheet begins -/
theorem c_sbegin {s : Nat} (hs : s < 4) {w g : Int} {h : z_M} (S : z_shs h) :
    f427_0 (127 + 2 * s) w g h = z_rv (sA (sI (sI h (127 + 2 * s) 0 w) (127 + 2 * s) 1 g) (128 + 2 * s) (fun j => if 0 ≤ j ∧ j < 0 + 24 then 0 else hI h (128 + 2 * s) j)) := sorry
theorem t_makeSheet {s : Nat} (hs : s < 4) {w g : Int} (h : z_M) :
    f951_0 (s : Int) w g h = z_rv (sA (sI (sI h 1069 s w) 1070 s g) 1071 (fun j => if 576 * s ≤ j ∧ j < 576 * s + 576 then 0 else hI h 1071 j)) := sorry
theorem R_sbegin {hc ht : z_M} (R : R_sh hc ht) {s : Nat} (hs : s < 4) {w g : Int} (hw : 0 ≤ w ∧ w ≤ 24 ∧ 0 ≤ g ∧ g ≤ 24) : R_sh (sA (sI (sI hc (127 + 2 * s) 0 w) (127 + 2 * s) 1 g) (128 + 2 * s) (fun j => if 0 ≤ j ∧ j < 0 + 24 then 0 else hI hc (128 + 2 * s) j))
    (sA (sI (sI ht 1069 s w) 1070 s g) 1071 (fun j => if 576 * s ≤ j ∧ j < 576 * s + 576 then 0 else hI ht 1071 j)) := sorry
theorem fr_sbegin {hc : z_M} {s : Nat} (hs : s < 4) {w g : Int} {f : Nat → Int} : z_fr z_scell 0 0 hc (sA (sI (sI hc (127 + 2 * s) 0 w) (127 + 2 * s) 1 g) (128 + 2 * s) f) := sorry
end
section
set_option maxRecDepth 100000
set_option linter.unusedVariables false
set_option maxHeartbeats 200000
/-! PLAIN: the calls on sheets (printed) -/
theorem ink_loop {s x y n d : Int} (hk : 0 ≤ s ∧ s ≤ 3) (hx : 0 ≤ x) (hy : 0 ≤ y ∧ y ≤ 23) (hn : 0 < n ∧ n ≤ 2147483647) (hd : d = 0 ∨ d = 1) : ∀ (m : Nat) (o c : Int) (hc ht : z_M), z_shs hc → R_sh hc ht → y < hI ht 1070 (Int.toNat s) → x ≤ c → c ≤ 24 → (0 ≤ o ∧ o ≤ c) → (24 - c).toNat = m →
    ∃ o' hc' ht', f138_36 x y n d (127 + 2 * (Int.toNat s)) o c hc = z_ri o' hc' ∧ f880_38 s x y n d o c ht = z_ri o' ht' ∧ z_shs hc' ∧ R_sh hc' ht' ∧ z_fr z_sc0 0 0 hc hc' ∧ hI ht' 1064 0 = hI ht 1064 0 := sorry
theorem call_sheet {hc ht : z_M} (S : z_shs hc) (O : z_out hc) (R : R_sh hc ht) (s : Int) (w : Int) (g : Int)  : z_cv (f90_0 1 s w g hc) (f971_0 s w g ht) (z_q (z_sch hc) hc ht) := sorry
theorem call_ink {hc ht : z_M} (S : z_shs hc) (O : z_out hc) (R : R_sh hc ht) (s : Int) (x : Int) (y : Int) (n : Int) (d : Int) (hn : n ≤ 2147483647) (hd : d = 0 ∨ d = 1) : z_ci (f75_0 1 s x y n d 1272 hc) (f880_0 s x y n d ht) (z_q (z_sch hc) hc ht) := sorry
theorem call_isDark {hc ht : z_M} (S : z_shs hc) (O : z_out hc) (R : R_sh hc ht) (s : Int) (x : Int) (y : Int)  : z_ci (f76_0 1 s x y 1272 hc) (f882_0 s x y ht) (z_q (z_rd hc ht) hc ht) := sorry
end
section
set_option maxRecDepth 100000
set_option linter.unusedVariables false
set_option maxHeartbeats 200000
/-! PLAIN, LINES: numbers; ints alone are changed; what is foretold; how many bits; what is learnt -/
theorem m_max (a b : Int) (h : z_M) : f1_0 a b h = z_ri (max a b) h := sorry
theorem m_min (a b : Int) (h : z_M) : f2_0 a b h = z_ri (min a b) h := sorry
theorem m_abs {a : Int} (h : z_M) (ha : -1000000 ≤ a ∧ a ≤ 1000000) : f0_0 a h = z_ri (if 0 ≤ a then a else - a) h := sorry
/-- ints of W alone are changed -/
def z_ix (W : Nat → Nat → Prop) (h h' : z_M) : Prop := (h'.1 = h.1 ∧ h'.2.2 = h.2.2) ∧ ∀ a i, ¬ W a i → hI h' a i = hI h a i
theorem ix_rfl {W : Nat → Nat → Prop} {h : z_M} : z_ix W h h := sorry
theorem ix_tr {W : Nat → Nat → Prop} {h h1 h2 : z_M} (p : z_ix W h h1) (q : z_ix W h1 h2) : z_ix W h h2 := sorry
theorem ix_sI {W : Nat → Nat → Prop} {h : z_M} {a i : Nat} {v : Int} (w : W a i) : z_ix W h (sI h a i v) := sorry
theorem ix_to {W : Nat → Nat → Prop} {h h1 : z_M} {a i : Nat} {v : Int} (p : z_ix W h h1) (w : W a i) : z_ix W h (sI h1 a i v) := sorry
theorem ix_le {W V : Nat → Nat → Prop} {h h' : z_M} (p : z_ix W h h') (w : ∀ a i, W a i → V a i) : z_ix V h h' := sorry
theorem ix_K {W : Nat → Nat → Prop} {h h' : z_M} (p : z_ix W h h') (a : Nat) : hK h' a = hK h a := sorry
theorem ix_N {W : Nat → Nat → Prop} {h h' : z_M} (p : z_ix W h h') (a : Nat) : hN h' a = hN h a := sorry
theorem ix_P {W : Nat → Nat → Prop} {h h' : z_M} (p : z_ix W h h') (a i : Nat) : hP h' a i = hP h a i := sorry
theorem ix_Z {W : Nat → Nat → Prop} {h h' : z_M} (p : z_ix W h h') : hZ h' = hZ h := sorry
theorem ix_S {W : Nat → Nat → Prop} {h h' : z_M} (p : z_ix W h h') : hS h' = hS h := sorry
/-! foretelling -/
def z_fore (a b c : Int) : Int := if max a b ≤ c then min a b else if c ≤ min a b then max a b else a + b - c
theorem c_fore {a b c : Int} (ha : 0 ≤ a ∧ a ≤ 255) (hb : 0 ≤ b ∧ b ≤ 255) (hc : 0 ≤ c ∧ c ≤ 255) (h : z_M) : f1070_84 b a c h = z_ri (z_fore a b c) h := sorry
theorem t_fore {a b c : Int} (ha : 0 ≤ a ∧ a ≤ 255) (hb : 0 ≤ b ∧ b ≤ 255) (hc : 0 ≤ c ∧ c ≤ 255) (h : z_M) : f916_91 b a c h = z_ri (z_fore a b c) h := sorry
theorem fore_r {a b c : Int} (ha : 0 ≤ a ∧ a ≤ 255) (hb : 0 ≤ b ∧ b ≤ 255) (hc : 0 ≤ c ∧ c ≤ 255) : 0 ≤ z_fore a b c ∧ z_fore a b c ≤ 255 := sorry
/-- what a context was told, and the twin's: columns below w, rows from fst on, before row y, and in row y before column X -/
def R_td (d : Nat) (m fst y X w : Int) (hc ht : z_M) : Prop := ∀ a b i j : Int, (0 ≤ a ∧ a < w) → (fst ≤ b ∧ b ≤ 11) → (b < y ∨ (b = y ∧ a < X)) → i = (12 * b) + a → j = ((144 * m) + (12 * b)) + a → hI hc d (Int.toNat i) = hI ht 1110 (Int.toNat j) ∧ 0 ≤ hI ht 1110 (Int.toNat j) ∧ hI ht 1110 (Int.toNat j) ≤ 255
theorem p_fore {hc ht : z_M} {c d : Nat} {m x y w : Int} (kc : hK hc c = 53) (pd : hP hc c 0 = d) (kd : hK hc d = 1000) (nd : hN hc d = 144) (hm : 0 ≤ m ∧ m ≤ 3) (hx : 0 ≤ x ∧ x ≤ 11) (hy : 0 ≤ y ∧ y ≤ 11) (hw : x < w) (R : R_td d m (hI ht 1064 99) y x w hc ht) (e1 : hI hc c 1 = hI ht 1064 99) (e2 : 0 ≤ hI ht 1064 99 ∧ hI ht 1064 99 ≤ y) :
    ∃ v, f1070_0 c x y hc = z_ri v hc ∧ f916_0 m x y ht = z_ri v ht ∧ 0 ≤ v ∧ v ≤ 255 := sorry
end
section
set_option maxRecDepth 100000
set_option linter.unusedVariables false
set_option maxHeartbeats 200000
/-! PLAIN, LINES: bytes and bits are written -/
def R_wr (F W : Nat) (hc ht : z_M) : Prop := hI hc F 6 = hI ht 1064 60 ∧ 0 ≤ hI ht 1064 60 ∧ ∀ i : Nat, (i : Int) < hI ht 1064 60 → hI hc W i % 256 = hI ht 1094 i
def R_bt (t : Nat) (hc ht : z_M) : Prop := hI hc t 9 = hI ht 1064 100 * 2 ^ (hI ht 1064 102 - hI ht 1064 101).toNat ∧ hI hc t 10 = hI ht 1064 102 - hI ht 1064 101 ∧ (hI ht 1064 102 = 7 ∨ hI ht 1064 102 = 8) ∧ (0 ≤ hI ht 1064 101 ∧ hI ht 1064 101 < hI ht 1064 102) ∧ (0 ≤ hI ht 1064 100 ∧ hI ht 1064 100 < 2 ^ (hI ht 1064 101).toNat) ∧ hI hc t 11 = if hI ht 1064 101 = 0 then 0 else 1
/-- what is written of the component's and of the twin's ints, when bits are told -/
def z_wlc (t F W a i : Nat) : Prop := (a = t ∧ 9 ≤ i ∧ i ≤ 11) ∨ (a = F ∧ i = 6) ∨ a = W
def z_lt1 (a i : Nat) : Prop := (a = 1064 ∧ (i = 60 ∨ (100 ≤ i ∧ i ≤ 102))) ∨ a = 1094
theorem pw (k : Nat) : ∃ P : Nat, 2 ^ k = P ∧ (2 : Int) ^ k = (P : Int) := sorry
theorem tv_g {n b : Int} {k : Nat} (hk : k ≤ 7) (h0 : 0 ≤ n) (h1 : n < 128) (hb : b = 0 ∨ b = 1) : z_or (n * 2 ^ (k + 1)) (z_shl b (k : Int)) = (2 * n + b) * 2 ^ k := sorry
theorem tv_0 {t : Nat} {hc ht : z_M} {b : Int} (b1 : hI hc t 9 = hI ht 1064 100 * 2 ^ (hI ht 1064 102 - hI ht 1064 101).toNat) (b3 : hI ht 1064 102 = 7 ∨ hI ht 1064 102 = 8) (b4 : 0 ≤ hI ht 1064 101 ∧ hI ht 1064 101 < hI ht 1064 102) (b5 : 0 ≤ hI ht 1064 100 ∧ hI ht 1064 100 < 2 ^ (hI ht 1064 101).toNat) (hb : b = 0 ∨ b = 1) :
    z_or (hI hc t 9) (z_shl b ((hI ht 1064 102 - hI ht 1064 101) - 1)) = (2 * hI ht 1064 100 + b) * 2 ^ ((hI ht 1064 102 - hI ht 1064 101) - 1).toNat := sorry
theorem p_tell {hc ht : z_M} {t F W : Nat} {b : Int} (kt : hK hc t = 52) (pF : hP hc t 12 = F) (kF : hK hc F = 39) (pW : hP hc F 5 = W) (kW : hK hc W = 1002) (nW : hN hc W = 6000) (lW : W < 4294967296) (dFt : ¬ F = t) (dWt : ¬ W = t) (dWF : ¬ W = F) (hb : b = 0 ∨ b = 1)
    (rm : hI ht 1064 60 < 6000) (Rw : R_wr F W hc ht) (Rb : R_bt t hc ht) :
    ∃ hc' ht', f1067_0 t b hc = z_rv hc' ∧ f909_0 b ht = z_rv ht' ∧ R_wr F W hc' ht' ∧ R_bt t hc' ht' ∧ z_ix (z_wlc t F W) hc hc' ∧ z_ix z_lt1 ht ht' ∧ 7 * hI ht' 1064 60 + hI ht' 1064 101 ≤ 7 * hI ht 1064 60 + hI ht 1064 101 + 1 := sorry
end
section
set_option maxRecDepth 100000
set_option linter.unusedVariables false
set_option maxHeartbeats 200000
/-! PLAIN, LINES: many bits; how many bits a number gets; what is learnt -/
def S_tel (t F W : Nat) (h : z_M) : Prop := (hK h t = 52 ∧ hP h t 12 = F) ∧ (hK h F = 39 ∧ hP h F 5 = W) ∧ (hK h W = 1002 ∧ hN h W = 6000) ∧ W < 4294967296 ∧ ¬ F = t ∧ ¬ W = t ∧ ¬ W = F
theorem S_tel_ix {V : Nat → Nat → Prop} {t F W : Nat} {h h' : z_M} (p : z_ix V h h') (S : S_tel t F W h) : S_tel t F W h' := sorry
def z_LS (t F W : Nat) (hc ht : z_M) : Prop := S_tel t F W hc ∧ R_wr F W hc ht ∧ R_bt t hc ht
def z_PH (ht : z_M) : Int := 7 * hI ht 1064 60 + hI ht 1064 101
/-- so many bits are told -/
def z_ebt (t F W : Nat) (n : Int) (hc ht hc' ht' : z_M) : Prop := z_LS t F W hc' ht' ∧ z_ix (z_wlc t F W) hc hc' ∧ z_ix z_lt1 ht ht' ∧ z_PH ht' ≤ z_PH ht + n
theorem eb_0 {t F W : Nat} {hc ht : z_M} (L : z_LS t F W hc ht) : z_ebt t F W 0 hc ht hc ht := sorry
theorem eb_tr {t F W : Nat} {n m : Int} {hc ht h1 g1 h2 g2 : z_M} (p : z_ebt t F W n hc ht h1 g1) (q : z_ebt t F W m h1 g1 h2 g2) : z_ebt t F W (n + m) hc ht h2 g2 := sorry
theorem e_bit {t F W : Nat} {b : Int} {hc ht : z_M} (hb : b = 0 ∨ b = 1) (L : z_LS t F W hc ht) (r : z_PH ht ≤ 41990) :
    ∃ hc' ht', f1067_0 t b hc = z_rv hc' ∧ f909_0 b ht = z_rv ht' ∧ z_ebt t F W 1 hc ht hc' ht' := sorry
theorem e_low {t F W : Nat} {v : Int} : ∀ (n : Nat) (hc ht : z_M), n ≤ 100 → z_LS t F W hc ht → z_PH ht + n ≤ 41990 →
    ∃ hc' ht', f1066_4 t v ((n : Int) - 1) hc = z_rv hc' ∧ f934_4 v ((n : Int) - 1) ht = z_rv ht' ∧ z_ebt t F W n hc ht hc' ht' := sorry
theorem e_zer {t F W : Nat} {m e s k Z : Int} (hZ : Z ≤ 100) : ∀ (n : Nat) (z : Int) (hc ht : z_M), n ≤ 100 → 0 ≤ z → z + n = Z → z_LS t F W hc ht → z_PH ht + n ≤ 41990 →
    ∃ hc' ht', f1066_4 t 0 ((n : Int) - 1) hc = z_rv hc' ∧ f942_190 m e s k Z z ht = f942_208 m e s k Z ht' ∧ z_ebt t F W n hc ht hc' ht' := sorry
/-! how many bits -/
theorem p_bits_l {hc ht : z_M} {c : Nat} {m : Int} (kc : hK hc c = 53) (hm : 0 ≤ m ∧ m ≤ 3) (e1 : hI hc c 2 = hI ht 1111 (Int.toNat m)) (e2 : hI hc c 3 = hI ht 1112 (Int.toNat m)) : ∀ (n : Nat) (x : Int), 0 ≤ x → x + n = 12 →
    ∃ k, f1069_2 c x hc = z_ri k hc ∧ f933_2 m x ht = z_ri k ht ∧ 0 ≤ k ∧ k ≤ 12 := sorry
theorem p_bits {hc ht : z_M} {c : Nat} {m : Int} (kc : hK hc c = 53) (hm : 0 ≤ m ∧ m ≤ 3) (e1 : hI hc c 2 = hI ht 1111 (Int.toNat m)) (e2 : hI hc c 3 = hI ht 1112 (Int.toNat m)) :
    ∃ k, f1069_0 c hc = z_ri k hc ∧ f933_0 m ht = z_ri k ht ∧ 0 ≤ k ∧ k ≤ 12 := sorry
/-! what is learnt -/
theorem shr_1 (x : Int) : z_shr x 1 = x / 2 := sorry
theorem div_2 {x : Int} (a : 0 ≤ x) (b : x ≤ 2147483647) : z_div x 2 = x / 2 := sorry
/-- the sum and the number of a context, and the twin's -/
def R_cx (c : Nat) (m : Int) (hc ht : z_M) : Prop := hI hc c 2 = hI ht 1111 (Int.toNat m) ∧ hI hc c 3 = hI ht 1112 (Int.toNat m)
theorem p_learn {hc ht : z_M} {c : Nat} {m e s : Int} (kc : hK hc c = 53) (hm : 0 ≤ m ∧ m ≤ 3) (R : R_cx c m hc ht) (he : -1000 ≤ e ∧ e ≤ 1000) (b1 : 0 ≤ hI ht 1111 (Int.toNat m) ∧ hI ht 1111 (Int.toNat m) ≤ 1000000) (b2 : 0 ≤ hI ht 1112 (Int.toNat m) ∧ hI ht 1112 (Int.toNat m) ≤ 1000000) :
    ∃ A B, f1072_0 c e s hc = z_rv (sI (sI hc c 2 A) c 3 B) ∧ f913_0 m e s ht = z_rv (sI (sI ht 1111 (Int.toNat m) A) 1112 (Int.toNat m) B) ∧ (0 ≤ A ∧ A ≤ hI ht 1111 (Int.toNat m) + 1000) ∧ (0 ≤ B ∧ B ≤ hI ht 1112 (Int.toNat m) + 1) := sorry
end
section
set_option maxRecDepth 100000
set_option linter.unusedVariables false
set_option maxHeartbeats 200000
/-! PLAIN, LINES: an error is told -/
theorem eb_le {t F W : Nat} {n m : Int} {hc ht hc' ht' : z_M} (p : z_ebt t F W n hc ht hc' ht') (h : n ≤ m) : z_ebt t F W m hc ht hc' ht' := sorry
theorem shr_nn {x k : Int} (a : 0 ≤ x) : 0 ≤ z_shr x k := sorry
theorem p_108 {hc ht : z_M} {t F W c : Nat} {m e mm : Int} (kc : hK hc c = 53) (hm : 0 ≤ m ∧ m ≤ 3) (hmm : 0 ≤ mm) (R : R_cx c m hc ht) (L : z_LS t F W hc ht) (r : z_PH ht + 40 ≤ 41990) :
    ∃ hc' ht', f1062_108 t c e mm hc = z_ri e hc' ∧ f942_156 m e mm ht = f942_239 m e ht' ∧ z_ebt t F W 33 hc ht hc' ht' := sorry
end
section
set_option maxRecDepth 100000
set_option linter.unusedVariables false
set_option maxHeartbeats 200000
/-! PLAIN, LINES: the error of a sample -/
def z_e0 (nr st s b : Int) : Int := if s - b ≤ 0 then -((nr - (s - b)) / st) else ((s - b) + nr) / st
def z_q1 (rg e : Int) : Int := if (if 0 ≤ e then e else e + rg) < (rg + 1) / 2 then (if 0 ≤ e then e else e + rg) else (if 0 ≤ e then e else e + rg) - rg
def z_mm (e : Int) : Int := if 0 ≤ e then 2 * e else (-2) * e - 1
theorem div_nn {x y : Int} (a : 0 ≤ x) (b : x ≤ 2147483647) (c : 1 ≤ y) : z_div x y = x / y := sorry
theorem div_b {x y : Int} (a : 0 ≤ x) (c : 1 ≤ y) : 0 ≤ x / y ∧ x / y ≤ x := sorry
theorem c_43 {t c : Nat} {rg e : Int} {h : z_M} (kt : hK h t = 52) (n3 : hI h t 3 = rg) (hr : 1 ≤ rg ∧ rg ≤ 256) (he : -300 ≤ e ∧ e ≤ 300) : f1062_43 t c e h = f1062_108 t c (z_q1 rg e) (z_mm (z_q1 rg e)) h := sorry
theorem t_step {h : z_M} {nr : Int} (e : hI h 1064 97 = nr) (hn : 0 ≤ nr ∧ nr ≤ 3) : f939_0 h = z_ri (2 * nr + 1) h := sorry
theorem t_range {h : z_M} {nr : Int} (e : hI h 1064 97 = nr) (hn : 0 ≤ nr ∧ nr ≤ 3) (e2 : hI h 1064 98 = 255) : f936_0 h = z_ri ((255 + 2 * nr) / (2 * nr + 1) + 1) h := sorry
theorem t_clip {h : z_M} (e : hI h 1064 98 = 255) (x : Int) : f912_0 x h = z_ri (max 0 (min 255 x)) h := sorry
theorem t_108 {h : z_M} {m a nr rg : Int} (e : hI h 1064 97 = nr) (hn : 0 ≤ nr ∧ nr ≤ 3) (e2 : hI h 1064 98 = 255) (hg : rg = (255 + 2 * nr) / (2 * nr + 1) + 1) (hr : 1 ≤ rg ∧ rg ≤ 256) (ha : -600 ≤ a ∧ a ≤ 600) :
    f942_108 m a h = f942_156 m (if a < (rg + 1) / 2 then a else a - rg) (z_mm (if a < (rg + 1) / 2 then a else a - rg)) h := sorry
/-- near is 0 to 3: what was told is the same, whether the error was brought into its range before or not -/
theorem tm {nr s b : Int} (hn : 0 ≤ nr ∧ nr ≤ 3) (hs : 0 ≤ s ∧ s ≤ 255) (hb : 0 ≤ b ∧ b ≤ 255) {st rg e0 e1 : Int} (hst : st = 2 * nr + 1) (hrg : rg = (255 + 2 * nr) / (2 * nr + 1) + 1) (h0 : e0 = z_e0 nr st s b) (h1 : e1 = z_q1 rg e0) :
    (1 ≤ rg ∧ rg ≤ 256) ∧ (-300 ≤ e0 ∧ e0 ≤ 300) ∧ (-300 ≤ e1 ∧ e1 ≤ 300) ∧ (-600 ≤ st * e0 ∧ st * e0 ≤ 600) ∧ (-600 ≤ st * e1 ∧ st * e1 ≤ 600) ∧ st * rg ≤ 300 ∧ 0 ≤ st * rg ∧
    max 0 (min 255 ((b + st * e1) + (if -nr ≤ b + st * e1 then (if b + st * e1 ≤ 255 + nr then 0 else -(st * rg)) else st * rg))) = max 0 (min 255 (b + st * e0)) := sorry
end
section
set_option maxRecDepth 100000
set_option linter.unusedVariables false
set_option maxHeartbeats 200000
/-! PLAIN, LINES: a sample's error, both ways -/
theorem top8 : z_w (z_shl 1 8 - 1) = 255 := sorry
theorem c_err {hc : z_M} {t co cx sm : Nat} {x y v s nr st : Int} (kt : hK hc t = 52) (kco : hK hc co = 41) (psm : hP hc co 0 = sm) (ksm : hK hc sm = 1000) (nsm : hN hc sm = 144) (hx : 0 ≤ x ∧ x ≤ 11) (hy : 0 ≤ y ∧ y ≤ 11)
    (rs : hI hc sm (Int.toNat ((12 * y) + x)) = s) (hs : 0 ≤ s ∧ s ≤ 255) (hv : 0 ≤ v ∧ v ≤ 255) (n1 : hI hc t 1 = nr) (n2 : hI hc t 2 = st) (hn : 0 ≤ nr ∧ nr ≤ 3) (hst : st = 2 * nr + 1) :
    f1062_0 t co ((12 * y) + x) v cx hc = f1062_43 t cx (z_e0 nr st s v) hc := sorry
theorem t_tell {ht : z_M} {m x y v s nr st rg : Int} (hm : 0 ≤ m ∧ m ≤ 3) (hx : 0 ≤ x ∧ x ≤ 11) (hy : 0 ≤ y ∧ y ≤ 11) (E2 : f916_0 m x y ht = z_ri v ht) (ts : hI ht 1088 (Int.toNat (((144 * m) + (12 * y)) + x)) = s) (hs : 0 ≤ s ∧ s ≤ 255) (hv : 0 ≤ v ∧ v ≤ 255)
    (t97 : hI ht 1064 97 = nr) (t98 : hI ht 1064 98 = 255) (hn : 0 ≤ nr ∧ nr ≤ 3) (hst : st = 2 * nr + 1) (hrg : rg = (255 + 2 * nr) / (2 * nr + 1) + 1) (hr : 1 ≤ rg ∧ rg ≤ 256) (T : (-300 ≤ z_e0 nr st s v ∧ z_e0 nr st s v ≤ 300) ∧ (-600 ≤ st * z_e0 nr st s v ∧ st * z_e0 nr st s v ≤ 600)) :
    f942_0 m x y ht = f942_108 m (if 0 ≤ z_e0 nr st s v then z_e0 nr st s v else z_e0 nr st s v + rg) (sI ht 1110 (Int.toNat (((144 * m) + (12 * y)) + x)) (max 0 (min 255 (v + st * z_e0 nr st s v)))) := sorry
end
section
set_option maxRecDepth 100000
set_option linter.unusedVariables false
set_option maxHeartbeats 200000
/-! PLAIN, LINES: one sample is told -/
theorem LS_ixc {V : Nat → Nat → Prop} {t F W : Nat} {hc hc' ht : z_M} (p : z_ix V hc hc') (d : ∀ a i, z_wlc t F W a i → ¬ V a i) (L : z_LS t F W hc ht) : z_LS t F W hc' ht := sorry
theorem LS_ixt {V : Nat → Nat → Prop} {t F W : Nat} {hc ht ht' : z_M} (p : z_ix V ht ht') (d : ∀ a i, z_lt1 a i → ¬ V a i) (L : z_LS t F W hc ht) : z_LS t F W hc ht' ∧ z_PH ht' = z_PH ht := sorry
/-- the twin's ints when an error is told -/
def z_lt2 (n a i : Nat) : Prop := z_lt1 a i ∨ (a = 1110 ∧ i = n)
theorem mm_nn (e : Int) : 0 ≤ z_mm e := sorry
theorem p_err {hc ht : z_M} {t F W co cx sm : Nat} {m x y v s nr st rg : Int} (kc : hK hc cx = 53) (hm : 0 ≤ m ∧ m ≤ 3) (hx : 0 ≤ x ∧ x ≤ 11) (hy : 0 ≤ y ∧ y ≤ 11) (kco : hK hc co = 41) (psm : hP hc co 0 = sm) (ksm : hK hc sm = 1000) (nsm : hN hc sm = 144)
    (L : z_LS t F W hc ht) (Rc : R_cx cx m hc ht) (n1 : hI hc t 1 = nr) (n2 : hI hc t 2 = st) (n3 : hI hc t 3 = rg) (hn : 0 ≤ nr ∧ nr ≤ 3) (hst : st = 2 * nr + 1) (hrg : rg = (255 + 2 * nr) / (2 * nr + 1) + 1) (t97 : hI ht 1064 97 = nr) (t98 : hI ht 1064 98 = 255)
    (E2 : f916_0 m x y ht = z_ri v ht) (hv : 0 ≤ v ∧ v ≤ 255) (rs : hI hc sm (Int.toNat ((12 * y) + x)) = s) (ts : hI ht 1088 (Int.toNat (((144 * m) + (12 * y)) + x)) = s) (hs : 0 ≤ s ∧ s ≤ 255) (r : z_PH ht + 40 ≤ 41990) :
    ∃ e TL hm' gm, f1062_0 t co ((12 * y) + x) v cx hc = z_ri e hm' ∧ f942_0 m x y ht = f942_239 m e gm ∧ ((-300 ≤ e ∧ e ≤ 300) ∧ (-600 ≤ st * e ∧ st * e ≤ 600) ∧ st * rg ≤ 300 ∧ 0 ≤ st * rg) ∧ (0 ≤ TL ∧ TL ≤ 255) ∧
      max 0 (min 255 ((v + st * e) + (if -nr ≤ v + st * e then (if v + st * e ≤ 255 + nr then 0 else -(st * rg)) else st * rg))) = TL ∧ z_LS t F W hm' gm ∧ z_ix (z_wlc t F W) hc hm' ∧ z_ix (z_lt2 (Int.toNat (((144 * m) + (12 * y)) + x))) ht gm ∧ z_PH gm ≤ z_PH ht + 33 ∧ hI gm 1110 (Int.toNat (((144 * m) + (12 * y)) + x)) = TL := sorry
theorem c_go {hc hm : z_M} {t P AL CX co sm cx d F W : Nat} {m x y v e nr st rg TL A B : Int} (kt : hK hc t = 52) (pP : hP hc t 0 = P) (kP : hK hc P = 40) (pAL : hP hc P 0 = AL) (kAL : hK hc AL = 1109) (nAL : hN hc AL = 4) (pCX : hP hc t 7 = CX) (kCX : hK hc CX = 1110) (nCX : hN hc CX = 4)
    (pco : hP hc AL (Int.toNat m) = co) (pcx : hP hc CX (Int.toNat m) = cx) (kcx : hK hc cx = 53) (pd : hP hc cx 0 = d) (kd : hK hc d = 1000) (nd : hN hc d = 144) (hm0 : 0 ≤ m ∧ m ≤ 3) (hx : 0 ≤ x ∧ x ≤ 11) (hy : 0 ≤ y ∧ y ≤ 11) (dd : (¬ P = t ∧ ¬ P = W ∧ ¬ t = W) ∧ ¬ P = d ∧ d < 4294967296)
    (n1 : hI hc t 1 = nr) (n2 : hI hc t 2 = st) (n3 : hI hc t 3 = rg) (n4 : hI hc P 4 = 8) (n7 : hI hc P 7 = 64) (hn : 0 ≤ nr ∧ nr ≤ 3) (hst : 0 ≤ st ∧ st ≤ 7) (he : (-300 ≤ e ∧ e ≤ 300) ∧ (-600 ≤ st * e ∧ st * e ≤ 600) ∧ st * rg ≤ 300 ∧ 0 ≤ st * rg) (hv : 0 ≤ v ∧ v ≤ 255)
    (E1 : f1070_0 cx x y hc = z_ri v hc) (B1 : f1062_0 t co ((12 * y) + x) v cx hc = z_ri e hm) (Q1 : z_ix (z_wlc t F W) hc hm)
    (TQ : max 0 (min 255 ((v + st * e) + (if -nr ≤ v + st * e then (if v + st * e ≤ 255 + nr then 0 else -(st * rg)) else st * rg))) = TL)
    (G1 : f1072_0 cx e 64 (sI hm d (Int.toNat ((12 * y) + x)) TL) = z_rv (sI (sI (sI hm d (Int.toNat ((12 * y) + x)) TL) cx 2 A) cx 3 B)) :
    f1056_0 t m x y hc = z_rv (sI (sI (sI hm d (Int.toNat ((12 * y) + x)) TL) cx 2 A) cx 3 B) := sorry
/-! a scan -/
def S_sc (t k f n : Nat) (h : z_M) : Prop := S_tel t (657 + 62 * k) (680 + 62 * k) h ∧ (hP h t 0 = 658 + 62 * k ∧ hK h (658 + 62 * k) = 40 ∧ hP h (658 + 62 * k) 0 = 659 + 62 * k ∧ hK h (659 + 62 * k) = 1109 ∧ hN h (659 + 62 * k) = 4) ∧ (hP h t 7 = t + 1 ∧ hK h (t + 1) = 1110 ∧ hN h (t + 1) = 4) ∧
  (∀ c, c < 4 → hP h (659 + 62 * k) c = 661 + 62 * k + 2 * c ∧ hK h (661 + 62 * k + 2 * c) = 41 ∧ hP h (661 + 62 * k + 2 * c) 0 = 662 + 62 * k + 2 * c ∧ hK h (662 + 62 * k + 2 * c) = 1000 ∧ hN h (662 + 62 * k + 2 * c) = 144) ∧
  (∀ c, c < n → hP h (t + 1) (f + c) = t + 2 + 2 * c ∧ hK h (t + 2 + 2 * c) = 53 ∧ hP h (t + 2 + 2 * c) 0 = t + 3 + 2 * c ∧ hK h (t + 3 + 2 * c) = 1000 ∧ hN h (t + 3 + 2 * c) = 144) ∧ (k ≤ 2 ∧ 1272 < t ∧ t + 20 < 4294967296 ∧ f + n ≤ 4)
theorem S_sc_ix {V : Nat → Nat → Prop} {t k f n : Nat} {h h' : z_M} (p : z_ix V h h') (S : S_sc t k f n h) : S_sc t k f n h' := sorry
def R_k (t k e : Nat) (nr : Int) (hc ht : z_M) : Prop := (hI hc t 1 = nr ∧ hI hc t 2 = 2 * nr + 1 ∧ hI hc t 3 = (255 + 2 * nr) / (2 * nr + 1) + 1) ∧ (0 ≤ nr ∧ nr ≤ 3) ∧ (hI ht 1064 97 = nr ∧ hI ht 1064 98 = 255) ∧
  (hI hc (658 + 62 * k) 2 = hI ht 1064 45 ∧ 1 ≤ hI ht 1064 45 ∧ hI ht 1064 45 ≤ 12) ∧ (hI hc (658 + 62 * k) 3 = hI ht 1064 46 ∧ 1 ≤ hI ht 1064 46 ∧ hI ht 1064 46 ≤ 12) ∧
  hI hc (658 + 62 * k) 4 = 8 ∧ (hI hc (658 + 62 * k) 7 = 64 ∧ hI ht 1064 52 = 64) ∧ (hI hc (658 + 62 * k) 8 = 4 ∧ hI ht 1064 53 = 4) ∧ (hI hc (658 + 62 * k) 9 = hI ht 1064 54 ∧ 0 ≤ hI ht 1064 54 ∧ hI ht 1064 54 ≤ 12) ∧
  ∀ (c : Nat) (x y m : Int), c < e → m = (c : Int) → (0 ≤ x ∧ x < hI ht 1064 45) → (0 ≤ y ∧ y < hI ht 1064 46) → hI hc (662 + 62 * k + 2 * c) (Int.toNat ((12 * y) + x)) = hI ht 1088 (Int.toNat (((144 * m) + (12 * y)) + x)) ∧ 0 ≤ hI ht 1088 (Int.toNat (((144 * m) + (12 * y)) + x)) ∧ hI ht 1088 (Int.toNat (((144 * m) + (12 * y)) + x)) ≤ 255
def z_gc (t k a i : Nat) : Prop := (a = t ∧ 9 ≤ i ∧ i ≤ 11) ∨ (a = 657 + 62 * k ∧ i = 6) ∨ a = 680 + 62 * k ∨ (t + 2 ≤ a ∧ a ≤ t + 9)
def z_gt (a i : Nat) : Prop := (a = 1064 ∧ (i = 60 ∨ (100 ≤ i ∧ i ≤ 102) ∨ i = 99)) ∨ a = 1094 ∨ a = 1110 ∨ a = 1111 ∨ a = 1112
theorem R_k_ix {t k e : Nat} {nr : Int} {hc ht hc' ht' : z_M} (p : z_ix (z_gc t k) hc hc') (q : z_ix z_gt ht ht') (h0 : 1272 < t) (hk : k ≤ 2) (he : e ≤ 4) (R : R_k t k e nr hc ht) : R_k t k e nr hc' ht' := sorry
def R_v (t f n : Nat) (y : Int) (X : Nat → Int) (N : Int) (hc ht : z_M) : Prop := (0 ≤ hI ht 1064 99 ∧ hI ht 1064 99 ≤ y) ∧ ∀ c, c < n → (hI hc (t + 2 + 2 * c) 1 = hI ht 1064 99 ∧ (hI hc (t + 2 + 2 * c) 2 = hI ht 1111 (f + c) ∧ hI hc (t + 2 + 2 * c) 3 = hI ht 1112 (f + c)) ∧ (0 ≤ hI ht 1111 (f + c) ∧ hI ht 1111 (f + c) ≤ 31 * N) ∧ (0 ≤ hI ht 1112 (f + c) ∧ hI ht 1112 (f + c) ≤ N)) ∧ R_td (t + 3 + 2 * c) ((f + c : Nat) : Int) (hI ht 1064 99) y (X c) (hI ht 1064 45) hc ht
def z_st (t k f n e : Nat) (nr y : Int) (X : Nat → Int) (N : Int) (hc ht : z_M) : Prop := S_sc t k f n hc ∧ R_k t k e nr hc ht ∧ R_v t f n y X N hc ht ∧ z_LS t (657 + 62 * k) (680 + 62 * k) hc ht ∧ z_PH ht ≤ N
theorem p_go {hc ht : z_M} {t k f n e j : Nat} {m x y nr N : Int} {X : Nat → Int} (Z : z_st t k f n e nr y X N hc ht) (he : f + n ≤ e ∧ e ≤ 4) (hj : j < n) (hm : m = ((f + j : Nat) : Int)) (hx : 0 ≤ x ∧ x < hI ht 1064 45) (hy : 0 ≤ y ∧ y < hI ht 1064 46) (hX : X j = x) (hN : 8 ≤ N ∧ N ≤ 30000) :
    ∃ hc' ht', f1056_0 t m x y hc = z_rv hc' ∧ f942_0 m x y ht = z_rv ht' ∧ z_st t k f n e nr y (fun c => if c = j then x + 1 else X c) (N + 33) hc' ht' ∧ z_ix (z_gc t k) hc hc' ∧ z_ix z_gt ht ht' := sorry
end
section
set_option maxRecDepth 100000
set_option linter.unusedVariables false
set_option maxHeartbeats 200000
/-! PLAIN, LINES: bytes; the end of a run of bits -/
def S_fr (F W : Nat) (h : z_M) : Prop := (hK h F = 39 ∧ hP h F 5 = W) ∧ (hK h W = 1002 ∧ hN h W = 6000) ∧ W < 4294967296 ∧ ¬ W = F
theorem S_fr_ix {V : Nat → Nat → Prop} {F W : Nat} {h h' : z_M} (p : z_ix V h h') (S : S_fr F W h) : S_fr F W h' := sorry
theorem S_fr_of {t F W : Nat} {h : z_M} (S : S_tel t F W h) : S_fr F W h := sorry
theorem c_put {F W : Nat} {b s : Int} {h : z_M} (S : S_fr F W h) (e : hI h F 6 = s) (a : 0 ≤ s ∧ s < 6000) : f527_0 F b h = z_rv (sI (sI h F 6 (s + 1)) W (Int.toNat s) (z_i8 (z_i8 b))) := sorry
theorem t_ly {b s : Int} {h : z_M} (e : hI h 1064 60 = s) (a : 0 ≤ s ∧ s < 9000) : f931_0 b h = z_rv (sI (sI h 1094 (Int.toNat s) b) 1064 60 (s + 1)) := sorry
def z_pfw (F W a i : Nat) : Prop := (a = F ∧ i = 6) ∨ a = W
def z_pt (a i : Nat) : Prop := (a = 1064 ∧ i = 60) ∨ a = 1094
theorem p_put {hc ht : z_M} {F W : Nat} {b b' : Int} (S : S_fr F W hc) (Rw : R_wr F W hc ht) (rm : hI ht 1064 60 < 6000) (hb : b % 256 = b') :
    ∃ hc' ht', f527_0 F b hc = z_rv hc' ∧ f931_0 b' ht = z_rv ht' ∧ S_fr F W hc' ∧ R_wr F W hc' ht' ∧ hI ht' 1064 60 = hI ht 1064 60 + 1 ∧ z_ix (z_pfw F W) hc hc' ∧ z_ix z_pt ht ht' := sorry
theorem t_fill : ∀ (n : Nat) (ht : z_M), n ≤ 7 → hI ht 1064 102 - hI ht 1064 101 = (n : Int) + 1 → 1 ≤ hI ht 1064 101 → hI ht 1064 102 ≤ 8 → (0 ≤ hI ht 1064 100 ∧ hI ht 1064 100 * 2 ^ (n + 1) ≤ 255) → (0 ≤ hI ht 1064 60 ∧ hI ht 1064 60 < 6000) →
    ∃ ht', f915_0 ht = f915_15 ht' ∧ (hI ht' 1064 60 = hI ht 1064 60 + 1 ∧ hI ht' 1094 (Int.toNat (hI ht 1064 60)) = hI ht 1064 100 * 2 ^ (n + 1) ∧ hI ht' 1064 100 = 0 ∧ hI ht' 1064 101 = 0 ∧ hI ht' 1064 102 = if hI ht 1064 100 * 2 ^ (n + 1) = 255 then 7 else 8) ∧
      z_ix (fun a i => (a = 1064 ∧ (i = 60 ∨ (100 ≤ i ∧ i ≤ 102))) ∨ (a = 1094 ∧ i = Int.toNat (hI ht 1064 60))) ht ht' := sorry
theorem c_flush {hc hp : z_M} {t F W : Nat} {v : Int} (S : S_tel t F W hc) (E : f527_0 F v hc = z_rv hp) (Q : z_ix (z_pfw F W) hc hp) (e9 : hI hc t 9 = v) :
    f1063_0 t hc = z_rv (sI (sI (sI hp t 10 (if v = 255 then 7 else 8)) t 9 0) t 11 0) := sorry
/-- bytes are whole -/
def z_wh (ht : z_M) : Prop := hI ht 1064 101 = 0 ∧ hI ht 1064 102 = 8
theorem LS_wh {t F W : Nat} {hc ht : z_M} (S : S_tel t F W hc) (Rw : R_wr F W hc ht) (a : hI hc t 9 = 0) (b : hI hc t 10 = 8) (c : hI hc t 11 = 0) (d : hI ht 1064 100 = 0) (w : z_wh ht) : z_LS t F W hc ht := sorry
theorem p_end {hc ht : z_M} {t F W : Nat} (L : z_LS t F W hc ht) (r : z_PH ht ≤ 41900) :
    ∃ hc' ht', f1061_0 t hc = z_rv hc' ∧ f915_0 ht = z_rv ht' ∧ z_LS t F W hc' ht' ∧ z_wh ht' ∧ z_ix (z_wlc t F W) hc hc' ∧ z_ix z_lt1 ht ht' ∧ z_PH ht' ≤ z_PH ht + 14 := sorry
end
section
set_option maxRecDepth 100000
set_option linter.unusedVariables false
set_option maxHeartbeats 200000
/-! PLAIN, LINES: rows, and a whole scan -/
theorem rem_nn {x y : Int} (a : 0 ≤ x) (c : 1 ≤ y) (d : y ≤ 1000) : z_rem x y = x % y := sorry
theorem dr {n x j w : Int} (hn : n = 1 ∨ n = 2 ∨ n = 3 ∨ n = 4) (hj : 0 ≤ j ∧ j < n) (hx : 0 ≤ x ∧ x < w) (hw : w ≤ 12) : z_rem (x * n + j) n = j ∧ z_div (x * n + j) n = x ∧ (¬ w * n ≤ x * n + j) ∧ z_w (w * n) = w * n ∧ z_w (x * n + j + 1) = x * n + (j + 1) ∧ z_w (x + 1) = x + 1 := sorry
theorem wn {n w : Int} (hn : n = 1 ∨ n = 2 ∨ n = 3 ∨ n = 4) (hw : 0 ≤ w ∧ w ≤ 12) : z_w (w * n) = w * n := sorry
theorem cs {c d : Nat} (h : c < 100000) (e : d = c + 1) : z_w ((c : Int) + 1) = (d : Int) := sorry
theorem cfj {f j d : Nat} (h : f + j < 100000) (e : d = f + j) : z_w ((f : Int) + (j : Int)) = (d : Int) := sorry
theorem wgl {w g : Int} (a : 0 ≤ w ∧ w ≤ 12) (b : 0 ≤ g ∧ g ≤ 12) : z_w (w * g) = w * g := sorry
theorem wbl {a b : Int} (h : a % 256 = b) : z_and a 255 = b := sorry
theorem st_le {t k f n e : Nat} {nr y N N' : Int} {X X' : Nat → Int} {hc ht : z_M} (Z : z_st t k f n e nr y X N hc ht) (hX : ∀ c, c < n → X' c ≤ X c) (hN : N ≤ N') : z_st t k f n e nr y X' N' hc ht := sorry
theorem st_row {t k f n e : Nat} {nr y N w : Int} {hc ht : z_M} (Z : z_st t k f n e nr y (fun _ => w) N hc ht) (hw : hI ht 1064 45 = w) : z_st t k f n e nr (y + 1) (fun _ => 0) N hc ht := sorry
theorem rx {t k f n e j : Nat} {nr y m w H a1 a2 a3 a4 : Int} (he : f + n ≤ e ∧ e ≤ 4) (hj : j < n) (hm : m = ((f + j : Nat) : Int)) (hy : 0 ≤ y ∧ y < H) : ∀ (q : Nat) (x N : Int) (X : Nat → Int) (hc ht : z_M), z_st t k f n e nr y X N hc ht → hI ht 1064 45 = w → hI ht 1064 46 = H → x + q = w → 0 ≤ x → X j = x → 8 ≤ N → N + 33 * q ≤ 30000 →
    ∃ hc' ht', f1058_75 t y m x hc = f1058_99 t y m hc' ∧ f914_103 a1 a2 a3 a4 y m x ht = f914_128 a1 a2 a3 a4 y m ht' ∧ z_st t k f n e nr y (fun c => if c = j then w else X c) (N + 33 * q) hc' ht' ∧ z_ix (z_gc t k) hc hc' ∧ z_ix z_gt ht ht' := sorry
def R_f (t f n : Nat) (tr : Int) (h : z_M) : Prop := hI h t 4 = ((f : Nat) : Int) ∧ hI h t 5 = ((n : Nat) : Int) ∧ hI h t 6 = tr
theorem R_f_ix {t k f n : Nat} {tr : Int} {hc hc' : z_M} (p : z_ix (z_gc t k) hc hc') (h0 : 1272 < t) (hk : k ≤ 2) (R : R_f t f n tr hc) : R_f t f n tr hc' := sorry
theorem rc {t k f n e : Nat} {nr y w H tr a3 a4 : Int} (he : f + n ≤ e ∧ e ≤ 4) (hy : 0 ≤ y ∧ y < H) : ∀ (q j : Nat) (N : Int) (X : Nat → Int) (hc ht : z_M), z_st t k f n e nr y X N hc ht → R_f t f n tr hc → hI ht 1064 45 = w → hI ht 1064 46 = H → j + q = n → (∀ c, c < n → (c < j → X c = w) ∧ (j ≤ c → X c = 0)) → 8 ≤ N → N + 396 * q ≤ 30000 →
    ∃ hc' ht', f1058_60 t y ((f + j : Nat) : Int) hc = z_rv hc' ∧ f914_94 ((f : Nat) : Int) ((f + n : Nat) : Int) a3 a4 y ((f + j : Nat) : Int) ht = f914_134 ((f : Nat) : Int) ((f + n : Nat) : Int) a3 a4 y ht' ∧ z_st t k f n e nr y (fun _ => w) (N + 396 * q) hc' ht' ∧ z_ix (z_gc t k) hc hc' ∧ z_ix z_gt ht ht' := sorry
/-! samples in turn -/
theorem rz {t k f n e : Nat} {nr y w H tr x a3 a4 : Int} (he : f + n ≤ e ∧ e ≤ 4) (hn : 1 ≤ n) (hy : 0 ≤ y ∧ y < H) (hx : 0 ≤ x ∧ x < w) : ∀ (q j : Nat) (N : Int) (X : Nat → Int) (hc ht : z_M), z_st t k f n e nr y X N hc ht → R_f t f n tr hc → hI ht 1064 45 = w → hI ht 1064 46 = H → j + q = n → (∀ c, c < n → (c < j → X c = x + 1) ∧ (j ≤ c → X c = x)) → 8 ≤ N → N + 33 * q ≤ 30000 →
    ∃ hc' ht', f1058_10 t y (x * (n : Int) + (j : Int)) hc = f1058_10 t y (x * (n : Int) + (n : Int)) hc' ∧ f914_60 ((f : Nat) : Int) ((f + n : Nat) : Int) a3 a4 y x ((f + j : Nat) : Int) ht = f914_82 ((f : Nat) : Int) ((f + n : Nat) : Int) a3 a4 y x ht' ∧ z_st t k f n e nr y (fun _ => x + 1) (N + 33 * q) hc' ht' ∧ z_ix (z_gc t k) hc hc' ∧ z_ix z_gt ht ht' := sorry
theorem rw2 {t k f n e : Nat} {nr y w H tr a3 a4 : Int} (he : f + n ≤ e ∧ e ≤ 4) (hn : 1 ≤ n) (hy : 0 ≤ y ∧ y < H) : ∀ (q : Nat) (x N : Int) (hc ht : z_M), z_st t k f n e nr y (fun _ => x) N hc ht → R_f t f n tr hc → hI ht 1064 45 = w → hI ht 1064 46 = H → x + q = w → 0 ≤ x → 8 ≤ N → N + 132 * q ≤ 30000 →
    ∃ hc' ht', f1058_10 t y (x * (n : Int)) hc = z_rv hc' ∧ f914_48 ((f : Nat) : Int) ((f + n : Nat) : Int) a3 a4 y x ht = f914_134 ((f : Nat) : Int) ((f + n : Nat) : Int) a3 a4 y ht' ∧ z_st t k f n e nr y (fun _ => w) (N + 132 * q) hc' ht' ∧ z_ix (z_gc t k) hc hc' ∧ z_ix z_gt ht ht' := sorry
theorem p_row {t k f n e : Nat} {nr y w H tr N a4 B : Int} {hc ht : z_M} (hB1 : 396 * (n : Int) ≤ B) (hB2 : tr = 2 → 1584 ≤ B) (he : f + n ≤ e ∧ e ≤ 4) (hn : 1 ≤ n) (hy : 0 ≤ y ∧ y < H) (Z : z_st t k f n e nr y (fun _ => 0) N hc ht) (F : R_f t f n tr hc) (hw : hI ht 1064 45 = w) (hH : hI ht 1064 46 = H) (hN : 8 ≤ N ∧ N + B ≤ 30000) :
    ∃ hc' ht', f1058_0 t y hc = z_rv hc' ∧ f914_31 ((f : Nat) : Int) ((f + n : Nat) : Int) tr a4 y ht = f914_134 ((f : Nat) : Int) ((f + n : Nat) : Int) tr a4 y ht' ∧ z_st t k f n e nr y (fun _ => w) (N + B) hc' ht' ∧ z_ix (z_gc t k) hc hc' ∧ z_ix z_gt ht ht' := sorry
end
section
set_option maxRecDepth 100000
set_option linter.unusedVariables false
set_option maxHeartbeats 200000
/-! PLAIN, LINES: a whole scan -/
theorem t_begin {row v : Int} (ht : z_M) : ∃ ht', f908_0 row v ht = z_rv ht' ∧ hI ht' 1064 99 = row ∧ (∀ c, c < 4 → hI ht' 1111 c = v ∧ hI ht' 1112 c = 1) ∧ z_ix (fun a i => (a = 1064 ∧ i = 99) ∨ a = 1111 ∨ a = 1112) ht ht' := sorry
theorem c_begin1 {hc : z_M} {c P : Nat} {y s : Int} (kc : hK hc c = 53) (kP : hK hc P = 40) (d : ¬ P = c) (e : hI hc P 8 = s) : f1068_0 c y P hc = z_rv (sI (sI (sI hc c 1 y) c 2 s) c 3 1) := sorry
/-- the contexts begin -/
theorem c_begins {t k f n : Nat} {y s tr num an : Int} (hy : ¬ an = 0 ∨ y = 0) : ∀ (q j : Nat) (hc : z_M), S_sc t k f n hc → R_f t f n tr hc → hI hc (658 + 62 * k) 8 = s → j + q = n →
    ∃ hc', f1057_69 t num y an ((f + j : Nat) : Int) hc = f1057_112 t num y hc' ∧ (∀ c, j ≤ c → c < n → hI hc' (t + 2 + 2 * c) 1 = y ∧ hI hc' (t + 2 + 2 * c) 2 = s ∧ hI hc' (t + 2 + 2 * c) 3 = 1) ∧ z_ix (fun a _ => t + 2 + 2 * j ≤ a ∧ a ≤ t + 9) hc hc' := sorry
/-- after a beginning -/
theorem V_new {t f n : Nat} {y N : Int} {hc ht : z_M} (hn : f + n ≤ 4) (hN : 8 ≤ N) (h0 : 0 ≤ y) (a : ∀ c, c < n → hI hc (t + 2 + 2 * c) 1 = y ∧ hI hc (t + 2 + 2 * c) 2 = 4 ∧ hI hc (t + 2 + 2 * c) 3 = 1) (b : hI ht 1064 99 = y) (c : ∀ c, c < 4 → hI ht 1111 c = 4 ∧ hI ht 1112 c = 1) : R_v t f n y (fun _ => 0) N hc ht := sorry
theorem rst_b {num : Int} (hn : 0 ≤ num ∧ num ≤ 100) : z_w (208 + z_rem num 8) % 256 = z_w (208 + z_rem num 8) := sorry
theorem w1p {y : Int} (a : 0 ≤ y) (b : y ≤ 1000) : z_w (y + 1) = y + 1 := sorry
/-- a mark between rows -/
theorem p_rst {hc ht : z_M} {t F W : Nat} {num : Int} (L : z_LS t F W hc ht) (w : z_wh ht) (r : z_PH ht ≤ 41900) (hn : 0 ≤ num ∧ num ≤ 100) :
    ∃ hc' g1 g2, f1065_0 t num hc = z_rv hc' ∧ f931_0 255 ht = z_rv g1 ∧ f931_0 (z_w (208 + z_rem num 8)) g1 = z_rv g2 ∧ z_LS t F W hc' g2 ∧ z_wh g2 ∧ z_ix (z_wlc t F W) hc hc' ∧ z_ix z_lt1 ht g2 ∧ z_PH g2 ≤ z_PH ht + 14 := sorry
theorem fin_t {ht gm : z_M} {a1 a2 a3 num y H : Int} (hH : hI ht 1064 46 = H) (hy : y + 1 = H) (hr : 0 ≤ hI ht 1064 54) (hb : 0 ≤ y ∧ y ≤ 100) (E : f915_0 ht = z_rv gm) : f914_134 a1 a2 a3 num y ht = z_rv gm := sorry
theorem p_data {t k f n e : Nat} {nr w H tr B B4 T : Int} (hB1 : 396 * (n : Int) ≤ B) (hB2 : tr = 2 → 1584 ≤ B) (hB4 : B4 = B + 40) (hT : T ≤ 29000) (he : f + n ≤ e ∧ e ≤ 4) (hn : 1 ≤ n) : ∀ (q : Nat) (y num N : Int) (hc ht : z_M), z_st t k f n e nr y (fun _ => 0) N hc ht → R_f t f n tr hc → hI ht 1064 45 = w → hI ht 1064 46 = H → y + (q + 1) = H → (0 ≤ num ∧ num ≤ y) → 8 ≤ N → N + B4 * ((q : Int) + 1) ≤ T →
    ∃ hc' ht', f1057_112 t num y hc = z_rv hc' ∧ f914_31 ((f : Nat) : Int) ((f + n : Nat) : Int) tr num y ht = z_rv ht' ∧ z_LS t (657 + 62 * k) (680 + 62 * k) hc' ht' ∧ z_wh ht' ∧ z_ix (z_gc t k) hc hc' ∧ z_ix z_gt ht ht' ∧ z_PH ht' ≤ T := sorry
theorem p_all {t k f n e : Nat} {nr tr B : Int} {hc ht : z_M} (hB1 : 396 * (n : Int) ≤ B) (hB2 : tr = 2 → 1584 ≤ B) (he : f + n ≤ e ∧ e ≤ 4) (hn : 1 ≤ n) (S : S_sc t k f n hc) (K : R_k t k e nr hc ht) (F : R_f t f n tr hc) (Rw : R_wr (657 + 62 * k) (680 + 62 * k) hc ht) (a9 : hI hc t 9 = 0) (a10 : hI hc t 10 = 8) (a11 : hI hc t 11 = 0) (b : 7 * hI ht 1064 60 + 12 * B + 488 ≤ 29000) :
    ∃ hc' ht', f1057_0 t hc = z_rv hc' ∧ f914_0 ((f : Nat) : Int) ((f + n : Nat) : Int) tr ht = z_rv ht' ∧ R_wr (657 + 62 * k) (680 + 62 * k) hc' ht' ∧ z_ix (z_gc t k) hc hc' ∧ z_ix z_gt ht ht' ∧ 7 * hI ht' 1064 60 ≤ 7 * hI ht 1064 60 + 12 * B + 488 := sorry
end
section
set_option maxRecDepth 100000
set_option linter.unusedVariables false
set_option maxHeartbeats 200000
/-! PLAIN, LINES: the head of a file -/
theorem shr_8 (x : Int) : z_shr x 8 = x / 256 := sorry
def R_h (F P : Nat) (k n : Int) (hc ht : z_M) : Prop := (hI hc P 2 = hI ht 1064 45 ∧ 1 ≤ hI ht 1064 45 ∧ hI ht 1064 45 ≤ 12) ∧ (hI hc P 3 = hI ht 1064 46 ∧ 1 ≤ hI ht 1064 46 ∧ hI ht 1064 46 ≤ 12) ∧
  (hI hc P 4 = 8 ∧ hI ht 1064 47 = 8) ∧ (hI hc P 5 = n ∧ hI ht 1064 48 = n) ∧ (hI hc P 6 = 0 ∧ hI ht 1064 55 = 0) ∧ (hI hc P 7 = 64 ∧ hI ht 1064 52 = 64) ∧ (hI hc P 8 = 4 ∧ hI ht 1064 53 = 4) ∧ (hI hc P 9 = hI ht 1064 54 ∧ 0 ≤ hI ht 1064 54 ∧ hI ht 1064 54 ≤ 12) ∧
  (hI hc F 0 = k ∧ hI ht 1064 43 = k) ∧ ∀ c, c < 4 → hI ht 1089 c = 0
def z_hdk (F W P AL : Nat) (co : Nat → Nat) (k n : Int) (hc ht : z_M) : Prop := (hP hc F 1 = P ∧ hK hc P = 40 ∧ hP hc P 0 = AL ∧ hK hc AL = 1109 ∧ hN hc AL = 4) ∧ (¬ P = F ∧ ¬ P = W) ∧ (∀ c, c < 4 → hP hc AL c = co c ∧ hK hc (co c) = 41 ∧ hP hc (co c) 1 = 0) ∧ R_h F P k n hc ht
theorem hk_ix {F W P AL : Nat} {co : Nat → Nat} {k n : Int} {hc ht hc' ht' : z_M} (p : z_ix (z_pfw F W) hc hc') (q : z_ix z_pt ht ht') (w : W < 4294967296 ∧ ¬ W = F) (H : z_hdk F W P AL co k n hc ht) : z_hdk F W P AL co k n hc' ht' := sorry
theorem p_h1 {F W P AL : Nat} {co : Nat → Nat} {k n : Int} (hn : 1 ≤ n ∧ n ≤ 4) : ∀ (q : Nat) (j : Int) (hc ht : z_M), S_fr F W hc → R_wr F W hc ht → z_hdk F W P AL co k n hc ht → j + q = n → 0 ≤ j → hI ht 1064 60 + 3 * q ≤ 5900 →
    ∃ hc' ht', f542_168 F j hc = f542_203 F hc' ∧ f945_211 j ht = f945_243 ht' ∧ S_fr F W hc' ∧ R_wr F W hc' ht' ∧ z_ix (z_pfw F W) hc hc' ∧ z_ix z_pt ht ht' ∧ hI ht' 1064 60 = hI ht 1064 60 + 3 * q := sorry
theorem p_h2 {F W P AL : Nat} {co : Nat → Nat} {k n : Int} {hc ht : z_M} (hn : 1 ≤ n ∧ n ≤ 4) (Sf : S_fr F W hc) (H : z_hdk F W P AL co k n hc ht) : ∀ (q : Nat) (j : Int), j + q = n → 0 ≤ j →
    f542_267 F j hc = f542_387 F hc ∧ f945_291 j ht = f945_380 ht := sorry
theorem p_head {F W P AL : Nat} {co : Nat → Nat} {k n : Int} {hc ht : z_M} (hn : 1 ≤ n ∧ n ≤ 4) (Sf : S_fr F W hc) (Rw : R_wr F W hc ht) (H : z_hdk F W P AL co k n hc ht) (b : hI ht 1064 60 = 0) :
    ∃ hc' ht', f542_0 F hc = z_rv hc' ∧ z_kv (f931_0 255 ht) (fun h2 => z_kv (f931_0 216 h2) (fun h3 => f945_75 0 h3) z_ex) z_ex = f945_403 ht' ∧ S_fr F W hc' ∧ R_wr F W hc' ht' ∧ z_ix (z_pfw F W) hc hc' ∧ z_ix z_pt ht ht' ∧ hI ht' 1064 60 ≤ 40 := sorry
end
section
set_option maxRecDepth 100000
set_option linter.unusedVariables false
set_option maxHeartbeats 200000
/-! PLAIN, LINES: a teller is made -/
theorem fr_new {W : Nat → Prop} {z s : Nat} {h h' : z_M} (p : z_fr (fun a => W a ∨ (hZ h < a ∧ a < 4294967296)) z s h h') : z_fr W z s h h' := sorry
theorem ix_fr {V : Nat → Nat → Prop} {W : Nat → Prop} {h h' : z_M} (p : z_ix V h h') (w : ∀ a i, V a i → W a) : z_fr W 0 0 h h' := sorry
theorem c_ctx1 {h : z_M} (hz : hZ h < 4294967000) : f1071_0 (hZ h + 1) (sN h 53 4) = z_rv (sP (sN (sN h 53 4) 1000 (Int.toNat 144)) (hZ h + 1) 0 (hZ (sN h 53 4) + 1)) := sorry
theorem ctx_f {h h3 : z_M} (e : h3 = sP (sN (sN h 53 4) 1000 (Int.toNat 144)) (hZ h + 1) 0 (hZ (sN h 53 4) + 1)) (hz : hZ h < 4294967000) : hZ h3 = hZ h + 2 ∧ hS h3 = hS h + 148 ∧ (hK h3 (hZ h + 1) = 53 ∧ hP h3 (hZ h + 1) 0 = hZ h + 2 ∧ hK h3 (hZ h + 2) = 1000 ∧ hN h3 (hZ h + 2) = 144) ∧ z_fr (fun _ => False) 2 148 h h3 := sorry
theorem c_ctxs {t f n : Nat} (hf : f + n ≤ 4) (lt : t < 4000000000) : ∀ (q j : Nat) (h : z_M), hK h t = 52 → hP h t 7 = t + 1 → hK h (t + 1) = 1110 → hN h (t + 1) = 4 → hZ h = t + 1 + 2 * j → j + q = n →
    ∃ h', f1060_77 t ((f : Nat) : Int) ((n : Nat) : Int) ((f + j : Nat) : Int) h = z_rv h' ∧ (hZ h' = t + 1 + 2 * n ∧ hS h' = hS h + 148 * q) ∧ (∀ c, j ≤ c → c < n → hP h' (t + 1) (f + c) = t + 2 + 2 * c ∧ hK h' (t + 2 + 2 * c) = 53 ∧ hP h' (t + 2 + 2 * c) 0 = t + 3 + 2 * c ∧ hK h' (t + 3 + 2 * c) = 1000 ∧ hN h' (t + 3 + 2 * c) = 144) ∧
      (∀ c, c < j → hP h' (t + 1) (f + c) = hP h (t + 1) (f + c)) ∧ (hK h' (t + 1) = 1110 ∧ hN h' (t + 1) = 4) ∧ z_fr (fun a => a = t + 1) (2 * q) (148 * q) h h' := sorry
/-- a teller, all of it -/
theorem c_teller {h : z_M} {k f n : Nat} {nr tr : Int} (hk : k ≤ 2) (hz : 1272 ≤ hZ h ∧ hZ h < 3000000000) (hf : f + n ≤ 4) (hn : 0 ≤ nr ∧ nr ≤ 3) (kF : hK h (657 + 62 * k) = 39) (kP : hK h (658 + 62 * k) = 40) (bits : hI h (658 + 62 * k) 4 = 8) :
    ∃ h', f1064_0 (hZ h + 1) (657 + 62 * k) (658 + 62 * k) nr ((f : Nat) : Int) ((n : Nat) : Int) tr (sN h 52 13) = z_rv h' ∧ (hZ h' = hZ h + 2 + 2 * n ∧ hS h' = hS h + 17 + 148 * n) ∧ z_fr (fun _ => False) (2 + 2 * n) (17 + 148 * n) h h' ∧
      (hK h' (hZ h + 1) = 52 ∧ hP h' (hZ h + 1) 12 = 657 + 62 * k ∧ hP h' (hZ h + 1) 0 = 658 + 62 * k ∧ hP h' (hZ h + 1) 7 = hZ h + 2) ∧ (hK h' (hZ h + 2) = 1110 ∧ hN h' (hZ h + 2) = 4) ∧
      (∀ c, c < n → hP h' (hZ h + 2) (f + c) = hZ h + 3 + 2 * c ∧ hK h' (hZ h + 3 + 2 * c) = 53 ∧ hP h' (hZ h + 3 + 2 * c) 0 = hZ h + 4 + 2 * c ∧ hK h' (hZ h + 4 + 2 * c) = 1000 ∧ hN h' (hZ h + 4 + 2 * c) = 144) ∧
      (hI h' (hZ h + 1) 1 = nr ∧ hI h' (hZ h + 1) 2 = 2 * nr + 1 ∧ hI h' (hZ h + 1) 3 = (255 + 2 * nr) / (2 * nr + 1) + 1) ∧ R_f (hZ h + 1) f n tr h' ∧ (hI h' (hZ h + 1) 9 = 0 ∧ hI h' (hZ h + 1) 10 = 8 ∧ hI h' (hZ h + 1) 11 = 0) := sorry
end
section
set_option maxRecDepth 100000
set_option linter.unusedVariables false
set_option maxHeartbeats 200000
/-! PLAIN, LINES: a scan is written -/
/-- ints of V alone are changed of what was there; at most z cells are new, with s slots -/
def z_fi (V : Nat → Nat → Prop) (z s : Nat) (h h' : z_M) : Prop := (∀ a, (a ≤ hZ h ∨ 4294967296 ≤ a) → (h'.1 a = h.1 a ∧ h'.2.2.1 a = h.2.2.1 a ∧ h'.2.2.2.1 a = h.2.2.2.1 a) ∧ ∀ i, ¬ V a i → hI h' a i = hI h a i) ∧ (hX h' = hX h ∧ hG h' = hG h ∧ hW h' = hW h) ∧ hZ h ≤ hZ h' ∧ hZ h' ≤ hZ h + z ∧ hS h' ≤ hS h + s
theorem fi_tr {V : Nat → Nat → Prop} {z z' s s' : Nat} {h h1 h2 : z_M} (p : z_fi V z s h h1) (q : z_fi V z' s' h1 h2) : z_fi V (z + z') (s + s') h h2 := sorry
theorem fi_le {V U : Nat → Nat → Prop} {z z' s s' : Nat} {h h' : z_M} (p : z_fi V z s h h') (w : ∀ a i, V a i → (a ≤ hZ h ∨ 4294967296 ≤ a) → U a i) (hz : z ≤ z') (hs : s ≤ s') : z_fi U z' s' h h' := sorry
theorem fi_fr {V : Nat → Nat → Prop} {z s : Nat} {h h' : z_M} (p : z_fr (fun _ => False) z s h h') : z_fi V z s h h' := sorry
theorem fi_ix {V : Nat → Nat → Prop} {h h' : z_M} (p : z_ix V h h') : z_fi V 0 0 h h' := sorry
theorem fi_rfl {V : Nat → Nat → Prop} {h : z_M} : z_fi V 0 0 h h := sorry
theorem fi_K {V : Nat → Nat → Prop} {z s : Nat} {h h' : z_M} (p : z_fi V z s h h') {a : Nat} (ha : a ≤ hZ h) : hK h' a = hK h a := sorry
theorem fi_N {V : Nat → Nat → Prop} {z s : Nat} {h h' : z_M} (p : z_fi V z s h h') {a : Nat} (ha : a ≤ hZ h) : hN h' a = hN h a := sorry
theorem fi_P {V : Nat → Nat → Prop} {z s : Nat} {h h' : z_M} (p : z_fi V z s h h') {a : Nat} (i : Nat) (ha : a ≤ hZ h) : hP h' a i = hP h a i := sorry
theorem fi_I {V : Nat → Nat → Prop} {z s : Nat} {h h' : z_M} (p : z_fi V z s h h') {a i : Nat} (ha : a ≤ hZ h) (n : ¬ V a i) : hI h' a i = hI h a i := sorry
theorem p_s1 {F W P AL : Nat} {co : Nat → Nat} {k n a m e tr nr : Int} (he : e = a + m) (hb : 0 ≤ a ∧ 1 ≤ m ∧ e ≤ 4) : ∀ (q : Nat) (j : Int) (hc ht : z_M), S_fr F W hc → R_wr F W hc ht → z_hdk F W P AL co k n hc ht → j + q = e → a ≤ j → hI ht 1064 60 + 2 * q ≤ 5900 →
    ∃ hc' ht', f543_40 F nr a m tr j hc = f543_90 F nr a m tr hc' ∧ f938_25 a e tr j ht = f938_67 a e tr ht' ∧ S_fr F W hc' ∧ R_wr F W hc' ht' ∧ z_ix (z_pfw F W) hc hc' ∧ z_ix z_pt ht ht' ∧ hI ht' 1064 60 = hI ht 1064 60 + 2 * q := sorry
theorem p_s0 {F W P AL : Nat} {co : Nat → Nat} {k n a m e tr nr : Int} {hc ht : z_M} (he : e = a + m) (hb : 0 ≤ a ∧ 1 ≤ m ∧ e ≤ 4) (Sf : S_fr F W hc) (Rw : R_wr F W hc ht) (H : z_hdk F W P AL co k n hc ht) (b : hI ht 1064 60 ≤ 5800) :
    ∃ hc' ht', f543_13 F nr a m tr hc = f543_90 F nr a m tr hc' ∧ f938_0 a e tr ht = f938_67 a e tr ht' ∧ S_fr F W hc' ∧ R_wr F W hc' ht' ∧ z_ix (z_pfw F W) hc hc' ∧ z_ix z_pt ht ht' ∧ hI ht' 1064 60 ≤ hI ht 1064 60 + 13 := sorry
/-- while lines are written -/
def z_wp (k e : Nat) (hc ht : z_M) : Prop := z_hdk (657 + 62 * k) (680 + 62 * k) (658 + 62 * k) (659 + 62 * k) (fun c => 661 + 62 * k + 2 * c) ((k : Nat) : Int) ((e : Nat) : Int) hc ht ∧ (∀ c, c < 4 → hP hc (661 + 62 * k + 2 * c) 0 = 662 + 62 * k + 2 * c ∧ hK hc (662 + 62 * k + 2 * c) = 1000 ∧ hN hc (662 + 62 * k + 2 * c) = 144) ∧ (k ≤ 2 ∧ 1272 ≤ hZ hc ∧ hZ hc < 2999999900) ∧
  ∀ (c : Nat) (x y m : Int), c < e → m = (c : Int) → (0 ≤ x ∧ x < hI ht 1064 45) → (0 ≤ y ∧ y < hI ht 1064 46) → hI hc (662 + 62 * k + 2 * c) (Int.toNat ((12 * y) + x)) = hI ht 1088 (Int.toNat (((144 * m) + (12 * y)) + x)) ∧ 0 ≤ hI ht 1088 (Int.toNat (((144 * m) + (12 * y)) + x)) ∧ hI ht 1088 (Int.toNat (((144 * m) + (12 * y)) + x)) ≤ 255
def z_ws (k e : Nat) (nr : Int) (hc ht : z_M) : Prop := z_wp k e hc ht ∧ (hI ht 1064 97 = nr ∧ hI ht 1064 98 = 255)
/-- what the twin reads of its picture of lines -/
def z_rt (a i : Nat) : Prop := (a = 1064 ∧ (43 ≤ i ∧ i ≤ 55) ∧ ¬ i = 44) ∨ a = 1089 ∨ a = 1088
theorem wp_fi {U : Nat → Nat → Prop} {k e z s : Nat} {hc ht hc' ht' : z_M} (p : z_fi (z_pfw (657 + 62 * k) (680 + 62 * k)) z s hc hc') (q : z_ix U ht ht') (du : ∀ a i, z_rt a i → ¬ U a i) (he : e ≤ 4) (hz : hZ hc' < 2999999900) (Z : z_wp k e hc ht) : z_wp k e hc' ht' := sorry
theorem ws_fi {k e z s : Nat} {nr : Int} {hc ht hc' ht' : z_M} (p : z_fi (z_pfw (657 + 62 * k) (680 + 62 * k)) z s hc hc') (q : z_ix z_gt ht ht') (he : e ≤ 4) (hz : hZ hc' < 2999999900) (Z : z_ws k e nr hc ht) : z_ws k e nr hc' ht' := sorry
theorem p_scan {k e f n : Nat} {nr tr B : Int} {hc ht : z_M} (hB1 : 396 * (n : Int) ≤ B) (hB2 : tr = 2 → 1584 ≤ B) (he : f + n ≤ e ∧ e ≤ 4) (hn : 1 ≤ n) (hr : 0 ≤ nr ∧ nr ≤ 3) (htr : 0 ≤ tr ∧ tr ≤ 2) (Sf : S_fr (657 + 62 * k) (680 + 62 * k) hc) (Rw : R_wr (657 + 62 * k) (680 + 62 * k) hc ht) (Z : z_ws k e nr hc ht) (hz : hZ hc < 2999999800) (b : 7 * hI ht 1064 60 + 12 * B + 600 ≤ 29000) :
    ∃ hc' ht', f543_13 (657 + 62 * k) nr ((f : Nat) : Int) ((n : Nat) : Int) tr hc = z_rv hc' ∧ f938_0 ((f : Nat) : Int) ((f + n : Nat) : Int) tr ht = z_rv ht' ∧ S_fr (657 + 62 * k) (680 + 62 * k) hc' ∧ R_wr (657 + 62 * k) (680 + 62 * k) hc' ht' ∧ z_ws k e nr hc' ht' ∧ z_fi (z_pfw (657 + 62 * k) (680 + 62 * k)) (2 + 2 * n) (17 + 148 * n) hc hc' ∧ z_ix z_gt ht ht' ∧ 7 * hI ht' 1064 60 ≤ 7 * hI ht 1064 60 + 12 * B + 600 := sorry
end
section
set_option maxRecDepth 100000
set_option linter.unusedVariables false
set_option maxHeartbeats 200000
/-! PLAIN, LINES: a file of lines is written -/
theorem p_w0 {k e : Nat} {nr : Int} (h0 : k = 0) (he : 1 ≤ e ∧ e ≤ 4) (hr : 0 ≤ nr ∧ nr ≤ 3) : ∀ (q j : Nat) (hc ht : z_M), S_fr (657 + 62 * k) (680 + 62 * k) hc → R_wr (657 + 62 * k) (680 + 62 * k) hc ht → z_ws k e nr hc ht → j + q = e → hZ hc + 4 * q < 2999999800 → 7 * hI ht 1064 60 + 5360 * q ≤ 28000 →
    ∃ hc' ht', f541_27 (657 + 62 * k) nr ((j : Nat) : Int) hc = f541_79 (657 + 62 * k) hc' ∧ f945_420 ((j : Nat) : Int) ht = f945_443 ht' ∧ S_fr (657 + 62 * k) (680 + 62 * k) hc' ∧ R_wr (657 + 62 * k) (680 + 62 * k) hc' ht' ∧ z_ws k e nr hc' ht' ∧ z_fi (z_pfw (657 + 62 * k) (680 + 62 * k)) (4 * q) (165 * q) hc hc' ∧ z_ix z_gt ht ht' ∧ 7 * hI ht' 1064 60 ≤ 7 * hI ht 1064 60 + 5360 * q := sorry
theorem p_w1 {k e : Nat} {nr : Int} {hc ht : z_M} (h0 : ¬ k = 0) (he : 1 ≤ e ∧ e ≤ 4) (hr : 0 ≤ nr ∧ nr ≤ 3) (Sf : S_fr (657 + 62 * k) (680 + 62 * k) hc) (Rw : R_wr (657 + 62 * k) (680 + 62 * k) hc ht) (Z : z_ws k e nr hc ht) (hz : hZ hc < 2999999700) (hB : 7 * hI ht 1064 60 ≤ 5000) :
    ∃ hc' ht', f541_27 (657 + 62 * k) nr 0 hc = f541_79 (657 + 62 * k) hc' ∧ f945_403 ht = f945_459 ht' ∧ S_fr (657 + 62 * k) (680 + 62 * k) hc' ∧ R_wr (657 + 62 * k) (680 + 62 * k) hc' ht' ∧ z_ws k e nr hc' ht' ∧ z_fi (z_pfw (657 + 62 * k) (680 + 62 * k)) (2 + 2 * e) (17 + 148 * e) hc hc' ∧ z_ix z_gt ht ht' ∧ 7 * hI ht' 1064 60 ≤ 28000 := sorry
def z_wt (a i : Nat) : Prop := z_gt a i ∨ (a = 1064 ∧ (i = 44 ∨ i = 97 ∨ i = 98))
theorem p_write {k e : Nat} {nr : Int} {hc ht : z_M} (he : 1 ≤ e ∧ e ≤ 4) (hr : 0 ≤ nr ∧ nr ≤ 3) (Sf : S_fr (657 + 62 * k) (680 + 62 * k) hc) (has : hI hc (657 + 62 * k) 3 = 1) (Z0 : z_wp k e hc ht) (hz : hZ hc < 2999999000) :
    ∃ v hc' ht', f541_0 (657 + 62 * k) nr hc = z_ri v hc' ∧ f945_0 nr ht = z_ri v ht' ∧ v = hI ht' 1064 60 ∧ S_fr (657 + 62 * k) (680 + 62 * k) hc' ∧ R_wr (657 + 62 * k) (680 + 62 * k) hc' ht' ∧ z_fi (z_pfw (657 + 62 * k) (680 + 62 * k)) (2 + 4 * e) (17 + 165 * e) hc hc' ∧ z_ix z_wt ht ht' ∧ 0 ≤ v ∧ v ≤ 4100 := sorry
end
section
set_option maxRecDepth 100000
set_option linter.unusedVariables false
set_option maxHeartbeats 200000
/-! PLAIN, LINES: a picture of lines begins -/
def z_xp (V R : Nat → Nat → Prop) (h h' : z_M) : Prop := (h'.1 = h.1 ∧ h'.2.2.1 = h.2.2.1 ∧ h'.2.2.2.2 = h.2.2.2.2) ∧ (∀ a i, ¬ V a i → hI h' a i = hI h a i) ∧ ∀ a i, ¬ R a i → hP h' a i = hP h a i
theorem xp_rfl {V R : Nat → Nat → Prop} {h : z_M} : z_xp V R h h := sorry
theorem xp_tr {V R : Nat → Nat → Prop} {h h1 h2 : z_M} (p : z_xp V R h h1) (q : z_xp V R h1 h2) : z_xp V R h h2 := sorry
theorem xp_le {V R V' R' : Nat → Nat → Prop} {h h' : z_M} (p : z_xp V R h h') (v : ∀ a i, V a i → V' a i) (r : ∀ a i, R a i → R' a i) : z_xp V' R' h h' := sorry
theorem xp_ix {V R : Nat → Nat → Prop} {h h' : z_M} (p : z_ix V h h') : z_xp V R h h' := sorry
theorem xp_sP {V R : Nat → Nat → Prop} {h h1 : z_M} {a i v : Nat} (p : z_xp V R h h1) (r : R a i) : z_xp V R h (sP h1 a i v) := sorry
theorem xp_sI {V R : Nat → Nat → Prop} {h h1 : z_M} {a i : Nat} {v : Int} (p : z_xp V R h h1) (r : V a i) : z_xp V R h (sI h1 a i v) := sorry
theorem xp_K {V R : Nat → Nat → Prop} {h h' : z_M} (p : z_xp V R h h') (a : Nat) : hK h' a = hK h a := sorry
theorem xp_N {V R : Nat → Nat → Prop} {h h' : z_M} (p : z_xp V R h h') (a : Nat) : hN h' a = hN h a := sorry
theorem xp_Z {V R : Nat → Nat → Prop} {h h' : z_M} (p : z_xp V R h h') : hZ h' = hZ h := sorry
theorem xp_S {V R : Nat → Nat → Prop} {h h' : z_M} (p : z_xp V R h h') : hS h' = hS h := sorry
/-- frames of lines: what never changes -/
def S_ln (k : Nat) (h : z_M) : Prop := S_fr (657 + 62 * k) (680 + 62 * k) h ∧ (hP h (657 + 62 * k) 1 = 658 + 62 * k ∧ hK h (658 + 62 * k) = 40 ∧ hP h (658 + 62 * k) 0 = 659 + 62 * k ∧ hK h (659 + 62 * k) = 1109 ∧ hN h (659 + 62 * k) = 4) ∧
  (∀ c, c < 4 → hP h (659 + 62 * k) c = 661 + 62 * k + 2 * c ∧ hK h (661 + 62 * k + 2 * c) = 41 ∧ hP h (661 + 62 * k + 2 * c) 0 = 662 + 62 * k + 2 * c ∧ hK h (662 + 62 * k + 2 * c) = 1000 ∧ hN h (662 + 62 * k + 2 * c) = 144) ∧ k ≤ 2
theorem S_ln_xp {V R : Nat → Nat → Prop} {k : Nat} {h h' : z_M} (p : z_xp V R h h') (r : ∀ a i, R a i → (661 + 62 * k ≤ a ∧ a ≤ 667 + 62 * k) ∧ i = 1) (S : S_ln k h) : S_ln k h' := sorry
theorem c_clear_l {co sm : Nat} (ls : sm < 4294967296) : ∀ (q : Nat) (x : Int) (h : z_M), hK h co = 41 → hP h co 0 = sm → hK h sm = 1000 → hN h sm = 144 → x + q = 144 → 0 ≤ x →
    ∃ h', f549_2 co x h = f549_22 co h' ∧ z_ix (fun a _ => a = sm) h h' := sorry
theorem c_clear {co sm : Nat} {h : z_M} (ls : sm < 4294967296) (k1 : hK h co = 41) (p1 : hP h co 0 = sm) (k2 : hK h sm = 1000) (n2 : hN h sm = 144) :
    ∃ h', f549_0 co h = z_rv h' ∧ hP h' co 1 = 0 ∧ z_xp (fun a _ => a = sm ∨ a = co) (fun a i => a = co ∧ i = 1) h h' := sorry
theorem c_beg {k : Nat} : ∀ (q c : Nat) (h : z_M), S_ln k h → c + q = 4 →
    ∃ h', f544_10 (658 + 62 * k) (659 + 62 * k) 4 ((c : Nat) : Int) h = f544_31 (658 + 62 * k) h' ∧ (∀ j, c ≤ j → j < 4 → hP h' (661 + 62 * k + 2 * j) 1 = 0) ∧ z_xp (fun a _ => 661 + 62 * k ≤ a ∧ a ≤ 668 + 62 * k) (fun a i => (661 + 62 * k + 2 * c ≤ a ∧ a ≤ 667 + 62 * k) ∧ i = 1) h h' := sorry
/-- what a new picture of lines holds -/
theorem c_picture {k : Nat} {w g n : Int} {h : z_M} (S : S_ln k h) (hw : 1 ≤ w ∧ w ≤ 12) (hg : 1 ≤ g ∧ g ≤ 12) (hn : 1 ≤ n ∧ n ≤ 4) :
    ∃ v h', f522_0 (657 + 62 * k) w g 8 n h = z_ri v h' ∧ (∀ j, j < 4 → hP h' (661 + 62 * k + 2 * j) 1 = 0) ∧ (hI h' (658 + 62 * k) 2 = w ∧ hI h' (658 + 62 * k) 3 = g ∧ hI h' (658 + 62 * k) 4 = 8 ∧ hI h' (658 + 62 * k) 5 = n ∧ hI h' (658 + 62 * k) 6 = 0 ∧ hI h' (658 + 62 * k) 7 = 64 ∧ hI h' (658 + 62 * k) 8 = 4 ∧ hI h' (657 + 62 * k) 3 = 1) ∧
      z_xp (fun a i => (658 + 62 * k ≤ a ∧ a ≤ 668 + 62 * k) ∨ (a = 657 + 62 * k ∧ i = 3)) (fun a i => (661 + 62 * k ≤ a ∧ a ≤ 667 + 62 * k) ∧ i = 1) h h' := sorry
end
section
set_option maxRecDepth 100000
set_option linter.unusedVariables false
set_option maxHeartbeats 200000
/-! PLAIN, LINES: the samples are put -/
theorem mul_b {w g : Int} (a : 0 ≤ w ∧ w ≤ 12) (b : 0 ≤ g ∧ g ≤ 12) : 0 ≤ w * g ∧ w * g ≤ 144 := sorry
theorem dm_b {w g i : Int} (a : 1 ≤ w ∧ w ≤ 12) (b : 0 ≤ i ∧ i < w * g) : (0 ≤ i % w ∧ i % w < w) ∧ (0 ≤ i / w ∧ i / w < g) := sorry
/-- every place has its number -/
theorem dm_at {w g x y : Int} (a : 1 ≤ w) (hx : 0 ≤ x ∧ x < w) (hy : 0 ≤ y ∧ y < g) : (0 ≤ y * w + x ∧ y * w + x < w * g) ∧ (y * w + x) / w = y ∧ (y * w + x) % w = x := sorry
theorem c_smp {r6 pc ps F P AL co sm : Nat} {kp c n nr rs w g : Int} (hb : 1 ≤ w ∧ w ≤ 12) (hg : 1 ≤ g ∧ g ≤ 12) (hcn : (0 ≤ c ∧ c < n) ∧ n ≤ 4 ∧ 0 ≤ kp ∧ kp + n ≤ 8) : ∀ (q : Nat) (i : Int) (h : z_M), i + q = w * g → 0 ≤ i → (∀ j, 0 ≤ j ∧ j < i → hI h sm (Int.toNat ((12 * (j / w)) + (j % w))) = hI h ps (Int.toNat ((12 * (j / w)) + (j % w)))) →
    hK h 1 = 10 → hP h 1 0 = 2 → (hK h 2 = 1112 ∧ hN h 2 = 8) → hP h 2 (Int.toNat (kp + c)) = pc → (hK h pc = 11 ∧ hP h pc 2 = ps) → (hK h ps = 1000 ∧ hN h ps = 144) → hK h r6 = 11 → (hK h F = 39 ∧ hP h F 1 = P) → (hK h P = 40 ∧ hP h P 0 = AL) → (hK h AL = 1109 ∧ hN h AL = 4) → hP h AL (Int.toNat c) = co → (hK h co = 41 ∧ hP h co 0 = sm) → (hK h sm = 1000 ∧ hN h sm = 144) →
    (¬ sm = ps ∧ ¬ sm = r6 ∧ ¬ sm = P ∧ ¬ sm = F ∧ sm < 4294967296) → (hI h r6 0 = w ∧ hI h r6 1 = g) → (hI h P 2 = w ∧ hI h P 3 = g ∧ hI h P 4 = 8 ∧ hI h P 5 = n ∧ hI h F 3 = 1) → (∀ j, j < 144 → 0 ≤ hI h ps j ∧ hI h ps j ≤ 255) →
    ∃ h', f148_47 1 kp n nr rs r6 F c i h = f148_121 1 kp n nr rs r6 F c h' ∧ (∀ j, 0 ≤ j ∧ j < w * g → hI h' sm (Int.toNat ((12 * (j / w)) + (j % w))) = hI h ps (Int.toNat ((12 * (j / w)) + (j % w)))) ∧ z_ix (fun a _ => a = sm) h h' := sorry
end
section
set_option maxRecDepth 100000
set_option linter.unusedVariables false
set_option maxHeartbeats 200000
/-! PLAIN: frames of a call: ints of V, references of R; new cells, slots -/
def z_fp (V R : Nat → Nat → Prop) (z s : Nat) (h h' : z_M) : Prop := (∀ a, (a ≤ hZ h ∨ 4294967296 ≤ a) → (h'.1 a = h.1 a ∧ h'.2.2.1 a = h.2.2.1 a) ∧ (∀ i, ¬ V a i → hI h' a i = hI h a i) ∧ ∀ i, ¬ R a i → hP h' a i = hP h a i) ∧ (hX h' = hX h ∧ hG h' = hG h ∧ hW h' = hW h) ∧ hZ h ≤ hZ h' ∧ hZ h' ≤ hZ h + z ∧ hS h' ≤ hS h + s
theorem fp_tr {V R : Nat → Nat → Prop} {z z' s s' : Nat} {h h1 h2 : z_M} (p : z_fp V R z s h h1) (q : z_fp V R z' s' h1 h2) : z_fp V R (z + z') (s + s') h h2 := sorry
theorem fp_le {V R V' R' : Nat → Nat → Prop} {z z' s s' : Nat} {h h' : z_M} (p : z_fp V R z s h h') (v : ∀ a i, V a i → (a ≤ hZ h ∨ 4294967296 ≤ a) → V' a i) (r : ∀ a i, R a i → R' a i) (hz : z ≤ z') (hs : s ≤ s') : z_fp V' R' z' s' h h' := sorry
theorem fp_fi {V R : Nat → Nat → Prop} {z s : Nat} {h h' : z_M} (p : z_fi V z s h h') : z_fp V R z s h h' := sorry
theorem fp_xp {V R : Nat → Nat → Prop} {h h' : z_M} (p : z_xp V R h h') : z_fp V R 0 0 h h' := sorry
theorem fp_ix {V R : Nat → Nat → Prop} {h h' : z_M} (p : z_ix V h h') : z_fp V R 0 0 h h' := sorry
theorem fp_K {V R : Nat → Nat → Prop} {z s : Nat} {h h' : z_M} (p : z_fp V R z s h h') {a : Nat} (ha : a ≤ hZ h) : hK h' a = hK h a := sorry
theorem fp_N {V R : Nat → Nat → Prop} {z s : Nat} {h h' : z_M} (p : z_fp V R z s h h') {a : Nat} (ha : a ≤ hZ h) : hN h' a = hN h a := sorry
theorem fp_P {V R : Nat → Nat → Prop} {z s : Nat} {h h' : z_M} (p : z_fp V R z s h h') {a i : Nat} (ha : a ≤ hZ h) (n : ¬ R a i) : hP h' a i = hP h a i := sorry
theorem fp_I {V R : Nat → Nat → Prop} {z s : Nat} {h h' : z_M} (p : z_fp V R z s h h') {a i : Nat} (ha : a ≤ hZ h) (n : ¬ V a i) : hI h' a i = hI h a i := sorry
/-! PLAIN, LINES: all samples -/
theorem shp_ix {V : Nat → Nat → Prop} {h h' : z_M} (p : z_ix V h h') (S : z_shp h) : z_shp h' := sorry
theorem S_ln_ix {V : Nat → Nat → Prop} {k : Nat} {h h' : z_M} (p : z_ix V h h') (S : S_ln k h) : S_ln k h' := sorry
theorem c_smps {k kp n : Nat} {nr rs w g : Int} (hb : 1 ≤ w ∧ w ≤ 12) (hg : 1 ≤ g ∧ g ≤ 12) (hn : n ≤ 4 ∧ kp + n ≤ 8) : ∀ (q c : Nat) (h : z_M), c + q = n → S_ln k h → z_shp h → (hI h (103 + 3 * kp) 0 = w ∧ hI h (103 + 3 * kp) 1 = g) → (hI h (658 + 62 * k) 2 = w ∧ hI h (658 + 62 * k) 3 = g ∧ hI h (658 + 62 * k) 4 = 8 ∧ hI h (658 + 62 * k) 5 = ((n : Nat) : Int) ∧ hI h (657 + 62 * k) 3 = 1) → (∀ c j, c < n → j < 144 → 0 ≤ hI h (104 + 3 * (kp + c)) j ∧ hI h (104 + 3 * (kp + c)) j ≤ 255) →
    ∃ h', f148_38 1 ((kp : Nat) : Int) ((n : Nat) : Int) nr rs (103 + 3 * kp) (657 + 62 * k) ((c : Nat) : Int) h = f148_127 1 nr rs (657 + 62 * k) h' ∧ (∀ (d : Nat) (j : Int), c ≤ d → d < n → 0 ≤ j ∧ j < w * g → hI h' (662 + 62 * k + 2 * d) (Int.toNat ((12 * (j / w)) + (j % w))) = hI h (104 + 3 * (kp + d)) (Int.toNat ((12 * (j / w)) + (j % w)))) ∧ z_ix (fun a _ => 662 + 62 * k + 2 * c ≤ a ∧ a ≤ 668 + 62 * k) h h' := sorry
theorem t_cop {kp n : Nat} {nr rs : Int} (hn : n ≤ 4 ∧ kp + n ≤ 8) : ∀ (q i : Nat) (h : z_M), i + q = 144 * n →
    ∃ h', f949_39 ((kp : Nat) : Int) ((n : Nat) : Int) nr rs ((i : Nat) : Int) h = f949_75 nr rs h' ∧ (∀ j, i ≤ j → j < 144 * n → hI h' 1088 j = hI h 1067 (144 * kp + j)) ∧ z_ix (fun a j => a = 1088 ∧ i ≤ j) h h' := sorry
theorem t_tabs {nr rs : Int} (h : z_M) : ∃ h', f949_75 nr rs h = f949_98 nr rs h' ∧ (∀ c, c < 4 → hI h' 1089 c = 0) ∧ z_ix (fun a _ => a = 1089) h h' := sorry
end
section
set_option maxRecDepth 100000
set_option linter.unusedVariables false
set_option maxHeartbeats 200000
/-! PLAIN, LINES: lines are laid -/
theorem c_preset {h : z_M} {F P : Nat} {rs : Int} (kF : hK h F = 39) (pP : hP h F 1 = P) (kP : hK h P = 40) (v6 : hI h F 3 = 1) (hr : 0 ≤ rs ∧ rs ≤ 12) : f523_0 F 2 rs h = z_ri (hI h P 9) (sI (sI (sI h P 7 (hI h P 7)) P 8 (hI h P 8)) P 9 rs) := sorry
theorem p_cop {F W : Nat} {v : Int} (hv : 0 ≤ v ∧ v ≤ 5000) (lF : (¬ F = 1 ∧ ¬ F = 5) ∧ ¬ W = 1 ∧ ¬ W = 5) : ∀ (q : Nat) (i : Int) (hc ht : z_M), i + q = v → 0 ≤ i → (hK hc 1 = 10 ∧ hP hc 1 3 = 5) → (hK hc 5 = 1002 ∧ hN hc 5 = 6400) → (hK hc F = 39 ∧ hP hc F 5 = W) → (hK hc W = 1002 ∧ hN hc W = 6000) → hI hc F 6 = v → (∀ j : Nat, (j : Int) < v → hI hc W j % 256 = hI ht 1094 j ∧ 0 ≤ hI ht 1094 j ∧ hI ht 1094 j ≤ 255) → hI hc 1 4 = i → hI ht 1064 14 = v → (∀ j : Nat, (j : Int) < i → hI hc 5 j % 256 = hI ht 1074 j) →
    ∃ hc' ht', f148_152 1 F v i hc = z_rv hc' ∧ f949_133 i ht = z_rv ht' ∧ hI hc' 1 4 = v ∧ (∀ j : Nat, (j : Int) < v → hI hc' 5 j % 256 = hI ht' 1074 j) ∧ z_ix (fun a j => (a = 1 ∧ j = 4) ∨ a = 5) hc hc' ∧ z_ix (fun a _ => a = 1074) ht ht' := sorry
end
section
set_option maxRecDepth 100000
set_option linter.unusedVariables false
set_option maxHeartbeats 200000
/-! PLAIN, LINES: the whole of layLines and makeLines -/
def R_md (hc ht : z_M) : Prop := hI hc 1 4 = hI ht 1064 14 ∧ (0 ≤ hI ht 1064 14 ∧ hI ht 1064 14 ≤ 6400) ∧ ∀ j : Nat, (j : Int) < hI ht 1064 14 → hI hc 5 j % 256 = hI ht 1074 j
/-- the house's own cells for lines -/
def S_hl (k : Nat) (h : z_M) : Prop := S_ln k h ∧ (hK h 1 = 10 ∧ hP h 1 3 = 5 ∧ hP h 1 10 = 17) ∧ (hK h 5 = 1002 ∧ hN h 5 = 6400) ∧ (hK h 17 = 1108 ∧ hN h 17 = 3 ∧ hP h 17 k = 657 + 62 * k) ∧ 1272 ≤ hZ h
/-- what lines change of the component's cells -/
def z_lV (k a i : Nat) : Prop := (658 + 62 * k ≤ a ∧ a ≤ 668 + 62 * k) ∨ (a = 657 + 62 * k ∧ (i = 3 ∨ i = 6)) ∨ a = 680 + 62 * k ∨ (a = 1 ∧ i = 4) ∨ a = 5
def z_lR (k a i : Nat) : Prop := (661 + 62 * k ≤ a ∧ a ≤ 667 + 62 * k) ∧ i = 1
/-- what lines change of the twin's -/
def z_lT (a i : Nat) : Prop := (a = 1064 ∧ ((43 ≤ i ∧ i ≤ 55) ∨ i = 60 ∨ (97 ≤ i ∧ i ≤ 102) ∨ i = 14)) ∨ a = 1094 ∨ a = 1110 ∨ a = 1111 ∨ a = 1112 ∨ a = 1088 ∨ a = 1089 ∨ a = 1074
theorem p_lay {k kp n : Nat} {nr rs w g : Int} {hc ht : z_M} (S : S_hl k hc) (turnk : hI hc (657 + 62 * k) 0 = ((k : Nat) : Int)) (Sp : z_shp hc) (hz : hZ hc < 2999999000) (hn : 1 ≤ n ∧ n ≤ 4 ∧ kp + n ≤ 8) (hr : 0 ≤ nr ∧ nr ≤ 3) (hs : 0 ≤ rs ∧ rs ≤ 12) (hw : hI hc (103 + 3 * kp) 0 = w ∧ hI ht 1065 kp = w ∧ 1 ≤ w ∧ w ≤ 12) (hg : hI hc (103 + 3 * kp) 1 = g ∧ hI ht 1066 kp = g ∧ 1 ≤ g ∧ g ≤ 12)
    (Rs : ∀ c j : Nat, c < n → j < 144 → hI hc (104 + 3 * (kp + c)) j = hI ht 1067 (144 * (kp + c) + j) ∧ 0 ≤ hI ht 1067 (144 * (kp + c) + j) ∧ hI ht 1067 (144 * (kp + c) + j) ≤ 255) :
    ∃ hc' ht', f148_0 1 ((kp : Nat) : Int) ((n : Nat) : Int) ((k : Nat) : Int) nr rs hc = z_rv hc' ∧ f949_0 ((kp : Nat) : Int) ((n : Nat) : Int) ((k : Nat) : Int) nr rs ht = z_rv ht' ∧ R_md hc' ht' ∧ z_fp (z_lV k) (z_lR k) (2 + 4 * n) (17 + 165 * n) hc hc' ∧ z_ix z_lT ht ht' := sorry
end
section
set_option maxRecDepth 100000
set_option linter.unusedVariables false
set_option maxHeartbeats 200000
/-! PLAIN: what was made is kept in a file; pictures are alike -/
theorem t_tof {f : Nat} {s : Int} (hf : f < 12) (hs : 0 ≤ s ∧ s ≤ 1500) : ∀ (q i : Nat) (h : z_M), ((i : Nat) : Int) + q = s → hI h 1064 14 = s →
    ∃ h', f982_14 ((f : Nat) : Int) ((i : Nat) : Int) h = f982_46 ((f : Nat) : Int) h' ∧ (∀ j : Nat, i ≤ j → (j : Int) < s → hI h' 1073 (1500 * f + j) = hI h 1074 j) ∧ z_ix (fun a j => a = 1073 ∧ 1500 * f + i ≤ j ∧ (j : Int) < 1500 * f + s) h h' := sorry
theorem c_kept {f : Nat} {s : Int} {hc : z_M} (hf : f < 12) (k1 : hK hc 1 = 10) (p5 : hP hc 1 3 = 5) (k5 : hK hc 5 = 1002) (n5 : hN hc 5 = 6400) (kB : hK hc (135 + (2 * f)) = 29) (pB : hP hc (135 + (2 * f)) 0 = 136 + (2 * f)) (kb : hK hc (136 + (2 * f)) = 1002) (nb : hN hc (136 + (2 * f)) = 1500) (m1 : hI hc 1 4 = s) (hs : 0 ≤ s ∧ s ≤ 1500) :
    f143_12 1 (135 + (2 * f)) hc = z_ri s (sI (z_cpy hc 5 0 (136 + (2 * f)) 0 (Int.toNat s)) (135 + (2 * f)) 1 s) := sorry
theorem p_keep {f : Nat} {hc ht : z_M} (hf : f < 12) (S : z_shf hc) (p5 : hP hc 1 3 = 5) (k5 : hK hc 5 = 1002 ∧ hN hc 5 = 6400) (M : R_md hc ht) (R : R_fil hc ht) :
    ∃ v hc' ht', f143_0 1 (135 + 2 * f) hc = z_ri v hc' ∧ f982_0 ((f : Nat) : Int) ht = z_ri v ht' ∧ R_fil hc' ht' ∧ (hc' = hc ∨ hc' = sI (z_cpy hc 5 0 (136 + 2 * f) 0 (Int.toNat (hI hc 1 4))) (135 + 2 * f) 1 (hI hc 1 4)) ∧ z_ix (fun a _ => a = 1073 ∨ a = 1072) ht ht' := sorry
/-! alike -/
def z_al (k n : Int) (ht : z_M) (i : Int) : Prop := ∀ j, i ≤ j → j < k + n → j ≤ 7 ∧ 0 < hI ht 1065 (Int.toNat j) ∧ hI ht 1065 (Int.toNat j) = hI ht 1065 (Int.toNat k) ∧ hI ht 1066 (Int.toNat j) = hI ht 1066 (Int.toNat k)
theorem al_s {k n i : Int} {ht : z_M} (h : i < k + n) : z_al k n ht i ↔ (i ≤ 7 ∧ 0 < hI ht 1065 (Int.toNat i) ∧ hI ht 1065 (Int.toNat i) = hI ht 1065 (Int.toNat k) ∧ hI ht 1066 (Int.toNat i) = hI ht 1066 (Int.toNat k)) ∧ z_al k n ht (i + 1) := sorry
theorem t_al {k n : Int} {ht : z_M} (hk : 0 ≤ k ∧ k ≤ 7) (hn : 1 ≤ n ∧ n ≤ 3) : ∀ (q : Nat) (i : Int), i + q = k + n → k ≤ i → f691_5 k n 1 i ht = z_ri (z_bi (z_al k n ht i)) ht := sorry
theorem c_al {k n tr nr rs : Int} {r8 : Nat} {hc ht : z_M} (S : z_shp hc) (R : R_pic hc ht) (hk : 0 ≤ k ∧ k + n ≤ 8) (hn : 1 ≤ n ∧ n ≤ 3) : ∀ (q : Nat) (i : Int), i + q = n → 0 ≤ i → f151_46 1 k n tr nr rs (103 + 3 * (Int.toNat k)) r8 i hc = z_if (z_al k n ht (k + i)) (f151_98 1 k n tr nr rs r8 hc) (z_ex (hZ hc + 1) (sN hc 6 6)) := sorry
end
section
set_option maxRecDepth 100000
set_option linter.unusedVariables false
set_option maxHeartbeats 200000
/-! PLAIN: the call `lines` -/
/-- as z_fp, but cells of C are free (their kinds stay) -/
def z_fq (C : Nat → Prop) (V R : Nat → Nat → Prop) (z s : Nat) (h h' : z_M) : Prop := (∀ a, (a ≤ hZ h ∨ 4294967296 ≤ a) → h'.1 a = h.1 a ∧ (¬ C a → h'.2.2.1 a = h.2.2.1 a ∧ (∀ i, ¬ V a i → hI h' a i = hI h a i) ∧ ∀ i, ¬ R a i → hP h' a i = hP h a i)) ∧ (hX h' = hX h ∧ hG h' = hG h ∧ hW h' = hW h) ∧ hZ h ≤ hZ h' ∧ hZ h' ≤ hZ h + z ∧ hS h' ≤ hS h + s
theorem fq_tr {C : Nat → Prop} {V R : Nat → Nat → Prop} {z z' s s' : Nat} {h h1 h2 : z_M} (p : z_fq C V R z s h h1) (q : z_fq C V R z' s' h1 h2) : z_fq C V R (z + z') (s + s') h h2 := sorry
theorem fq_fp {C : Nat → Prop} {V R : Nat → Nat → Prop} {z s : Nat} {h h' : z_M} (p : z_fp V R z s h h') : z_fq C V R z s h h' := sorry
theorem fq_sI {C : Nat → Prop} {V R : Nat → Nat → Prop} {h : z_M} {a i : Nat} {v : Int} (c : C a) : z_fq C V R 0 0 h (sI h a i v) := sorry
theorem fq_sL {C : Nat → Prop} {V R : Nat → Nat → Prop} {h : z_M} {a i : Nat} {v : Int} (c : C a) : z_fq C V R 0 0 h (sL h a i v) := sorry
theorem fq_cpy {C : Nat → Prop} {V R : Nat → Nat → Prop} {h : z_M} {s sp t dp n : Nat} (c : C t) : z_fq C V R 0 0 h (z_cpy h s sp t dp n) := sorry
theorem fq_rfl {C : Nat → Prop} {V R : Nat → Nat → Prop} {h : z_M} : z_fq C V R 0 0 h h := sorry
theorem fq_le {C : Nat → Prop} {V R : Nat → Nat → Prop} {z z' s s' : Nat} {h h' : z_M} (p : z_fq C V R z s h h') (hz : z ≤ z') (hs : s ≤ s') : z_fq C V R z' s' h h' := sorry
theorem al_co {k n i v : Int} {ht : z_M} : z_al k n (sI ht 1064 0 v) i ↔ z_al k n ht i := sorry
theorem t_alk {k n v : Int} {ht : z_M} (hk : 0 ≤ k ∧ k ≤ 7) (hn : 1 ≤ n ∧ n ≤ 3) : f691_0 k n (sI ht 1064 0 v) = z_ri (z_bi (z_al k n ht k)) (sI ht 1064 0 v) := sorry
theorem c_al0 {k n tr nr rs : Int} {r8 : Nat} {hc ht : z_M} (S : z_shp hc) (R : R_pic hc ht) (hk : 0 ≤ k ∧ k + n ≤ 8) (hn : 1 ≤ n ∧ n ≤ 3) : f151_46 1 k n tr nr rs (103 + 3 * (Int.toNat k)) r8 0 hc = z_if (z_al k n ht k) (f151_98 1 k n tr nr rs r8 hc) (z_ex (hZ hc + 1) (sN hc 6 6)) := sorry
theorem c_wantWork {h : z_M} {W : Int} (k1 : hK h 1 = 10) (e : hI h 1 7 = W) (hW : 0 ≤ W ∧ W ≤ 300) : f197_0 1 h = z_if (300 ≤ W) (z_ex (hZ h + 1) (sN h 7 6)) (z_rv (sI h 1 7 (W + 1))) := sorry
def z_lC (a : Nat) : Prop := (135 ≤ a ∧ a ≤ 158) ∨ a = 1272
def z_lV2 (a i : Nat) : Prop := (657 ≤ a ∧ a ≤ 842) ∨ (a = 1 ∧ (i = 4 ∨ i = 7)) ∨ a = 5
def z_lR2 (a i : Nat) : Prop := (657 ≤ a ∧ a ≤ 842) ∧ i = 1
def z_lT2 (a i : Nat) : Prop := z_lT a i ∨ (a = 1064 ∧ (i = 0 ∨ i = 1)) ∨ a = 1073 ∨ a = 1072
/-- what lines leave -/
def z_lch (hc ht hc' ht' : z_M) : Prop := R_fil hc' ht' ∧ R_num hc' ht' ∧ z_fq z_lC z_lV2 z_lR2 14 600 hc hc' ∧ z_ix z_lT2 ht ht'
def R_dim (ht : z_M) : Prop := ∀ k, k < 8 → 0 < hI ht 1065 k → 0 < hI ht 1066 k
theorem call_lines {hc ht : z_M} (Sp : z_shp hc) (Sf : z_shf hc) (O : z_out hc) (R : R_pic hc ht) (Rf : R_fil hc ht) (Rn : R_num hc ht) (D : R_dim ht) (Sl : ∀ k, k ≤ 2 → S_hl k hc ∧ hI hc (657 + 62 * k) 0 = ((k : Nat) : Int)) (hz : hZ hc < 2999999000) (k : Int) (n : Int) (turn : Int) (near : Int) (restart : Int) (f : Int) (hn : n ≤ 2147483000) : z_ci (f79_0 1 k n turn near restart f 1272 hc) (f907_0 k n turn near restart f ht) (z_q (z_lch hc ht) hc ht) := sorry
end
section
set_option maxRecDepth 100000
set_option linter.unusedVariables false
set_option maxHeartbeats 200000
/-! NEW BASE: ints as functions; frames; the static cells -/
def sQ (h : z_M) (X L : Nat → Nat → Int) : z_M := (h.1, X, L, h.2.2.2)
def sR (h : z_M) (X L : Nat → Nat → Int) (P : Nat → Nat → Nat) : z_M := (h.1, X, L, P, h.2.2.2.2)
theorem hL_s1e {h : z_M} {a i b j : Nat} {v : Int} (e : b = a) (f : j = i) : hL (sL h a i v) b j = v := sorry
theorem hL_s0 {h : z_M} {a i b j : Nat} {v : Int} (n : ¬ (b = a ∧ j = i)) : hL (sL h a i v) b j = hL h b j := sorry
theorem hP_s1 {h : z_M} {a i v : Nat} : hP (sP h a i v) a i = v := sorry
theorem hP_s0 {h : z_M} {a i b j v : Nat} (n : ¬ (b = a ∧ j = i)) : hP (sP h a i v) b j = hP h b j := sorry
def sZ (h : z_M) (X : Nat → Nat → Int) : z_M := (h.1, X, h.2.2)
theorem up_a {α : Type} {X : Nat → Nat → α} {a i b j : Nat} {v : α} (n : ¬ b = a) : z_up X a i v b j = X b j := sorry
theorem up_i {α : Type} {X : Nat → Nat → α} {a i b j : Nat} {v : α} (n : ¬ j = i) : z_up X a i v b j = X b j := sorry
theorem up_f {α : Type} {X : Nat → Nat → α} {a i b : Nat} {v : α} (n : ¬ b = a) : z_up X a i v b = X b := sorry
theorem up_n {α : Type} {X : Nat → Nat → α} {a i b j : Nat} {v : α} (n : ¬ (b = a ∧ j = i)) : z_up X a i v b j = X b j := sorry
theorem up_1 {α : Type} {X : Nat → Nat → α} {a i : Nat} {v : α} : z_up X a i v a i = v := sorry
theorem up_1e {α : Type} {X : Nat → Nat → α} {a i b j : Nat} {v : α} (e : b = a) (f : j = i) : z_up X a i v b j = v := sorry
def z_lw (W : Nat → Prop) (h h1 : z_M) : Prop := h1.1 = h.1 ∧ (∀ a i, ¬ W a → hL h1 a i = hL h a i) ∧ h1.2.2.2 = h.2.2.2
theorem lw_rfl {W : Nat → Prop} {h : z_M} : z_lw W h h := sorry
theorem lw_tr {W : Nat → Prop} {h h1 h2 : z_M} (a : z_lw W h h1) (b : z_lw W h1 h2) : z_lw W h h2 := sorry
theorem and_z0 (x : Int) : z_and 0 x = 0 := sorry
def z_iw (W : Nat → Nat → Prop) (X X' : Nat → Nat → Int) : Prop := ∀ a i, ¬ W a i → X' a i = X a i
theorem iw_rfl {W : Nat → Nat → Prop} {X : Nat → Nat → Int} : z_iw W X X := sorry
theorem iw_to {W : Nat → Nat → Prop} {X X' : Nat → Nat → Int} {a i : Nat} {v : Int} (p : z_iw W X X') (w : W a i) : z_iw W X (z_up X' a i v) := sorry
theorem iw_tr {W : Nat → Nat → Prop} {X X1 X2 : Nat → Nat → Int} (p : z_iw W X X1) (q : z_iw W X1 X2) : z_iw W X X2 := sorry
theorem iw_le {W V : Nat → Nat → Prop} {X X1 : Nat → Nat → Int} (p : z_iw W X X1) (w : ∀ a i, W a i → V a i) : z_iw V X X1 := sorry
theorem and8 {a b : Int} (h : a % 256 = b) : z_and a 255 = b := sorry
theorem dv_n {x y : Int} (a : 0 ≤ x) (b : x ≤ 2147483647) (c : 1 ≤ y) : z_div x y = x / y := sorry
theorem rm_n {x y : Int} (a : 0 ≤ x) : z_rem x y = x % y := sorry
theorem i16_id {v : Int} (a : 0 ≤ v) (b : v ≤ 32767) : z_i16 v = v := sorry
theorem wl_id {v : Int} (a : -9223372036854775808 ≤ v) (b : v ≤ 9223372036854775807) : z_wl v = v := sorry
theorem shr_b {x k : Int} (h : 0 ≤ x) : 0 ≤ z_shr x k ∧ z_shr x k ≤ x := sorry
def z_p2 (x : Int) : Int := 2 ^ x.toNat
theorem p2_s {x : Int} (a : 0 ≤ x) : z_p2 (x + 1) = 2 * z_p2 x := sorry
theorem p2_b {x : Int} (a : 0 ≤ x ∧ x ≤ 13) : 1 ≤ z_p2 x ∧ z_p2 x ≤ 8192 := sorry
theorem or_1 {v b : Int} (hv : 0 ≤ v ∧ v ≤ 500000000) (hb : b = 0 ∨ b = 1) : z_or (z_shl v 1) b = 2 * v + b := sorry
theorem and01 (x : Int) : 0 ≤ z_and x 1 ∧ z_and x 1 ≤ 1 := sorry
theorem ti_m8 (v : Int32) : v.toInt % 256 = ((v.toBitVec.toNat % 256 : Nat) : Int) := sorry
theorem or_m8 (x s : Int) : z_or x s % 256 = (((x % 256).toNat ||| (s % 256).toNat : Nat) : Int) := sorry
/-- a bit goes into a byte -/
theorem or_w {x y s : Int} (e : x % 256 = y) (hs : 0 ≤ s ∧ s ≤ 255) : z_i8 (z_or x (z_i8 s)) % 256 = z_or y s ∧ 0 ≤ z_or y s ∧ z_or y s ≤ 255 := sorry
theorem shl01 {b f : Int} (hb : b = 0 ∨ b = 1) (hf : 0 ≤ f ∧ f ≤ 7) : 0 ≤ z_shl b f ∧ z_shl b f ≤ 128 := sorry
theorem shr_n0 (x : Int) : z_shr x 0 = x / 1 := sorry
theorem shr_n1 (x : Int) : z_shr x 1 = x / 2 := sorry
theorem shr_n2 (x : Int) : z_shr x 2 = x / 4 := sorry
theorem shr_n3 (x : Int) : z_shr x 3 = x / 8 := sorry
theorem shr_n4 (x : Int) : z_shr x 4 = x / 16 := sorry
theorem shr_n5 (x : Int) : z_shr x 5 = x / 32 := sorry
theorem shr_n6 (x : Int) : z_shr x 6 = x / 64 := sorry
theorem shr_n7 (x : Int) : z_shr x 7 = x / 128 := sorry
theorem shr_n8 (x : Int) : z_shr x 8 = x / 256 := sorry
theorem shr_n9 (x : Int) : z_shr x 9 = x / 512 := sorry
theorem shr_n10 (x : Int) : z_shr x 10 = x / 1024 := sorry
theorem shr_n11 (x : Int) : z_shr x 11 = x / 2048 := sorry
theorem shr_n12 (x : Int) : z_shr x 12 = x / 4096 := sorry
theorem shr_n13 (x : Int) : z_shr x 13 = x / 8192 := sorry
theorem shr_n14 (x : Int) : z_shr x 14 = x / 16384 := sorry
theorem shr_n15 (x : Int) : z_shr x 15 = x / 32768 := sorry
theorem shr_n16 (x : Int) : z_shr x 16 = x / 65536 := sorry
theorem shr_n17 (x : Int) : z_shr x 17 = x / 131072 := sorry
theorem shr_n18 (x : Int) : z_shr x 18 = x / 262144 := sorry
theorem shr_n19 (x : Int) : z_shr x 19 = x / 524288 := sorry
theorem shr_n20 (x : Int) : z_shr x 20 = x / 1048576 := sorry
theorem shr_n21 (x : Int) : z_shr x 21 = x / 2097152 := sorry
theorem shr_n22 (x : Int) : z_shr x 22 = x / 4194304 := sorry
theorem shr_n23 (x : Int) : z_shr x 23 = x / 8388608 := sorry
theorem shr_n24 (x : Int) : z_shr x 24 = x / 16777216 := sorry
theorem shr_n25 (x : Int) : z_shr x 25 = x / 33554432 := sorry
theorem shr_n26 (x : Int) : z_shr x 26 = x / 67108864 := sorry
theorem shr_n27 (x : Int) : z_shr x 27 = x / 134217728 := sorry
theorem shr_n28 (x : Int) : z_shr x 28 = x / 268435456 := sorry
theorem shr_n29 (x : Int) : z_shr x 29 = x / 536870912 := sorry
theorem shr_n30 (x : Int) : z_shr x 30 = x / 1073741824 := sorry
theorem shr_n31 (x : Int) : z_shr x 31 = x / 2147483648 := sorry
theorem and_m2 (x : Int) : z_and x 1 = x % 2 := sorry
theorem and_m4 (x : Int) : z_and x 3 = x % 4 := sorry
theorem and_m8 (x : Int) : z_and x 7 = x % 8 := sorry
theorem and_m16 (x : Int) : z_and x 15 = x % 16 := sorry
theorem and_m32 (x : Int) : z_and x 31 = x % 32 := sorry
theorem and_m64 (x : Int) : z_and x 63 = x % 64 := sorry
theorem and_m128 (x : Int) : z_and x 127 = x % 128 := sorry
theorem and_m256 (x : Int) : z_and x 255 = x % 256 := sorry
theorem and_m65536 (x : Int) : z_and x 65535 = x % 65536 := sorry
theorem gle {r k : Nat} {h : z_M} {x : z_Z} (e : hK h r = k) (q : 1000 ≤ k) : z_g (1000 ≤ hK h r) x = x := sorry
def z_nk (n : Nat) (a b : Nat → Nat × Nat) (r : Nat) : Nat × Nat := bif Nat.blt r n then a r else b r
def z_np (n : Nat) (a b : Nat → Nat → Option Nat) (r : Nat) : Nat → Option Nat := bif Nat.blt r n then a r else b r
def z_lk : List (Nat × Nat) → Nat → Option Nat
  | [], _ => none
  | (f, p) :: l, x => bif Nat.beq f x then some p else z_lk l x
def z_lp (l : List (Nat × Nat)) (_ : Nat) (x : Nat) : Option Nat := z_lk l x
def z_ly0 : Nat → Nat × Nat := z_nk 32 (z_nk 16 (z_nk 8 (z_nk 4 (z_nk 2 (z_nk 1 (fun _ => (0, 0)) (fun _ => (10, 19))) (z_nk 3 (fun _ => (1112, 8)) (fun _ => (1113, 4)))) (z_nk 6 (z_nk 5 (fun _ => (1104, 12)) (fun _ => (1002, 6400))) (z_nk 7 (fun _ => (11, 4)) (fun _ => (1000, 144))))) (z_nk 12 (z_nk 10 (z_nk 9 (fun _ => (1001, 144)) (fun _ => (12, 10))) (z_nk 11 (fun _ => (1000, 576)) (fun _ => (1000, 576)))) (z_nk 14 (z_nk 13 (fun _ => (1000, 576)) (fun _ => (1000, 576))) (z_nk 15 (fun _ => (1000, 576)) (fun _ => (1000, 576)))))) (z_nk 24 (z_nk 20 (z_nk 18 (z_nk 17 (fun _ => (1000, 576)) (fun _ => (1108, 3))) (z_nk 19 (fun _ => (13, 10)) (fun _ => (14, 9)))) (z_nk 22 (z_nk 21 (fun _ => (1001, 256)) (fun _ => (1000, 256))) (z_nk 23 (fun _ => (1000, 256)) (fun _ => (1000, 256))))) (z_nk 28 (z_nk 26 (z_nk 25 (fun _ => (1000, 16)) (fun _ => (1000, 256))) (z_nk 27 (fun _ => (1002, 7500)) (fun _ => (1000, 4)))) (z_nk 30 (z_nk 29 (fun _ => (1002, 2400)) (fun _ => (15, 6))) (z_nk 31 (fun _ => (16, 2)) (fun _ => (1002, 2000))))))) (z_nk 48 (z_nk 40 (z_nk 36 (z_nk 34 (z_nk 33 (fun _ => (16, 2)) (fun _ => (1002, 2000))) (z_nk 35 (fun _ => (1105, 10)) (fun _ => (17, 25)))) (z_nk 38 (z_nk 37 (fun _ => (18, 4)) (fun _ => (1003, 64))) (z_nk 39 (fun _ => (19, 2)) (fun _ => (1000, 32))))) (z_nk 44 (z_nk 42 (z_nk 41 (fun _ => (19, 2)) (fun _ => (1000, 32))) (z_nk 43 (fun _ => (1000, 256)) (fun _ => (1107, 5)))) (z_nk 46 (z_nk 45 (fun _ => (20, 3)) (fun _ => (1000, 64))) (z_nk 47 (fun _ => (1000, 64)) (fun _ => (1002, 4000)))))) (z_nk 56 (z_nk 52 (z_nk 50 (z_nk 49 (fun _ => (1002, 3000)) (fun _ => (21, 7))) (z_nk 51 (fun _ => (1000, 256)) (fun _ => (1000, 256)))) (z_nk 54 (z_nk 53 (fun _ => (22, 10)) (fun _ => (1000, 256))) (z_nk 55 (fun _ => (1000, 256)) (fun _ => (1000, 256))))) (z_nk 60 (z_nk 58 (z_nk 57 (fun _ => (1114, 2)) (fun _ => (1101, 3))) (z_nk 59 (fun _ => (23, 7)) (fun _ => (24, 2)))) (z_nk 62 (z_nk 61 (fun _ => (1002, 2000)) (fun _ => (1000, 4))) (z_nk 63 (fun _ => (25, 5)) (fun _ => (0, 3)))))))
def z_lq0 : Nat → Nat → Option Nat := z_np 32 (z_np 16 (z_np 8 (z_np 4 (z_np 2 (z_np 1 (z_lp []) (z_lp [(0, 2), (1, 3), (2, 4), (3, 5), (5, 6), (6, 9), (10, 17), (11, 18), (12, 29), (13, 34), (14, 35), (15, 56), (16, 57), (17, 58), (18, 68)])) (z_np 3 (z_lp [(0, 103), (1, 106), (2, 109), (3, 112), (4, 115), (5, 118), (6, 121), (7, 124)]) (z_lp [(0, 127), (1, 129), (2, 131), (3, 133)]))) (z_np 6 (z_np 5 (z_lp [(0, 135), (1, 137), (2, 139), (3, 141), (4, 143), (5, 145), (6, 147), (7, 149), (8, 151), (9, 153), (10, 155), (11, 157)]) (z_lp [])) (z_np 7 (z_lp [(2, 7), (3, 8)]) (z_lp [])))) (z_np 12 (z_np 10 (z_np 9 (z_lp []) (z_lp [(0, 10), (1, 11), (2, 12), (3, 13), (4, 14), (5, 15), (6, 16)])) (z_np 11 (z_lp []) (z_lp []))) (z_np 14 (z_np 13 (z_lp []) (z_lp [])) (z_np 15 (z_lp []) (z_lp []))))) (z_np 24 (z_np 20 (z_np 18 (z_np 17 (z_lp []) (z_lp [(0, 657), (1, 719), (2, 781)])) (z_np 19 (z_lp [(0, 19), (1, 25), (3, 26), (5, 27), (6, 28)]) (z_lp [(2, 20), (3, 21), (5, 22), (6, 23), (7, 24)]))) (z_np 22 (z_np 21 (z_lp []) (z_lp [])) (z_np 23 (z_lp []) (z_lp [])))) (z_np 28 (z_np 26 (z_np 25 (z_lp []) (z_lp [])) (z_np 27 (z_lp []) (z_lp []))) (z_np 30 (z_np 29 (z_lp []) (z_lp [(2, 30), (3, 32)])) (z_np 31 (z_lp [(0, 31)]) (z_lp [])))))) (z_np 48 (z_np 40 (z_np 36 (z_np 34 (z_np 33 (z_lp [(0, 33)]) (z_lp [])) (z_np 35 (z_lp [(0, 159), (1, 207), (2, 255), (3, 303), (4, 351), (5, 399), (6, 447), (7, 495), (8, 549), (9, 603)]) (z_lp [(2, 36), (3, 38), (4, 40), (11, 42), (12, 43), (13, 4294968296), (16, 44), (17, 45), (18, 46), (19, 47), (21, 48), (23, 49), (24, 52)]))) (z_np 38 (z_np 37 (z_lp [(0, 37)]) (z_lp [])) (z_np 39 (z_lp [(0, 39), (1, 35)]) (z_lp [])))) (z_np 44 (z_np 42 (z_np 41 (z_lp [(0, 41), (1, 35)]) (z_lp [])) (z_np 43 (z_lp []) (z_lp [(0, 4294968296), (1, 4294968297), (2, 4294968298), (3, 4294968299), (4, 4294968300)]))) (z_np 46 (z_np 45 (z_lp []) (z_lp [])) (z_np 47 (z_lp []) (z_lp []))))) (z_np 56 (z_np 52 (z_np 50 (z_np 49 (z_lp []) (z_lp [(0, 50), (1, 51), (2, 35), (6, 35)])) (z_np 51 (z_lp []) (z_lp []))) (z_np 54 (z_np 53 (z_lp [(0, 53), (1, 54), (2, 35), (3, 55), (9, 35)]) (z_lp [])) (z_np 55 (z_lp []) (z_lp [])))) (z_np 60 (z_np 58 (z_np 57 (z_lp [(0, 843), (1, 955)]) (z_lp [(0, 682), (1, 744), (2, 806)])) (z_np 59 (z_lp [(4, 59), (5, 61)]) (z_lp [(0, 60)]))) (z_np 62 (z_np 61 (z_lp []) (z_lp [])) (z_np 63 (z_lp [(2, 63), (3, 64)]) (z_lp []))))))
def z_ly64 : Nat → Nat × Nat := z_nk 96 (z_nk 80 (z_nk 72 (z_nk 68 (z_nk 66 (z_nk 65 (fun _ => (0, 3)) (fun _ => (25, 5))) (z_nk 67 (fun _ => (0, 3)) (fun _ => (0, 3)))) (z_nk 70 (z_nk 69 (fun _ => (26, 5)) (fun _ => (0, 3))) (z_nk 71 (fun _ => (1117, 8)) (fun _ => (27, 11))))) (z_nk 76 (z_nk 74 (z_nk 73 (fun _ => (0, 3)) (fun _ => (1003, 21))) (z_nk 75 (fun _ => (1000, 16)) (fun _ => (27, 11)))) (z_nk 78 (z_nk 77 (fun _ => (0, 3)) (fun _ => (1003, 21))) (z_nk 79 (fun _ => (1000, 16)) (fun _ => (27, 11)))))) (z_nk 88 (z_nk 84 (z_nk 82 (z_nk 81 (fun _ => (0, 3)) (fun _ => (1003, 21))) (z_nk 83 (fun _ => (1000, 16)) (fun _ => (27, 11)))) (z_nk 86 (z_nk 85 (fun _ => (0, 3)) (fun _ => (1003, 21))) (z_nk 87 (fun _ => (1000, 16)) (fun _ => (27, 11))))) (z_nk 92 (z_nk 90 (z_nk 89 (fun _ => (0, 3)) (fun _ => (1003, 21))) (z_nk 91 (fun _ => (1000, 16)) (fun _ => (27, 11)))) (z_nk 94 (z_nk 93 (fun _ => (0, 3)) (fun _ => (1003, 21))) (z_nk 95 (fun _ => (1000, 16)) (fun _ => (27, 11))))))) (z_nk 112 (z_nk 104 (z_nk 100 (z_nk 98 (z_nk 97 (fun _ => (0, 3)) (fun _ => (1003, 21))) (z_nk 99 (fun _ => (1000, 16)) (fun _ => (27, 11)))) (z_nk 102 (z_nk 101 (fun _ => (0, 3)) (fun _ => (1003, 21))) (z_nk 103 (fun _ => (1000, 16)) (fun _ => (11, 4))))) (z_nk 108 (z_nk 106 (z_nk 105 (fun _ => (1000, 144)) (fun _ => (1001, 144))) (z_nk 107 (fun _ => (11, 4)) (fun _ => (1000, 144)))) (z_nk 110 (z_nk 109 (fun _ => (1001, 144)) (fun _ => (11, 4))) (z_nk 111 (fun _ => (1000, 144)) (fun _ => (1001, 144)))))) (z_nk 120 (z_nk 116 (z_nk 114 (z_nk 113 (fun _ => (11, 4)) (fun _ => (1000, 144))) (z_nk 115 (fun _ => (1001, 144)) (fun _ => (11, 4)))) (z_nk 118 (z_nk 117 (fun _ => (1000, 144)) (fun _ => (1001, 144))) (z_nk 119 (fun _ => (11, 4)) (fun _ => (1000, 144))))) (z_nk 124 (z_nk 122 (z_nk 121 (fun _ => (1001, 144)) (fun _ => (11, 4))) (z_nk 123 (fun _ => (1000, 144)) (fun _ => (1001, 144)))) (z_nk 126 (z_nk 125 (fun _ => (11, 4)) (fun _ => (1000, 144))) (z_nk 127 (fun _ => (1001, 144)) (fun _ => (28, 3)))))))
def z_lq64 : Nat → Nat → Option Nat := z_np 96 (z_np 80 (z_np 72 (z_np 68 (z_np 66 (z_np 65 (z_lp []) (z_lp [(2, 66), (3, 67)])) (z_np 67 (z_lp []) (z_lp []))) (z_np 70 (z_np 69 (z_lp [(1, 70), (2, 69)]) (z_lp [])) (z_np 71 (z_lp [(0, 71), (1, 75), (2, 79), (3, 83), (4, 87), (5, 91), (6, 95), (7, 99)]) (z_lp [(1, 72), (5, 73), (8, 74)])))) (z_np 76 (z_np 74 (z_np 73 (z_lp []) (z_lp [])) (z_np 75 (z_lp []) (z_lp [(1, 76), (5, 77), (8, 78)]))) (z_np 78 (z_np 77 (z_lp []) (z_lp [])) (z_np 79 (z_lp []) (z_lp [(1, 80), (5, 81), (8, 82)]))))) (z_np 88 (z_np 84 (z_np 82 (z_np 81 (z_lp []) (z_lp [])) (z_np 83 (z_lp []) (z_lp [(1, 84), (5, 85), (8, 86)]))) (z_np 86 (z_np 85 (z_lp []) (z_lp [])) (z_np 87 (z_lp []) (z_lp [(1, 88), (5, 89), (8, 90)])))) (z_np 92 (z_np 90 (z_np 89 (z_lp []) (z_lp [])) (z_np 91 (z_lp []) (z_lp [(1, 92), (5, 93), (8, 94)]))) (z_np 94 (z_np 93 (z_lp []) (z_lp [])) (z_np 95 (z_lp []) (z_lp [(1, 96), (5, 97), (8, 98)])))))) (z_np 112 (z_np 104 (z_np 100 (z_np 98 (z_np 97 (z_lp []) (z_lp [])) (z_np 99 (z_lp []) (z_lp [(1, 100), (5, 101), (8, 102)]))) (z_np 102 (z_np 101 (z_lp []) (z_lp [])) (z_np 103 (z_lp []) (z_lp [(2, 104), (3, 105)])))) (z_np 108 (z_np 106 (z_np 105 (z_lp []) (z_lp [])) (z_np 107 (z_lp [(2, 107), (3, 108)]) (z_lp []))) (z_np 110 (z_np 109 (z_lp []) (z_lp [(2, 110), (3, 111)])) (z_np 111 (z_lp []) (z_lp []))))) (z_np 120 (z_np 116 (z_np 114 (z_np 113 (z_lp [(2, 113), (3, 114)]) (z_lp [])) (z_np 115 (z_lp []) (z_lp [(2, 116), (3, 117)]))) (z_np 118 (z_np 117 (z_lp []) (z_lp [])) (z_np 119 (z_lp [(2, 119), (3, 120)]) (z_lp [])))) (z_np 124 (z_np 122 (z_np 121 (z_lp []) (z_lp [(2, 122), (3, 123)])) (z_np 123 (z_lp []) (z_lp []))) (z_np 126 (z_np 125 (z_lp [(2, 125), (3, 126)]) (z_lp [])) (z_np 127 (z_lp []) (z_lp [(2, 128)]))))))
def z_ly128 : Nat → Nat × Nat := z_nk 160 (z_nk 144 (z_nk 136 (z_nk 132 (z_nk 130 (z_nk 129 (fun _ => (1000, 24)) (fun _ => (28, 3))) (z_nk 131 (fun _ => (1000, 24)) (fun _ => (28, 3)))) (z_nk 134 (z_nk 133 (fun _ => (1000, 24)) (fun _ => (28, 3))) (z_nk 135 (fun _ => (1000, 24)) (fun _ => (29, 2))))) (z_nk 140 (z_nk 138 (z_nk 137 (fun _ => (1002, 1500)) (fun _ => (29, 2))) (z_nk 139 (fun _ => (1002, 1500)) (fun _ => (29, 2)))) (z_nk 142 (z_nk 141 (fun _ => (1002, 1500)) (fun _ => (29, 2))) (z_nk 143 (fun _ => (1002, 1500)) (fun _ => (29, 2)))))) (z_nk 152 (z_nk 148 (z_nk 146 (z_nk 145 (fun _ => (1002, 1500)) (fun _ => (29, 2))) (z_nk 147 (fun _ => (1002, 1500)) (fun _ => (29, 2)))) (z_nk 150 (z_nk 149 (fun _ => (1002, 1500)) (fun _ => (29, 2))) (z_nk 151 (fun _ => (1002, 1500)) (fun _ => (29, 2))))) (z_nk 156 (z_nk 154 (z_nk 153 (fun _ => (1002, 1500)) (fun _ => (29, 2))) (z_nk 155 (fun _ => (1002, 1500)) (fun _ => (29, 2)))) (z_nk 158 (z_nk 157 (fun _ => (1002, 1500)) (fun _ => (29, 2))) (z_nk 159 (fun _ => (1002, 1500)) (fun _ => (30, 22))))))) (z_nk 176 (z_nk 168 (z_nk 164 (z_nk 162 (z_nk 161 (fun _ => (31, 7)) (fun _ => (1000, 16))) (z_nk 163 (fun _ => (1000, 288)) (fun _ => (1000, 288)))) (z_nk 166 (z_nk 165 (fun _ => (1000, 288)) (fun _ => (1000, 576))) (z_nk 167 (fun _ => (1000, 576)) (fun _ => (31, 7))))) (z_nk 172 (z_nk 170 (z_nk 169 (fun _ => (1000, 16)) (fun _ => (1000, 32))) (z_nk 171 (fun _ => (1000, 32)) (fun _ => (1000, 32)))) (z_nk 174 (z_nk 173 (fun _ => (1000, 64)) (fun _ => (1000, 64))) (z_nk 175 (fun _ => (31, 7)) (fun _ => (1000, 16)))))) (z_nk 184 (z_nk 180 (z_nk 178 (z_nk 177 (fun _ => (1000, 19)) (fun _ => (1000, 19))) (z_nk 179 (fun _ => (1000, 19)) (fun _ => (1000, 38)))) (z_nk 182 (z_nk 181 (fun _ => (1000, 38)) (fun _ => (31, 7))) (z_nk 183 (fun _ => (1000, 16)) (fun _ => (1000, 288))))) (z_nk 188 (z_nk 186 (z_nk 185 (fun _ => (1000, 288)) (fun _ => (1000, 288))) (z_nk 187 (fun _ => (1000, 576)) (fun _ => (1000, 576)))) (z_nk 190 (z_nk 189 (fun _ => (31, 7)) (fun _ => (1000, 16))) (z_nk 191 (fun _ => (1000, 32)) (fun _ => (1000, 32)))))))
def z_lq128 : Nat → Nat → Option Nat := z_np 160 (z_np 144 (z_np 136 (z_np 132 (z_np 130 (z_np 129 (z_lp []) (z_lp [(2, 130)])) (z_np 131 (z_lp []) (z_lp [(2, 132)]))) (z_np 134 (z_np 133 (z_lp []) (z_lp [(2, 134)])) (z_np 135 (z_lp []) (z_lp [(0, 136)])))) (z_np 140 (z_np 138 (z_np 137 (z_lp []) (z_lp [(0, 138)])) (z_np 139 (z_lp []) (z_lp [(0, 140)]))) (z_np 142 (z_np 141 (z_lp []) (z_lp [(0, 142)])) (z_np 143 (z_lp []) (z_lp [(0, 144)]))))) (z_np 152 (z_np 148 (z_np 146 (z_np 145 (z_lp []) (z_lp [(0, 146)])) (z_np 147 (z_lp []) (z_lp [(0, 148)]))) (z_np 150 (z_np 149 (z_lp []) (z_lp [(0, 150)])) (z_np 151 (z_lp []) (z_lp [(0, 152)])))) (z_np 156 (z_np 154 (z_np 153 (z_lp []) (z_lp [(0, 154)])) (z_np 155 (z_lp []) (z_lp [(0, 156)]))) (z_np 158 (z_np 157 (z_lp []) (z_lp [(0, 158)])) (z_np 159 (z_lp []) (z_lp [(0, 160), (1, 167), (2, 174), (3, 181), (4, 188), (5, 195), (6, 198), (7, 199), (11, 200), (13, 201), (14, 203), (16, 206), (17, 204), (19, 205)])))))) (z_np 176 (z_np 168 (z_np 164 (z_np 162 (z_np 161 (z_lp [(1, 162), (2, 163), (3, 164), (4, 161), (5, 165), (6, 166)]) (z_lp [])) (z_np 163 (z_lp []) (z_lp []))) (z_np 166 (z_np 165 (z_lp []) (z_lp [])) (z_np 167 (z_lp []) (z_lp [(1, 169), (2, 170), (3, 171), (4, 168), (5, 172), (6, 173)])))) (z_np 172 (z_np 170 (z_np 169 (z_lp []) (z_lp [])) (z_np 171 (z_lp []) (z_lp []))) (z_np 174 (z_np 173 (z_lp []) (z_lp [])) (z_np 175 (z_lp [(1, 176), (2, 177), (3, 178), (4, 175), (5, 179), (6, 180)]) (z_lp []))))) (z_np 184 (z_np 180 (z_np 178 (z_np 177 (z_lp []) (z_lp [])) (z_np 179 (z_lp []) (z_lp []))) (z_np 182 (z_np 181 (z_lp []) (z_lp [(1, 183), (2, 184), (3, 185), (4, 182), (5, 186), (6, 187)])) (z_np 183 (z_lp []) (z_lp [])))) (z_np 188 (z_np 186 (z_np 185 (z_lp []) (z_lp [])) (z_np 187 (z_lp []) (z_lp []))) (z_np 190 (z_np 189 (z_lp [(1, 190), (2, 191), (3, 192), (4, 189), (5, 193), (6, 194)]) (z_lp [])) (z_np 191 (z_lp []) (z_lp []))))))
def z_ly192 : Nat → Nat × Nat := z_nk 224 (z_nk 208 (z_nk 200 (z_nk 196 (z_nk 194 (z_nk 193 (fun _ => (1000, 32)) (fun _ => (1000, 64))) (z_nk 195 (fun _ => (1000, 64)) (fun _ => (32, 7)))) (z_nk 198 (z_nk 197 (fun _ => (1000, 320)) (fun _ => (1000, 320))) (z_nk 199 (fun _ => (1000, 513)) (fun _ => (1000, 513))))) (z_nk 204 (z_nk 202 (z_nk 201 (fun _ => (1002, 512)) (fun _ => (33, 2))) (z_nk 203 (fun _ => (1002, 1200)) (fun _ => (1106, 4)))) (z_nk 206 (z_nk 205 (fun _ => (1002, 1200)) (fun _ => (1002, 2000))) (z_nk 207 (fun _ => (34, 2)) (fun _ => (30, 22)))))) (z_nk 216 (z_nk 212 (z_nk 210 (z_nk 209 (fun _ => (31, 7)) (fun _ => (1000, 16))) (z_nk 211 (fun _ => (1000, 288)) (fun _ => (1000, 288)))) (z_nk 214 (z_nk 213 (fun _ => (1000, 288)) (fun _ => (1000, 576))) (z_nk 215 (fun _ => (1000, 576)) (fun _ => (31, 7))))) (z_nk 220 (z_nk 218 (z_nk 217 (fun _ => (1000, 16)) (fun _ => (1000, 32))) (z_nk 219 (fun _ => (1000, 32)) (fun _ => (1000, 32)))) (z_nk 222 (z_nk 221 (fun _ => (1000, 64)) (fun _ => (1000, 64))) (z_nk 223 (fun _ => (31, 7)) (fun _ => (1000, 16))))))) (z_nk 240 (z_nk 232 (z_nk 228 (z_nk 226 (z_nk 225 (fun _ => (1000, 19)) (fun _ => (1000, 19))) (z_nk 227 (fun _ => (1000, 19)) (fun _ => (1000, 38)))) (z_nk 230 (z_nk 229 (fun _ => (1000, 38)) (fun _ => (31, 7))) (z_nk 231 (fun _ => (1000, 16)) (fun _ => (1000, 288))))) (z_nk 236 (z_nk 234 (z_nk 233 (fun _ => (1000, 288)) (fun _ => (1000, 288))) (z_nk 235 (fun _ => (1000, 576)) (fun _ => (1000, 576)))) (z_nk 238 (z_nk 237 (fun _ => (31, 7)) (fun _ => (1000, 16))) (z_nk 239 (fun _ => (1000, 32)) (fun _ => (1000, 32)))))) (z_nk 248 (z_nk 244 (z_nk 242 (z_nk 241 (fun _ => (1000, 32)) (fun _ => (1000, 64))) (z_nk 243 (fun _ => (1000, 64)) (fun _ => (32, 7)))) (z_nk 246 (z_nk 245 (fun _ => (1000, 320)) (fun _ => (1000, 320))) (z_nk 247 (fun _ => (1000, 513)) (fun _ => (1000, 513))))) (z_nk 252 (z_nk 250 (z_nk 249 (fun _ => (1002, 512)) (fun _ => (33, 2))) (z_nk 251 (fun _ => (1002, 1200)) (fun _ => (1106, 4)))) (z_nk 254 (z_nk 253 (fun _ => (1002, 1200)) (fun _ => (1002, 2000))) (z_nk 255 (fun _ => (35, 2)) (fun _ => (30, 22)))))))
def z_lq192 : Nat → Nat → Option Nat := z_np 224 (z_np 208 (z_np 200 (z_np 196 (z_np 194 (z_np 193 (z_lp []) (z_lp [])) (z_np 195 (z_lp []) (z_lp [(0, 196), (1, 197), (6, 159)]))) (z_np 198 (z_np 197 (z_lp []) (z_lp [])) (z_np 199 (z_lp []) (z_lp [])))) (z_np 204 (z_np 202 (z_np 201 (z_lp []) (z_lp [(0, 202)])) (z_np 203 (z_lp []) (z_lp []))) (z_np 206 (z_np 205 (z_lp []) (z_lp [])) (z_np 207 (z_lp [(0, 159), (1, 159)]) (z_lp [(0, 208), (1, 215), (2, 222), (3, 229), (4, 236), (5, 243), (6, 246), (7, 247), (11, 248), (13, 249), (14, 251), (16, 254), (17, 252), (19, 253)]))))) (z_np 216 (z_np 212 (z_np 210 (z_np 209 (z_lp [(1, 210), (2, 211), (3, 212), (4, 209), (5, 213), (6, 214)]) (z_lp [])) (z_np 211 (z_lp []) (z_lp []))) (z_np 214 (z_np 213 (z_lp []) (z_lp [])) (z_np 215 (z_lp []) (z_lp [(1, 217), (2, 218), (3, 219), (4, 216), (5, 220), (6, 221)])))) (z_np 220 (z_np 218 (z_np 217 (z_lp []) (z_lp [])) (z_np 219 (z_lp []) (z_lp []))) (z_np 222 (z_np 221 (z_lp []) (z_lp [])) (z_np 223 (z_lp [(1, 224), (2, 225), (3, 226), (4, 223), (5, 227), (6, 228)]) (z_lp [])))))) (z_np 240 (z_np 232 (z_np 228 (z_np 226 (z_np 225 (z_lp []) (z_lp [])) (z_np 227 (z_lp []) (z_lp []))) (z_np 230 (z_np 229 (z_lp []) (z_lp [(1, 231), (2, 232), (3, 233), (4, 230), (5, 234), (6, 235)])) (z_np 231 (z_lp []) (z_lp [])))) (z_np 236 (z_np 234 (z_np 233 (z_lp []) (z_lp [])) (z_np 235 (z_lp []) (z_lp []))) (z_np 238 (z_np 237 (z_lp [(1, 238), (2, 239), (3, 240), (4, 237), (5, 241), (6, 242)]) (z_lp [])) (z_np 239 (z_lp []) (z_lp []))))) (z_np 248 (z_np 244 (z_np 242 (z_np 241 (z_lp []) (z_lp [])) (z_np 243 (z_lp []) (z_lp [(0, 244), (1, 245), (6, 207)]))) (z_np 246 (z_np 245 (z_lp []) (z_lp [])) (z_np 247 (z_lp []) (z_lp [])))) (z_np 252 (z_np 250 (z_np 249 (z_lp []) (z_lp [(0, 250)])) (z_np 251 (z_lp []) (z_lp []))) (z_np 254 (z_np 253 (z_lp []) (z_lp [])) (z_np 255 (z_lp [(0, 207), (1, 207)]) (z_lp [(0, 256), (1, 263), (2, 270), (3, 277), (4, 284), (5, 291), (6, 294), (7, 295), (11, 296), (13, 297), (14, 299), (16, 302), (17, 300), (19, 301)]))))))
def z_ly256 : Nat → Nat × Nat := z_nk 288 (z_nk 272 (z_nk 264 (z_nk 260 (z_nk 258 (z_nk 257 (fun _ => (31, 7)) (fun _ => (1000, 16))) (z_nk 259 (fun _ => (1000, 288)) (fun _ => (1000, 288)))) (z_nk 262 (z_nk 261 (fun _ => (1000, 288)) (fun _ => (1000, 576))) (z_nk 263 (fun _ => (1000, 576)) (fun _ => (31, 7))))) (z_nk 268 (z_nk 266 (z_nk 265 (fun _ => (1000, 16)) (fun _ => (1000, 32))) (z_nk 267 (fun _ => (1000, 32)) (fun _ => (1000, 32)))) (z_nk 270 (z_nk 269 (fun _ => (1000, 64)) (fun _ => (1000, 64))) (z_nk 271 (fun _ => (31, 7)) (fun _ => (1000, 16)))))) (z_nk 280 (z_nk 276 (z_nk 274 (z_nk 273 (fun _ => (1000, 19)) (fun _ => (1000, 19))) (z_nk 275 (fun _ => (1000, 19)) (fun _ => (1000, 38)))) (z_nk 278 (z_nk 277 (fun _ => (1000, 38)) (fun _ => (31, 7))) (z_nk 279 (fun _ => (1000, 16)) (fun _ => (1000, 288))))) (z_nk 284 (z_nk 282 (z_nk 281 (fun _ => (1000, 288)) (fun _ => (1000, 288))) (z_nk 283 (fun _ => (1000, 576)) (fun _ => (1000, 576)))) (z_nk 286 (z_nk 285 (fun _ => (31, 7)) (fun _ => (1000, 16))) (z_nk 287 (fun _ => (1000, 32)) (fun _ => (1000, 32))))))) (z_nk 304 (z_nk 296 (z_nk 292 (z_nk 290 (z_nk 289 (fun _ => (1000, 32)) (fun _ => (1000, 64))) (z_nk 291 (fun _ => (1000, 64)) (fun _ => (32, 7)))) (z_nk 294 (z_nk 293 (fun _ => (1000, 320)) (fun _ => (1000, 320))) (z_nk 295 (fun _ => (1000, 513)) (fun _ => (1000, 513))))) (z_nk 300 (z_nk 298 (z_nk 297 (fun _ => (1002, 512)) (fun _ => (33, 2))) (z_nk 299 (fun _ => (1002, 1200)) (fun _ => (1106, 4)))) (z_nk 302 (z_nk 301 (fun _ => (1002, 1200)) (fun _ => (1002, 2000))) (z_nk 303 (fun _ => (35, 2)) (fun _ => (30, 22)))))) (z_nk 312 (z_nk 308 (z_nk 306 (z_nk 305 (fun _ => (31, 7)) (fun _ => (1000, 16))) (z_nk 307 (fun _ => (1000, 288)) (fun _ => (1000, 288)))) (z_nk 310 (z_nk 309 (fun _ => (1000, 288)) (fun _ => (1000, 576))) (z_nk 311 (fun _ => (1000, 576)) (fun _ => (31, 7))))) (z_nk 316 (z_nk 314 (z_nk 313 (fun _ => (1000, 16)) (fun _ => (1000, 32))) (z_nk 315 (fun _ => (1000, 32)) (fun _ => (1000, 32)))) (z_nk 318 (z_nk 317 (fun _ => (1000, 64)) (fun _ => (1000, 64))) (z_nk 319 (fun _ => (31, 7)) (fun _ => (1000, 16)))))))
def z_lq256 : Nat → Nat → Option Nat := z_np 288 (z_np 272 (z_np 264 (z_np 260 (z_np 258 (z_np 257 (z_lp [(1, 258), (2, 259), (3, 260), (4, 257), (5, 261), (6, 262)]) (z_lp [])) (z_np 259 (z_lp []) (z_lp []))) (z_np 262 (z_np 261 (z_lp []) (z_lp [])) (z_np 263 (z_lp []) (z_lp [(1, 265), (2, 266), (3, 267), (4, 264), (5, 268), (6, 269)])))) (z_np 268 (z_np 266 (z_np 265 (z_lp []) (z_lp [])) (z_np 267 (z_lp []) (z_lp []))) (z_np 270 (z_np 269 (z_lp []) (z_lp [])) (z_np 271 (z_lp [(1, 272), (2, 273), (3, 274), (4, 271), (5, 275), (6, 276)]) (z_lp []))))) (z_np 280 (z_np 276 (z_np 274 (z_np 273 (z_lp []) (z_lp [])) (z_np 275 (z_lp []) (z_lp []))) (z_np 278 (z_np 277 (z_lp []) (z_lp [(1, 279), (2, 280), (3, 281), (4, 278), (5, 282), (6, 283)])) (z_np 279 (z_lp []) (z_lp [])))) (z_np 284 (z_np 282 (z_np 281 (z_lp []) (z_lp [])) (z_np 283 (z_lp []) (z_lp []))) (z_np 286 (z_np 285 (z_lp [(1, 286), (2, 287), (3, 288), (4, 285), (5, 289), (6, 290)]) (z_lp [])) (z_np 287 (z_lp []) (z_lp [])))))) (z_np 304 (z_np 296 (z_np 292 (z_np 290 (z_np 289 (z_lp []) (z_lp [])) (z_np 291 (z_lp []) (z_lp [(0, 292), (1, 293), (6, 255)]))) (z_np 294 (z_np 293 (z_lp []) (z_lp [])) (z_np 295 (z_lp []) (z_lp [])))) (z_np 300 (z_np 298 (z_np 297 (z_lp []) (z_lp [(0, 298)])) (z_np 299 (z_lp []) (z_lp []))) (z_np 302 (z_np 301 (z_lp []) (z_lp [])) (z_np 303 (z_lp [(0, 255), (1, 255)]) (z_lp [(0, 304), (1, 311), (2, 318), (3, 325), (4, 332), (5, 339), (6, 342), (7, 343), (11, 344), (13, 345), (14, 347), (16, 350), (17, 348), (19, 349)]))))) (z_np 312 (z_np 308 (z_np 306 (z_np 305 (z_lp [(1, 306), (2, 307), (3, 308), (4, 305), (5, 309), (6, 310)]) (z_lp [])) (z_np 307 (z_lp []) (z_lp []))) (z_np 310 (z_np 309 (z_lp []) (z_lp [])) (z_np 311 (z_lp []) (z_lp [(1, 313), (2, 314), (3, 315), (4, 312), (5, 316), (6, 317)])))) (z_np 316 (z_np 314 (z_np 313 (z_lp []) (z_lp [])) (z_np 315 (z_lp []) (z_lp []))) (z_np 318 (z_np 317 (z_lp []) (z_lp [])) (z_np 319 (z_lp [(1, 320), (2, 321), (3, 322), (4, 319), (5, 323), (6, 324)]) (z_lp []))))))
def z_ly320 : Nat → Nat × Nat := z_nk 352 (z_nk 336 (z_nk 328 (z_nk 324 (z_nk 322 (z_nk 321 (fun _ => (1000, 19)) (fun _ => (1000, 19))) (z_nk 323 (fun _ => (1000, 19)) (fun _ => (1000, 38)))) (z_nk 326 (z_nk 325 (fun _ => (1000, 38)) (fun _ => (31, 7))) (z_nk 327 (fun _ => (1000, 16)) (fun _ => (1000, 288))))) (z_nk 332 (z_nk 330 (z_nk 329 (fun _ => (1000, 288)) (fun _ => (1000, 288))) (z_nk 331 (fun _ => (1000, 576)) (fun _ => (1000, 576)))) (z_nk 334 (z_nk 333 (fun _ => (31, 7)) (fun _ => (1000, 16))) (z_nk 335 (fun _ => (1000, 32)) (fun _ => (1000, 32)))))) (z_nk 344 (z_nk 340 (z_nk 338 (z_nk 337 (fun _ => (1000, 32)) (fun _ => (1000, 64))) (z_nk 339 (fun _ => (1000, 64)) (fun _ => (32, 7)))) (z_nk 342 (z_nk 341 (fun _ => (1000, 320)) (fun _ => (1000, 320))) (z_nk 343 (fun _ => (1000, 513)) (fun _ => (1000, 513))))) (z_nk 348 (z_nk 346 (z_nk 345 (fun _ => (1002, 512)) (fun _ => (33, 2))) (z_nk 347 (fun _ => (1002, 1200)) (fun _ => (1106, 4)))) (z_nk 350 (z_nk 349 (fun _ => (1002, 1200)) (fun _ => (1002, 2000))) (z_nk 351 (fun _ => (35, 2)) (fun _ => (30, 22))))))) (z_nk 368 (z_nk 360 (z_nk 356 (z_nk 354 (z_nk 353 (fun _ => (31, 7)) (fun _ => (1000, 16))) (z_nk 355 (fun _ => (1000, 288)) (fun _ => (1000, 288)))) (z_nk 358 (z_nk 357 (fun _ => (1000, 288)) (fun _ => (1000, 576))) (z_nk 359 (fun _ => (1000, 576)) (fun _ => (31, 7))))) (z_nk 364 (z_nk 362 (z_nk 361 (fun _ => (1000, 16)) (fun _ => (1000, 32))) (z_nk 363 (fun _ => (1000, 32)) (fun _ => (1000, 32)))) (z_nk 366 (z_nk 365 (fun _ => (1000, 64)) (fun _ => (1000, 64))) (z_nk 367 (fun _ => (31, 7)) (fun _ => (1000, 16)))))) (z_nk 376 (z_nk 372 (z_nk 370 (z_nk 369 (fun _ => (1000, 19)) (fun _ => (1000, 19))) (z_nk 371 (fun _ => (1000, 19)) (fun _ => (1000, 38)))) (z_nk 374 (z_nk 373 (fun _ => (1000, 38)) (fun _ => (31, 7))) (z_nk 375 (fun _ => (1000, 16)) (fun _ => (1000, 288))))) (z_nk 380 (z_nk 378 (z_nk 377 (fun _ => (1000, 288)) (fun _ => (1000, 288))) (z_nk 379 (fun _ => (1000, 576)) (fun _ => (1000, 576)))) (z_nk 382 (z_nk 381 (fun _ => (31, 7)) (fun _ => (1000, 16))) (z_nk 383 (fun _ => (1000, 32)) (fun _ => (1000, 32)))))))
def z_lq320 : Nat → Nat → Option Nat := z_np 352 (z_np 336 (z_np 328 (z_np 324 (z_np 322 (z_np 321 (z_lp []) (z_lp [])) (z_np 323 (z_lp []) (z_lp []))) (z_np 326 (z_np 325 (z_lp []) (z_lp [(1, 327), (2, 328), (3, 329), (4, 326), (5, 330), (6, 331)])) (z_np 327 (z_lp []) (z_lp [])))) (z_np 332 (z_np 330 (z_np 329 (z_lp []) (z_lp [])) (z_np 331 (z_lp []) (z_lp []))) (z_np 334 (z_np 333 (z_lp [(1, 334), (2, 335), (3, 336), (4, 333), (5, 337), (6, 338)]) (z_lp [])) (z_np 335 (z_lp []) (z_lp []))))) (z_np 344 (z_np 340 (z_np 338 (z_np 337 (z_lp []) (z_lp [])) (z_np 339 (z_lp []) (z_lp [(0, 340), (1, 341), (6, 303)]))) (z_np 342 (z_np 341 (z_lp []) (z_lp [])) (z_np 343 (z_lp []) (z_lp [])))) (z_np 348 (z_np 346 (z_np 345 (z_lp []) (z_lp [(0, 346)])) (z_np 347 (z_lp []) (z_lp []))) (z_np 350 (z_np 349 (z_lp []) (z_lp [])) (z_np 351 (z_lp [(0, 303), (1, 303)]) (z_lp [(0, 352), (1, 359), (2, 366), (3, 373), (4, 380), (5, 387), (6, 390), (7, 391), (11, 392), (13, 393), (14, 395), (16, 398), (17, 396), (19, 397)])))))) (z_np 368 (z_np 360 (z_np 356 (z_np 354 (z_np 353 (z_lp [(1, 354), (2, 355), (3, 356), (4, 353), (5, 357), (6, 358)]) (z_lp [])) (z_np 355 (z_lp []) (z_lp []))) (z_np 358 (z_np 357 (z_lp []) (z_lp [])) (z_np 359 (z_lp []) (z_lp [(1, 361), (2, 362), (3, 363), (4, 360), (5, 364), (6, 365)])))) (z_np 364 (z_np 362 (z_np 361 (z_lp []) (z_lp [])) (z_np 363 (z_lp []) (z_lp []))) (z_np 366 (z_np 365 (z_lp []) (z_lp [])) (z_np 367 (z_lp [(1, 368), (2, 369), (3, 370), (4, 367), (5, 371), (6, 372)]) (z_lp []))))) (z_np 376 (z_np 372 (z_np 370 (z_np 369 (z_lp []) (z_lp [])) (z_np 371 (z_lp []) (z_lp []))) (z_np 374 (z_np 373 (z_lp []) (z_lp [(1, 375), (2, 376), (3, 377), (4, 374), (5, 378), (6, 379)])) (z_np 375 (z_lp []) (z_lp [])))) (z_np 380 (z_np 378 (z_np 377 (z_lp []) (z_lp [])) (z_np 379 (z_lp []) (z_lp []))) (z_np 382 (z_np 381 (z_lp [(1, 382), (2, 383), (3, 384), (4, 381), (5, 385), (6, 386)]) (z_lp [])) (z_np 383 (z_lp []) (z_lp []))))))
def z_ly384 : Nat → Nat × Nat := z_nk 416 (z_nk 400 (z_nk 392 (z_nk 388 (z_nk 386 (z_nk 385 (fun _ => (1000, 32)) (fun _ => (1000, 64))) (z_nk 387 (fun _ => (1000, 64)) (fun _ => (32, 7)))) (z_nk 390 (z_nk 389 (fun _ => (1000, 320)) (fun _ => (1000, 320))) (z_nk 391 (fun _ => (1000, 513)) (fun _ => (1000, 513))))) (z_nk 396 (z_nk 394 (z_nk 393 (fun _ => (1002, 512)) (fun _ => (33, 2))) (z_nk 395 (fun _ => (1002, 1200)) (fun _ => (1106, 4)))) (z_nk 398 (z_nk 397 (fun _ => (1002, 1200)) (fun _ => (1002, 2000))) (z_nk 399 (fun _ => (36, 3)) (fun _ => (30, 22)))))) (z_nk 408 (z_nk 404 (z_nk 402 (z_nk 401 (fun _ => (31, 7)) (fun _ => (1000, 16))) (z_nk 403 (fun _ => (1000, 288)) (fun _ => (1000, 288)))) (z_nk 406 (z_nk 405 (fun _ => (1000, 288)) (fun _ => (1000, 576))) (z_nk 407 (fun _ => (1000, 576)) (fun _ => (31, 7))))) (z_nk 412 (z_nk 410 (z_nk 409 (fun _ => (1000, 16)) (fun _ => (1000, 32))) (z_nk 411 (fun _ => (1000, 32)) (fun _ => (1000, 32)))) (z_nk 414 (z_nk 413 (fun _ => (1000, 64)) (fun _ => (1000, 64))) (z_nk 415 (fun _ => (31, 7)) (fun _ => (1000, 16))))))) (z_nk 432 (z_nk 424 (z_nk 420 (z_nk 418 (z_nk 417 (fun _ => (1000, 19)) (fun _ => (1000, 19))) (z_nk 419 (fun _ => (1000, 19)) (fun _ => (1000, 38)))) (z_nk 422 (z_nk 421 (fun _ => (1000, 38)) (fun _ => (31, 7))) (z_nk 423 (fun _ => (1000, 16)) (fun _ => (1000, 288))))) (z_nk 428 (z_nk 426 (z_nk 425 (fun _ => (1000, 288)) (fun _ => (1000, 288))) (z_nk 427 (fun _ => (1000, 576)) (fun _ => (1000, 576)))) (z_nk 430 (z_nk 429 (fun _ => (31, 7)) (fun _ => (1000, 16))) (z_nk 431 (fun _ => (1000, 32)) (fun _ => (1000, 32)))))) (z_nk 440 (z_nk 436 (z_nk 434 (z_nk 433 (fun _ => (1000, 32)) (fun _ => (1000, 64))) (z_nk 435 (fun _ => (1000, 64)) (fun _ => (32, 7)))) (z_nk 438 (z_nk 437 (fun _ => (1000, 320)) (fun _ => (1000, 320))) (z_nk 439 (fun _ => (1000, 513)) (fun _ => (1000, 513))))) (z_nk 444 (z_nk 442 (z_nk 441 (fun _ => (1002, 512)) (fun _ => (33, 2))) (z_nk 443 (fun _ => (1002, 1200)) (fun _ => (1106, 4)))) (z_nk 446 (z_nk 445 (fun _ => (1002, 1200)) (fun _ => (1002, 2000))) (z_nk 447 (fun _ => (36, 3)) (fun _ => (30, 22)))))))
def z_lq384 : Nat → Nat → Option Nat := z_np 416 (z_np 400 (z_np 392 (z_np 388 (z_np 386 (z_np 385 (z_lp []) (z_lp [])) (z_np 387 (z_lp []) (z_lp [(0, 388), (1, 389), (6, 351)]))) (z_np 390 (z_np 389 (z_lp []) (z_lp [])) (z_np 391 (z_lp []) (z_lp [])))) (z_np 396 (z_np 394 (z_np 393 (z_lp []) (z_lp [(0, 394)])) (z_np 395 (z_lp []) (z_lp []))) (z_np 398 (z_np 397 (z_lp []) (z_lp [])) (z_np 399 (z_lp [(0, 351), (1, 351), (2, 351)]) (z_lp [(0, 400), (1, 407), (2, 414), (3, 421), (4, 428), (5, 435), (6, 438), (7, 439), (11, 440), (13, 441), (14, 443), (16, 446), (17, 444), (19, 445)]))))) (z_np 408 (z_np 404 (z_np 402 (z_np 401 (z_lp [(1, 402), (2, 403), (3, 404), (4, 401), (5, 405), (6, 406)]) (z_lp [])) (z_np 403 (z_lp []) (z_lp []))) (z_np 406 (z_np 405 (z_lp []) (z_lp [])) (z_np 407 (z_lp []) (z_lp [(1, 409), (2, 410), (3, 411), (4, 408), (5, 412), (6, 413)])))) (z_np 412 (z_np 410 (z_np 409 (z_lp []) (z_lp [])) (z_np 411 (z_lp []) (z_lp []))) (z_np 414 (z_np 413 (z_lp []) (z_lp [])) (z_np 415 (z_lp [(1, 416), (2, 417), (3, 418), (4, 415), (5, 419), (6, 420)]) (z_lp [])))))) (z_np 432 (z_np 424 (z_np 420 (z_np 418 (z_np 417 (z_lp []) (z_lp [])) (z_np 419 (z_lp []) (z_lp []))) (z_np 422 (z_np 421 (z_lp []) (z_lp [(1, 423), (2, 424), (3, 425), (4, 422), (5, 426), (6, 427)])) (z_np 423 (z_lp []) (z_lp [])))) (z_np 428 (z_np 426 (z_np 425 (z_lp []) (z_lp [])) (z_np 427 (z_lp []) (z_lp []))) (z_np 430 (z_np 429 (z_lp [(1, 430), (2, 431), (3, 432), (4, 429), (5, 433), (6, 434)]) (z_lp [])) (z_np 431 (z_lp []) (z_lp []))))) (z_np 440 (z_np 436 (z_np 434 (z_np 433 (z_lp []) (z_lp [])) (z_np 435 (z_lp []) (z_lp [(0, 436), (1, 437), (6, 399)]))) (z_np 438 (z_np 437 (z_lp []) (z_lp [])) (z_np 439 (z_lp []) (z_lp [])))) (z_np 444 (z_np 442 (z_np 441 (z_lp []) (z_lp [(0, 442)])) (z_np 443 (z_lp []) (z_lp []))) (z_np 446 (z_np 445 (z_lp []) (z_lp [])) (z_np 447 (z_lp [(0, 399), (1, 399), (2, 399)]) (z_lp [(0, 448), (1, 455), (2, 462), (3, 469), (4, 476), (5, 483), (6, 486), (7, 487), (11, 488), (13, 489), (14, 491), (16, 494), (17, 492), (19, 493)]))))))
def z_ly448 : Nat → Nat × Nat := z_nk 480 (z_nk 464 (z_nk 456 (z_nk 452 (z_nk 450 (z_nk 449 (fun _ => (31, 7)) (fun _ => (1000, 16))) (z_nk 451 (fun _ => (1000, 288)) (fun _ => (1000, 288)))) (z_nk 454 (z_nk 453 (fun _ => (1000, 288)) (fun _ => (1000, 576))) (z_nk 455 (fun _ => (1000, 576)) (fun _ => (31, 7))))) (z_nk 460 (z_nk 458 (z_nk 457 (fun _ => (1000, 16)) (fun _ => (1000, 32))) (z_nk 459 (fun _ => (1000, 32)) (fun _ => (1000, 32)))) (z_nk 462 (z_nk 461 (fun _ => (1000, 64)) (fun _ => (1000, 64))) (z_nk 463 (fun _ => (31, 7)) (fun _ => (1000, 16)))))) (z_nk 472 (z_nk 468 (z_nk 466 (z_nk 465 (fun _ => (1000, 19)) (fun _ => (1000, 19))) (z_nk 467 (fun _ => (1000, 19)) (fun _ => (1000, 38)))) (z_nk 470 (z_nk 469 (fun _ => (1000, 38)) (fun _ => (31, 7))) (z_nk 471 (fun _ => (1000, 16)) (fun _ => (1000, 288))))) (z_nk 476 (z_nk 474 (z_nk 473 (fun _ => (1000, 288)) (fun _ => (1000, 288))) (z_nk 475 (fun _ => (1000, 576)) (fun _ => (1000, 576)))) (z_nk 478 (z_nk 477 (fun _ => (31, 7)) (fun _ => (1000, 16))) (z_nk 479 (fun _ => (1000, 32)) (fun _ => (1000, 32))))))) (z_nk 496 (z_nk 488 (z_nk 484 (z_nk 482 (z_nk 481 (fun _ => (1000, 32)) (fun _ => (1000, 64))) (z_nk 483 (fun _ => (1000, 64)) (fun _ => (32, 7)))) (z_nk 486 (z_nk 485 (fun _ => (1000, 320)) (fun _ => (1000, 320))) (z_nk 487 (fun _ => (1000, 513)) (fun _ => (1000, 513))))) (z_nk 492 (z_nk 490 (z_nk 489 (fun _ => (1002, 512)) (fun _ => (33, 2))) (z_nk 491 (fun _ => (1002, 1200)) (fun _ => (1106, 4)))) (z_nk 494 (z_nk 493 (fun _ => (1002, 1200)) (fun _ => (1002, 2000))) (z_nk 495 (fun _ => (36, 3)) (fun _ => (30, 22)))))) (z_nk 504 (z_nk 500 (z_nk 498 (z_nk 497 (fun _ => (31, 7)) (fun _ => (1000, 16))) (z_nk 499 (fun _ => (1000, 288)) (fun _ => (1000, 288)))) (z_nk 502 (z_nk 501 (fun _ => (1000, 288)) (fun _ => (1000, 576))) (z_nk 503 (fun _ => (1000, 576)) (fun _ => (31, 7))))) (z_nk 508 (z_nk 506 (z_nk 505 (fun _ => (1000, 16)) (fun _ => (1000, 32))) (z_nk 507 (fun _ => (1000, 32)) (fun _ => (1000, 32)))) (z_nk 510 (z_nk 509 (fun _ => (1000, 64)) (fun _ => (1000, 64))) (z_nk 511 (fun _ => (31, 7)) (fun _ => (1000, 16)))))))
def z_lq448 : Nat → Nat → Option Nat := z_np 480 (z_np 464 (z_np 456 (z_np 452 (z_np 450 (z_np 449 (z_lp [(1, 450), (2, 451), (3, 452), (4, 449), (5, 453), (6, 454)]) (z_lp [])) (z_np 451 (z_lp []) (z_lp []))) (z_np 454 (z_np 453 (z_lp []) (z_lp [])) (z_np 455 (z_lp []) (z_lp [(1, 457), (2, 458), (3, 459), (4, 456), (5, 460), (6, 461)])))) (z_np 460 (z_np 458 (z_np 457 (z_lp []) (z_lp [])) (z_np 459 (z_lp []) (z_lp []))) (z_np 462 (z_np 461 (z_lp []) (z_lp [])) (z_np 463 (z_lp [(1, 464), (2, 465), (3, 466), (4, 463), (5, 467), (6, 468)]) (z_lp []))))) (z_np 472 (z_np 468 (z_np 466 (z_np 465 (z_lp []) (z_lp [])) (z_np 467 (z_lp []) (z_lp []))) (z_np 470 (z_np 469 (z_lp []) (z_lp [(1, 471), (2, 472), (3, 473), (4, 470), (5, 474), (6, 475)])) (z_np 471 (z_lp []) (z_lp [])))) (z_np 476 (z_np 474 (z_np 473 (z_lp []) (z_lp [])) (z_np 475 (z_lp []) (z_lp []))) (z_np 478 (z_np 477 (z_lp [(1, 478), (2, 479), (3, 480), (4, 477), (5, 481), (6, 482)]) (z_lp [])) (z_np 479 (z_lp []) (z_lp [])))))) (z_np 496 (z_np 488 (z_np 484 (z_np 482 (z_np 481 (z_lp []) (z_lp [])) (z_np 483 (z_lp []) (z_lp [(0, 484), (1, 485), (6, 447)]))) (z_np 486 (z_np 485 (z_lp []) (z_lp [])) (z_np 487 (z_lp []) (z_lp [])))) (z_np 492 (z_np 490 (z_np 489 (z_lp []) (z_lp [(0, 490)])) (z_np 491 (z_lp []) (z_lp []))) (z_np 494 (z_np 493 (z_lp []) (z_lp [])) (z_np 495 (z_lp [(0, 447), (1, 447), (2, 447)]) (z_lp [(0, 496), (1, 503), (2, 510), (3, 517), (4, 524), (5, 531), (6, 534), (7, 535), (11, 536), (13, 537), (14, 539), (16, 542), (17, 540), (19, 541)]))))) (z_np 504 (z_np 500 (z_np 498 (z_np 497 (z_lp [(1, 498), (2, 499), (3, 500), (4, 497), (5, 501), (6, 502)]) (z_lp [])) (z_np 499 (z_lp []) (z_lp []))) (z_np 502 (z_np 501 (z_lp []) (z_lp [])) (z_np 503 (z_lp []) (z_lp [(1, 505), (2, 506), (3, 507), (4, 504), (5, 508), (6, 509)])))) (z_np 508 (z_np 506 (z_np 505 (z_lp []) (z_lp [])) (z_np 507 (z_lp []) (z_lp []))) (z_np 510 (z_np 509 (z_lp []) (z_lp [])) (z_np 511 (z_lp [(1, 512), (2, 513), (3, 514), (4, 511), (5, 515), (6, 516)]) (z_lp []))))))
def z_ly512 : Nat → Nat × Nat := z_nk 544 (z_nk 528 (z_nk 520 (z_nk 516 (z_nk 514 (z_nk 513 (fun _ => (1000, 19)) (fun _ => (1000, 19))) (z_nk 515 (fun _ => (1000, 19)) (fun _ => (1000, 38)))) (z_nk 518 (z_nk 517 (fun _ => (1000, 38)) (fun _ => (31, 7))) (z_nk 519 (fun _ => (1000, 16)) (fun _ => (1000, 288))))) (z_nk 524 (z_nk 522 (z_nk 521 (fun _ => (1000, 288)) (fun _ => (1000, 288))) (z_nk 523 (fun _ => (1000, 576)) (fun _ => (1000, 576)))) (z_nk 526 (z_nk 525 (fun _ => (31, 7)) (fun _ => (1000, 16))) (z_nk 527 (fun _ => (1000, 32)) (fun _ => (1000, 32)))))) (z_nk 536 (z_nk 532 (z_nk 530 (z_nk 529 (fun _ => (1000, 32)) (fun _ => (1000, 64))) (z_nk 531 (fun _ => (1000, 64)) (fun _ => (32, 7)))) (z_nk 534 (z_nk 533 (fun _ => (1000, 320)) (fun _ => (1000, 320))) (z_nk 535 (fun _ => (1000, 513)) (fun _ => (1000, 513))))) (z_nk 540 (z_nk 538 (z_nk 537 (fun _ => (1002, 512)) (fun _ => (33, 2))) (z_nk 539 (fun _ => (1002, 1200)) (fun _ => (1106, 4)))) (z_nk 542 (z_nk 541 (fun _ => (1002, 1200)) (fun _ => (1002, 2000))) (z_nk 543 (fun _ => (37, 8)) (fun _ => (1000, 513))))))) (z_nk 560 (z_nk 552 (z_nk 548 (z_nk 546 (z_nk 545 (fun _ => (1000, 513)) (fun _ => (1000, 259))) (z_nk 547 (fun _ => (38, 9)) (fun _ => (1000, 512)))) (z_nk 550 (z_nk 549 (fun _ => (1000, 512)) (fun _ => (30, 22))) (z_nk 551 (fun _ => (31, 7)) (fun _ => (1000, 16))))) (z_nk 556 (z_nk 554 (z_nk 553 (fun _ => (1000, 288)) (fun _ => (1000, 288))) (z_nk 555 (fun _ => (1000, 288)) (fun _ => (1000, 576)))) (z_nk 558 (z_nk 557 (fun _ => (1000, 576)) (fun _ => (31, 7))) (z_nk 559 (fun _ => (1000, 16)) (fun _ => (1000, 32)))))) (z_nk 568 (z_nk 564 (z_nk 562 (z_nk 561 (fun _ => (1000, 32)) (fun _ => (1000, 32))) (z_nk 563 (fun _ => (1000, 64)) (fun _ => (1000, 64)))) (z_nk 566 (z_nk 565 (fun _ => (31, 7)) (fun _ => (1000, 16))) (z_nk 567 (fun _ => (1000, 19)) (fun _ => (1000, 19))))) (z_nk 572 (z_nk 570 (z_nk 569 (fun _ => (1000, 19)) (fun _ => (1000, 38))) (z_nk 571 (fun _ => (1000, 38)) (fun _ => (31, 7)))) (z_nk 574 (z_nk 573 (fun _ => (1000, 16)) (fun _ => (1000, 288))) (z_nk 575 (fun _ => (1000, 288)) (fun _ => (1000, 288)))))))
def z_lq512 : Nat → Nat → Option Nat := z_np 544 (z_np 528 (z_np 520 (z_np 516 (z_np 514 (z_np 513 (z_lp []) (z_lp [])) (z_np 515 (z_lp []) (z_lp []))) (z_np 518 (z_np 517 (z_lp []) (z_lp [(1, 519), (2, 520), (3, 521), (4, 518), (5, 522), (6, 523)])) (z_np 519 (z_lp []) (z_lp [])))) (z_np 524 (z_np 522 (z_np 521 (z_lp []) (z_lp [])) (z_np 523 (z_lp []) (z_lp []))) (z_np 526 (z_np 525 (z_lp [(1, 526), (2, 527), (3, 528), (4, 525), (5, 529), (6, 530)]) (z_lp [])) (z_np 527 (z_lp []) (z_lp []))))) (z_np 536 (z_np 532 (z_np 530 (z_np 529 (z_lp []) (z_lp [])) (z_np 531 (z_lp []) (z_lp [(0, 532), (1, 533), (6, 495)]))) (z_np 534 (z_np 533 (z_lp []) (z_lp [])) (z_np 535 (z_lp []) (z_lp [])))) (z_np 540 (z_np 538 (z_np 537 (z_lp []) (z_lp [(0, 538)])) (z_np 539 (z_lp []) (z_lp []))) (z_np 542 (z_np 541 (z_lp []) (z_lp [])) (z_np 543 (z_lp [(0, 495), (1, 495), (2, 495), (3, 543), (4, 544), (5, 545), (6, 546), (7, 495)]) (z_lp [])))))) (z_np 560 (z_np 552 (z_np 548 (z_np 546 (z_np 545 (z_lp []) (z_lp [])) (z_np 547 (z_lp [(2, 547), (3, 548), (8, 495)]) (z_lp []))) (z_np 550 (z_np 549 (z_lp []) (z_lp [(0, 550), (1, 557), (2, 564), (3, 571), (4, 578), (5, 585), (6, 588), (7, 589), (11, 590), (13, 591), (14, 593), (16, 596), (17, 594), (19, 595)])) (z_np 551 (z_lp [(1, 552), (2, 553), (3, 554), (4, 551), (5, 555), (6, 556)]) (z_lp [])))) (z_np 556 (z_np 554 (z_np 553 (z_lp []) (z_lp [])) (z_np 555 (z_lp []) (z_lp []))) (z_np 558 (z_np 557 (z_lp []) (z_lp [(1, 559), (2, 560), (3, 561), (4, 558), (5, 562), (6, 563)])) (z_np 559 (z_lp []) (z_lp []))))) (z_np 568 (z_np 564 (z_np 562 (z_np 561 (z_lp []) (z_lp [])) (z_np 563 (z_lp []) (z_lp []))) (z_np 566 (z_np 565 (z_lp [(1, 566), (2, 567), (3, 568), (4, 565), (5, 569), (6, 570)]) (z_lp [])) (z_np 567 (z_lp []) (z_lp [])))) (z_np 572 (z_np 570 (z_np 569 (z_lp []) (z_lp [])) (z_np 571 (z_lp []) (z_lp [(1, 573), (2, 574), (3, 575), (4, 572), (5, 576), (6, 577)]))) (z_np 574 (z_np 573 (z_lp []) (z_lp [])) (z_np 575 (z_lp []) (z_lp []))))))
def z_ly576 : Nat → Nat × Nat := z_nk 608 (z_nk 592 (z_nk 584 (z_nk 580 (z_nk 578 (z_nk 577 (fun _ => (1000, 576)) (fun _ => (1000, 576))) (z_nk 579 (fun _ => (31, 7)) (fun _ => (1000, 16)))) (z_nk 582 (z_nk 581 (fun _ => (1000, 32)) (fun _ => (1000, 32))) (z_nk 583 (fun _ => (1000, 32)) (fun _ => (1000, 64))))) (z_nk 588 (z_nk 586 (z_nk 585 (fun _ => (1000, 64)) (fun _ => (32, 7))) (z_nk 587 (fun _ => (1000, 320)) (fun _ => (1000, 320)))) (z_nk 590 (z_nk 589 (fun _ => (1000, 513)) (fun _ => (1000, 513))) (z_nk 591 (fun _ => (1002, 512)) (fun _ => (33, 2)))))) (z_nk 600 (z_nk 596 (z_nk 594 (z_nk 593 (fun _ => (1002, 1200)) (fun _ => (1106, 4))) (z_nk 595 (fun _ => (1002, 1200)) (fun _ => (1002, 2000)))) (z_nk 598 (z_nk 597 (fun _ => (37, 8)) (fun _ => (1000, 513))) (z_nk 599 (fun _ => (1000, 513)) (fun _ => (1000, 259))))) (z_nk 604 (z_nk 602 (z_nk 601 (fun _ => (38, 9)) (fun _ => (1000, 512))) (z_nk 603 (fun _ => (1000, 512)) (fun _ => (30, 22)))) (z_nk 606 (z_nk 605 (fun _ => (31, 7)) (fun _ => (1000, 16))) (z_nk 607 (fun _ => (1000, 288)) (fun _ => (1000, 288))))))) (z_nk 624 (z_nk 616 (z_nk 612 (z_nk 610 (z_nk 609 (fun _ => (1000, 288)) (fun _ => (1000, 576))) (z_nk 611 (fun _ => (1000, 576)) (fun _ => (31, 7)))) (z_nk 614 (z_nk 613 (fun _ => (1000, 16)) (fun _ => (1000, 32))) (z_nk 615 (fun _ => (1000, 32)) (fun _ => (1000, 32))))) (z_nk 620 (z_nk 618 (z_nk 617 (fun _ => (1000, 64)) (fun _ => (1000, 64))) (z_nk 619 (fun _ => (31, 7)) (fun _ => (1000, 16)))) (z_nk 622 (z_nk 621 (fun _ => (1000, 19)) (fun _ => (1000, 19))) (z_nk 623 (fun _ => (1000, 19)) (fun _ => (1000, 38)))))) (z_nk 632 (z_nk 628 (z_nk 626 (z_nk 625 (fun _ => (1000, 38)) (fun _ => (31, 7))) (z_nk 627 (fun _ => (1000, 16)) (fun _ => (1000, 288)))) (z_nk 630 (z_nk 629 (fun _ => (1000, 288)) (fun _ => (1000, 288))) (z_nk 631 (fun _ => (1000, 576)) (fun _ => (1000, 576))))) (z_nk 636 (z_nk 634 (z_nk 633 (fun _ => (31, 7)) (fun _ => (1000, 16))) (z_nk 635 (fun _ => (1000, 32)) (fun _ => (1000, 32)))) (z_nk 638 (z_nk 637 (fun _ => (1000, 32)) (fun _ => (1000, 64))) (z_nk 639 (fun _ => (1000, 64)) (fun _ => (32, 7)))))))
def z_lq576 : Nat → Nat → Option Nat := z_np 608 (z_np 592 (z_np 584 (z_np 580 (z_np 578 (z_np 577 (z_lp []) (z_lp [])) (z_np 579 (z_lp [(1, 580), (2, 581), (3, 582), (4, 579), (5, 583), (6, 584)]) (z_lp []))) (z_np 582 (z_np 581 (z_lp []) (z_lp [])) (z_np 583 (z_lp []) (z_lp [])))) (z_np 588 (z_np 586 (z_np 585 (z_lp []) (z_lp [(0, 586), (1, 587), (6, 549)])) (z_np 587 (z_lp []) (z_lp []))) (z_np 590 (z_np 589 (z_lp []) (z_lp [])) (z_np 591 (z_lp []) (z_lp [(0, 592)]))))) (z_np 600 (z_np 596 (z_np 594 (z_np 593 (z_lp []) (z_lp [])) (z_np 595 (z_lp []) (z_lp []))) (z_np 598 (z_np 597 (z_lp [(0, 549), (1, 549), (2, 549), (3, 597), (4, 598), (5, 599), (6, 600), (7, 549)]) (z_lp [])) (z_np 599 (z_lp []) (z_lp [])))) (z_np 604 (z_np 602 (z_np 601 (z_lp [(2, 601), (3, 602), (8, 549)]) (z_lp [])) (z_np 603 (z_lp []) (z_lp [(0, 604), (1, 611), (2, 618), (3, 625), (4, 632), (5, 639), (6, 642), (7, 643), (11, 644), (13, 645), (14, 647), (16, 650), (17, 648), (19, 649)]))) (z_np 606 (z_np 605 (z_lp [(1, 606), (2, 607), (3, 608), (4, 605), (5, 609), (6, 610)]) (z_lp [])) (z_np 607 (z_lp []) (z_lp [])))))) (z_np 624 (z_np 616 (z_np 612 (z_np 610 (z_np 609 (z_lp []) (z_lp [])) (z_np 611 (z_lp []) (z_lp [(1, 613), (2, 614), (3, 615), (4, 612), (5, 616), (6, 617)]))) (z_np 614 (z_np 613 (z_lp []) (z_lp [])) (z_np 615 (z_lp []) (z_lp [])))) (z_np 620 (z_np 618 (z_np 617 (z_lp []) (z_lp [])) (z_np 619 (z_lp [(1, 620), (2, 621), (3, 622), (4, 619), (5, 623), (6, 624)]) (z_lp []))) (z_np 622 (z_np 621 (z_lp []) (z_lp [])) (z_np 623 (z_lp []) (z_lp []))))) (z_np 632 (z_np 628 (z_np 626 (z_np 625 (z_lp []) (z_lp [(1, 627), (2, 628), (3, 629), (4, 626), (5, 630), (6, 631)])) (z_np 627 (z_lp []) (z_lp []))) (z_np 630 (z_np 629 (z_lp []) (z_lp [])) (z_np 631 (z_lp []) (z_lp [])))) (z_np 636 (z_np 634 (z_np 633 (z_lp [(1, 634), (2, 635), (3, 636), (4, 633), (5, 637), (6, 638)]) (z_lp [])) (z_np 635 (z_lp []) (z_lp []))) (z_np 638 (z_np 637 (z_lp []) (z_lp [])) (z_np 639 (z_lp []) (z_lp [(0, 640), (1, 641), (6, 603)]))))))
def z_ly640 : Nat → Nat × Nat := z_nk 672 (z_nk 656 (z_nk 648 (z_nk 644 (z_nk 642 (z_nk 641 (fun _ => (1000, 320)) (fun _ => (1000, 320))) (z_nk 643 (fun _ => (1000, 513)) (fun _ => (1000, 513)))) (z_nk 646 (z_nk 645 (fun _ => (1002, 512)) (fun _ => (33, 2))) (z_nk 647 (fun _ => (1002, 1200)) (fun _ => (1106, 4))))) (z_nk 652 (z_nk 650 (z_nk 649 (fun _ => (1002, 1200)) (fun _ => (1002, 2000))) (z_nk 651 (fun _ => (37, 8)) (fun _ => (1000, 513)))) (z_nk 654 (z_nk 653 (fun _ => (1000, 513)) (fun _ => (1000, 259))) (z_nk 655 (fun _ => (38, 9)) (fun _ => (1000, 512)))))) (z_nk 664 (z_nk 660 (z_nk 658 (z_nk 657 (fun _ => (1000, 512)) (fun _ => (39, 12))) (z_nk 659 (fun _ => (40, 12)) (fun _ => (1109, 4)))) (z_nk 662 (z_nk 661 (fun _ => (1111, 6)) (fun _ => (41, 3))) (z_nk 663 (fun _ => (1000, 144)) (fun _ => (41, 3))))) (z_nk 668 (z_nk 666 (z_nk 665 (fun _ => (1000, 144)) (fun _ => (41, 3))) (z_nk 667 (fun _ => (1000, 144)) (fun _ => (41, 3)))) (z_nk 670 (z_nk 669 (fun _ => (1000, 144)) (fun _ => (40, 12))) (z_nk 671 (fun _ => (1109, 4)) (fun _ => (1111, 6))))))) (z_nk 688 (z_nk 680 (z_nk 676 (z_nk 674 (z_nk 673 (fun _ => (41, 3)) (fun _ => (1000, 144))) (z_nk 675 (fun _ => (41, 3)) (fun _ => (1000, 144)))) (z_nk 678 (z_nk 677 (fun _ => (41, 3)) (fun _ => (1000, 144))) (z_nk 679 (fun _ => (41, 3)) (fun _ => (1000, 144))))) (z_nk 684 (z_nk 682 (z_nk 681 (fun _ => (1002, 6000)) (fun _ => (1002, 6000))) (z_nk 683 (fun _ => (42, 13)) (fun _ => (0, 3)))) (z_nk 686 (z_nk 685 (fun _ => (1002, 6000)) (fun _ => (1002, 3000))) (z_nk 687 (fun _ => (1002, 3000)) (fun _ => (1103, 10)))))) (z_nk 696 (z_nk 692 (z_nk 690 (z_nk 689 (fun _ => (0, 3)) (fun _ => (43, 7))) (z_nk 691 (fun _ => (1000, 32)) (fun _ => (1000, 32)))) (z_nk 694 (z_nk 693 (fun _ => (43, 7)) (fun _ => (1000, 32))) (z_nk 695 (fun _ => (1000, 32)) (fun _ => (43, 7))))) (z_nk 700 (z_nk 698 (z_nk 697 (fun _ => (1000, 32)) (fun _ => (1000, 32))) (z_nk 699 (fun _ => (43, 7)) (fun _ => (1000, 32)))) (z_nk 702 (z_nk 701 (fun _ => (1000, 32)) (fun _ => (43, 7))) (z_nk 703 (fun _ => (1000, 32)) (fun _ => (1000, 32)))))))
def z_lq640 : Nat → Nat → Option Nat := z_np 672 (z_np 656 (z_np 648 (z_np 644 (z_np 642 (z_np 641 (z_lp []) (z_lp [])) (z_np 643 (z_lp []) (z_lp []))) (z_np 646 (z_np 645 (z_lp []) (z_lp [(0, 646)])) (z_np 647 (z_lp []) (z_lp [])))) (z_np 652 (z_np 650 (z_np 649 (z_lp []) (z_lp [])) (z_np 651 (z_lp [(0, 603), (1, 603), (2, 603), (3, 651), (4, 652), (5, 653), (6, 654), (7, 603)]) (z_lp []))) (z_np 654 (z_np 653 (z_lp []) (z_lp [])) (z_np 655 (z_lp [(2, 655), (3, 656), (8, 603)]) (z_lp []))))) (z_np 664 (z_np 660 (z_np 658 (z_np 657 (z_lp []) (z_lp [(1, 658), (2, 669), (5, 680), (7, 681)])) (z_np 659 (z_lp [(0, 659), (1, 660)]) (z_lp [(0, 661), (1, 663), (2, 665), (3, 667)]))) (z_np 662 (z_np 661 (z_lp []) (z_lp [(0, 662)])) (z_np 663 (z_lp []) (z_lp [(0, 664)])))) (z_np 668 (z_np 666 (z_np 665 (z_lp []) (z_lp [(0, 666)])) (z_np 667 (z_lp []) (z_lp [(0, 668)]))) (z_np 670 (z_np 669 (z_lp []) (z_lp [(0, 670), (1, 671)])) (z_np 671 (z_lp [(0, 672), (1, 674), (2, 676), (3, 678)]) (z_lp [])))))) (z_np 688 (z_np 680 (z_np 676 (z_np 674 (z_np 673 (z_lp [(0, 673)]) (z_lp [])) (z_np 675 (z_lp [(0, 675)]) (z_lp []))) (z_np 678 (z_np 677 (z_lp [(0, 677)]) (z_lp [])) (z_np 679 (z_lp [(0, 679)]) (z_lp [])))) (z_np 684 (z_np 682 (z_np 681 (z_lp []) (z_lp [])) (z_np 683 (z_lp [(1, 683), (2, 684), (4, 685), (6, 686), (8, 687)]) (z_lp []))) (z_np 686 (z_np 685 (z_lp []) (z_lp [])) (z_np 687 (z_lp []) (z_lp [(0, 689), (1, 692), (2, 695), (3, 698), (4, 701), (5, 704), (6, 707), (7, 710), (8, 713), (9, 716)]))))) (z_np 696 (z_np 692 (z_np 690 (z_np 689 (z_lp []) (z_lp [(0, 690), (1, 691)])) (z_np 691 (z_lp []) (z_lp []))) (z_np 694 (z_np 693 (z_lp [(0, 693), (1, 694)]) (z_lp [])) (z_np 695 (z_lp []) (z_lp [(0, 696), (1, 697)])))) (z_np 700 (z_np 698 (z_np 697 (z_lp []) (z_lp [])) (z_np 699 (z_lp [(0, 699), (1, 700)]) (z_lp []))) (z_np 702 (z_np 701 (z_lp []) (z_lp [(0, 702), (1, 703)])) (z_np 703 (z_lp []) (z_lp []))))))
def z_ly704 : Nat → Nat × Nat := z_nk 736 (z_nk 720 (z_nk 712 (z_nk 708 (z_nk 706 (z_nk 705 (fun _ => (43, 7)) (fun _ => (1000, 32))) (z_nk 707 (fun _ => (1000, 32)) (fun _ => (43, 7)))) (z_nk 710 (z_nk 709 (fun _ => (1000, 32)) (fun _ => (1000, 32))) (z_nk 711 (fun _ => (43, 7)) (fun _ => (1000, 32))))) (z_nk 716 (z_nk 714 (z_nk 713 (fun _ => (1000, 32)) (fun _ => (43, 7))) (z_nk 715 (fun _ => (1000, 32)) (fun _ => (1000, 32)))) (z_nk 718 (z_nk 717 (fun _ => (43, 7)) (fun _ => (1000, 32))) (z_nk 719 (fun _ => (1000, 32)) (fun _ => (39, 12)))))) (z_nk 728 (z_nk 724 (z_nk 722 (z_nk 721 (fun _ => (40, 12)) (fun _ => (1109, 4))) (z_nk 723 (fun _ => (1111, 6)) (fun _ => (41, 3)))) (z_nk 726 (z_nk 725 (fun _ => (1000, 144)) (fun _ => (41, 3))) (z_nk 727 (fun _ => (1000, 144)) (fun _ => (41, 3))))) (z_nk 732 (z_nk 730 (z_nk 729 (fun _ => (1000, 144)) (fun _ => (41, 3))) (z_nk 731 (fun _ => (1000, 144)) (fun _ => (40, 12)))) (z_nk 734 (z_nk 733 (fun _ => (1109, 4)) (fun _ => (1111, 6))) (z_nk 735 (fun _ => (41, 3)) (fun _ => (1000, 144))))))) (z_nk 752 (z_nk 744 (z_nk 740 (z_nk 738 (z_nk 737 (fun _ => (41, 3)) (fun _ => (1000, 144))) (z_nk 739 (fun _ => (41, 3)) (fun _ => (1000, 144)))) (z_nk 742 (z_nk 741 (fun _ => (41, 3)) (fun _ => (1000, 144))) (z_nk 743 (fun _ => (1002, 6000)) (fun _ => (1002, 6000))))) (z_nk 748 (z_nk 746 (z_nk 745 (fun _ => (42, 13)) (fun _ => (0, 3))) (z_nk 747 (fun _ => (1002, 6000)) (fun _ => (1002, 3000)))) (z_nk 750 (z_nk 749 (fun _ => (1002, 3000)) (fun _ => (1103, 10))) (z_nk 751 (fun _ => (0, 3)) (fun _ => (43, 7)))))) (z_nk 760 (z_nk 756 (z_nk 754 (z_nk 753 (fun _ => (1000, 32)) (fun _ => (1000, 32))) (z_nk 755 (fun _ => (43, 7)) (fun _ => (1000, 32)))) (z_nk 758 (z_nk 757 (fun _ => (1000, 32)) (fun _ => (43, 7))) (z_nk 759 (fun _ => (1000, 32)) (fun _ => (1000, 32))))) (z_nk 764 (z_nk 762 (z_nk 761 (fun _ => (43, 7)) (fun _ => (1000, 32))) (z_nk 763 (fun _ => (1000, 32)) (fun _ => (43, 7)))) (z_nk 766 (z_nk 765 (fun _ => (1000, 32)) (fun _ => (1000, 32))) (z_nk 767 (fun _ => (43, 7)) (fun _ => (1000, 32)))))))
def z_lq704 : Nat → Nat → Option Nat := z_np 736 (z_np 720 (z_np 712 (z_np 708 (z_np 706 (z_np 705 (z_lp [(0, 705), (1, 706)]) (z_lp [])) (z_np 707 (z_lp []) (z_lp [(0, 708), (1, 709)]))) (z_np 710 (z_np 709 (z_lp []) (z_lp [])) (z_np 711 (z_lp [(0, 711), (1, 712)]) (z_lp [])))) (z_np 716 (z_np 714 (z_np 713 (z_lp []) (z_lp [(0, 714), (1, 715)])) (z_np 715 (z_lp []) (z_lp []))) (z_np 718 (z_np 717 (z_lp [(0, 717), (1, 718)]) (z_lp [])) (z_np 719 (z_lp []) (z_lp [(1, 720), (2, 731), (5, 742), (7, 743)]))))) (z_np 728 (z_np 724 (z_np 722 (z_np 721 (z_lp [(0, 721), (1, 722)]) (z_lp [(0, 723), (1, 725), (2, 727), (3, 729)])) (z_np 723 (z_lp []) (z_lp [(0, 724)]))) (z_np 726 (z_np 725 (z_lp []) (z_lp [(0, 726)])) (z_np 727 (z_lp []) (z_lp [(0, 728)])))) (z_np 732 (z_np 730 (z_np 729 (z_lp []) (z_lp [(0, 730)])) (z_np 731 (z_lp []) (z_lp [(0, 732), (1, 733)]))) (z_np 734 (z_np 733 (z_lp [(0, 734), (1, 736), (2, 738), (3, 740)]) (z_lp [])) (z_np 735 (z_lp [(0, 735)]) (z_lp [])))))) (z_np 752 (z_np 744 (z_np 740 (z_np 738 (z_np 737 (z_lp [(0, 737)]) (z_lp [])) (z_np 739 (z_lp [(0, 739)]) (z_lp []))) (z_np 742 (z_np 741 (z_lp [(0, 741)]) (z_lp [])) (z_np 743 (z_lp []) (z_lp [])))) (z_np 748 (z_np 746 (z_np 745 (z_lp [(1, 745), (2, 746), (4, 747), (6, 748), (8, 749)]) (z_lp [])) (z_np 747 (z_lp []) (z_lp []))) (z_np 750 (z_np 749 (z_lp []) (z_lp [(0, 751), (1, 754), (2, 757), (3, 760), (4, 763), (5, 766), (6, 769), (7, 772), (8, 775), (9, 778)])) (z_np 751 (z_lp []) (z_lp [(0, 752), (1, 753)]))))) (z_np 760 (z_np 756 (z_np 754 (z_np 753 (z_lp []) (z_lp [])) (z_np 755 (z_lp [(0, 755), (1, 756)]) (z_lp []))) (z_np 758 (z_np 757 (z_lp []) (z_lp [(0, 758), (1, 759)])) (z_np 759 (z_lp []) (z_lp [])))) (z_np 764 (z_np 762 (z_np 761 (z_lp [(0, 761), (1, 762)]) (z_lp [])) (z_np 763 (z_lp []) (z_lp [(0, 764), (1, 765)]))) (z_np 766 (z_np 765 (z_lp []) (z_lp [])) (z_np 767 (z_lp [(0, 767), (1, 768)]) (z_lp []))))))
def z_ly768 : Nat → Nat × Nat := z_nk 800 (z_nk 784 (z_nk 776 (z_nk 772 (z_nk 770 (z_nk 769 (fun _ => (1000, 32)) (fun _ => (43, 7))) (z_nk 771 (fun _ => (1000, 32)) (fun _ => (1000, 32)))) (z_nk 774 (z_nk 773 (fun _ => (43, 7)) (fun _ => (1000, 32))) (z_nk 775 (fun _ => (1000, 32)) (fun _ => (43, 7))))) (z_nk 780 (z_nk 778 (z_nk 777 (fun _ => (1000, 32)) (fun _ => (1000, 32))) (z_nk 779 (fun _ => (43, 7)) (fun _ => (1000, 32)))) (z_nk 782 (z_nk 781 (fun _ => (1000, 32)) (fun _ => (39, 12))) (z_nk 783 (fun _ => (40, 12)) (fun _ => (1109, 4)))))) (z_nk 792 (z_nk 788 (z_nk 786 (z_nk 785 (fun _ => (1111, 6)) (fun _ => (41, 3))) (z_nk 787 (fun _ => (1000, 144)) (fun _ => (41, 3)))) (z_nk 790 (z_nk 789 (fun _ => (1000, 144)) (fun _ => (41, 3))) (z_nk 791 (fun _ => (1000, 144)) (fun _ => (41, 3))))) (z_nk 796 (z_nk 794 (z_nk 793 (fun _ => (1000, 144)) (fun _ => (40, 12))) (z_nk 795 (fun _ => (1109, 4)) (fun _ => (1111, 6)))) (z_nk 798 (z_nk 797 (fun _ => (41, 3)) (fun _ => (1000, 144))) (z_nk 799 (fun _ => (41, 3)) (fun _ => (1000, 144))))))) (z_nk 816 (z_nk 808 (z_nk 804 (z_nk 802 (z_nk 801 (fun _ => (41, 3)) (fun _ => (1000, 144))) (z_nk 803 (fun _ => (41, 3)) (fun _ => (1000, 144)))) (z_nk 806 (z_nk 805 (fun _ => (1002, 6000)) (fun _ => (1002, 6000))) (z_nk 807 (fun _ => (42, 13)) (fun _ => (0, 3))))) (z_nk 812 (z_nk 810 (z_nk 809 (fun _ => (1002, 6000)) (fun _ => (1002, 3000))) (z_nk 811 (fun _ => (1002, 3000)) (fun _ => (1103, 10)))) (z_nk 814 (z_nk 813 (fun _ => (0, 3)) (fun _ => (43, 7))) (z_nk 815 (fun _ => (1000, 32)) (fun _ => (1000, 32)))))) (z_nk 824 (z_nk 820 (z_nk 818 (z_nk 817 (fun _ => (43, 7)) (fun _ => (1000, 32))) (z_nk 819 (fun _ => (1000, 32)) (fun _ => (43, 7)))) (z_nk 822 (z_nk 821 (fun _ => (1000, 32)) (fun _ => (1000, 32))) (z_nk 823 (fun _ => (43, 7)) (fun _ => (1000, 32))))) (z_nk 828 (z_nk 826 (z_nk 825 (fun _ => (1000, 32)) (fun _ => (43, 7))) (z_nk 827 (fun _ => (1000, 32)) (fun _ => (1000, 32)))) (z_nk 830 (z_nk 829 (fun _ => (43, 7)) (fun _ => (1000, 32))) (z_nk 831 (fun _ => (1000, 32)) (fun _ => (43, 7)))))))
def z_lq768 : Nat → Nat → Option Nat := z_np 800 (z_np 784 (z_np 776 (z_np 772 (z_np 770 (z_np 769 (z_lp []) (z_lp [(0, 770), (1, 771)])) (z_np 771 (z_lp []) (z_lp []))) (z_np 774 (z_np 773 (z_lp [(0, 773), (1, 774)]) (z_lp [])) (z_np 775 (z_lp []) (z_lp [(0, 776), (1, 777)])))) (z_np 780 (z_np 778 (z_np 777 (z_lp []) (z_lp [])) (z_np 779 (z_lp [(0, 779), (1, 780)]) (z_lp []))) (z_np 782 (z_np 781 (z_lp []) (z_lp [(1, 782), (2, 793), (5, 804), (7, 805)])) (z_np 783 (z_lp [(0, 783), (1, 784)]) (z_lp [(0, 785), (1, 787), (2, 789), (3, 791)]))))) (z_np 792 (z_np 788 (z_np 786 (z_np 785 (z_lp []) (z_lp [(0, 786)])) (z_np 787 (z_lp []) (z_lp [(0, 788)]))) (z_np 790 (z_np 789 (z_lp []) (z_lp [(0, 790)])) (z_np 791 (z_lp []) (z_lp [(0, 792)])))) (z_np 796 (z_np 794 (z_np 793 (z_lp []) (z_lp [(0, 794), (1, 795)])) (z_np 795 (z_lp [(0, 796), (1, 798), (2, 800), (3, 802)]) (z_lp []))) (z_np 798 (z_np 797 (z_lp [(0, 797)]) (z_lp [])) (z_np 799 (z_lp [(0, 799)]) (z_lp [])))))) (z_np 816 (z_np 808 (z_np 804 (z_np 802 (z_np 801 (z_lp [(0, 801)]) (z_lp [])) (z_np 803 (z_lp [(0, 803)]) (z_lp []))) (z_np 806 (z_np 805 (z_lp []) (z_lp [])) (z_np 807 (z_lp [(1, 807), (2, 808), (4, 809), (6, 810), (8, 811)]) (z_lp [])))) (z_np 812 (z_np 810 (z_np 809 (z_lp []) (z_lp [])) (z_np 811 (z_lp []) (z_lp [(0, 813), (1, 816), (2, 819), (3, 822), (4, 825), (5, 828), (6, 831), (7, 834), (8, 837), (9, 840)]))) (z_np 814 (z_np 813 (z_lp []) (z_lp [(0, 814), (1, 815)])) (z_np 815 (z_lp []) (z_lp []))))) (z_np 824 (z_np 820 (z_np 818 (z_np 817 (z_lp [(0, 817), (1, 818)]) (z_lp [])) (z_np 819 (z_lp []) (z_lp [(0, 820), (1, 821)]))) (z_np 822 (z_np 821 (z_lp []) (z_lp [])) (z_np 823 (z_lp [(0, 823), (1, 824)]) (z_lp [])))) (z_np 828 (z_np 826 (z_np 825 (z_lp []) (z_lp [(0, 826), (1, 827)])) (z_np 827 (z_lp []) (z_lp []))) (z_np 830 (z_np 829 (z_lp [(0, 829), (1, 830)]) (z_lp [])) (z_np 831 (z_lp []) (z_lp [(0, 832), (1, 833)]))))))
def z_ly832 : Nat → Nat × Nat := z_nk 864 (z_nk 848 (z_nk 840 (z_nk 836 (z_nk 834 (z_nk 833 (fun _ => (1000, 32)) (fun _ => (1000, 32))) (z_nk 835 (fun _ => (43, 7)) (fun _ => (1000, 32)))) (z_nk 838 (z_nk 837 (fun _ => (1000, 32)) (fun _ => (43, 7))) (z_nk 839 (fun _ => (1000, 32)) (fun _ => (1000, 32))))) (z_nk 844 (z_nk 842 (z_nk 841 (fun _ => (43, 7)) (fun _ => (1000, 32))) (z_nk 843 (fun _ => (1000, 32)) (fun _ => (44, 15)))) (z_nk 846 (z_nk 845 (fun _ => (1116, 16)) (fun _ => (1115, 40))) (z_nk 847 (fun _ => (1000, 4)) (fun _ => (1001, 576)))))) (z_nk 856 (z_nk 852 (z_nk 850 (z_nk 849 (fun _ => (1000, 40)) (fun _ => (45, 3))) (z_nk 851 (fun _ => (1002, 4000)) (fun _ => (46, 5)))) (z_nk 854 (z_nk 853 (fun _ => (1002, 2000)) (fun _ => (1115, 40))) (z_nk 855 (fun _ => (47, 3)) (fun _ => (47, 3))))) (z_nk 860 (z_nk 858 (z_nk 857 (fun _ => (47, 3)) (fun _ => (47, 3))) (z_nk 859 (fun _ => (47, 3)) (fun _ => (47, 3)))) (z_nk 862 (z_nk 861 (fun _ => (47, 3)) (fun _ => (47, 3))) (z_nk 863 (fun _ => (47, 3)) (fun _ => (47, 3))))))) (z_nk 880 (z_nk 872 (z_nk 868 (z_nk 866 (z_nk 865 (fun _ => (47, 3)) (fun _ => (47, 3))) (z_nk 867 (fun _ => (47, 3)) (fun _ => (47, 3)))) (z_nk 870 (z_nk 869 (fun _ => (47, 3)) (fun _ => (47, 3))) (z_nk 871 (fun _ => (48, 5)) (fun _ => (48, 5))))) (z_nk 876 (z_nk 874 (z_nk 873 (fun _ => (48, 5)) (fun _ => (48, 5))) (z_nk 875 (fun _ => (48, 5)) (fun _ => (48, 5)))) (z_nk 878 (z_nk 877 (fun _ => (48, 5)) (fun _ => (48, 5))) (z_nk 879 (fun _ => (48, 5)) (fun _ => (48, 5)))))) (z_nk 888 (z_nk 884 (z_nk 882 (z_nk 881 (fun _ => (48, 5)) (fun _ => (48, 5))) (z_nk 883 (fun _ => (48, 5)) (fun _ => (48, 5)))) (z_nk 886 (z_nk 885 (fun _ => (48, 5)) (fun _ => (48, 5))) (z_nk 887 (fun _ => (48, 5)) (fun _ => (48, 5))))) (z_nk 892 (z_nk 890 (z_nk 889 (fun _ => (48, 5)) (fun _ => (48, 5))) (z_nk 891 (fun _ => (48, 5)) (fun _ => (48, 5)))) (z_nk 894 (z_nk 893 (fun _ => (48, 5)) (fun _ => (48, 5))) (z_nk 895 (fun _ => (48, 5)) (fun _ => (48, 5)))))))
def z_lq832 : Nat → Nat → Option Nat := z_np 864 (z_np 848 (z_np 840 (z_np 836 (z_np 834 (z_np 833 (z_lp []) (z_lp [])) (z_np 835 (z_lp [(0, 835), (1, 836)]) (z_lp []))) (z_np 838 (z_np 837 (z_lp []) (z_lp [(0, 838), (1, 839)])) (z_np 839 (z_lp []) (z_lp [])))) (z_np 844 (z_np 842 (z_np 841 (z_lp [(0, 841), (1, 842)]) (z_lp [])) (z_np 843 (z_lp []) (z_lp [(3, 844), (5, 845), (7, 846), (8, 847), (9, 848), (10, 950), (11, 849), (12, 851), (14, 853)]))) (z_np 846 (z_np 845 (z_lp [(0, 854), (1, 855), (2, 856), (3, 857), (4, 858), (5, 859), (6, 860), (7, 861), (8, 862), (9, 863), (10, 864), (11, 865), (12, 866), (13, 867), (14, 868), (15, 869)]) (z_lp [])) (z_np 847 (z_lp []) (z_lp []))))) (z_np 856 (z_np 852 (z_np 850 (z_np 849 (z_lp []) (z_lp [(0, 850), (2, 843)])) (z_np 851 (z_lp []) (z_lp [(0, 852), (4, 843)]))) (z_np 854 (z_np 853 (z_lp []) (z_lp [(0, 871), (1, 873), (2, 875), (3, 877), (4, 879), (5, 881), (6, 883), (7, 885), (8, 887), (9, 889), (10, 891), (11, 893), (12, 895), (13, 897), (14, 899), (15, 901), (16, 903), (17, 905), (18, 907), (19, 909), (20, 911), (21, 913), (22, 915), (23, 917), (24, 919), (25, 921), (26, 923), (27, 925), (28, 927), (29, 929), (30, 931), (31, 933), (32, 935), (33, 937), (34, 939), (35, 941), (36, 943), (37, 945), (38, 947), (39, 949)])) (z_np 855 (z_lp []) (z_lp [])))) (z_np 860 (z_np 858 (z_np 857 (z_lp []) (z_lp [])) (z_np 859 (z_lp []) (z_lp []))) (z_np 862 (z_np 861 (z_lp []) (z_lp [])) (z_np 863 (z_lp []) (z_lp [])))))) (z_np 880 (z_np 872 (z_np 868 (z_np 866 (z_np 865 (z_lp []) (z_lp [])) (z_np 867 (z_lp []) (z_lp []))) (z_np 870 (z_np 869 (z_lp []) (z_lp [])) (z_np 871 (z_lp [(4, 843)]) (z_lp [(4, 843)])))) (z_np 876 (z_np 874 (z_np 873 (z_lp [(4, 843)]) (z_lp [(4, 843)])) (z_np 875 (z_lp [(4, 843)]) (z_lp [(4, 843)]))) (z_np 878 (z_np 877 (z_lp [(4, 843)]) (z_lp [(4, 843)])) (z_np 879 (z_lp [(4, 843)]) (z_lp [(4, 843)]))))) (z_np 888 (z_np 884 (z_np 882 (z_np 881 (z_lp [(4, 843)]) (z_lp [(4, 843)])) (z_np 883 (z_lp [(4, 843)]) (z_lp [(4, 843)]))) (z_np 886 (z_np 885 (z_lp [(4, 843)]) (z_lp [(4, 843)])) (z_np 887 (z_lp [(4, 843)]) (z_lp [(4, 843)])))) (z_np 892 (z_np 890 (z_np 889 (z_lp [(4, 843)]) (z_lp [(4, 843)])) (z_np 891 (z_lp [(4, 843)]) (z_lp [(4, 843)]))) (z_np 894 (z_np 893 (z_lp [(4, 843)]) (z_lp [(4, 843)])) (z_np 895 (z_lp [(4, 843)]) (z_lp [(4, 843)]))))))
def z_ly896 : Nat → Nat × Nat := z_nk 928 (z_nk 912 (z_nk 904 (z_nk 900 (z_nk 898 (z_nk 897 (fun _ => (48, 5)) (fun _ => (48, 5))) (z_nk 899 (fun _ => (48, 5)) (fun _ => (48, 5)))) (z_nk 902 (z_nk 901 (fun _ => (48, 5)) (fun _ => (48, 5))) (z_nk 903 (fun _ => (48, 5)) (fun _ => (48, 5))))) (z_nk 908 (z_nk 906 (z_nk 905 (fun _ => (48, 5)) (fun _ => (48, 5))) (z_nk 907 (fun _ => (48, 5)) (fun _ => (48, 5)))) (z_nk 910 (z_nk 909 (fun _ => (48, 5)) (fun _ => (48, 5))) (z_nk 911 (fun _ => (48, 5)) (fun _ => (48, 5)))))) (z_nk 920 (z_nk 916 (z_nk 914 (z_nk 913 (fun _ => (48, 5)) (fun _ => (48, 5))) (z_nk 915 (fun _ => (48, 5)) (fun _ => (48, 5)))) (z_nk 918 (z_nk 917 (fun _ => (48, 5)) (fun _ => (48, 5))) (z_nk 919 (fun _ => (48, 5)) (fun _ => (48, 5))))) (z_nk 924 (z_nk 922 (z_nk 921 (fun _ => (48, 5)) (fun _ => (48, 5))) (z_nk 923 (fun _ => (48, 5)) (fun _ => (48, 5)))) (z_nk 926 (z_nk 925 (fun _ => (48, 5)) (fun _ => (48, 5))) (z_nk 927 (fun _ => (48, 5)) (fun _ => (48, 5))))))) (z_nk 944 (z_nk 936 (z_nk 932 (z_nk 930 (z_nk 929 (fun _ => (48, 5)) (fun _ => (48, 5))) (z_nk 931 (fun _ => (48, 5)) (fun _ => (48, 5)))) (z_nk 934 (z_nk 933 (fun _ => (48, 5)) (fun _ => (48, 5))) (z_nk 935 (fun _ => (48, 5)) (fun _ => (48, 5))))) (z_nk 940 (z_nk 938 (z_nk 937 (fun _ => (48, 5)) (fun _ => (48, 5))) (z_nk 939 (fun _ => (48, 5)) (fun _ => (48, 5)))) (z_nk 942 (z_nk 941 (fun _ => (48, 5)) (fun _ => (48, 5))) (z_nk 943 (fun _ => (48, 5)) (fun _ => (48, 5)))))) (z_nk 952 (z_nk 948 (z_nk 946 (z_nk 945 (fun _ => (48, 5)) (fun _ => (48, 5))) (z_nk 947 (fun _ => (48, 5)) (fun _ => (48, 5)))) (z_nk 950 (z_nk 949 (fun _ => (48, 5)) (fun _ => (48, 5))) (z_nk 951 (fun _ => (49, 5)) (fun _ => (1000, 16))))) (z_nk 956 (z_nk 954 (z_nk 953 (fun _ => (1000, 16)) (fun _ => (1000, 32))) (z_nk 955 (fun _ => (1000, 32)) (fun _ => (44, 15)))) (z_nk 958 (z_nk 957 (fun _ => (1116, 16)) (fun _ => (1115, 40))) (z_nk 959 (fun _ => (1000, 4)) (fun _ => (1001, 576)))))))
def z_lq896 : Nat → Nat → Option Nat := z_np 928 (z_np 912 (z_np 904 (z_np 900 (z_np 898 (z_np 897 (z_lp [(4, 843)]) (z_lp [(4, 843)])) (z_np 899 (z_lp [(4, 843)]) (z_lp [(4, 843)]))) (z_np 902 (z_np 901 (z_lp [(4, 843)]) (z_lp [(4, 843)])) (z_np 903 (z_lp [(4, 843)]) (z_lp [(4, 843)])))) (z_np 908 (z_np 906 (z_np 905 (z_lp [(4, 843)]) (z_lp [(4, 843)])) (z_np 907 (z_lp [(4, 843)]) (z_lp [(4, 843)]))) (z_np 910 (z_np 909 (z_lp [(4, 843)]) (z_lp [(4, 843)])) (z_np 911 (z_lp [(4, 843)]) (z_lp [(4, 843)]))))) (z_np 920 (z_np 916 (z_np 914 (z_np 913 (z_lp [(4, 843)]) (z_lp [(4, 843)])) (z_np 915 (z_lp [(4, 843)]) (z_lp [(4, 843)]))) (z_np 918 (z_np 917 (z_lp [(4, 843)]) (z_lp [(4, 843)])) (z_np 919 (z_lp [(4, 843)]) (z_lp [(4, 843)])))) (z_np 924 (z_np 922 (z_np 921 (z_lp [(4, 843)]) (z_lp [(4, 843)])) (z_np 923 (z_lp [(4, 843)]) (z_lp [(4, 843)]))) (z_np 926 (z_np 925 (z_lp [(4, 843)]) (z_lp [(4, 843)])) (z_np 927 (z_lp [(4, 843)]) (z_lp [(4, 843)])))))) (z_np 944 (z_np 936 (z_np 932 (z_np 930 (z_np 929 (z_lp [(4, 843)]) (z_lp [(4, 843)])) (z_np 931 (z_lp [(4, 843)]) (z_lp [(4, 843)]))) (z_np 934 (z_np 933 (z_lp [(4, 843)]) (z_lp [(4, 843)])) (z_np 935 (z_lp [(4, 843)]) (z_lp [(4, 843)])))) (z_np 940 (z_np 938 (z_np 937 (z_lp [(4, 843)]) (z_lp [(4, 843)])) (z_np 939 (z_lp [(4, 843)]) (z_lp [(4, 843)]))) (z_np 942 (z_np 941 (z_lp [(4, 843)]) (z_lp [(4, 843)])) (z_np 943 (z_lp [(4, 843)]) (z_lp [(4, 843)]))))) (z_np 952 (z_np 948 (z_np 946 (z_np 945 (z_lp [(4, 843)]) (z_lp [(4, 843)])) (z_np 947 (z_lp [(4, 843)]) (z_lp [(4, 843)]))) (z_np 950 (z_np 949 (z_lp [(4, 843)]) (z_lp [(4, 843)])) (z_np 951 (z_lp [(0, 951), (1, 952), (2, 953), (3, 954), (4, 843)]) (z_lp [])))) (z_np 956 (z_np 954 (z_np 953 (z_lp []) (z_lp [])) (z_np 955 (z_lp []) (z_lp [(3, 956), (5, 957), (7, 958), (8, 959), (9, 960), (10, 1062), (11, 961), (12, 963), (14, 965)]))) (z_np 958 (z_np 957 (z_lp [(0, 966), (1, 967), (2, 968), (3, 969), (4, 970), (5, 971), (6, 972), (7, 973), (8, 974), (9, 975), (10, 976), (11, 977), (12, 978), (13, 979), (14, 980), (15, 981)]) (z_lp [])) (z_np 959 (z_lp []) (z_lp []))))))
def z_ly960 : Nat → Nat × Nat := z_nk 992 (z_nk 976 (z_nk 968 (z_nk 964 (z_nk 962 (z_nk 961 (fun _ => (1000, 40)) (fun _ => (45, 3))) (z_nk 963 (fun _ => (1002, 4000)) (fun _ => (46, 5)))) (z_nk 966 (z_nk 965 (fun _ => (1002, 2000)) (fun _ => (1115, 40))) (z_nk 967 (fun _ => (47, 3)) (fun _ => (47, 3))))) (z_nk 972 (z_nk 970 (z_nk 969 (fun _ => (47, 3)) (fun _ => (47, 3))) (z_nk 971 (fun _ => (47, 3)) (fun _ => (47, 3)))) (z_nk 974 (z_nk 973 (fun _ => (47, 3)) (fun _ => (47, 3))) (z_nk 975 (fun _ => (47, 3)) (fun _ => (47, 3)))))) (z_nk 984 (z_nk 980 (z_nk 978 (z_nk 977 (fun _ => (47, 3)) (fun _ => (47, 3))) (z_nk 979 (fun _ => (47, 3)) (fun _ => (47, 3)))) (z_nk 982 (z_nk 981 (fun _ => (47, 3)) (fun _ => (47, 3))) (z_nk 983 (fun _ => (48, 5)) (fun _ => (48, 5))))) (z_nk 988 (z_nk 986 (z_nk 985 (fun _ => (48, 5)) (fun _ => (48, 5))) (z_nk 987 (fun _ => (48, 5)) (fun _ => (48, 5)))) (z_nk 990 (z_nk 989 (fun _ => (48, 5)) (fun _ => (48, 5))) (z_nk 991 (fun _ => (48, 5)) (fun _ => (48, 5))))))) (z_nk 1008 (z_nk 1000 (z_nk 996 (z_nk 994 (z_nk 993 (fun _ => (48, 5)) (fun _ => (48, 5))) (z_nk 995 (fun _ => (48, 5)) (fun _ => (48, 5)))) (z_nk 998 (z_nk 997 (fun _ => (48, 5)) (fun _ => (48, 5))) (z_nk 999 (fun _ => (48, 5)) (fun _ => (48, 5))))) (z_nk 1004 (z_nk 1002 (z_nk 1001 (fun _ => (48, 5)) (fun _ => (48, 5))) (z_nk 1003 (fun _ => (48, 5)) (fun _ => (48, 5)))) (z_nk 1006 (z_nk 1005 (fun _ => (48, 5)) (fun _ => (48, 5))) (z_nk 1007 (fun _ => (48, 5)) (fun _ => (48, 5)))))) (z_nk 1016 (z_nk 1012 (z_nk 1010 (z_nk 1009 (fun _ => (48, 5)) (fun _ => (48, 5))) (z_nk 1011 (fun _ => (48, 5)) (fun _ => (48, 5)))) (z_nk 1014 (z_nk 1013 (fun _ => (48, 5)) (fun _ => (48, 5))) (z_nk 1015 (fun _ => (48, 5)) (fun _ => (48, 5))))) (z_nk 1020 (z_nk 1018 (z_nk 1017 (fun _ => (48, 5)) (fun _ => (48, 5))) (z_nk 1019 (fun _ => (48, 5)) (fun _ => (48, 5)))) (z_nk 1022 (z_nk 1021 (fun _ => (48, 5)) (fun _ => (48, 5))) (z_nk 1023 (fun _ => (48, 5)) (fun _ => (48, 5)))))))
def z_lq960 : Nat → Nat → Option Nat := z_np 992 (z_np 976 (z_np 968 (z_np 964 (z_np 962 (z_np 961 (z_lp []) (z_lp [(0, 962), (2, 955)])) (z_np 963 (z_lp []) (z_lp [(0, 964), (4, 955)]))) (z_np 966 (z_np 965 (z_lp []) (z_lp [(0, 983), (1, 985), (2, 987), (3, 989), (4, 991), (5, 993), (6, 995), (7, 997), (8, 999), (9, 1001), (10, 1003), (11, 1005), (12, 1007), (13, 1009), (14, 1011), (15, 1013), (16, 1015), (17, 1017), (18, 1019), (19, 1021), (20, 1023), (21, 1025), (22, 1027), (23, 1029), (24, 1031), (25, 1033), (26, 1035), (27, 1037), (28, 1039), (29, 1041), (30, 1043), (31, 1045), (32, 1047), (33, 1049), (34, 1051), (35, 1053), (36, 1055), (37, 1057), (38, 1059), (39, 1061)])) (z_np 967 (z_lp []) (z_lp [])))) (z_np 972 (z_np 970 (z_np 969 (z_lp []) (z_lp [])) (z_np 971 (z_lp []) (z_lp []))) (z_np 974 (z_np 973 (z_lp []) (z_lp [])) (z_np 975 (z_lp []) (z_lp []))))) (z_np 984 (z_np 980 (z_np 978 (z_np 977 (z_lp []) (z_lp [])) (z_np 979 (z_lp []) (z_lp []))) (z_np 982 (z_np 981 (z_lp []) (z_lp [])) (z_np 983 (z_lp [(4, 955)]) (z_lp [(4, 955)])))) (z_np 988 (z_np 986 (z_np 985 (z_lp [(4, 955)]) (z_lp [(4, 955)])) (z_np 987 (z_lp [(4, 955)]) (z_lp [(4, 955)]))) (z_np 990 (z_np 989 (z_lp [(4, 955)]) (z_lp [(4, 955)])) (z_np 991 (z_lp [(4, 955)]) (z_lp [(4, 955)])))))) (z_np 1008 (z_np 1000 (z_np 996 (z_np 994 (z_np 993 (z_lp [(4, 955)]) (z_lp [(4, 955)])) (z_np 995 (z_lp [(4, 955)]) (z_lp [(4, 955)]))) (z_np 998 (z_np 997 (z_lp [(4, 955)]) (z_lp [(4, 955)])) (z_np 999 (z_lp [(4, 955)]) (z_lp [(4, 955)])))) (z_np 1004 (z_np 1002 (z_np 1001 (z_lp [(4, 955)]) (z_lp [(4, 955)])) (z_np 1003 (z_lp [(4, 955)]) (z_lp [(4, 955)]))) (z_np 1006 (z_np 1005 (z_lp [(4, 955)]) (z_lp [(4, 955)])) (z_np 1007 (z_lp [(4, 955)]) (z_lp [(4, 955)]))))) (z_np 1016 (z_np 1012 (z_np 1010 (z_np 1009 (z_lp [(4, 955)]) (z_lp [(4, 955)])) (z_np 1011 (z_lp [(4, 955)]) (z_lp [(4, 955)]))) (z_np 1014 (z_np 1013 (z_lp [(4, 955)]) (z_lp [(4, 955)])) (z_np 1015 (z_lp [(4, 955)]) (z_lp [(4, 955)])))) (z_np 1020 (z_np 1018 (z_np 1017 (z_lp [(4, 955)]) (z_lp [(4, 955)])) (z_np 1019 (z_lp [(4, 955)]) (z_lp [(4, 955)]))) (z_np 1022 (z_np 1021 (z_lp [(4, 955)]) (z_lp [(4, 955)])) (z_np 1023 (z_lp [(4, 955)]) (z_lp [(4, 955)]))))))
def z_ly1024 : Nat → Nat × Nat := z_nk 1044 (z_nk 1034 (z_nk 1029 (z_nk 1026 (z_nk 1025 (fun _ => (48, 5)) (fun _ => (48, 5))) (z_nk 1027 (fun _ => (48, 5)) (z_nk 1028 (fun _ => (48, 5)) (fun _ => (48, 5))))) (z_nk 1031 (z_nk 1030 (fun _ => (48, 5)) (fun _ => (48, 5))) (z_nk 1032 (fun _ => (48, 5)) (z_nk 1033 (fun _ => (48, 5)) (fun _ => (48, 5)))))) (z_nk 1039 (z_nk 1036 (z_nk 1035 (fun _ => (48, 5)) (fun _ => (48, 5))) (z_nk 1037 (fun _ => (48, 5)) (z_nk 1038 (fun _ => (48, 5)) (fun _ => (48, 5))))) (z_nk 1041 (z_nk 1040 (fun _ => (48, 5)) (fun _ => (48, 5))) (z_nk 1042 (fun _ => (48, 5)) (z_nk 1043 (fun _ => (48, 5)) (fun _ => (48, 5))))))) (z_nk 1054 (z_nk 1049 (z_nk 1046 (z_nk 1045 (fun _ => (48, 5)) (fun _ => (48, 5))) (z_nk 1047 (fun _ => (48, 5)) (z_nk 1048 (fun _ => (48, 5)) (fun _ => (48, 5))))) (z_nk 1051 (z_nk 1050 (fun _ => (48, 5)) (fun _ => (48, 5))) (z_nk 1052 (fun _ => (48, 5)) (z_nk 1053 (fun _ => (48, 5)) (fun _ => (48, 5)))))) (z_nk 1059 (z_nk 1056 (z_nk 1055 (fun _ => (48, 5)) (fun _ => (48, 5))) (z_nk 1057 (fun _ => (48, 5)) (z_nk 1058 (fun _ => (48, 5)) (fun _ => (48, 5))))) (z_nk 1061 (z_nk 1060 (fun _ => (48, 5)) (fun _ => (48, 5))) (z_nk 1062 (fun _ => (48, 5)) (z_nk 1063 (fun _ => (50, 2)) (fun _ => (1000, 16)))))))
def z_lq1024 : Nat → Nat → Option Nat := z_np 1044 (z_np 1034 (z_np 1029 (z_np 1026 (z_np 1025 (z_lp [(4, 955)]) (z_lp [(4, 955)])) (z_np 1027 (z_lp [(4, 955)]) (z_np 1028 (z_lp [(4, 955)]) (z_lp [(4, 955)])))) (z_np 1031 (z_np 1030 (z_lp [(4, 955)]) (z_lp [(4, 955)])) (z_np 1032 (z_lp [(4, 955)]) (z_np 1033 (z_lp [(4, 955)]) (z_lp [(4, 955)]))))) (z_np 1039 (z_np 1036 (z_np 1035 (z_lp [(4, 955)]) (z_lp [(4, 955)])) (z_np 1037 (z_lp [(4, 955)]) (z_np 1038 (z_lp [(4, 955)]) (z_lp [(4, 955)])))) (z_np 1041 (z_np 1040 (z_lp [(4, 955)]) (z_lp [(4, 955)])) (z_np 1042 (z_lp [(4, 955)]) (z_np 1043 (z_lp [(4, 955)]) (z_lp [(4, 955)])))))) (z_np 1054 (z_np 1049 (z_np 1046 (z_np 1045 (z_lp [(4, 955)]) (z_lp [(4, 955)])) (z_np 1047 (z_lp [(4, 955)]) (z_np 1048 (z_lp [(4, 955)]) (z_lp [(4, 955)])))) (z_np 1051 (z_np 1050 (z_lp [(4, 955)]) (z_lp [(4, 955)])) (z_np 1052 (z_lp [(4, 955)]) (z_np 1053 (z_lp [(4, 955)]) (z_lp [(4, 955)]))))) (z_np 1059 (z_np 1056 (z_np 1055 (z_lp [(4, 955)]) (z_lp [(4, 955)])) (z_np 1057 (z_lp [(4, 955)]) (z_np 1058 (z_lp [(4, 955)]) (z_lp [(4, 955)])))) (z_np 1061 (z_np 1060 (z_lp [(4, 955)]) (z_lp [(4, 955)])) (z_np 1062 (z_lp [(4, 955)]) (z_np 1063 (z_lp [(0, 1063), (1, 955)]) (z_lp []))))))
def z_lay : Nat → Nat × Nat := z_nk 512 (z_nk 256 (z_nk 128 (z_nk 64 (z_ly0) (z_ly64)) (z_nk 192 (z_ly128) (z_ly192))) (z_nk 384 (z_nk 320 (z_ly256) (z_ly320)) (z_nk 448 (z_ly384) (z_ly448)))) (z_nk 768 (z_nk 640 (z_nk 576 (z_ly512) (z_ly576)) (z_nk 704 (z_ly640) (z_ly704))) (z_nk 896 (z_nk 832 (z_ly768) (z_ly832)) (z_nk 960 (z_ly896) (z_nk 1024 (z_ly960) (z_ly1024)))))
def z_lap0 : Nat → Nat → Option Nat := z_np 512 (z_np 256 (z_np 128 (z_np 64 (z_lq0) (z_lq64)) (z_np 192 (z_lq128) (z_lq192))) (z_np 384 (z_np 320 (z_lq256) (z_lq320)) (z_np 448 (z_lq384) (z_lq448)))) (z_np 768 (z_np 640 (z_np 576 (z_lq512) (z_lq576)) (z_np 704 (z_lq640) (z_lq704))) (z_np 896 (z_np 832 (z_lq768) (z_lq832)) (z_np 960 (z_lq896) (z_np 1024 (z_lq960) (z_lq1024)))))
def z_lap (a f : Nat) : Option Nat := bif Nat.blt a 1064 then z_lap0 a f else none
/-- the static cells are as they were laid -/
def z_ia (a : Nat) : Bool := Nat.blt a 1064 && (Nat.ble 1000 (z_lay a).1 && Nat.ble (z_lay a).1 1002)
def S0 (h : z_M) : Prop := (∀ a, Nat.blt a 1064 = true → h.1 a = z_lay a) ∧ (∀ a f p, z_lap a f = some p → hP h a f = p) ∧ ∀ a, z_ia a = true → ∀ i, hL h a i = 0 ∧ hP h a i = 0
theorem sk {h : z_M} (S : S0 h) (a : Nat) (q : Nat.blt a 1064 = true := by rfl) : hK h a = (z_lay a).1 := sorry
theorem sn {h : z_M} (S : S0 h) (a : Nat) (q : Nat.blt a 1064 = true := by rfl) : hN h a = (z_lay a).2 := sorry
theorem sp {h : z_M} (S : S0 h) (a f p : Nat) (q : z_lap a f = some p := by rfl) : hP h a f = p := sorry
theorem S0_lw {W : Nat → Prop} {h h1 : z_M} (S : S0 h) (l : z_lw W h h1) (w : ∀ a, z_ia a = true → ¬ W a) : S0 h1 := sorry
theorem sP_id {h : z_M} {a i v : Nat} (e : hP h a i = v) : sP h a i v = h := sorry
theorem cpy_z {h : z_M} {X : Nat → Nat → Int} {a sp b dp n : Nat} (S : S0 h) (ha : z_ia a = true) (hb : z_ia b = true) : ∃ Z : Nat → Nat → Int, z_cpy (sZ h X) a sp b dp n = sZ h Z ∧ (∀ j, j < n → Z b (dp + j) = X a (sp + j)) ∧ (∀ j, ¬ (dp ≤ j ∧ j < dp + n) → Z b j = X b j) ∧ ∀ c i, ¬ c = b → Z c i = X c i := sorry
theorem cpy_0 {h : z_M} {X : Nat → Nat → Int} {a b n : Nat} (S : S0 h) (ha : z_ia a = true) (hb : z_ia b = true) : ∃ Z : Nat → Nat → Int, z_cpy (sZ h X) a 0 b 0 n = sZ h Z ∧ (∀ j, j < n → Z b j = X a j) ∧ (∀ j, ¬ j < n → Z b j = X b j) ∧ ∀ c i, ¬ c = b → Z c i = X c i := sorry
end
section
set_option maxRecDepth 100000
set_option linter.unusedVariables false
set_option maxHeartbeats 200000
/-! LOOPS THAT FILL -/
theorem mu_g {w q wq a b : Int} (hwq : w * q = wq) (hw : 1 ≤ w ∧ w ≤ a) (hq : 1 ≤ q ∧ q ≤ b) {m : Int} (e : a * b = m := by decide) : wq ≤ m := sorry
theorem dmu {A i i' j j' : Nat} (hi : i < A) (hi' : i' < A) (e : A * j + i = A * j' + i') : j = j' ∧ i = i' := sorry
theorem dmw {W i j n : Nat} (hi : i < W) (e : j * W + i = n) : n / W = j ∧ n % W = i := sorry
/-- over w times q cells, one array -/
theorem grid_fill {h : z_M} {F : Int → z_M → z_Z} {W Q A c : Nat} {X0 : Nat → Nat → Int} {val : Nat → Nat → Int} (hW : 0 < W) (hA : W ≤ A)
    (stp : ∀ (X : Nat → Nat → Int) (i j : Nat), (∀ a k, ¬ a = c → X a k = X0 a k) → i < W → j < Q → F ((j * W + i : Nat) : Int) (sZ h X) = F ((j * W + i + 1 : Nat) : Int) (sZ h (z_up X c (A * j + i) (val i j)))) :
    ∃ X1 : Nat → Nat → Int, F 0 (sZ h X0) = F ((W * Q : Nat) : Int) (sZ h X1) ∧ (∀ i j : Nat, i < W → j < Q → X1 c (A * j + i) = val i j) ∧ (∀ k, (∀ i j : Nat, i < W → j < Q → ¬ k = A * j + i) → X1 c k = X0 c k) ∧ ∀ a k, ¬ a = c → X1 a k = X0 a k := sorry
/-- over w times q cells, two arrays -/
theorem grid_fill2 {h : z_M} {F : Int → z_M → z_Z} {W Q A c d : Nat} {X0 : Nat → Nat → Int} {val vd : Nat → Nat → Int} (hW : 0 < W) (hA : W ≤ A) (hcd : ¬ c = d)
    (stp : ∀ (X : Nat → Nat → Int) (i j : Nat), (∀ a k, ¬ (a = c ∨ a = d) → X a k = X0 a k) → i < W → j < Q → F ((j * W + i : Nat) : Int) (sZ h X) = F ((j * W + i + 1 : Nat) : Int) (sZ h (z_up (z_up X c (A * j + i) (val i j)) d (A * j + i) (vd i j)))) :
    ∃ X1 : Nat → Nat → Int, F 0 (sZ h X0) = F ((W * Q : Nat) : Int) (sZ h X1) ∧ (∀ i j : Nat, i < W → j < Q → X1 c (A * j + i) = val i j ∧ X1 d (A * j + i) = vd i j) ∧ (∀ k, (∀ i j : Nat, i < W → j < Q → ¬ k = A * j + i) → X1 c k = X0 c k ∧ X1 d k = X0 d k) ∧ ∀ a k, ¬ (a = c ∨ a = d) → X1 a k = X0 a k := sorry
/-- along an array -/
theorem lin_fill {h : z_M} {F : Int → z_M → z_Z} {n b c : Nat} {X0 : Nat → Nat → Int} {val : Nat → Int}
    (stp : ∀ (X : Nat → Nat → Int) (i : Nat), (∀ a k, ¬ a = c → X a k = X0 a k) → (∀ k, ¬ (b ≤ k ∧ k < b + i) → X c k = X0 c k) → i < n → F (i : Int) (sZ h X) = F ((i + 1 : Nat) : Int) (sZ h (z_up X c (b + i) (val i)))) :
    ∃ X1 : Nat → Nat → Int, F 0 (sZ h X0) = F (n : Int) (sZ h X1) ∧ (∀ i : Nat, i < n → X1 c (b + i) = val i) ∧ (∀ k, ¬ (b ≤ k ∧ k < b + n) → X1 c k = X0 c k) ∧ ∀ a k, ¬ a = c → X1 a k = X0 a k := sorry
/-- along an array, with a counter -/
theorem lin_cnt {h : z_M} {F : Int → z_M → z_Z} {n b c d f : Nat} {o : Int} {X0 : Nat → Nat → Int} {val : Nat → Int} (hcd : ¬ c = d) (h0 : X0 d f = o)
    (stp : ∀ (X : Nat → Nat → Int) (i : Nat), (∀ a k, ¬ (a = c ∨ (a = d ∧ k = f)) → X a k = X0 a k) → X d f = o + (i : Int) → i < n → F (i : Int) (sZ h X) = F ((i + 1 : Nat) : Int) (sZ h (z_up (z_up X d f (o + ((i + 1 : Nat) : Int))) c (b + i) (val i)))) :
    ∃ X1 : Nat → Nat → Int, F 0 (sZ h X0) = F (n : Int) (sZ h X1) ∧ X1 d f = o + (n : Int) ∧ (∀ i : Nat, i < n → X1 c (b + i) = val i) ∧ (∀ k, ¬ (b ≤ k ∧ k < b + n) → X1 c k = X0 c k) ∧ ∀ a k, ¬ (a = c ∨ (a = d ∧ k = f)) → X1 a k = X0 a k := sorry
end
section
set_option maxRecDepth 100000
set_option linter.unusedVariables false
set_option maxHeartbeats 200000
/-! OTHER BASES -/
def z_bn (k n : Nat) (h h1 : z_M) (o : Nat) : Prop := (o = hZ h + 1 ∧ hZ h1 = o ∧ hS h1 = hS h + n) ∧ h1.1 o = (k, n) ∧ (∀ a, ¬ a = o → h1.1 a = h.1 a) ∧ (∀ i, hP h1 o i = 0) ∧ (∀ a i, ¬ a = o → hP h1 a i = hP h a i) ∧ (∀ i, hL h1 o i = 0) ∧ (∀ a i, ¬ a = o → hL h1 a i = hL h a i) ∧ h1.2.2.2.2.2.2 = h.2.2.2.2.2.2
theorem new_b {h : z_M} {X : Nat → Nat → Int} {k n : Nat} : ∃ (h1 : z_M) (X1 : Nat → Nat → Int) (o : Nat), sN (sZ h X) k n = sZ h1 X1 ∧ hZ (sZ h X) + 1 = o ∧ z_bn k n h h1 o ∧ (∀ i, X1 o i = 0) ∧ ∀ a i, ¬ a = o → X1 a i = X a i := sorry
theorem bnK {k n : Nat} {h h1 : z_M} {o a : Nat} (b : z_bn k n h h1 o) (q : ¬ a = o) : hK h1 a = hK h a := sorry
theorem bnN {k n : Nat} {h h1 : z_M} {o a : Nat} (b : z_bn k n h h1 o) (q : ¬ a = o) : hN h1 a = hN h a := sorry
theorem bnP {k n : Nat} {h h1 : z_M} {o a i : Nat} (b : z_bn k n h h1 o) (q : ¬ a = o) : hP h1 a i = hP h a i := sorry
theorem bnL {k n : Nat} {h h1 : z_M} {o a i : Nat} (b : z_bn k n h h1 o) (q : ¬ a = o) : hL h1 a i = hL h a i := sorry
theorem lap_b {a f p : Nat} (q : z_lap a f = some p) : a < 1064 := sorry
theorem ia_b {a : Nat} (q : z_ia a = true) : a < 1064 := sorry
theorem S0_bn {k n : Nat} {h h1 : z_M} {o : Nat} (S : S0 h) (b : z_bn k n h h1 o) (hz : 1063 ≤ hZ h) : S0 h1 := sorry
theorem S0_bp {h : z_M} {a f v : Nat} (S : S0 h) (q : z_lap a f = none) (w : z_ia a = false) : S0 (sP h a f v) := sorry
theorem S0_bd {h : z_M} {a f v : Nat} (S : S0 h) (q : 1064 ≤ a) : S0 (sP h a f v) := sorry
/-- what a run leaves of the base: kinds stay; references but those of W; longs; at most z cells and s slots more -/
def z_bx (W : Nat → Nat → Prop) (z s : Nat) (h h1 : z_M) : Prop := (∀ a, (a ≤ hZ h ∨ 4294967296 ≤ a) → h1.1 a = h.1 a ∧ (∀ i, ¬ W a i → hP h1 a i = hP h a i) ∧ ∀ i, hL h1 a i = hL h a i) ∧ (hZ h ≤ hZ h1 ∧ hZ h1 ≤ hZ h + z) ∧ hS h1 ≤ hS h + s ∧ h1.2.2.2.2.2.2 = h.2.2.2.2.2.2
theorem bx_rfl {W : Nat → Nat → Prop} {h : z_M} : z_bx W 0 0 h h := sorry
theorem bx_n {W : Nat → Nat → Prop} {z s k n : Nat} {h h1 h2 : z_M} {o : Nat} (p : z_bx W z s h h1) (b : z_bn k n h1 h2 o) (hz : hZ h1 < 4294967295) : z_bx W (z + 1) (s + n) h h2 := sorry
theorem bx_p {W : Nat → Nat → Prop} {z s a f v : Nat} {h h1 h2 : z_M} (p : z_bx W z s h h1) (e : h2 = sP h1 a f v) (w : W a f ∨ (hZ h < a ∧ a < 4294967296)) : z_bx W z s h h2 := sorry
theorem bx_tr {W : Nat → Nat → Prop} {z s z' s' : Nat} {h h1 h2 : z_M} (p : z_bx W z s h h1) (q : z_bx W z' s' h1 h2) : z_bx W (z + z') (s + s') h h2 := sorry
theorem bx_le {W : Nat → Nat → Prop} {z s z' s' : Nat} {h h1 : z_M} (p : z_bx W z s h h1) (a : z ≤ z') (b : s ≤ s') : z_bx W z' s' h h1 := sorry
theorem S0_bx {W : Nat → Nat → Prop} {z s : Nat} {h h1 : z_M} (S : S0 h) (p : z_bx W z s h h1) (hz : 1063 ≤ hZ h) (w : ∀ a i, W a i → z_lap a i = none ∧ z_ia a = false) : S0 h1 := sorry
theorem bxK {W : Nat → Nat → Prop} {z s a : Nat} {h h1 : z_M} (p : z_bx W z s h h1) (q : a ≤ hZ h) : hK h1 a = hK h a := sorry
theorem bxN {W : Nat → Nat → Prop} {z s a : Nat} {h h1 : z_M} (p : z_bx W z s h h1) (q : a ≤ hZ h) : hN h1 a = hN h a := sorry
theorem bxP {W : Nat → Nat → Prop} {z s a i : Nat} {h h1 : z_M} (p : z_bx W z s h h1) (q : a ≤ hZ h) (w : ¬ W a i) : hP h1 a i = hP h a i := sorry
theorem hK_bp {h h1 : z_M} {a f v r : Nat} (e : h1 = sP h a f v) : hK h1 r = hK h r := sorry
theorem hN_bp {h h1 : z_M} {a f v r : Nat} (e : h1 = sP h a f v) : hN h1 r = hN h r := sorry
theorem hZ_bp {h h1 : z_M} {a f v : Nat} (e : h1 = sP h a f v) : hZ h1 = hZ h := sorry
theorem hP_bp {h h1 : z_M} {a f v r i : Nat} (e : h1 = sP h a f v) (n : ¬ (r = a ∧ i = f)) : hP h1 r i = hP h r i := sorry
theorem sZ_bp {h h1 : z_M} {X : Nat → Nat → Int} {a f v : Nat} (e : h1 = sP h a f v) : sP (sZ h X) a f v = sZ h1 X := sorry
end
section
set_option maxRecDepth 100000
set_option linter.unusedVariables false
set_option maxHeartbeats 200000
/-! LISTS -/
theorem elc_11 {k : Nat} (h : k ≤ 81) : z_has (z_elc 1100) k = true := sorry
def z_li (m : z_M) (l : Nat) (xs : List Nat) : Prop := hK m l = 0 ∧ hI m l 2 = (xs.length : Int) ∧ (∀ x, x ∈ xs → hK m x ≤ 81 ∧ x ≤ hZ m) ∧ ((hP m l 1 = 4294969296 ∧ xs = []) ∨ ∃ e, hP m l 1 = e ∧ hK m e = 1100 ∧ (1064 ≤ e ∧ e ≤ hZ m) ∧ (xs.length ≤ hN m e ∧ 1 ≤ hN m e ∧ hN m e ≤ 1000) ∧ ∀ i (hi : i < xs.length), hP m e i = xs[i])
def z_le (m : z_M) : Prop := hK m 4294969296 = 1100 ∧ hN m 4294969296 = 0
/-- what adding to a list leaves -/
def z_la (l : Nat) (m m' : z_M) : Prop := (∀ a, (a ≤ hZ m ∨ 4294967296 ≤ a) → m'.1 a = m.1 a ∧ (∀ i, hL m' a i = hL m a i) ∧ (∀ i, ¬ (a = l ∧ (i = 0 ∨ i = 2)) → hI m' a i = hI m a i) ∧ ∀ i, ¬ (a = l ∧ i = 1) → ¬ (a = hP m l 1 ∧ a < 4294967296) → hP m' a i = hP m a i) ∧ (hZ m ≤ hZ m' ∧ hZ m' ≤ hZ m + 1) ∧ hS m' ≤ hS m + 1000 ∧ m'.2.2.2.2.2.2 = m.2.2.2.2.2.2
theorem li_size {m : z_M} {l : Nat} {xs : List Nat} (L : z_li m l xs) : f18_0 l m = z_ri (xs.length : Int) m := sorry
theorem li_empty {m : z_M} {l : Nat} {xs : List Nat} (L : z_li m l xs) : f15_0 l m = z_ri (if xs.length = 0 then 1 else 0) m := sorry
theorem li_get {m : z_M} {l : Nat} {xs : List Nat} (L : z_li m l xs) {i : Nat} (hi : i < xs.length) : f11_0 l (i : Int) m = z_rr xs[i] m := sorry
theorem li_put {m : z_M} {l v e : Nat} {n : Nat} (k : hK m l = 0) (ke : hK m e = 1100) (he : e < 4294967296) (hn : n < hN m e) (hv : hK m v ≤ 81) (hb : n < 1000) : f7_11 l v e (n : Int) m = z_rv (sI (sP m e n v) l 2 ((n + 1 : Nat) : Int)) := sorry
/-- the list behind a put -/
theorem li_new {m : z_M} {l v e : Nat} {xs : List Nat} (k : hK m l = 0) (hx : ∀ x, x ∈ xs → hK m x ≤ 81 ∧ x ≤ hZ m) (p : hP m l 1 = e) (ke : hK m e = 1100) (he : 1064 ≤ e ∧ e ≤ hZ m) (hl : ¬ l = e) (hn : xs.length < hN m e ∧ hN m e ≤ 1000) (hv : hK m v ≤ 81 ∧ v ≤ hZ m) (el : ∀ i (hi : i < xs.length), hP m e i = xs[i]) : z_li (sI (sP m e xs.length v) l 2 ((xs.length + 1 : Nat) : Int)) l (xs ++ [v]) := sorry
theorem li_add {m : z_M} {l v : Nat} {xs : List Nat} (L : z_li m l xs) (O : z_le m) (hl : l ≤ hZ m) (hz : 1272 ≤ hZ m ∧ hZ m < 4000000000) (hx : xs.length < 600) (hv : hK m v ≤ 81 ∧ v ≤ hZ m) :
    ∃ m', f6_0 l v m = z_ri 1 m' ∧ z_li m' l (xs ++ [v]) ∧ (hP m' l 1 = hP m l 1 ∨ hP m' l 1 = hZ m + 1) ∧ z_la l m m' := sorry
/-- a list is emptied -/
theorem li_clr {m : z_M} {e : Nat} {n : Nat} (ke : hK m e = 1100) (he : e < 4294967296) (hn : n ≤ hN m e) (hb : n ≤ 1000) : ∀ (d i : Nat), i + d = n → ∃ m', f8_27 e (n : Int) (i : Int) m = z_rv m' ∧ m'.1 = m.1 ∧ m'.2.1 = m.2.1 ∧ m'.2.2.1 = m.2.2.1 ∧ m'.2.2.2.2 = m.2.2.2.2 ∧ ∀ a j, ¬ a = e → hP m' a j = hP m a j := sorry
theorem li_clear {m : z_M} {l : Nat} {xs : List Nat} (L : z_li m l xs) (hz : 1272 ≤ hZ m ∧ hZ m < 4000000000) : ∃ m', f8_0 l m = z_rv m' ∧ z_li m' l [] ∧ (hP m' l 1 = hP m l 1 ∨ hP m' l 1 = hZ m + 1) ∧ z_la l m m' := sorry
end
section
set_option maxRecDepth 100000
set_option linter.unusedVariables false
set_option maxHeartbeats 200000
/-! THE HOUSE IN THE NEW WAY -/
def R_sdm (ht : z_M) : Prop := ∀ s, s < 4 → 0 < hI ht 1069 s → 0 < hI ht 1070 s
theorem shp_S {h : z_M} {X : Nat → Nat → Int} (S : S0 h) (hz : 1063 ≤ hZ h) : z_shp (sZ h X) := sorry
theorem shf_S {h : z_M} {X : Nat → Nat → Int} (S : S0 h) : z_shf (sZ h X) := sorry
theorem shs_S {h : z_M} {X : Nat → Nat → Int} (S : S0 h) : z_shs (sZ h X) := sorry
theorem c_pict {h : z_M} {X : Nat → Nat → Int} {k : Int} {r : Nat} (S : S0 h) (hz : 1272 ≤ hZ h) (e : r = 103 + 3 * Int.toNat k) : f158_0 1 k (sZ h X) = z_if (0 ≤ k ∧ k ≤ 7) (z_rr r (sZ h X)) (z_ex (hZ (sZ h X) + 1) (sN (sZ h X) 2 6)) := sorry
theorem c_fict {h : z_M} {X : Nat → Nat → Int} {k : Int} {r : Nat} (S : S0 h) (e : r = 135 + 2 * Int.toNat k) : f128_0 1 k (sZ h X) = z_if (0 ≤ k ∧ k ≤ 11) (z_rr r (sZ h X)) (z_ex (hZ (sZ h X) + 1) (sN (sZ h X) 2 6)) := sorry
theorem c_shct {h : z_M} {X : Nat → Nat → Int} {k : Int} {r : Nat} (S : S0 h) (e : r = 127 + 2 * Int.toNat k) : f167_0 1 k (sZ h X) = z_if (0 ≤ k ∧ k ≤ 3) (z_rr r (sZ h X)) (z_ex (hZ (sZ h X) + 1) (sN (sZ h X) 2 6)) := sorry
theorem s_pic {h : z_M} {k : Int} {r1 r2 r3 : Nat} (S : S0 h) (hz : 1272 ≤ hZ h) (e1 : r1 = 103 + 3 * Int.toNat k) (e2 : r2 = 104 + 3 * Int.toNat k) (e3 : r3 = 105 + 3 * Int.toNat k) (hk : 0 ≤ k ∧ k ≤ 7) : hK h r1 = 11 ∧ (hK h r2 = 1000 ∧ hN h r2 = 144) ∧ (hK h r3 = 1001 ∧ hN h r3 = 144) ∧ (hP h r1 2 = r2 ∧ hP h r1 3 = r3) := sorry
theorem s_fil {h : z_M} {k : Int} {r8 r9 : Nat} (S : S0 h) (e1 : r8 = 135 + 2 * Int.toNat k) (e2 : r9 = 136 + 2 * Int.toNat k) (hk : 0 ≤ k ∧ k ≤ 11) : hK h r8 = 29 ∧ (hK h r9 = 1002 ∧ hN h r9 = 1500) ∧ hP h r8 0 = r9 := sorry
theorem s_she {h : z_M} {k : Int} {r5 r6 : Nat} (S : S0 h) (e1 : r5 = 127 + 2 * Int.toNat k) (e2 : r6 = 128 + 2 * Int.toNat k) (hk : 0 ≤ k ∧ k ≤ 3) : hK h r5 = 28 ∧ (hK h r6 = 1000 ∧ hN h r6 = 24) ∧ hP h r5 2 = r6 := sorry
theorem ia_fil {k : Nat} (hk : k < 12) : z_ia (136 + 2 * k) = true := sorry
theorem z_ixe {W : Nat → Nat → Prop} {h h' : z_M} (p : z_ix W h h') : h' = sZ h (hI h') := sorry
theorem fil_fr {h h' g g' : z_M} {X X' Y Y' : Nat → Nat → Int} (R : R_fil (sZ h X) (sZ g Y)) (fx : ∀ a i : Nat, 135 ≤ a → a ≤ 158 → X' a i = X a i) (fy : ∀ a i : Nat, (a = 1072 ∨ a = 1073) → Y' a i = Y a i) : R_fil (sZ h' X') (sZ g' Y') := sorry
def Q_p_kp (h g : z_M) (f : Int) (r8 : Nat) (r9 : Nat) (X : Nat → Nat → Int) (Y : Nat → Nat → Int) (x_ y_ : z_Z) : Prop := (∃ (v : Int) (X1 : Nat → Nat → Int) (Y1 : Nat → Nat → Int), (x_ = z_ri v (sZ h X1)) ∧ (y_ = z_ri v (sZ g Y1)) ∧ (R_fil (sZ h X1) (sZ g Y1)) ∧ (∀ a i : Nat, ¬ (a = r8 ∨ a = r9) → X1 a i = X a i) ∧ (∀ a i : Nat, ¬ (a = 1072 ∨ a = 1073) → Y1 a i = Y a i))
theorem p_kp {h g : z_M} {f : Int} {r8 : Nat} {r9 : Nat} {X : Nat → Nat → Int} {Y : Nat → Nat → Int} (S : S0 h) (hf : 0 ≤ f ∧ f ≤ 11) (e8 : r8 = 135 + 2 * Int.toNat f) (e9 : r9 = 136 + 2 * Int.toNat f) (M : R_md (sZ h X) (sZ g Y)) (Rf : R_fil (sZ h X) (sZ g Y)) : Q_p_kp h g f r8 r9 X Y (f143_0 1 r8 (sZ h X)) (f982_0 f (sZ g Y)) := sorry
end
section
set_option maxRecDepth 100000
set_option linter.unusedVariables false
set_option maxHeartbeats 200000
/-! SHARES -/
theorem c_shar {h : z_M} {X : Nat → Nat → Int} {k : Int} {r : Nat} (S : S0 h) (e : r = 71 + 4 * Int.toNat k) : f413_0 68 k (sZ h X) = z_if (0 ≤ k ∧ k ≤ 7) (z_rr r (sZ h X)) (z_ex (hZ (sZ h X) + 1) (sN (sZ h X) 2 6)) := sorry
theorem s_shr {h : z_M} {k : Int} {r n : Nat} (S : S0 h) (e : r = 71 + 4 * Int.toNat k) (e2 : n = 72 + 4 * Int.toNat k) (hk : 0 ≤ k ∧ k ≤ 7) : hK h r = 27 ∧ hK h n = 0 ∧ hP h r 1 = n := sorry
theorem t_isShare (k : Int) (m : z_M) : f752_0 k m = z_ri (z_bi (0 ≤ k ∧ k ≤ 7)) m := sorry
def R_bs (hc ht : z_M) : Prop := hI hc 68 3 = hI ht 1064 356 ∧ ∀ k, k < 8 → hI hc (71 + 4 * k) 0 = (k : Int)
def Q_k_stop (h g : z_M) (k : Int) (X : Nat → Nat → Int) (Y : Nat → Nat → Int) (x_ y_ : z_Z) : Prop := (∃ (v : Int) (X1 : Nat → Nat → Int) (Y1 : Nat → Nat → Int), (x_ = z_ri 0 (sL (sZ h X1) 1272 0 v)) ∧ (y_ = z_ri v (sZ g Y1)) ∧ (Y1 1064 0 = 0) ∧ (R_bs (sZ h X1) (sZ g Y1)) ∧ (∀ a i : Nat, ¬ ((a = 68 ∧ i = 3)) → X1 a i = X a i) ∧ (∀ a i : Nat, ¬ ((a = 1064 ∧ i = 0) ∨ (a = 1064 ∧ i = 342) ∨ (a = 1064 ∧ i = 356)) → Y1 a i = Y a i)) ∨ (∃ (c : Int) (K : Nat), (x_ = z_ri c (sN (sZ h X) K 6)) ∧ (y_ = z_ri 0 (sI (sI (sZ g Y) 1064 342 c) 1064 0 c)) ∧ (1 ≤ c))
set_option maxHeartbeats 4000000 in
theorem k_stop {h g : z_M} {k : Int} {X : Nat → Nat → Int} {Y : Nat → Nat → Int} (S : S0 h) (ou : hK h 1272 = 1003 ∧ hN h 1272 = 1) (Rb : R_bs (sZ h X) (sZ g Y)) : Q_k_stop h g k X Y (f93_0 1 k 1272 (sZ h X)) (f975_0 k (sZ g Y)) := sorry
end
section
set_option maxRecDepth 100000
set_option linter.unusedVariables false
set_option maxHeartbeats 200000
/-! SHARES: lists -/
/-- a list behind a change of another one -/
theorem li_fr {m m' : z_M} {l l' : Nat} {xs ys : List Nat} (L1 : z_li m l ys) (L : z_li m l' xs) (A : z_la l m m') (n : ¬ l' = l) (hl : l' ≤ hZ m) (hz : hZ m < 4294967296) (d : hP m l' 1 = hP m l 1 → hP m l' 1 = 4294969296) : z_li m' l' xs ∧ hP m' l' 1 = hP m l' 1 := by
  obtain ⟨k, s, ex, c⟩ := L
  have K : ∀ a, a ≤ hZ m → hK m' a = hK m a := fun a ha => congrArg Prod.fst (A.1 a (.inl ha)).1
  have KN : ∀ a, a ≤ hZ m → hN m' a = hN m a := fun a ha => congrArg Prod.snd (A.1 a (.inl ha)).1
  have zz := A.2.1
  have na : ¬ (l' = hP m l 1 ∧ l' < 4294967296) := fun z => by
    rcases L1.2.2.2 with ⟨c1, _⟩ | ⟨e, c1, c2, _⟩
    · have q := z.1.trans c1; omega
    · rw [← z.1.trans c1, k] at c2; exact absurd c2 (by decide)
  have p : hP m' l' 1 = hP m l' 1 := (A.1 l' (.inl hl)).2.2.2 1 (fun z => n z.1) na
  refine ⟨⟨(K l' hl).trans k, ?_, fun x hx => ?_, ?_⟩, p⟩
  · exact ((A.1 l' (.inl hl)).2.2.1 2 (fun z => n z.1)).trans s
  · obtain ⟨u, v⟩ := ex x hx; exact ⟨by rw [K x v]; exact u, by omega⟩
  · rcases c with ⟨c1, c2⟩ | ⟨e, c1, c2, c3, c4, c5⟩
    · exact .inl ⟨p.trans c1, c2⟩
    · refine .inr ⟨e, p.trans c1, (K e c3.2).trans c2, ⟨c3.1, by omega⟩, by rw [KN e c3.2]; exact c4, fun i hi => ?_⟩
      refine ((A.1 e (.inl c3.2)).2.2.2 i (fun z => ?_) (fun z => ?_)).trans (c5 i hi)
      · rw [z.1, L1.1] at c2; exact absurd c2 (by decide)
      · have q := d (c1.trans z.1); rw [c1] at q; omega
/-- a need; a failing -/
def z_nd (hc ht : z_M) (n j : Nat) : Prop := (hK hc n = 78 ∧ n ≤ hZ hc) ∧ hI hc n 0 = hI ht 1255 j ∧ hI hc n 2 = hI ht 1257 j ∧ hP hc n 1 = 71 + 4 * (hI ht 1256 j).toNat ∧ (0 ≤ hI ht 1255 j ∧ hI ht 1255 j ≤ 19) ∧ (1 ≤ hI ht 1257 j ∧ hI ht 1257 j ≤ 20) ∧ (0 ≤ hI ht 1256 j ∧ hI ht 1256 j ≤ 7)
def z_fl (hc ht : z_M) (n j : Nat) : Prop := (hK hc n = 79 ∧ n ≤ hZ hc) ∧ hI hc n 0 = hI ht 1258 j ∧ hI hc n 1 = hI ht 1259 j ∧ hI hc n 2 = hI ht 1260 j ∧ hI hc n 3 = hI ht 1261 j ∧ (0 ≤ hI ht 1258 j ∧ hI ht 1258 j ≤ 15) ∧ (0 ≤ hI ht 1259 j ∧ hI ht 1259 j ≤ 7) ∧ (0 ≤ hI ht 1260 j ∧ hI ht 1260 j ≤ 19) ∧ (1 ≤ hI ht 1261 j ∧ hI ht 1261 j ≤ 9)
def z_bl (ns : Nat → List Nat) (fs : List Nat) (hc ht : z_M) : Prop := (∀ k, k < 8 → z_li hc (72 + 4 * k) (ns k) ∧ (ns k).length ≤ 6 ∧ hI ht 1254 k = ((ns k).length : Int) ∧ ∀ i (hi : i < (ns k).length), z_nd hc ht (ns k)[i] (6 * k + i)) ∧ (z_li hc 69 fs ∧ fs.length ≤ 8 ∧ hI ht 1064 355 = (fs.length : Int) ∧ ∀ i (hi : i < fs.length), z_fl hc ht fs[i] i) ∧
  (∀ k, k < 8 → hP hc (72 + 4 * k) 1 = hP hc 69 1 → hP hc 69 1 = 4294969296) ∧ ∀ k j, k < 8 → j < 8 → ¬ k = j → hP hc (72 + 4 * k) 1 = hP hc (72 + 4 * j) 1 → hP hc (72 + 4 * j) 1 = 4294969296
def R_bl (hc ht : z_M) : Prop := ∃ ns fs, z_bl ns fs hc ht
theorem li_pb {m : z_M} {l : Nat} {xs : List Nat} (L : z_li m l xs) : hP m l 1 ≤ hZ m ∨ hP m l 1 = 4294969296 := by
  rcases L.2.2.2 with ⟨c, _⟩ | ⟨e, c1, _, c3, _⟩
  · exact .inr c
  · exact .inl (by rw [c1]; exact c3.2)
theorem nd_fr {hc hc' ht ht' : z_M} {l n j : Nat} {ys : List Nat} (L1 : z_li hc l ys) (A : z_la l hc hc') (N : z_nd hc ht n j) (y : hI ht' 1255 j = hI ht 1255 j ∧ hI ht' 1256 j = hI ht 1256 j ∧ hI ht' 1257 j = hI ht 1257 j) : z_nd hc' ht' n j := by
  obtain ⟨⟨a1, a2⟩, a3, a4, a5, a6⟩ := N
  have nl : ¬ n = l := fun z => by rw [z, L1.1] at a1; exact absurd a1 (by decide)
  have q := A.1 n (.inl a2)
  have ne : ¬ (n = hP hc l 1 ∧ n < 4294967296) := fun z => by
    rcases L1.2.2.2 with ⟨c1, _⟩ | ⟨e, c1, c2, _⟩
    · have u := z.1.trans c1; omega
    · rw [← z.1.trans c1, a1] at c2; exact absurd c2 (by decide)
  unfold z_nd
  rw [y.1, y.2.1, y.2.2]
  exact ⟨⟨(congrArg Prod.fst q.1).trans a1, by have := A.2.1; omega⟩, (q.2.2.1 0 (fun z => nl z.1)).trans a3, (q.2.2.1 2 (fun z => nl z.1)).trans a4, (q.2.2.2 1 (fun z => nl z.1) ne).trans a5, a6⟩
theorem fl_fr {hc hc' ht ht' : z_M} {l n j : Nat} {ys : List Nat} (L1 : z_li hc l ys) (A : z_la l hc hc') (N : z_fl hc ht n j) (y : hI ht' 1258 j = hI ht 1258 j ∧ hI ht' 1259 j = hI ht 1259 j ∧ hI ht' 1260 j = hI ht 1260 j ∧ hI ht' 1261 j = hI ht 1261 j) : z_fl hc' ht' n j := by
  obtain ⟨⟨a1, a2⟩, a3, a4, a5, a6, a7⟩ := N
  have nl : ¬ n = l := fun z => by rw [z, L1.1] at a1; exact absurd a1 (by decide)
  have q := A.1 n (.inl a2)
  unfold z_fl
  rw [y.1, y.2.1, y.2.2.1, y.2.2.2]
  exact ⟨⟨(congrArg Prod.fst q.1).trans a1, by have := A.2.1; omega⟩, (q.2.2.1 0 (fun z => nl z.1)).trans a3, (q.2.2.1 1 (fun z => nl z.1)).trans a4, (q.2.2.1 2 (fun z => nl z.1)).trans a5, (q.2.2.1 3 (fun z => nl z.1)).trans a6, a7⟩
/-- the needs of one share are gone -/
theorem bl_clear {hc hc' ht ht' : z_M} {k : Nat} {ns : Nat → List Nat} {fs : List Nat} (hk : k < 8) (R : z_bl ns fs hc ht) (hz : 1272 ≤ hZ hc ∧ hZ hc < 4000000000) (L : z_li hc' (72 + 4 * k) []) (p : hP hc' (72 + 4 * k) 1 = hP hc (72 + 4 * k) 1 ∨ hP hc' (72 + 4 * k) 1 = hZ hc + 1) (A : z_la (72 + 4 * k) hc hc') (y1 : hI ht' 1254 k = 0) (fy : ∀ a i, ¬ (a = 1254 ∧ i = k) → ¬ (a = 1064 ∧ (i = 0 ∨ i = 342)) → hI ht' a i = hI ht a i) : R_bl hc' ht' := by
  obtain ⟨R1, R2, R3, R4⟩ := R
  obtain ⟨Lk, _⟩ := R1 k hk
  have o : ∀ j, j < 8 → ¬ j = k → z_li hc' (72 + 4 * j) (ns j) ∧ hP hc' (72 + 4 * j) 1 = hP hc (72 + 4 * j) 1 := fun j hj n =>
    li_fr Lk (R1 j hj).1 A (by omega) (by omega) (by omega) (fun e => by rw [e]; exact R4 j k hj hk n e)
  have o9 : z_li hc' 69 fs ∧ hP hc' 69 1 = hP hc 69 1 := li_fr Lk R2.1 A (by omega) (by omega) (by omega) (fun e => R3 k hk e.symm)
  refine ⟨fun j => if j = k then [] else ns j, fs, fun j hj => ?_, ⟨o9.1, R2.2.1, ?_, fun i hi => fl_fr Lk A (R2.2.2.2 i hi) ⟨fy _ _ (by omega) (by omega), fy _ _ (by omega) (by omega), fy _ _ (by omega) (by omega), fy _ _ (by omega) (by omega)⟩⟩, fun j hj e => ?_, fun j i hj hi n e => ?_⟩
  · have key : ∀ ys : List Nat, ys = (if j = k then [] else ns j) → z_li hc' (72 + 4 * j) ys ∧ ys.length ≤ 6 ∧ hI ht' 1254 j = (ys.length : Int) ∧ ∀ i (hi : i < ys.length), z_nd hc' ht' ys[i] (6 * j + i) := fun ys e => by
      by_cases z : j = k
      · subst z
        rw [if_pos rfl] at e
        subst e
        exact ⟨L, by decide, y1, fun i hi => absurd hi (by simp)⟩
      · rw [if_neg z] at e
        subst e
        obtain ⟨u1, u2, u3, u4⟩ := R1 j hj
        exact ⟨(o j hj z).1, u2, (fy _ _ (by omega) (by omega)).trans u3, fun i hi => nd_fr Lk A (u4 i hi) ⟨fy _ _ (by omega) (by omega), fy _ _ (by omega) (by omega), fy _ _ (by omega) (by omega)⟩⟩
    exact key _ rfl
  · exact (fy _ _ (by omega) (by omega)).trans R2.2.2.1
  · rw [o9.2] at e ⊢
    by_cases z : j = k
    · subst z
      rcases p with p | p
      · exact R3 j hj (p.symm.trans e)
      · have b := li_pb R2.1; rw [p] at e; omega
    · rw [(o j hj z).2] at e; exact R3 j hj e
  · by_cases z : i = k
    · subst z
      rw [(o j hj (fun q => n q)).2] at e
      rcases p with p | p
      · rw [p] at e ⊢; exact R4 j i hj hi n e
      · have b := li_pb (R1 j hj).1; rw [p] at e; omega
    · rw [(o i hi z).2] at e ⊢
      by_cases z2 : j = k
      · subst z2
        rcases p with p | p
        · rw [p] at e; exact R4 j i hj hi n e
        · have b := li_pb (R1 i hi).1; rw [p] at e; omega
      · rw [(o j hj z2).2] at e; exact R4 j i hj hi n e
def Q_k_free (h g : z_M) (k : Int) (X : Nat → Nat → Int) (Y : Nat → Nat → Int) (x_ y_ : z_Z) : Prop := (∃ (v : Int) (m1 : z_M) (r : Nat) (Y1 : Nat → Nat → Int), (x_ = z_ri 0 (sL m1 1272 0 v)) ∧ (y_ = z_ri v (sZ g Y1)) ∧ (Y1 1064 0 = 0) ∧ (R_bl m1 (sZ g Y1)) ∧ (∃ j : Nat, j < 8 ∧ r = 72 + 4 * j) ∧ (z_la r (sZ h X) m1) ∧ (∀ a i : Nat, ¬ ((a = 1064 ∧ i = 0) ∨ (a = 1064 ∧ i = 342) ∨ a = 1254) → Y1 a i = Y a i)) ∨ (∃ (c : Int) (K : Nat), (x_ = z_ri c (sN (sZ h X) K 6)) ∧ (y_ = z_ri 0 (sI (sI (sZ g Y) 1064 342 c) 1064 0 c)) ∧ (1 ≤ c))
set_option maxHeartbeats 4000000 in
theorem k_free {h g : z_M} {k : Int} {X : Nat → Nat → Int} {Y : Nat → Nat → Int} (S : S0 h) (ou : hK h 1272 = 1003 ∧ hN h 1272 = 1) (hz : 1272 ≤ hZ h ∧ hZ h < 4000000000) (Rl : R_bl (sZ h X) (sZ g Y)) : Q_k_free h g k X Y (f72_0 1 k 1272 (sZ h X)) (f870_0 k (sZ g Y)) := by
  obtain ⟨r71, er71⟩ : ∃ r : Nat, r = 71 + 4 * Int.toNat k := ⟨_, rfl⟩
  obtain ⟨r72, er72⟩ : ∃ r : Nat, r = 72 + 4 * Int.toNat k := ⟨_, rfl⟩
  rw [e72_0, gk1 (by exact (sk S 1)), e131_0, gk1 (by exact (sk S 1)), show hP (sZ h X) 1 18 = 68 from sp S 1 18 68, gk1 (by exact (sk S 68)), e406_0, gk1 (by exact (sk S 68)), show f413_0 68 k (sZ h X) = z_if (0 ≤ k ∧ k ≤ 7) (z_rr r71 (sZ h X)) (z_ex (hZ (sZ h X) + 1) (sN (sZ h X) 2 6)) from c_shar S er71]
  by_cases q1 : (0 ≤ k) ∧ (k ≤ 7)
  · obtain ⟨kr71, kr72, pr71⟩ := s_shr S er71 er72 (show 0 ≤ k ∧ k ≤ 7 by omega)
    have hrr71 : 71 ≤ r71 ∧ r72 ≤ 100 ∧ r72 = r71 + 1 := by omega
    obtain ⟨ns, fs, Rl2⟩ := id Rl
    have Lk := (Rl2.1 (Int.toNat k) (by omega)).1
    rw [← er72] at Lk
    obtain ⟨n, hn⟩ : ∃ n : Int, ((ns (Int.toNat k)).length : Int) = n := ⟨_, rfl⟩
    have ckv : Y 1254 (Int.toNat k) = n := by rw [← hn]; exact (Rl2.1 (Int.toNat k) (by omega)).2.2.1
    obtain ⟨m8, C8, L8, P8, A8⟩ := li_clear Lk hz
    have ou_m8 : hK m8 1272 = 1003 ∧ hN m8 1272 = 1 := by have q_ := (A8.1 1272 (.inl (show 1272 ≤ hZ h by omega))).1; exact ⟨(congrArg Prod.fst q_).trans ou.1, (congrArg Prod.snd q_).trans ou.2⟩
    have kr71_m8 : hK m8 r71 = 27 := (congrArg Prod.fst (A8.1 r71 (.inl (show r71 ≤ hZ h by omega))).1).trans kr71
    rw [z_if_t q1, z_kr_rr, gk1 (by exact kr71), show hP (sZ h X) r71 1 = r72 from pr71, gk1 (by exact kr72), show f18_0 r72 (sZ h X) = z_ri n (sZ h X) from by rw [li_size Lk, hn], z_ki_ri, gk1 (by exact kr71), show hP (sZ h X) r71 1 = r72 from pr71, gk1 (by exact kr72), C8, z_kv_rv, z_ki_ri, z_ki_ri, gian_n (n := 1) (by exact ou_m8.1) (by exact ou_m8.2) (by omega) (by omega) (by omega), show Int.toNat 0 = 0 from rfl, e72_9, e72_15, e870_0, e749_0, t_isShare _ _, z_ki_ri, if_bi, z_if_t q1, e749_14, show hI (sI (sZ g Y) 1064 342 0) 1064 342 = 0 from hI_s1, z_if_t (by decide), e749_26, gin (by omega) (by omega), gin (by omega) (by omega), z_ki_ri, show hI (sI (sZ g Y) 1064 342 0) 1254 (Int.toNat k) = hI (sZ g Y) 1254 (Int.toNat k) from hI_s0 (fun z => absurd z.1 (by decide)), show hI (sZ g Y) 1254 (Int.toNat k) = Y 1254 (Int.toNat k) from rfl, show Y 1254 (Int.toNat k) = n from ckv, show hI (sI (sI (sZ g Y) 1064 342 0) 1254 (Int.toNat k) 0) 1064 342 = hI (sI (sZ g Y) 1064 342 0) 1064 342 from hI_s0 (fun z => absurd z.1 (by decide)), show hI (sI (sZ g Y) 1064 342 0) 1064 342 = 0 from hI_s1]
    exact .inl ⟨n, m8, r72, (z_up (z_up (z_up Y 1064 342 0) 1254 (Int.toNat k) 0) 1064 0 0), rfl, rfl, (by simp (disch := first | decide | omega) only [true_and, and_true, or_true, true_or, up_a, up_i, up_1]; first | done | omega), (by subst er72; exact bl_clear (k := Int.toNat k) (by omega) Rl2 hz L8 P8 A8 (show (z_up (z_up (z_up Y 1064 342 0) 1254 (Int.toNat k) 0) 1064 0 0) 1254 (Int.toNat k) = 0 by simp (disch := first | decide | omega) only [up_a, up_i, up_1]) (fun a i u w => (show (z_up (z_up (z_up Y 1064 342 0) 1254 (Int.toNat k) 0) 1064 0 0) a i = Y a i by rw [up_n (fun z => w ⟨z.1, .inl z.2⟩), up_n u, up_n (fun z => w ⟨z.1, .inr z.2⟩)]))), (⟨Int.toNat k, by omega, er72⟩), (A8), (fun a i w => by simp (disch := omega) only [up_n])⟩
  · rw [z_if_f q1, z_kr_ex, z_ki_ex, z_ki_ex, nq1 rfl, e72_12, e870_0, e749_0, t_isShare _ _, z_ki_ri, if_bi, z_if_f q1, e749_13, e749_14, show hI (sI (sZ g Y) 1064 342 1) 1064 342 = 1 from hI_s1, z_if_f (by decide), z_ki_ri, show hI (sI (sZ g Y) 1064 342 1) 1064 342 = 1 from hI_s1]
    exact .inr (⟨1, 2, rfl, rfl, (by omega)⟩)
end
