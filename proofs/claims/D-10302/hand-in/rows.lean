section
/-- the n low digits of v, the highest first -/
def jb_bits (v : Nat) : Nat → List Nat
  | 0 => []
  | n + 1 => (v / 2 ^ n % 2) :: jb_bits v n
/-- the number that a list of digits is, behind c -/
def jb_val (c : Nat) : List Nat → Nat
  | [] => c
  | x :: xs => jb_val (c * 2 + x) xs
/-- stuffing: a 0 behind each 255 -/
def jb_st : List Nat → List Nat
  | [] => []
  | x :: xs => if x = 255 then 255 :: 0 :: jb_st xs else x :: jb_st xs
/-- all digits of bytes -/
def jb_un : List Nat → List Nat
  | [] => []
  | x :: xs => jb_bits x 8 ++ jb_un xs
/-- the array holds the list from place p on -/
def jb_at (a : Nat → Int32) : Nat → List Nat → Prop
  | _, [] => True
  | p, x :: xs => a p = nI x ∧ jb_at a (p + 1) xs
/-- all are bytes -/
def jb_by (l : List Nat) : Prop := ∀ x, x ∈ l → x < 256
theorem jb_bits_len (v n : Nat) : (jb_bits v n).length = n := by
  induction n with
  | zero => rfl
  | succ n ih => show (jb_bits v n).length + 1 = n + 1; rw [ih]
theorem jb_val_app (c : Nat) (l m : List Nat) : jb_val c (l ++ m) = jb_val (jb_val c l) m := by
  induction l generalizing c with
  | nil => rfl
  | cons x xs ih => exact ih (c * 2 + x)
theorem jb_val_bits (c v n : Nat) : jb_val c (jb_bits v n) = c * 2 ^ n + v % 2 ^ n := by
  induction n generalizing c with
  | zero => show c = c * 1 + v % 1; omega
  | succ n ih =>
    show jb_val (c * 2 + v / 2 ^ n % 2) (jb_bits v n) = _
    rw [ih, Nat.mod_pow_succ, Nat.pow_succ, Nat.add_mul, Nat.mul_assoc, Nat.mul_comm 2 (2 ^ n), Nat.mul_comm (2 ^ n) (v / 2 ^ n % 2)]
    omega
theorem jb_val_lt (l : List Nat) : ∀ c, (∀ x, x ∈ l → x < 2) → jb_val c l < (c + 1) * 2 ^ l.length := by
  induction l with
  | nil => intro c _; show c < (c + 1) * 1; omega
  | cons x xs ih =>
    intro c h
    have h1 := ih (c * 2 + x) (fun y hy => h y (List.mem_cons_of_mem _ hy))
    have h2 : x < 2 := h x List.mem_cons_self
    show jb_val (c * 2 + x) xs < (c + 1) * 2 ^ (xs.length + 1)
    rw [Nat.pow_succ, Nat.mul_comm (2 ^ xs.length) 2, ← Nat.mul_assoc]
    exact Nat.lt_of_lt_of_le h1 (Nat.mul_le_mul_right _ (by omega))
theorem jb_bits_bit (v n : Nat) : ∀ x, x ∈ jb_bits v n → x < 2 := by
  induction n with
  | zero => intro x h; exact absurd h List.not_mem_nil
  | succ n ih =>
    intro x h
    rcases List.mem_cons.mp h with h | h
    · rw [h]; exact Nat.mod_lt _ (by decide)
    · exact ih x h
theorem jb_bits_take (v : Nat) : ∀ n k, k ≤ n → (jb_bits v n).take k = jb_bits (v / 2 ^ (n - k)) k := by
  intro n
  induction n with
  | zero => intro k h; rw [Nat.le_zero.mp h]; rfl
  | succ n ih =>
    intro k h
    cases k with
    | zero => rfl
    | succ k =>
      show (v / 2 ^ n % 2) :: (jb_bits v n).take k = (v / 2 ^ (n + 1 - (k + 1)) / 2 ^ k % 2) :: jb_bits (v / 2 ^ (n + 1 - (k + 1))) k
      rw [ih k (by omega), show n + 1 - (k + 1) = n - k by omega, Nat.div_div_eq_div_mul, ← Nat.pow_add, show n - k + k = n by omega]
theorem jb_un_len (l : List Nat) : (jb_un l).length = 8 * l.length := by
  induction l with
  | nil => rfl
  | cons x xs ih =>
    show (jb_bits x 8 ++ jb_un xs).length = 8 * (xs.length + 1)
    rw [List.length_append, jb_bits_len, ih]; omega
theorem jb_un_app (l m : List Nat) : jb_un (l ++ m) = jb_un l ++ jb_un m := by
  induction l with
  | nil => rfl
  | cons x xs ih => show jb_bits x 8 ++ jb_un (xs ++ m) = (jb_bits x 8 ++ jb_un xs) ++ jb_un m; rw [ih, List.append_assoc]
theorem jb_st_app (l m : List Nat) : jb_st (l ++ m) = jb_st l ++ jb_st m := by
  induction l with
  | nil => rfl
  | cons x xs ih =>
    show (if x = 255 then 255 :: 0 :: jb_st (xs ++ m) else x :: jb_st (xs ++ m)) = (if x = 255 then 255 :: 0 :: jb_st xs else x :: jb_st xs) ++ jb_st m
    rw [ih]
    by_cases h : x = 255
    · rw [if_pos h, if_pos h]; rfl
    · rw [if_neg h, if_neg h]; rfl
theorem jb_st_len (l : List Nat) : (jb_st l).length ≤ 2 * l.length ∧ l.length ≤ (jb_st l).length := by
  induction l with
  | nil => exact ⟨Nat.le_refl 0, Nat.le_refl 0⟩
  | cons x xs ih =>
    show (if x = 255 then 255 :: 0 :: jb_st xs else x :: jb_st xs).length ≤ 2 * (xs.length + 1) ∧ xs.length + 1 ≤ (if x = 255 then 255 :: 0 :: jb_st xs else x :: jb_st xs).length
    by_cases h : x = 255
    · rw [if_pos h]; show (jb_st xs).length + 1 + 1 ≤ _ ∧ _ ≤ (jb_st xs).length + 1 + 1; omega
    · rw [if_neg h]; show (jb_st xs).length + 1 ≤ _ ∧ _ ≤ (jb_st xs).length + 1; omega
theorem jb_at_app (a : Nat → Int32) (l m : List Nat) : ∀ p, jb_at a p (l ++ m) ↔ jb_at a p l ∧ jb_at a (p + l.length) m := by
  induction l with
  | nil => intro p; exact ⟨fun h => ⟨trivial, h⟩, fun h => h.2⟩
  | cons x xs ih =>
    intro p
    show (a p = nI x ∧ jb_at a (p + 1) (xs ++ m)) ↔ (a p = nI x ∧ jb_at a (p + 1) xs) ∧ jb_at a (p + (xs.length + 1)) m
    rw [ih (p + 1), show p + (xs.length + 1) = p + 1 + xs.length by omega, and_assoc]
theorem jb_at_cg {a b : Nat → Int32} (l : List Nat) : ∀ p, (∀ j, p ≤ j → j < p + l.length → b j = a j) → jb_at a p l → jb_at b p l := by
  induction l with
  | nil => intro p _ _; exact trivial
  | cons x xs ih =>
    intro p h g
    refine ⟨?_, ih (p + 1) (fun j h1 h2 => h j (by omega) (by show j < p + (xs.length + 1); omega)) g.2⟩
    rw [h p (Nat.le_refl p) (by show p < p + (xs.length + 1); omega)]
    exact g.1
theorem jb_at_sh {a b : Nat → Int32} (l : List Nat) : ∀ p q, (∀ j, j < l.length → b (q + j) = a (p + j)) → jb_at a p l → jb_at b q l := by
  induction l with
  | nil => intro p q _ _; exact trivial
  | cons x xs ih =>
    intro p q h g
    refine ⟨?_, ih (p + 1) (q + 1) (fun j h1 => ?_) g.2⟩
    · have := h 0 (by show 0 < xs.length + 1; omega)
      rw [Nat.add_zero, Nat.add_zero] at this
      rw [this]; exact g.1
    · have := h (j + 1) (by show j + 1 < xs.length + 1; omega)
      rw [show q + 1 + j = q + (j + 1) by omega, show p + 1 + j = p + (j + 1) by omega]; exact this
theorem jb_at_upd {a : Nat → Int32} {l : List Nat} {p k : Nat} {x : Int32} (h : p + l.length ≤ k) (g : jb_at a p l) : jb_at (upd a k x) p l :=
  jb_at_cg l p (fun j h1 h2 => pk_un (by omega)) g
theorem jb_at_get {a : Nat → Int32} (l : List Nat) : ∀ p i, jb_at a p l → i < l.length → a (p + i) = nI (l.getD i 0) := by
  induction l with
  | nil => intro p i _ h; exact absurd h (Nat.not_lt_zero i)
  | cons x xs ih =>
    intro p i g h
    cases i with
    | zero => exact g.1
    | succ i =>
      rw [show p + (i + 1) = p + 1 + i by omega]
      exact ih (p + 1) i g.2 (Nat.lt_of_succ_lt_succ h)
theorem jb_by_app {l m : List Nat} (h : jb_by l) (g : jb_by m) : jb_by (l ++ m) := by
  intro x hx
  rcases List.mem_append.mp hx with z | z
  · exact h x z
  · exact g x z
theorem jb_by_nil : jb_by [] := fun x h => absurd h List.not_mem_nil
theorem jb_by_one {x : Nat} (h : x < 256) : jb_by [x] := fun y hy => by rw [List.mem_singleton.mp hy]; exact h
theorem jb_st_one {x : Nat} (h : x ≠ 255) : jb_st [x] = [x] := by show (if x = 255 then _ else _) = _; rw [if_neg h]; rfl
theorem jb_st_255 : jb_st [255] = [255, 0] := rfl
theorem jb_un_one (x : Nat) : jb_un [x] = jb_bits x 8 := List.append_nil _
/-- shift counts, single digits -/
theorem jn_s31 : ∀ n, n < 32 → ((nI n &&& 31).toBitVec.smod 32).toNat = n := by decide +kernel
theorem jn_bit {n k : Nat} (h : n < 2 ^ 31) (hk : k < 32) : (nI n >>> (nI k &&& 31)) &&& 1 = nI (n / 2 ^ k % 2) := by
  rw [pk_shrN h _ k (jn_s31 k hk)]
  exact pk_andN (Nat.lt_of_le_of_lt (Nat.div_le_self _ _) (by omega)) 1 (by decide)
theorem jn_shl1 {n : Nat} (h : n < 2 ^ 30) : nI n <<< ((1 : Int32) &&& 31) = nI (n * 2) := pk_shlN _ 1 (by decide) (by omega)
theorem jn_or1 : ∀ b, b < 2 → ∀ m, m < 128 → nI (m * 2) ||| nI b = nI (m * 2 + b) := by decide +kernel
end
section
theorem ji_bm {n : Int} (h1 : -2147483648 ≤ n) (h2 : n < 2147483648) : n.bmod (2 ^ 32) = n := Int.bmod_eq_of_le (by omega) (by omega)
theorem ji_add {x y : Int32} (h1 : -2147483648 ≤ x.toInt + y.toInt) (h2 : x.toInt + y.toInt < 2147483648) : (x + y).toInt = x.toInt + y.toInt := by
  rw [Int32.toInt_add]; exact ji_bm h1 h2
theorem ji_sub {x y : Int32} (h1 : -2147483648 ≤ x.toInt - y.toInt) (h2 : x.toInt - y.toInt < 2147483648) : (x - y).toInt = x.toInt - y.toInt := by
  rw [Int32.toInt_sub]; exact ji_bm h1 h2
theorem ji_mul {x y : Int32} (h1 : -2147483648 ≤ x.toInt * y.toInt) (h2 : x.toInt * y.toInt < 2147483648) : (x * y).toInt = x.toInt * y.toInt := by
  rw [Int32.toInt_mul]; exact ji_bm h1 h2
theorem ji_neg {x : Int32} (h1 : -2147483648 ≤ -x.toInt) (h2 : -x.toInt < 2147483648) : (-x).toInt = -x.toInt := by
  rw [Int32.toInt_neg]; exact ji_bm h1 h2
theorem ji_rg (x : Int32) : -2147483648 ≤ x.toInt ∧ x.toInt < 2147483648 := ⟨Int32.le_toInt x, Int32.toInt_lt x⟩
/-- a number that is not below 0 is its place among the naturals -/
theorem ji_nI {x : Int32} {m : Nat} (h : x.toInt = (m : Int)) : x = nI m := by
  apply Int32.toInt_inj.mp
  have := ji_rg x
  rw [nI_toInt (by omega), h]
theorem ji_t0 : (0 : Int32).toInt = 0 := rfl
theorem ji_t1 : (1 : Int32).toInt = 1 := rfl
theorem ji_pow {n : Nat} (h : n < 31) : (1 : Int32) <<< (nI n &&& 31) = nI (2 ^ n) := by
  have h2 : 2 ^ n < 2 ^ 32 := Nat.pow_lt_pow_right (by decide) (by omega)
  have := pk_shlN (n := 1) (nI n &&& 31) n (jn_s31 n (by omega)) (by omega)
  rw [Nat.one_mul] at this
  exact this
theorem ji_p13 {n : Nat} (h : n ≤ 15) : 2 ^ n ≤ 32768 := Nat.pow_le_pow_right (by decide) h
/-- the number of digits of a level -/
def jz_sz (v : Int32) : Nat := if v.toInt.natAbs = 0 then 0 else Nat.log2 v.toInt.natAbs + 1
theorem jz_le (v : Int32) (i : Nat) : jz_sz v ≤ i ↔ v.toInt.natAbs < 2 ^ i := by
  unfold jz_sz
  by_cases h : v.toInt.natAbs = 0
  · rw [if_pos h, h]; exact ⟨fun _ => Nat.two_pow_pos i, fun _ => Nat.zero_le i⟩
  · rw [if_neg h, ← Nat.log2_lt h]; exact ⟨fun z => z, fun z => z⟩
theorem jz_0 : jz_sz 0 = 0 := rfl
theorem jz_pos {v : Int32} (h : v ≠ 0) : 0 < jz_sz v := by
  rcases Nat.eq_zero_or_pos (jz_sz v) with z | z
  · have := (jz_le v 0).mp (by omega)
    exact absurd (Int32.toInt_inj.mp (show v.toInt = (0 : Int32).toInt by rw [ji_t0]; omega)) h
  · exact z
theorem jz_sz0 {v : Int32} (h : jz_sz v = 0) : v = 0 := by
  by_cases z : v = 0
  · exact z
  · exact absurd (jz_pos z) (by omega)
/-- the digits that are written for a level of n digits, as a number -/
def jz_V (v : Int32) (n : Nat) : Nat := (if 0 < v.toInt then v.toInt else v.toInt + ((2 ^ n : Nat) : Int) - 1).toNat
theorem jz_V_lt {v : Int32} {n : Nat} (h : v.toInt.natAbs < 2 ^ n) : jz_V v n < 2 ^ n := by
  unfold jz_V
  by_cases z : 0 < v.toInt
  · rw [if_pos z]; omega
  · rw [if_neg z]; omega
theorem jz_V_pos {v : Int32} (n : Nat) (z : 0 < v) : v = nI (jz_V v n) := by
  have z' : 0 < v.toInt := by have := Int32.lt_iff_toInt_lt.mp z; rw [ji_t0] at this; exact this
  apply ji_nI
  unfold jz_V
  rw [if_pos z']; omega
theorem jz_V_neg {v : Int32} {n : Nat} (hn : n ≤ 15) (h : v.toInt.natAbs < 2 ^ n) (z : ¬ 0 < v) : (v + nI (2 ^ n)) - 1 = nI (jz_V v n) := by
  have hp := ji_p13 hn
  have z' : ¬ 0 < v.toInt := fun w => z (Int32.lt_iff_toInt_lt.mpr (by rw [ji_t0]; exact w))
  have e0 : (nI (2 ^ n)).toInt = ((2 ^ n : Nat) : Int) := nI_toInt (by omega)
  have e1 : (v + nI (2 ^ n)).toInt = v.toInt + ((2 ^ n : Nat) : Int) := by rw [ji_add (by rw [e0]; omega) (by rw [e0]; omega), e0]
  have e2 : ((v + nI (2 ^ n)) - 1).toInt = v.toInt + ((2 ^ n : Nat) : Int) - 1 := by rw [ji_sub (by rw [e1, ji_t1]; omega) (by rw [e1, ji_t1]; omega), e1, ji_t1]
  apply ji_nI
  unfold jz_V
  rw [if_neg z', e2]; omega
/-- reading a level back -/
theorem jz_back {v : Int32} {n : Nat} (hn : n ≤ 15) (h0 : 0 < n) (h : jz_sz v = n) : (jz_V v n / 2 ^ (n - 1) = 1 ∧ nI (jz_V v n) = v) ∨ (jz_V v n / 2 ^ (n - 1) ≠ 1 ∧ (nI (jz_V v n) - nI (2 ^ n)) + 1 = v) := by
  have hp := ji_p13 hn
  have a1 : v.toInt.natAbs < 2 ^ n := (jz_le v n).mp (by omega)
  have a2 : ¬ v.toInt.natAbs < 2 ^ (n - 1) := fun z => absurd ((jz_le v (n - 1)).mpr z) (by omega)
  have e : 2 ^ n = 2 ^ (n - 1) * 2 := by rw [← Nat.pow_succ]; congr 1; omega
  have hV := jz_V_lt a1
  have p0 : 0 < 2 ^ (n - 1) := Nat.two_pow_pos _
  by_cases z : 0 < v.toInt
  · left
    have eV : (jz_V v n : Int) = v.toInt := by unfold jz_V; rw [if_pos z]; omega
    refine ⟨?_, (ji_nI eV.symm).symm⟩
    apply Nat.le_antisymm
    · have := (Nat.div_lt_iff_lt_mul p0).mpr (show jz_V v n < 2 * 2 ^ (n - 1) by omega)
      omega
    · exact (Nat.le_div_iff_mul_le p0).mpr (by omega)
  · right
    have eV : (jz_V v n : Int) = v.toInt + ((2 ^ n : Nat) : Int) - 1 := by unfold jz_V; rw [if_neg z]; omega
    refine ⟨?_, ?_⟩
    · have : jz_V v n / 2 ^ (n - 1) < 1 := (Nat.div_lt_iff_lt_mul p0).mpr (by omega)
      omega
    · apply Int32.toInt_inj.mp
      have e0 : (nI (2 ^ n)).toInt = ((2 ^ n : Nat) : Int) := nI_toInt (by omega)
      have e1 : (nI (jz_V v n)).toInt = ((jz_V v n : Nat) : Int) := nI_toInt (by omega)
      have e2 : (nI (jz_V v n) - nI (2 ^ n)).toInt = (jz_V v n : Int) - ((2 ^ n : Nat) : Int) := by rw [ji_sub (by rw [e0, e1]; omega) (by rw [e0, e1]; omega), e0, e1]
      rw [ji_add (by rw [e2, ji_t1]; omega) (by rw [e2, ji_t1]; omega), e2, ji_t1]
      omega
/-- the symbols of places k to 63 of a block behind a run -/
def jy_ac (g : Nat → Int32) : Nat → Nat → Nat → List (Nat × Int32)
  | 0, _, run => if run = 0 then [] else [(0, 0)]
  | m + 1, k, run => if g k = 0 then jy_ac g m (k + 1) (run + 1) else List.replicate (run / 16) (240, 0) ++ (run % 16 * 16 + jz_sz (g k), g k) :: jy_ac g m (k + 1) 0
/-- the order of places -/
def jo_od (k : Nat) : Nat := [0, 1, 8, 16, 9, 2, 3, 10, 17, 24, 32, 25, 18, 11, 4, 5, 12, 19, 26, 33, 40, 48, 41, 34, 27, 20, 13, 6, 7, 14, 21, 28, 35, 42, 49, 56, 57, 50, 43, 36, 29, 22, 15, 23, 30, 37, 44, 51, 58, 59, 52, 45, 38, 31, 39, 46, 53, 60, 61, 54, 47, 55, 62, 63].getD k 0
theorem jo_lt : ∀ k, k < 64 → jo_od k < 64 := by decide +kernel
theorem jo_inj : ∀ k, k < 64 → ∀ j, j < 64 → jo_od k = jo_od j → k = j := by decide +kernel
theorem jo_sur : ∀ j, j < 64 → ∃ k, k < 64 ∧ jo_od k = j := by decide +kernel
theorem jo_0 : jo_od 0 = 0 := rfl
/-- what the first level of block b is counted from -/
def jy_pr (lv : Nat → Int32) (iv b : Nat) : Int32 := if b % iv = 0 then 0 else lv ((b - 1) * 64)
/-- the symbols of block b -/
def jy_blk (lv : Nat → Int32) (iv b : Nat) : List (Nat × Int32) :=
  (256 + jz_sz (lv (b * 64) - jy_pr lv iv b), lv (b * 64) - jy_pr lv iv b) :: jy_ac (fun k => lv (b * 64 + jo_od k)) 63 1 0
/-- a symbol that is as it should be -/
def jy_ok (p : Nat × Int32) : Prop := p.1 < 272 ∧ p.1 % 16 = jz_sz p.2 ∧ p.1 % 16 ≤ 13
theorem jy_ac_ok {g : Nat → Int32} (hg : ∀ k, k < 64 → jz_sz (g k) ≤ 13) : ∀ m k run, k + m = 64 → ∀ p, p ∈ jy_ac g m k run → p.1 < 256 ∧ jy_ok p := by
  have hz : ∀ p : Nat × Int32, p = (240, 0) → p.1 < 256 ∧ jy_ok p := fun p e => by rw [e]; exact ⟨by decide, by decide, rfl, by decide⟩
  have h0 : ∀ p : Nat × Int32, p = (0, 0) → p.1 < 256 ∧ jy_ok p := fun p e => by rw [e]; exact ⟨by decide, by decide, rfl, by decide⟩
  intro m
  induction m with
  | zero =>
    intro k run _ p hp
    unfold jy_ac at hp
    by_cases h : run = 0
    · rw [if_pos h] at hp; exact absurd hp List.not_mem_nil
    · rw [if_neg h] at hp; exact h0 p (List.mem_singleton.mp hp)
  | succ m ih =>
    intro k run hk p hp
    unfold jy_ac at hp
    by_cases h : g k = 0
    · rw [if_pos h] at hp; exact ih (k + 1) (run + 1) (by omega) p hp
    · rw [if_neg h] at hp
      rcases List.mem_append.mp hp with z | z
      · exact hz p (List.eq_of_mem_replicate z)
      · rcases List.mem_cons.mp z with z | z
        · have h3 := hg k (by omega)
          rw [z]
          refine ⟨?_, ?_, ?_, ?_⟩
          · show run % 16 * 16 + jz_sz (g k) < 256; omega
          · show run % 16 * 16 + jz_sz (g k) < 272; omega
          · show (run % 16 * 16 + jz_sz (g k)) % 16 = jz_sz (g k); omega
          · show (run % 16 * 16 + jz_sz (g k)) % 16 ≤ 13; omega
        · exact ih (k + 1) 0 (by omega) p z
theorem jy_ac_len (g : Nat → Int32) : ∀ m k run, (jy_ac g m k run).length ≤ run + m := by
  intro m
  induction m with
  | zero =>
    intro k run
    unfold jy_ac
    by_cases h : run = 0
    · rw [if_pos h]; exact Nat.zero_le _
    · rw [if_neg h]; show 1 ≤ run + 0; omega
  | succ m ih =>
    intro k run
    unfold jy_ac
    by_cases h : g k = 0
    · rw [if_pos h]; have := ih (k + 1) (run + 1); omega
    · rw [if_neg h, List.length_append, List.length_replicate, List.length_cons]
      have := ih (k + 1) 0
      omega
/-- the digits of a symbol, of symbols -/
def jy_sb (cw : Nat → List Nat) (p : Nat × Int32) : List Nat := cw p.1 ++ jb_bits (jz_V p.2 (p.1 % 16)) (p.1 % 16)
def jy_bb (cw : Nat → List Nat) : List (Nat × Int32) → List Nat
  | [] => []
  | p :: l => jy_sb cw p ++ jy_bb cw l
theorem jy_bb_app (cw : Nat → List Nat) (l m : List (Nat × Int32)) : jy_bb cw (l ++ m) = jy_bb cw l ++ jy_bb cw m := by
  induction l with
  | nil => rfl
  | cons p l ih => show jy_sb cw p ++ jy_bb cw (l ++ m) = (jy_sb cw p ++ jy_bb cw l) ++ jy_bb cw m; rw [ih, List.append_assoc]
theorem jy_bb_one (cw : Nat → List Nat) (p : Nat × Int32) : jy_bb cw [p] = jy_sb cw p := List.append_nil _
theorem jy_bb_len {cw : Nat → List Nat} {l : List (Nat × Int32)} (h : ∀ p, p ∈ l → (cw p.1).length ≤ 15 ∧ jy_ok p) : (jy_bb cw l).length ≤ 28 * l.length := by
  induction l with
  | nil => exact Nat.le_refl 0
  | cons p l ih =>
    have h1 := ih (fun q hq => h q (List.mem_cons_of_mem _ hq))
    have h2 := h p List.mem_cons_self
    have h3 := h2.2.2.2
    show (jy_sb cw p ++ jy_bb cw l).length ≤ 28 * (l.length + 1)
    rw [List.length_append]
    have h4 : (jy_sb cw p).length = (cw p.1).length + p.1 % 16 := by show (cw p.1 ++ _).length = _; rw [List.length_append, jb_bits_len]
    omega
/-- f b, f (b + 1) .. one behind another, n of them -/
def jy_cat {α : Type} (f : Nat → List α) : Nat → Nat → List α
  | _, 0 => []
  | b, n + 1 => f b ++ jy_cat f (b + 1) n
theorem jy_cat_end {α : Type} (f : Nat → List α) : ∀ n b, jy_cat f b (n + 1) = jy_cat f b n ++ f (b + n) := by
  intro n
  induction n with
  | zero => intro b; show f b ++ [] = [] ++ f b; rw [List.append_nil, List.nil_append]
  | succ n ih =>
    intro b
    show f b ++ jy_cat f (b + 1) (n + 1) = (f b ++ jy_cat f (b + 1) n) ++ f (b + (n + 1))
    rw [ih (b + 1), List.append_assoc, show b + 1 + n = b + (n + 1) by omega]
theorem jy_bb_cat (cw : Nat → List Nat) (f : Nat → List (Nat × Int32)) : ∀ n b, jy_bb cw (jy_cat f b n) = jy_cat (fun i => jy_bb cw (f i)) b n := by
  intro n
  induction n with
  | zero => intro b; rfl
  | succ n ih => intro b; show jy_bb cw (f b ++ jy_cat f (b + 1) n) = _; rw [jy_bb_app, ih (b + 1)]; rfl
/-- how often a symbol stands in a list -/
def jy_cnt (c : Nat) : List (Nat × Int32) → Nat
  | [] => 0
  | p :: l => (if p.1 = c then 1 else 0) + jy_cnt c l
theorem jy_cnt_app (c : Nat) (l m : List (Nat × Int32)) : jy_cnt c (l ++ m) = jy_cnt c l + jy_cnt c m := by
  induction l with
  | nil => show jy_cnt c m = 0 + jy_cnt c m; omega
  | cons p l ih => show (if p.1 = c then 1 else 0) + jy_cnt c (l ++ m) = (if p.1 = c then 1 else 0) + jy_cnt c l + jy_cnt c m; rw [ih]; omega
theorem jy_cnt_in {l : List (Nat × Int32)} {p : Nat × Int32} (h : p ∈ l) : 0 < jy_cnt p.1 l := by
  induction l with
  | nil => exact absurd h List.not_mem_nil
  | cons q l ih =>
    show 0 < (if q.1 = p.1 then 1 else 0) + jy_cnt p.1 l
    rcases List.mem_cons.mp h with z | z
    · rw [z, if_pos rfl]; omega
    · have := ih z; omega
theorem jy_cnt_len (c : Nat) (l : List (Nat × Int32)) : jy_cnt c l ≤ l.length := by
  induction l with
  | nil => exact Nat.le_refl 0
  | cons q l ih =>
    show (if q.1 = c then 1 else 0) + jy_cnt c l ≤ l.length + 1
    by_cases z : q.1 = c
    · rw [if_pos z]; omega
    · rw [if_neg z]; omega
/-- how many symbols of a list are from a to b -/
def jy_tot (a b : Nat) : List (Nat × Int32) → Nat
  | [] => 0
  | p :: l => (if a ≤ p.1 ∧ p.1 < b then 1 else 0) + jy_tot a b l
theorem jy_tot_app (a b : Nat) (l m : List (Nat × Int32)) : jy_tot a b (l ++ m) = jy_tot a b l + jy_tot a b m := by
  induction l with
  | nil => show jy_tot a b m = 0 + jy_tot a b m; omega
  | cons p l ih => show (if a ≤ p.1 ∧ p.1 < b then 1 else 0) + jy_tot a b (l ++ m) = (if a ≤ p.1 ∧ p.1 < b then 1 else 0) + jy_tot a b l + jy_tot a b m; rw [ih]; omega
theorem jy_tot_len (a b : Nat) (l : List (Nat × Int32)) : jy_tot a b l ≤ l.length := by
  induction l with
  | nil => exact Nat.le_refl 0
  | cons q l ih =>
    show (if a ≤ q.1 ∧ q.1 < b then 1 else 0) + jy_tot a b l ≤ l.length + 1
    by_cases z : a ≤ q.1 ∧ q.1 < b
    · rw [if_pos z]; omega
    · rw [if_neg z]; omega
theorem jy_tot_none {a b : Nat} {l : List (Nat × Int32)} (h : ∀ p, p ∈ l → p.1 < a ∨ b ≤ p.1) : jy_tot a b l = 0 := by
  induction l with
  | nil => rfl
  | cons q l ih =>
    show (if a ≤ q.1 ∧ q.1 < b then 1 else 0) + jy_tot a b l = 0
    have := h q List.mem_cons_self
    rw [if_neg (by omega), ih (fun p hp => h p (List.mem_cons_of_mem _ hp))]
theorem jy_blk_ok {lv : Nat → Int32} {iv b : Nat} (hb : b < 4) (h : ∀ k, k < 256 → jz_sz (lv k) ≤ 12) (hd : jz_sz (lv (b * 64) - jy_pr lv iv b) ≤ 13) : ∀ p, p ∈ jy_blk lv iv b → jy_ok p := by
  intro p hp
  rcases List.mem_cons.mp hp with z | z
  · rw [z]
    generalize lv (b * 64) - jy_pr lv iv b = d at hd ⊢
    refine ⟨?_, ?_, ?_⟩
    · show 256 + jz_sz d < 272; omega
    · show (256 + jz_sz d) % 16 = jz_sz d; omega
    · show (256 + jz_sz d) % 16 ≤ 13; omega
  · exact (jy_ac_ok (fun k hk => by have h1 := jo_lt k hk; have := h (b * 64 + jo_od k) (by omega); exact Nat.le_succ_of_le this) 63 1 0 rfl p z).2
theorem jy_blk_tot {lv : Nat → Int32} {iv b : Nat} (hb : b < 4) (h : ∀ k, k < 256 → jz_sz (lv k) ≤ 12) : jy_tot 0 256 (jy_blk lv iv b) ≤ 63 ∧ jy_tot 256 272 (jy_blk lv iv b) ≤ 1 ∧ (jy_blk lv iv b).length ≤ 64 := by
  have h1 := jy_ac_ok (g := fun k => lv (b * 64 + jo_od k)) (fun k hk => by have h1 := jo_lt k hk; have := h (b * 64 + jo_od k) (by omega); exact Nat.le_succ_of_le this) 63 1 0 rfl
  have h2 := jy_ac_len (fun k => lv (b * 64 + jo_od k)) 63 1 0
  have h3 := jy_tot_len 0 256 (jy_ac (fun k => lv (b * 64 + jo_od k)) 63 1 0)
  have h4 : jy_tot 256 272 (jy_ac (fun k => lv (b * 64 + jo_od k)) 63 1 0) = 0 := jy_tot_none (fun p hp => Or.inl (h1 p hp).1)
  refine ⟨?_, ?_, ?_⟩
  · show (if 0 ≤ 256 + _ ∧ 256 + _ < 256 then 1 else 0) + jy_tot 0 256 (jy_ac _ 63 1 0) ≤ 63
    rw [if_neg (by omega)]; omega
  · show (if _ then 1 else 0) + jy_tot 256 272 (jy_ac _ 63 1 0) ≤ 1
    rw [h4]; split <;> omega
  · show (jy_ac _ 63 1 0).length + 1 ≤ 64; omega
end
section
/-- f 0 + .. + f (n - 1) -/
def jh_sum (f : Nat → Nat) : Nat → Nat
  | 0 => 0
  | n + 1 => jh_sum f n + f n
theorem jh_sum_cg {f g : Nat → Nat} : ∀ n, (∀ k, k < n → f k = g k) → jh_sum f n = jh_sum g n := by
  intro n
  induction n with
  | zero => intro _; rfl
  | succ n ih => intro h; show jh_sum f n + f n = jh_sum g n + g n; rw [ih (fun k hk => h k (by omega)), h n (by omega)]
theorem jh_sum_le {f g : Nat → Nat} : ∀ n, (∀ k, k < n → f k ≤ g k) → jh_sum f n ≤ jh_sum g n := by
  intro n
  induction n with
  | zero => intro _; exact Nat.le_refl 0
  | succ n ih =>
    intro h
    have h1 := ih (fun k hk => h k (by omega))
    have h2 := h n (by omega)
    show jh_sum f n + f n ≤ jh_sum g n + g n
    omega
theorem jh_sum_up {f g : Nat → Nat} {a : Nat} : ∀ n, a < n → (∀ k, k < n → k ≠ a → g k = f k) → jh_sum g n + f a = jh_sum f n + g a := by
  intro n
  induction n with
  | zero => intro h _; exact absurd h (Nat.not_lt_zero a)
  | succ n ih =>
    intro h hg
    show jh_sum g n + g n + f a = jh_sum f n + f n + g a
    by_cases e : a = n
    · rw [jh_sum_cg n (fun k hk => hg k (by omega) (by omega)), e]; omega
    · have := ih (by omega) (fun k hk hne => hg k (by omega) hne)
      have := hg n (by omega) (fun z => e z.symm)
      omega
theorem jh_sum_ge {f : Nat → Nat} {a : Nat} : ∀ n, a < n → f a ≤ jh_sum f n := by
  intro n
  induction n with
  | zero => intro h; exact absurd h (Nat.not_lt_zero a)
  | succ n ih =>
    intro h
    show f a ≤ jh_sum f n + f n
    by_cases e : a = n
    · rw [e]; omega
    · have := ih (by omega); omega
theorem jh_sum_ge2 {f : Nat → Nat} {a b : Nat} (hab : a ≠ b) (n : Nat) (ha : a < n) (hb : b < n) : f a + f b ≤ jh_sum f n := by
  have h1 := jh_sum_up (f := f) (g := fun k => if k = a then 0 else f k) (a := a) n ha (fun k _ hk => if_neg hk)
  have h2 := jh_sum_ge (f := fun k => if k = a then 0 else f k) (a := b) n hb
  have e1 : (if a = a then 0 else f a) = 0 := if_pos rfl
  have e2 : (if b = a then 0 else f b) = f b := if_neg (fun z => hab z.symm)
  rw [e1] at h1
  rw [e2] at h2
  omega
theorem jh_sum_0 {f : Nat → Nat} (n : Nat) (h : ∀ k, k < n → f k = 0) : jh_sum f n = 0 := by
  induction n with
  | zero => rfl
  | succ n ih => show jh_sum f n + f n = 0; rw [ih (fun k hk => h k (by omega)), h n (by omega)]
/-- at most one of the places counts -/
theorem jh_sum_one {f : Nat → Nat} {B : Nat} : ∀ n, (∀ k, k < n → f k ≤ B) → (∀ k j, k < n → j < n → f k ≠ 0 → f j ≠ 0 → k = j) → jh_sum f n ≤ B := by
  intro n
  induction n with
  | zero => intro _ _; exact Nat.zero_le B
  | succ n ih =>
    intro h1 h2
    show jh_sum f n + f n ≤ B
    by_cases e : f n = 0
    · rw [e]; exact ih (fun k hk => h1 k (by omega)) (fun k j hk hj => h2 k j (by omega) (by omega))
    · rw [jh_sum_0 n (fun k hk => by
        rcases Nat.eq_zero_or_pos (f k) with z | z
        · exact z
        · have := h2 k n (by omega) (by omega) (by omega) e; omega)]
      have := h1 n (by omega)
      omega
/-- a node that may be joined: it has weight, and none above it -/
def jh_al (fr to nx : Nat) (W P : Nat → Nat) (k : Nat) : Prop := (fr ≤ k ∧ (k < to ∨ 272 ≤ k) ∧ k < nx) ∧ 0 < W k ∧ P k = 0
theorem jh_al_dec (fr to nx : Nat) (W P : Nat → Nat) (k : Nat) : jh_al fr to nx W P k ∨ ¬ jh_al fr to nx W P k := Classical.em _
/-- f where a node is free, 0 elsewhere -/
noncomputable def jh_fr (fr to nx : Nat) (W P : Nat → Nat) (f : Nat → Nat) (k : Nat) : Nat := @ite Nat (jh_al fr to nx W P k) (Classical.propDecidable _) (f k) 0
theorem jh_fr_t {fr to nx : Nat} {W P f : Nat → Nat} {k : Nat} (h : jh_al fr to nx W P k) : jh_fr fr to nx W P f k = f k := if_pos h
theorem jh_fr_f {fr to nx : Nat} {W P f : Nat → Nat} {k : Nat} (h : ¬ jh_al fr to nx W P k) : jh_fr fr to nx W P f k = 0 := if_neg h
/-- a leaf's value -/
def jh_lf (fr to : Nat) (W0 f : Nat → Nat) (k : Nat) : Nat := if (fr ≤ k ∧ k < to) ∧ 0 < W0 k then f k else 0
/-- the forest while it grows: nx the next node, W weights, P the node above (0: none), T all weight, M the number of leaves -/
def jh_I (fr to : Nat) (W0 : Nat → Nat) (T M nx : Nat) (W P : Nat → Nat) : Prop :=
  (fr ≤ to ∧ to ≤ 272 ∧ 272 ≤ nx ∧ nx ≤ 544) ∧
  (∀ k, k < 272 → W k = W0 k) ∧
  (∀ k, nx ≤ k → W k = 0 ∧ P k = 0) ∧
  (∀ k, P k ≠ 0 → (fr ≤ k ∧ (k < to ∨ 272 ≤ k) ∧ k < nx) ∧ 0 < W k ∧ k < P k ∧ 272 ≤ P k ∧ P k < nx) ∧
  (∀ k, 272 ≤ k → k < nx → 0 < W k) ∧
  (∀ x y, P x ≠ 0 → jh_al fr to nx W P y → W x ≤ W y) ∧
  (∀ x, P x ≠ 0 → P (P x) ≠ 0 → 2 * W x ≤ W (P (P x))) ∧
  (∀ k, fr ≤ k → (k < to ∨ 272 ≤ k) → W k ≤ T) ∧
  (jh_sum (jh_fr fr to nx W P W) 544 = T) ∧
  (jh_sum (jh_fr fr to nx W P (fun _ => 1)) 544 + (nx - 272) = M) ∧
  (∀ val : Nat → Nat, (∀ k, P k ≠ 0 → 2 * val k = val (P k)) → jh_sum (jh_lf fr to W0 val) 544 = jh_sum (jh_fr fr to nx W P val) 544)
theorem jh_three {F G : Nat → Nat} {a b c n : Nat} (ha : a < n) (hb : b < n) (hc : c < n) (hab : a ≠ b) (hac : a ≠ c) (hbc : b ≠ c) (h : ∀ k, k < n → k ≠ a → k ≠ b → k ≠ c → G k = F k) (h1 : G a = 0) (h2 : G b = 0) (h3 : F c = 0) : jh_sum G n + (F a + F b) = jh_sum F n + G c := by
  have s1 := jh_sum_up (f := F) (g := fun k => if k = a then 0 else F k) (a := a) n ha (fun k _ hk => if_neg hk)
  have s2 := jh_sum_up (f := fun k => if k = a then 0 else F k) (g := fun k => if k = b then 0 else if k = a then 0 else F k) (a := b) n hb (fun k _ hk => if_neg hk)
  have s3 := jh_sum_up (f := fun k => if k = b then 0 else if k = a then 0 else F k) (g := G) (a := c) n hc (fun k hk hkc => by
    by_cases e1 : k = b
    · show G k = if k = b then 0 else if k = a then 0 else F k
      rw [if_pos e1, e1, h2]
    · by_cases e2 : k = a
      · show G k = if k = b then 0 else if k = a then 0 else F k
        rw [if_neg e1, if_pos e2, e2, h1]
      · show G k = if k = b then 0 else if k = a then 0 else F k
        rw [if_neg e1, if_neg e2]; exact h k hk e2 e1 hkc)
  have e1 : (if a = a then 0 else F a) = 0 := if_pos rfl
  have e2 : (if b = a then 0 else F b) = F b := if_neg (fun z => hab z.symm)
  have e3 : (if b = b then 0 else F b) = 0 := if_pos rfl
  have e4 : (if c = b then 0 else if c = a then 0 else F c) = 0 := by
    rw [if_neg (fun z => hbc z.symm), if_neg (fun z => hac z.symm), h3]
  rw [e1] at s1
  rw [e2, e3] at s2
  rw [e4] at s3
  omega
/-- a change at one place -/
def jh_up (f : Nat → Nat) (a x : Nat) : Nat → Nat := fun k => if k = a then x else f k
theorem jh_up_s (f : Nat → Nat) (a x : Nat) : jh_up f a x a = x := if_pos rfl
theorem jh_up_n {f : Nat → Nat} {a x k : Nat} (h : k ≠ a) : jh_up f a x k = f k := if_neg h
theorem jh_step {fr to T M nx : Nat} {W0 W P : Nat → Nat} {a b : Nat} (I : jh_I fr to W0 T M nx W P) (hM : M ≤ 257) (ha : jh_al fr to nx W P a) (hb : jh_al fr to nx W P b) (hab : a ≠ b)
    (ma : ∀ k, jh_al fr to nx W P k → W a ≤ W k) (mb : ∀ k, jh_al fr to nx W P k → k ≠ a → W b ≤ W k) :
    nx < 544 ∧ jh_I fr to W0 T M (nx + 1) (jh_up W nx (W a + W b)) (jh_up (jh_up P a nx) b nx) := by
  obtain ⟨⟨i1, i2, i3, i4⟩, iW0, iZ, iP, iN, iM, iG, iT, sW, s1, sV⟩ := I
  have ha' := ha; have hb' := hb
  obtain ⟨⟨ha1, ha2, ha3⟩, ha4, ha5⟩ := ha'
  obtain ⟨⟨hb1, hb2, hb3⟩, hb4, hb5⟩ := hb'
  have hnx : nx < 544 := by
    have := jh_sum_ge2 (f := jh_fr fr to nx W P (fun _ => 1)) hab 544 (by omega) (by omega)
    rw [jh_fr_t ha, jh_fr_t hb] at this
    omega
  have Wn : ∀ k, k ≠ nx → jh_up W nx (W a + W b) k = W k := fun k hk => jh_up_n hk
  have Wx : jh_up W nx (W a + W b) nx = W a + W b := jh_up_s _ _ _
  have Pn : ∀ k, k ≠ a → k ≠ b → jh_up (jh_up P a nx) b nx k = P k := fun k h1 h2 => by rw [jh_up_n h2, jh_up_n h1]
  have Pb : jh_up (jh_up P a nx) b nx b = nx := jh_up_s _ _ _
  have Pa : jh_up (jh_up P a nx) b nx a = nx := by rw [jh_up_n hab, jh_up_s]
  generalize jh_up W nx (W a + W b) = W' at Wn Wx ⊢
  generalize jh_up (jh_up P a nx) b nx = P' at Pn Pb Pa ⊢
  have Px : P' nx = 0 := by rw [Pn nx (by omega) (by omega)]; exact (iZ nx (Nat.le_refl _)).2
  have al1 : ∀ k, k ≠ a → k ≠ b → k ≠ nx → (jh_al fr to (nx + 1) W' P' k ↔ jh_al fr to nx W P k) := by
    intro k h1 h2 h3
    unfold jh_al
    rw [Wn k h3, Pn k h1 h2]
    constructor
    · rintro ⟨⟨z1, z2, z3⟩, z4⟩; exact ⟨⟨z1, z2, by omega⟩, z4⟩
    · rintro ⟨⟨z1, z2, z3⟩, z4⟩; exact ⟨⟨z1, z2, by omega⟩, z4⟩
  have al2 : ¬ jh_al fr to (nx + 1) W' P' a := fun z => by have := z.2.2; rw [Pa] at this; omega
  have al3 : ¬ jh_al fr to (nx + 1) W' P' b := fun z => by have := z.2.2; rw [Pb] at this; omega
  have al4 : jh_al fr to (nx + 1) W' P' nx := ⟨⟨by omega, Or.inr i3, by omega⟩, by rw [Wx]; omega, Px⟩
  have al5 : ¬ jh_al fr to nx W P nx := fun z => by have := z.1.2.2; omega
  have sums : ∀ f f' : Nat → Nat, (∀ k, k ≠ nx → f' k = f k) → jh_sum (jh_fr fr to (nx + 1) W' P' f') 544 + (f a + f b) = jh_sum (jh_fr fr to nx W P f) 544 + f' nx := by
    intro f f' hf
    have := jh_three (F := jh_fr fr to nx W P f) (G := jh_fr fr to (nx + 1) W' P' f') (a := a) (b := b) (c := nx) (n := 544) (by omega) (by omega) hnx hab (by omega) (by omega) (fun k _ h1 h2 h3 => by
      rcases jh_al_dec fr to nx W P k with z | z
      · rw [jh_fr_t z, jh_fr_t ((al1 k h1 h2 h3).mpr z), hf k h3]
      · rw [jh_fr_f z, jh_fr_f (fun y => z ((al1 k h1 h2 h3).mp y))]) (jh_fr_f al2) (jh_fr_f al3) (jh_fr_f al5)
    rw [jh_fr_t ha, jh_fr_t hb, jh_fr_t al4] at this
    exact this
  refine ⟨hnx, ⟨i1, i2, by omega, by omega⟩, ?_, ?_, ?_, ?_, ?_, ?_, ?_, ?_, ?_, ?_⟩
  · intro k hk; rw [Wn k (by omega)]; exact iW0 k hk
  · intro k hk; rw [Wn k (by omega), Pn k (by omega) (by omega)]; exact iZ k (by omega)
  · intro k hk
    by_cases e1 : k = a
    · rw [e1, Pa, Wn a (by omega)]; exact ⟨⟨ha1, ha2, by omega⟩, ha4, ha3, i3, by omega⟩
    · by_cases e2 : k = b
      · rw [e2, Pb, Wn b (by omega)]; exact ⟨⟨hb1, hb2, by omega⟩, hb4, hb3, i3, by omega⟩
      · rw [Pn k e1 e2] at hk ⊢
        obtain ⟨⟨z1, z2, z3⟩, z4, z5, z6, z7⟩ := iP k hk
        rw [Wn k (by omega)]
        exact ⟨⟨z1, z2, by omega⟩, z4, z5, z6, by omega⟩
  · intro k h1 h2
    by_cases e : k = nx
    · rw [e, Wx]; omega
    · rw [Wn k e]; exact iN k h1 (by omega)
  · intro x y hx hy
    have hyW : W b ≤ W' y ∧ W a ≤ W' y ∧ (y = nx ∨ jh_al fr to nx W P y) := by
      by_cases e : y = nx
      · rw [e, Wx]; exact ⟨by omega, by omega, Or.inl rfl⟩
      · have e1 : y ≠ a := fun z => al2 (z ▸ hy)
        have e2 : y ≠ b := fun z => al3 (z ▸ hy)
        have hy' := (al1 y e1 e2 e).mp hy
        rw [Wn y e]
        exact ⟨mb y hy' e1, ma y hy', Or.inr hy'⟩
    by_cases e1 : x = a
    · rw [e1, Wn a (by omega)]; exact hyW.2.1
    · by_cases e2 : x = b
      · rw [e2, Wn b (by omega)]; exact hyW.1
      · rw [Pn x e1 e2] at hx
        have hxn := (iP x hx).1.2.2
        rw [Wn x (by omega)]
        exact Nat.le_trans (iM x a hx ha) hyW.2.1
  · intro x hx hpx
    by_cases e1 : x = a
    · rw [e1, Pa] at hpx; exact absurd Px hpx
    · by_cases e2 : x = b
      · rw [e2, Pb] at hpx; exact absurd Px hpx
      · rw [Pn x e1 e2] at hx hpx ⊢
        have hxn := (iP x hx).1.2.2
        rw [Wn x (by omega)]
        have ea := iM x a hx ha
        have eb := iM x b hx hb
        by_cases e3 : P x = a
        · rw [e3, Pa, Wx]; omega
        · by_cases e4 : P x = b
          · rw [e4, Pb, Wx]; omega
          · rw [Pn (P x) e3 e4] at hpx ⊢
            have := (iP (P x) hpx).2.2.2.2
            rw [Wn _ (by omega)]
            exact iG x hx hpx
  · intro k h1 h2
    by_cases e : k = nx
    · rw [e, Wx]
      have := jh_sum_ge2 (f := jh_fr fr to nx W P W) hab 544 (by omega) (by omega)
      rw [jh_fr_t ha, jh_fr_t hb] at this
      omega
    · rw [Wn k e]; exact iT k h1 h2
  · have := sums W W' Wn
    rw [Wx] at this
    omega
  · have := sums (fun _ => 1) (fun _ => 1) (fun _ _ => rfl)
    omega
  · intro val hv
    have h1 := hv a (by rw [Pa]; omega)
    have h2 := hv b (by rw [Pb]; omega)
    rw [Pa] at h1
    rw [Pb] at h2
    have h3 := sV val (fun k hk => by
      by_cases e1 : k = a
      · exact absurd ha5 (e1 ▸ hk)
      · by_cases e2 : k = b
        · exact absurd hb5 (e2 ▸ hk)
        · have := hv k (by rw [Pn k e1 e2]; exact hk)
          rw [Pn k e1 e2] at this
          exact this)
    have h4 := sums val val (fun _ _ => rfl)
    omega
/-- the number of nodes above -/
def jh_dep (P : Nat → Nat) : Nat → Nat → Nat
  | 0, _ => 0
  | f + 1, k => if P k = 0 then 0 else jh_dep P f (P k) + 1
theorem jh_dep_st (P : Nat → Nat) : ∀ f k, jh_dep P f k < f → jh_dep P (f + 1) k = jh_dep P f k := by
  intro f
  induction f with
  | zero => intro k h; exact absurd h (Nat.not_lt_zero _)
  | succ f ih =>
    intro k h
    unfold jh_dep at h ⊢
    by_cases e : P k = 0
    · rw [if_pos e, if_pos e]
    · rw [if_neg e] at h
      rw [if_neg e, if_neg e, ih (P k) (by omega)]
theorem jh_dep_b {fr to T M nx : Nat} {W0 W P : Nat → Nat} (I : jh_I fr to W0 T M nx W P) : ∀ f k, fr ≤ k → (k < to ∨ 272 ≤ k) → 2 ^ (jh_dep P f k / 2) * W k ≤ T ∧ 2 ^ (jh_dep P (f + 1) k / 2) * W k ≤ T := by
  obtain ⟨⟨i1, i2, i3, i4⟩, iW0, iZ, iP, iN, iM, iG, iT, sW, s1, sV⟩ := I
  have key : ∀ f k, fr ≤ k → (k < to ∨ 272 ≤ k) → (∀ k, fr ≤ k → (k < to ∨ 272 ≤ k) → 2 ^ (jh_dep P f k / 2) * W k ≤ T) → 2 ^ (jh_dep P (f + 2) k / 2) * W k ≤ T := by
    intro f k h1 h2 ih
    by_cases e : P k = 0
    · have : jh_dep P (f + 2) k = 0 := by show (if P k = 0 then 0 else _) = 0; exact if_pos e
      rw [this]; have := iT k h1 h2; omega
    · by_cases e2 : P (P k) = 0
      · have : jh_dep P (f + 2) k = 1 := by
          show (if P k = 0 then 0 else jh_dep P (f + 1) (P k) + 1) = 1
          rw [if_neg e]; show (if P (P k) = 0 then 0 else _) + 1 = 1; rw [if_pos e2]
        rw [this]; have := iT k h1 h2; omega
      · have e3 : jh_dep P (f + 2) k = jh_dep P f (P (P k)) + 2 := by
          show (if P k = 0 then 0 else jh_dep P (f + 1) (P k) + 1) = _
          rw [if_neg e]; show (if P (P k) = 0 then 0 else jh_dep P f (P (P k)) + 1) + 1 = _; rw [if_neg e2]
        have hp := (iP (P k) e2).2.2
        have z := ih (P (P k)) (by omega) (Or.inr hp.2.1)
        rw [e3, show (jh_dep P f (P (P k)) + 2) / 2 = jh_dep P f (P (P k)) / 2 + 1 by omega, Nat.pow_succ, Nat.mul_assoc]
        exact Nat.le_trans (Nat.mul_le_mul_left _ (iG k e e2)) z
  intro f
  induction f with
  | zero =>
    intro k h1 h2
    have h3 := iT k h1 h2
    refine ⟨by show 2 ^ (0 / 2) * W k ≤ T; omega, ?_⟩
    have : jh_dep P 1 k / 2 = 0 := by
      show (if P k = 0 then 0 else 0 + 1) / 2 = 0
      split <;> rfl
    rw [show (0 + 1 : Nat) = 1 from rfl, this]; omega
  | succ f ih =>
    intro k h1 h2
    exact ⟨(ih k h1 h2).2, key f k h1 h2 (fun j g1 g2 => (ih j g1 g2).1)⟩
theorem jh_dep15 {fr to T M nx : Nat} {W0 W P : Nat → Nat} (I : jh_I fr to W0 T M nx W P) (hT : T < 256) (f k : Nat) (h1 : fr ≤ k) (h2 : k < to ∨ 272 ≤ k) (h3 : 0 < W k) : jh_dep P f k ≤ 15 := by
  have h := (jh_dep_b I f k h1 h2).1
  rcases Nat.lt_or_ge (jh_dep P f k / 2) 8 with z | z
  · omega
  · have h4 : 2 ^ 8 ≤ 2 ^ (jh_dep P f k / 2) := Nat.pow_le_pow_right (by decide) z
    have h5 : 2 ^ 8 * 1 ≤ 2 ^ (jh_dep P f k / 2) * W k := Nat.mul_le_mul h4 h3
    omega
theorem jh_dep_up {fr to T M nx : Nat} {W0 W P : Nat → Nat} (I : jh_I fr to W0 T M nx W P) (hT : T < 256) (k : Nat) (h : P k ≠ 0) : jh_dep P 32 k = jh_dep P 32 (P k) + 1 ∧ jh_dep P 32 k ≤ 15 := by
  have I' := I
  obtain ⟨⟨i1, i2, i3, i4⟩, iW0, iZ, iP, iN, iM, iG, iT, sW, s1, sV⟩ := I'
  have hp := iP k h
  have e : jh_dep P 32 k = jh_dep P 31 (P k) + 1 := by show (if P k = 0 then 0 else jh_dep P 31 (P k) + 1) = _; exact if_neg h
  have d1 := jh_dep15 I hT 31 (P k) (by omega) (Or.inr hp.2.2.2.1) (iN _ hp.2.2.2.1 hp.2.2.2.2)
  have d2 := jh_dep_st P 31 (P k) (by omega)
  exact ⟨by rw [e, d2], jh_dep15 I hT 32 k hp.1.1 hp.1.2.1 hp.2.1⟩
/-- the length of a symbol's code -/
def jh_L (W0 P : Nat → Nat) (k : Nat) : Nat := if W0 k = 0 then 0 else if jh_dep P 32 k = 0 then 1 else jh_dep P 32 k
theorem jh_L_in {fr to T M nx : Nat} {W0 W P : Nat → Nat} (I : jh_I fr to W0 T M nx W P) (hT : T < 256) (k : Nat) (h1 : fr ≤ k) (h2 : k < to) (h3 : 0 < W0 k) : 1 ≤ jh_L W0 P k ∧ jh_L W0 P k ≤ 15 := by
  have hto : to ≤ 272 := I.1.2.1
  have hW : W k = W0 k := I.2.1 k (by omega)
  have h4 := jh_dep15 I hT 32 k h1 (Or.inl h2) (by omega)
  unfold jh_L
  rw [if_neg (by omega)]
  by_cases e : jh_dep P 32 k = 0
  · rw [if_pos e]; omega
  · rw [if_neg e]; omega
theorem jh_kraft {fr to T M nx : Nat} {W0 W P : Nat → Nat} (I : jh_I fr to W0 T M nx W P) (hT : T < 256) (h1 : ∀ k j, jh_al fr to nx W P k → jh_al fr to nx W P j → k = j) : jh_sum (jh_lf fr to W0 (fun k => 2 ^ (16 - jh_L W0 P k))) 544 ≤ 2 ^ 16 := by
  have hv : ∀ k, P k ≠ 0 → 2 * 2 ^ (16 - jh_dep P 32 k) = 2 ^ (16 - jh_dep P 32 (P k)) := by
    intro k hk
    obtain ⟨e, hb⟩ := jh_dep_up I hT k hk
    rw [show 16 - jh_dep P 32 (P k) = (16 - jh_dep P 32 k) + 1 by omega, Nat.pow_succ, Nat.mul_comm]
  have sV := I.2.2.2.2.2.2.2.2.2.2 (fun k => 2 ^ (16 - jh_dep P 32 k)) hv
  have h2 : jh_sum (jh_lf fr to W0 (fun k => 2 ^ (16 - jh_L W0 P k))) 544 ≤ jh_sum (jh_lf fr to W0 (fun k => 2 ^ (16 - jh_dep P 32 k))) 544 := by
    apply jh_sum_le
    intro k _
    unfold jh_lf
    by_cases e : (fr ≤ k ∧ k < to) ∧ 0 < W0 k
    · rw [if_pos e, if_pos e]
      apply Nat.pow_le_pow_right (by decide)
      have : jh_dep P 32 k ≤ jh_L W0 P k := by
        unfold jh_L
        rw [if_neg (by omega)]
        by_cases z : jh_dep P 32 k = 0
        · rw [if_pos z]; omega
        · rw [if_neg z]; exact Nat.le_refl _
      omega
    · rw [if_neg e, if_neg e]; exact Nat.le_refl _
  refine Nat.le_trans h2 (sV ▸ jh_sum_one 544 (fun k _ => ?_) (fun k j _ _ hk hj => ?_))
  · rcases jh_al_dec fr to nx W P k with z | z
    · rw [jh_fr_t z]; exact Nat.pow_le_pow_right (by decide) (by omega)
    · rw [jh_fr_f z]; exact Nat.zero_le _
  · rcases jh_al_dec fr to nx W P k with z | z
    · rcases jh_al_dec fr to nx W P j with y | y
      · exact h1 k j z y
      · rw [jh_fr_f y] at hj; exact absurd rfl hj
    · rw [jh_fr_f z] at hk; exact absurd rfl hk
/-- the forest at the start -/
theorem jh_start {fr to : Nat} {W0 W : Nat → Nat} (h1 : fr ≤ to) (h2 : to ≤ 272) (hW : ∀ k, k < 272 → W k = W0 k) (hZ : ∀ k, 272 ≤ k → W k = 0) : ∃ T M, T = jh_sum (fun k => if fr ≤ k ∧ k < to then W0 k else 0) 272 ∧ M ≤ to - fr ∧ jh_I fr to W0 T M 272 W (fun _ => 0) := by
  have al : ∀ k, jh_al fr to 272 W (fun _ => 0) k ↔ (fr ≤ k ∧ k < to) ∧ 0 < W0 k := by
    intro k
    unfold jh_al
    constructor
    · rintro ⟨⟨z1, z2, z3⟩, z4, _⟩
      rw [hW k z3] at z4
      exact ⟨⟨z1, by omega⟩, z4⟩
    · rintro ⟨⟨z1, z2⟩, z4⟩
      rw [hW k (by omega)]
      exact ⟨⟨z1, Or.inl z2, by omega⟩, z4, rfl⟩
  have fl : ∀ val k, jh_lf fr to W0 val k = jh_fr fr to 272 W (fun _ => 0) val k := by
    intro val k
    unfold jh_lf
    by_cases e : (fr ≤ k ∧ k < to) ∧ 0 < W0 k
    · rw [if_pos e, jh_fr_t ((al k).mpr e)]
    · rw [if_neg e, jh_fr_f (fun z => e ((al k).mp z))]
  have ext : ∀ f : Nat → Nat, (∀ k, 272 ≤ k → f k = 0) → ∀ d, jh_sum f (272 + d) = jh_sum f 272 := by
    intro f hf d
    induction d with
    | zero => rfl
    | succ d ih => show jh_sum f (272 + d) + f (272 + d) = _; rw [ih, hf _ (by omega)]; rfl
  have hS : jh_sum (jh_fr fr to 272 W (fun _ => 0) W) 544 = jh_sum (fun k => if fr ≤ k ∧ k < to then W0 k else 0) 272 := by
    rw [ext _ (fun k hk => jh_fr_f (fun z => by have := z.1.2.2; omega)) 272]
    apply jh_sum_cg
    intro k hk
    show _ = if fr ≤ k ∧ k < to then W0 k else 0
    rw [← fl]
    unfold jh_lf
    by_cases e : fr ≤ k ∧ k < to
    · rw [if_pos e]
      by_cases e2 : 0 < W0 k
      · rw [if_pos ⟨e, e2⟩, hW k hk]
      · rw [if_neg (fun z => e2 z.2)]; omega
    · rw [if_neg e, if_neg (fun z => e z.1)]
  have hM : ∀ n, jh_sum (jh_fr fr to 272 W (fun _ => 0) (fun _ => 1)) n ≤ (if n ≤ fr then 0 else if n ≤ to then n - fr else to - fr) := by
    intro n
    induction n with
    | zero => exact Nat.zero_le _
    | succ n ih =>
      show jh_sum (jh_fr fr to 272 W (fun _ => 0) (fun _ => 1)) n + jh_fr fr to 272 W (fun _ => 0) (fun _ => 1) n ≤ _
      rcases jh_al_dec fr to 272 W (fun _ => 0) n with z | z
      · rw [jh_fr_t z]
        have := (al n).mp z
        rw [if_neg (by omega), if_pos (by omega)]
        by_cases e : n ≤ fr
        · rw [if_pos e] at ih; omega
        · rw [if_neg e, if_pos (by omega)] at ih; omega
      · rw [jh_fr_f z]
        by_cases e : n + 1 ≤ fr
        · rw [if_pos e]; rw [if_pos (by omega)] at ih; omega
        · rw [if_neg e]
          by_cases e2 : n ≤ fr
          · rw [if_pos e2] at ih; omega
          · rw [if_neg e2] at ih
            by_cases e3 : n + 1 ≤ to
            · rw [if_pos e3]; rw [if_pos (by omega)] at ih; omega
            · rw [if_neg e3]
              by_cases e4 : n ≤ to
              · rw [if_pos e4] at ih; omega
              · rw [if_neg e4] at ih; omega
  refine ⟨_, _, rfl, ?_, ⟨h1, h2, Nat.le_refl _, by omega⟩, hW, fun k hk => ⟨hZ k hk, rfl⟩, fun k hk => absurd rfl hk, fun k h3 h4 => absurd h3 (by omega), fun x y hx => absurd rfl hx, fun x hx => absurd rfl hx, ?_, hS, rfl, ?_⟩
  · have := hM 544
    rw [if_neg (by omega), if_neg (by omega)] at this
    omega
  · intro k h3 h4
    rcases h4 with h4 | h4
    · rw [hW k (by omega)]
      have := jh_sum_ge (f := fun k => if fr ≤ k ∧ k < to then W0 k else 0) (a := k) 272 (by omega)
      have e : (if fr ≤ k ∧ k < to then W0 k else 0) = W0 k := if_pos ⟨h3, h4⟩
      rw [e] at this
      exact this
    · rw [hZ k h4]; exact Nat.zero_le _
  · intro val _
    exact jh_sum_cg 544 (fun k _ => fl val k)
end
section
/-- how many symbols from fr to below k have length n -/
def jc_cnt (L : Nat → Nat) (fr n k : Nat) : Nat := jh_sum (fun j => if fr ≤ j ∧ L j = n then 1 else 0) k
theorem jc_cnt_0 (L : Nat → Nat) (fr n : Nat) : jc_cnt L fr n fr = 0 := jh_sum_0 fr (fun k hk => if_neg (by omega))
theorem jc_cnt_t {L : Nat → Nat} {fr n k : Nat} (h : fr ≤ k) (e : L k = n) : jc_cnt L fr n (k + 1) = jc_cnt L fr n k + 1 := by
  show jh_sum _ k + (if fr ≤ k ∧ L k = n then 1 else 0) = _
  rw [if_pos ⟨h, e⟩]; rfl
theorem jc_cnt_f {L : Nat → Nat} {fr n k : Nat} (e : L k ≠ n) : jc_cnt L fr n (k + 1) = jc_cnt L fr n k := by
  show jh_sum _ k + (if fr ≤ k ∧ L k = n then 1 else 0) = _
  rw [if_neg (fun z => e z.2)]; rfl
theorem jc_cnt_mono (L : Nat → Nat) (fr n k : Nat) : ∀ d, jc_cnt L fr n k ≤ jc_cnt L fr n (k + d) := by
  intro d
  induction d with
  | zero => exact Nat.le_refl _
  | succ d ih => show _ ≤ jh_sum _ (k + d) + _; exact Nat.le_trans ih (Nat.le_add_right _ _)
theorem jc_cnt_lt {L : Nat → Nat} {fr n k to : Nat} (h : fr ≤ k) (e : L k = n) (ht : k < to) : jc_cnt L fr n k < jc_cnt L fr n to := by
  have h1 := jc_cnt_t h e
  have h2 := jc_cnt_mono L fr n (k + 1) (to - (k + 1))
  rw [show k + 1 + (to - (k + 1)) = to by omega] at h2
  omega
theorem jc_cnt_le (L : Nat → Nat) (fr n : Nat) : ∀ k, jc_cnt L fr n k ≤ k := by
  intro k
  induction k with
  | zero => exact Nat.le_refl 0
  | succ k ih =>
    show jc_cnt L fr n k + (if fr ≤ k ∧ L k = n then 1 else 0) ≤ k + 1
    split <;> omega
/-- how many have length n: of length 0 none counts -/
def jc_sa (L : Nat → Nat) (fr to n : Nat) : Nat := if n = 0 then 0 else jc_cnt L fr n to
/-- the first code and the first place of a length -/
def jc_fc (L : Nat → Nat) (fr to : Nat) : Nat → Nat
  | 0 => 0
  | n + 1 => (jc_fc L fr to n + jc_sa L fr to n) * 2
def jc_fp (L : Nat → Nat) (fr to : Nat) : Nat → Nat
  | 0 => fr
  | n + 1 => jc_fp L fr to n + jc_sa L fr to n
/-- a sum over the symbols of lengths 1 to n -/
def jc_S (L : Nat → Nat) (fr : Nat) (f : Nat → Nat) (n k : Nat) : Nat := jh_sum (fun j => if fr ≤ j ∧ 1 ≤ L j ∧ L j ≤ n then f (L j) else 0) k
theorem jc_S_s (L : Nat → Nat) (fr : Nat) (f : Nat → Nat) (n : Nat) : ∀ k, jc_S L fr f (n + 1) k = jc_S L fr f n k + jc_cnt L fr (n + 1) k * f (n + 1) := by
  intro k
  induction k with
  | zero => show 0 = 0 + 0 * _; omega
  | succ k ih =>
    show jc_S L fr f (n + 1) k + (if fr ≤ k ∧ 1 ≤ L k ∧ L k ≤ n + 1 then f (L k) else 0) = jc_S L fr f n k + (if fr ≤ k ∧ 1 ≤ L k ∧ L k ≤ n then f (L k) else 0) + (jc_cnt L fr (n + 1) k + (if fr ≤ k ∧ L k = n + 1 then 1 else 0)) * f (n + 1)
    rw [ih, Nat.add_mul]
    by_cases e : L k = n + 1
    · by_cases h : fr ≤ k
      · rw [if_pos ⟨h, by omega, by omega⟩, if_neg (by omega), if_pos ⟨h, e⟩, e]; omega
      · rw [if_neg (fun z => h z.1), if_neg (fun z => h z.1), if_neg (fun z => h z.1)]; omega
    · have e0 : (if fr ≤ k ∧ L k = n + 1 then 1 else 0) = 0 := if_neg (fun z => e z.2)
      rw [e0]
      by_cases h : fr ≤ k ∧ 1 ≤ L k ∧ L k ≤ n
      · have e1 : (if fr ≤ k ∧ 1 ≤ L k ∧ L k ≤ n + 1 then f (L k) else 0) = f (L k) := if_pos ⟨h.1, h.2.1, by omega⟩
        rw [e1, if_pos h]; omega
      · have e1 : (if fr ≤ k ∧ 1 ≤ L k ∧ L k ≤ n + 1 then f (L k) else 0) = 0 := if_neg (by omega)
        rw [e1, if_neg h]; omega
theorem jc_S_0 (L : Nat → Nat) (fr : Nat) (f : Nat → Nat) (k : Nat) : jc_S L fr f 0 k = 0 := jh_sum_0 k (fun j _ => if_neg (by omega))
theorem jc_fc_S (L : Nat → Nat) (fr to : Nat) : ∀ n, n ≤ 15 → jc_fc L fr to (n + 1) * 2 ^ (15 - n) = jc_S L fr (fun l => 2 ^ (16 - l)) n to := by
  intro n
  induction n with
  | zero => intro _; rw [jc_S_0]; show (0 + (if 0 = 0 then 0 else _)) * 2 * 2 ^ 15 = 0; rw [if_pos rfl]
  | succ n ih =>
    intro h
    have h1 := ih (by omega)
    rw [jc_S_s, ← h1]
    show (jc_fc L fr to (n + 1) + (if n + 1 = 0 then 0 else jc_cnt L fr (n + 1) to)) * 2 * 2 ^ (15 - (n + 1)) = _
    rw [if_neg (by omega), Nat.mul_assoc, Nat.mul_comm 2, ← Nat.pow_succ, show (15 - (n + 1)).succ = 15 - n by omega, Nat.add_mul]
    show _ = _ + jc_cnt L fr (n + 1) to * 2 ^ (16 - (n + 1))
    rw [show 16 - (n + 1) = 15 - n by omega]
theorem jc_fp_S (L : Nat → Nat) (fr to : Nat) : ∀ n, jc_fp L fr to (n + 1) = fr + jc_S L fr (fun _ => 1) n to := by
  intro n
  induction n with
  | zero => rw [jc_S_0]; show fr + (if 0 = 0 then 0 else _) = fr + 0; rw [if_pos rfl]
  | succ n ih =>
    rw [jc_S_s]
    show jc_fp L fr to (n + 1) + (if n + 1 = 0 then 0 else jc_cnt L fr (n + 1) to) = _
    rw [if_neg (by omega), ih]; show _ = fr + (_ + _ * 1); omega
theorem jc_S_cnt (L : Nat → Nat) (fr n : Nat) : ∀ k, jc_S L fr (fun _ => 1) n k ≤ k - fr := by
  intro k
  induction k with
  | zero => exact Nat.zero_le _
  | succ k ih =>
    show jc_S L fr (fun _ => 1) n k + (if fr ≤ k ∧ 1 ≤ L k ∧ L k ≤ n then 1 else 0) ≤ k + 1 - fr
    split <;> omega
theorem jc_fp_le (L : Nat → Nat) {fr to : Nat} (h : fr ≤ to) (n : Nat) : jc_fp L fr to (n + 1) ≤ to := by
  rw [jc_fp_S]; have := jc_S_cnt L fr n to; omega
/-- Kraft's sum is at most 2^16 -/
def jc_K (L : Nat → Nat) (fr to : Nat) : Prop := jh_sum (fun j => if fr ≤ j ∧ 1 ≤ L j then 2 ^ (16 - L j) else 0) to ≤ 2 ^ 16
theorem jc_fc_lt {L : Nat → Nat} {fr to : Nat} (K : jc_K L fr to) (n : Nat) (h1 : 1 ≤ n) (h2 : n ≤ 16) : jc_fc L fr to n + jc_sa L fr to n ≤ 2 ^ n := by
  obtain ⟨m, rfl⟩ : ∃ m, n = m + 1 := ⟨n - 1, by omega⟩
  have e := jc_fc_S L fr to m (by omega)
  have e2 := jc_S_s L fr (fun l => 2 ^ (16 - l)) m to
  have le : jc_S L fr (fun l => 2 ^ (16 - l)) (m + 1) to ≤ 2 ^ 16 := by
    refine Nat.le_trans (jh_sum_le to (fun k _ => ?_)) K
    by_cases z : fr ≤ k ∧ 1 ≤ L k ∧ L k ≤ m + 1
    · rw [if_pos z, if_pos ⟨z.1, z.2.1⟩]; exact Nat.le_refl _
    · rw [if_neg z]; exact Nat.zero_le _
  have e3 : (jc_fc L fr to (m + 1) + jc_cnt L fr (m + 1) to) * 2 ^ (15 - m) ≤ 2 ^ (m + 1) * 2 ^ (15 - m) := by
    rw [← Nat.pow_add, show m + 1 + (15 - m) = 16 by omega, Nat.add_mul, e]
    have e2' : jc_S L fr (fun l => 2 ^ (16 - l)) (m + 1) to = jc_S L fr (fun l => 2 ^ (16 - l)) m to + jc_cnt L fr (m + 1) to * 2 ^ (16 - (m + 1)) := e2
    rw [show 16 - (m + 1) = 15 - m by omega] at e2'
    omega
  have e4 := Nat.le_of_mul_le_mul_right e3 (Nat.two_pow_pos _)
  show _ + (if m + 1 = 0 then 0 else _) ≤ _
  rw [if_neg (by omega)]; exact e4
theorem jc_fc_mono (L : Nat → Nat) (fr to n : Nat) : ∀ d, (jc_fc L fr to n + jc_sa L fr to n) * 2 ^ (d + 1) ≤ jc_fc L fr to (n + (d + 1)) := by
  intro d
  induction d with
  | zero => show _ ≤ (jc_fc L fr to n + jc_sa L fr to n) * 2; exact Nat.le_refl _
  | succ d ih =>
    show _ ≤ (jc_fc L fr to (n + (d + 1)) + jc_sa L fr to (n + (d + 1))) * 2
    rw [Nat.pow_succ, ← Nat.mul_assoc]
    exact Nat.mul_le_mul_right 2 (Nat.le_trans ih (Nat.le_add_right _ _))
/-- the code of a symbol -/
def jc_code (L : Nat → Nat) (fr to k : Nat) : Nat := jc_fc L fr to (L k) + jc_cnt L fr (L k) k
/-- the tables stand for the code of the symbols from fr to to -/
def jc_tab (L : Nat → Nat) (fr to t : Nat) (a8 a9 a10 a11 a12 : Nat → Int32) : Prop :=
  (∀ n, 1 ≤ n → n ≤ 16 → a10 (t * 17 + n) = nI (jc_fc L fr to n) ∧ a11 (t * 17 + n) = nI (jc_fp L fr to n) ∧ a12 (t * 17 + n) = nI (jc_sa L fr to n)) ∧
  (∀ k, fr ≤ k → k < to → 1 ≤ L k → L k ≤ 16 → a8 k = nI (jc_code L fr to k) ∧ a9 (jc_fp L fr to (L k) + jc_cnt L fr (L k) k) = nI k)
/-- the word w is read as symbol c out of table t -/
def jt_dec (a9 a10 a11 a12 : Nat → Int32) (t c : Nat) (w : List Nat) : Prop :=
  ∃ (fc sa : Nat → Nat) (fp : Nat), 1 ≤ w.length ∧ w.length ≤ 16 ∧ (∀ x, x ∈ w → x < 2) ∧
    (∀ n, 1 ≤ n → n ≤ w.length → a10 (t * 17 + n) = nI (fc n) ∧ a12 (t * 17 + n) = nI (sa n) ∧ fc n ≤ 65536 ∧ sa n ≤ 65536) ∧
    (∀ n, 1 ≤ n → n < w.length → fc n + sa n ≤ jb_val 0 (w.take n)) ∧
    fc w.length ≤ jb_val 0 w ∧ jb_val 0 w < fc w.length + sa w.length ∧
    a11 (t * 17 + w.length) = nI fp ∧ fp + (jb_val 0 w - fc w.length) < 272 ∧ a9 (fp + (jb_val 0 w - fc w.length)) = nI c
theorem jc_place {L : Nat → Nat} {fr to k : Nat} (hk : fr ≤ k) (hk2 : k < to) (h1 : 1 ≤ L k) : jc_fp L fr to (L k) + jc_cnt L fr (L k) k < to := by
  obtain ⟨m, hm⟩ : ∃ m, L k = m + 1 := ⟨L k - 1, by omega⟩
  have h2 := jc_fp_le L (show fr ≤ to by omega) (m + 1)
  have h3 : jc_fp L fr to (m + 1 + 1) = jc_fp L fr to (m + 1) + jc_cnt L fr (m + 1) to := by
    show _ + (if m + 1 = 0 then 0 else _) = _
    rw [if_neg (by omega)]
  have h4 := jc_cnt_lt hk hm hk2
  rw [hm]; omega
theorem jc_code_lt {L : Nat → Nat} {fr to k : Nat} (K : jc_K L fr to) (hk : fr ≤ k) (hk2 : k < to) (h1 : 1 ≤ L k) (h2 : L k ≤ 16) : jc_code L fr to k < jc_fc L fr to (L k) + jc_sa L fr to (L k) ∧ jc_code L fr to k < 2 ^ L k := by
  have h3 := jc_fc_lt K (L k) h1 h2
  have h4 := jc_cnt_lt (L := L) (n := L k) hk rfl hk2
  have h5 : jc_sa L fr to (L k) = jc_cnt L fr (L k) to := if_neg (by omega)
  unfold jc_code
  omega
theorem jc_dec {L : Nat → Nat} {fr to t : Nat} {a8 a9 a10 a11 a12 : Nat → Int32} (K : jc_K L fr to) (hto : to ≤ 272) (H : jc_tab L fr to t a8 a9 a10 a11 a12) {k : Nat} (hk : fr ≤ k) (hk2 : k < to) (h1 : 1 ≤ L k) (h2 : L k ≤ 16) :
    jt_dec a9 a10 a11 a12 t k (jb_bits (jc_code L fr to k) (L k)) := by
  obtain ⟨H1, H2⟩ := H
  obtain ⟨c1, c2⟩ := jc_code_lt K hk hk2 h1 h2
  have hl := jb_bits_len (jc_code L fr to k) (L k)
  have hv : jb_val 0 (jb_bits (jc_code L fr to k) (L k)) = jc_code L fr to k := by rw [jb_val_bits, Nat.mod_eq_of_lt c2]; omega
  have hp := jc_place (L := L) hk hk2 h1
  have hcc : jc_code L fr to k - jc_fc L fr to (L k) = jc_cnt L fr (L k) k := by unfold jc_code; omega
  refine ⟨jc_fc L fr to, jc_sa L fr to, jc_fp L fr to (L k), by omega, by omega, jb_bits_bit _ _, ?_, ?_, ?_, ?_, ?_, ?_, ?_⟩
  · intro n n1 n2
    have h3 := jc_fc_lt K n n1 (by omega)
    have h4 : 2 ^ n ≤ 2 ^ 16 := Nat.pow_le_pow_right (by decide) (by omega)
    exact ⟨(H1 n n1 (by omega)).1, (H1 n n1 (by omega)).2.2, by omega, by omega⟩
  · intro n n1 n2
    rw [hl] at n2
    rw [jb_bits_take _ _ _ (by omega), jb_val_bits, Nat.zero_mul, Nat.zero_add]
    have h3 := jc_fc_mono L fr to n (L k - n - 1)
    rw [show n + (L k - n - 1 + 1) = L k by omega, show L k - n - 1 + 1 = L k - n by omega] at h3
    have h4 : (jc_fc L fr to n + jc_sa L fr to n) * 2 ^ (L k - n) ≤ jc_code L fr to k := by unfold jc_code; omega
    have h5 := (Nat.le_div_iff_mul_le (Nat.two_pow_pos (L k - n))).mpr h4
    rw [Nat.mod_eq_of_lt]
    · exact h5
    · apply (Nat.div_lt_iff_lt_mul (Nat.two_pow_pos (L k - n))).mpr
      rw [← Nat.pow_add, show n + (L k - n) = L k by omega]; exact c2
  · rw [hl, hv]; unfold jc_code; omega
  · rw [hl, hv]; exact c1
  · rw [hl]; exact (H1 _ h1 h2).2.1
  · rw [hl, hv, hcc]; omega
  · rw [hl, hv, hcc]; exact (H2 k hk hk2 h1 h2).2
end
section
theorem jn_ma (a b c : Nat) : nI a * nI b + nI c = nI (a * b + c) := by rw [pk_mul, nI_add]
theorem jn_am (a b c : Nat) : nI a + nI b * nI c = nI (a + b * c) := by rw [pk_mul, nI_add]
theorem jn_le {x y : Int32} {a b : Nat} (h : a ≤ b) (hx : x = nI a) (hy : y = nI b) (hb : b < 2 ^ 31) : x ≤ y := by rw [hx, hy]; exact nI_le h hb
/-- the digits that are left to read until place E -/
def jr_R (a5 : Nat → Int32) (E ra : Nat) (bb : Int32) (bc : Nat) (bs : List Nat) : Prop :=
  ∃ (Bs : List Nat) (x : Nat), jb_by Bs ∧ jb_at a5 ra (jb_st Bs) ∧ ra + (jb_st Bs).length = E ∧ x < 256 ∧ bc ≤ 8 ∧ (bc = 0 ∨ bb = nI x) ∧ bs = jb_bits x bc ++ jb_un Bs
section
variable {nq ni q iv cn pr dc : Int32} {a1 a2 a3 a4 a5 a6 a7 a8 a9 a10 a11 a12 a13 a14 a15 a16 : Nat → Int32} {a17 : Nat → Int64} {E L : Nat}
theorem jr_71 {post : Int32 → St1 → Prop} {x bc : Nat} {len ra : Int32} (h1 : x < 256) (h2 : bc < 8) (H : post (nI (x / 2 ^ bc % 2)) (nq, ni, q, iv, len, cn, pr, nI x, nI bc, ra, dc, a1, a2, a3, a4, a5, a6, a7, a8, a9, a10, a11, a12, a13, a14, a15, a16, a17)) : wX_getBit_71 post nq ni q iv len cn pr (nI x) (nI (bc + 1)) ra dc a1 a2 a3 a4 a5 a6 a7 a8 a9 a10 a11 a12 a13 a14 a15 a16 a17 := by
  refine nm_r (nI_pred bc) ?_
  rw [jn_bit (by omega) (by omega)]
  exact H
theorem jr_getBit {post : Int32 → St1 → Prop} {ra bc : Nat} {bb : Int32} {x : Nat} {bs : List Nat} (hE : E ≤ L) (hL : L ≤ 1900) (R : jr_R a5 E ra bb bc (x :: bs))
    (H : ∀ ra' bb' bc', jr_R a5 E ra' bb' bc' bs → post (nI x) (nq, ni, q, iv, nI L, cn, pr, bb', nI bc', nI ra', dc, a1, a2, a3, a4, a5, a6, a7, a8, a9, a10, a11, a12, a13, a14, a15, a16, a17)) : wpX_getBit post (nq, ni, q, iv, nI L, cn, pr, bb, nI bc, nI ra, dc, a1, a2, a3, a4, a5, a6, a7, a8, a9, a10, a11, a12, a13, a14, a15, a16, a17) := by
  obtain ⟨Bs, y, h1, h2, h3, h4, h5, h6, h7⟩ := R
  cases bc with
  | zero =>
    cases Bs with
    | nil => exact absurd h7 (List.cons_ne_nil _ _)
    | cons B Bs =>
      have hB : B < 256 := h1 B List.mem_cons_self
      have hby : jb_by Bs := fun z hz => h1 z (List.mem_cons_of_mem _ hz)
      have e7 : x :: bs = (B / 2 ^ 7 % 2) :: (jb_bits B 7 ++ jb_un Bs) := h7
      injection e7 with e8 e9
      by_cases e : B = 255
      · have es : jb_st (B :: Bs) = 255 :: 0 :: jb_st Bs := if_pos e
        rw [es] at h2 h3
        have hl : (255 :: 0 :: jb_st Bs : List Nat).length = (jb_st Bs).length + 2 := rfl
        rw [hl] at h3
        refine br_t rfl (br_f (nI_ge (by omega) (by omega)) ⟨pk_in ra 1900 (by omega), ?_⟩)
        rw [nI_clamp (by omega), h2.1]
        refine nm_r (nI_1 ra) (br_t rfl (nm_r (nI_1 (ra + 1)) ?_))
        refine jr_71 (x := 255) (bc := 7) (by decide) (by decide) ?_
        rw [e8, e] at H
        refine H (ra + 1 + 1) _ 7 ⟨Bs, 255, hby, h2.2.2, by omega, by decide, by decide, Or.inr rfl, ?_⟩
        rw [e9, e]
      · have es : jb_st (B :: Bs) = B :: jb_st Bs := if_neg e
        rw [es] at h2 h3
        have hl : (B :: jb_st Bs : List Nat).length = (jb_st Bs).length + 1 := rfl
        rw [hl] at h3
        refine br_t rfl (br_f (nI_ge (by omega) (by omega)) ⟨pk_in ra 1900 (by omega), ?_⟩)
        rw [nI_clamp (by omega), h2.1]
        refine nm_r (nI_1 ra) (br_f (fun z => e ((nI_eq (by omega) (by decide)).mp z)) ?_)
        refine jr_71 (x := B) (bc := 7) hB (by decide) ?_
        rw [e8] at H
        refine H (ra + 1) _ 7 ⟨Bs, B, hby, h2.2, by omega, hB, by decide, Or.inr rfl, e9⟩
  | succ n =>
    have e6 : bb = nI y := by
      rcases h6 with z | z
      · omega
      · exact z
    have e7 : x :: bs = (y / 2 ^ n % 2) :: (jb_bits y n ++ jb_un Bs) := h7
    injection e7 with e8 e9
    rw [e6]
    refine br_f (nI_ne0 (by omega) (by omega)) (jr_71 h4 (by omega) ?_)
    rw [e8] at H
    exact H ra _ n ⟨Bs, y, h1, h2, h3, h4, by omega, Or.inr rfl, e9⟩
theorem jr_bits {post : Int32 → St1 → Prop} (hE : E ≤ L) (hL : L ≤ 1900) {N : Nat} (hN : N ≤ 16) : ∀ (w : List Nat) (i c ra : Nat) (bb : Int32) (bc : Nat) (bs : List Nat), i + w.length = N → jr_R a5 E ra bb bc (w ++ bs) →
    (∀ ra' bb' bc', jr_R a5 E ra' bb' bc' bs → post (nI (jb_val c w)) (nq, ni, q, iv, nI L, cn, pr, bb', nI bc', nI ra', dc, a1, a2, a3, a4, a5, a6, a7, a8, a9, a10, a11, a12, a13, a14, a15, a16, a17)) → wX_getBits_4 post (nI N) (w.length + 1) (nI c) (nI i) nq ni q iv (nI L) cn pr bb (nI bc) (nI ra) dc a1 a2 a3 a4 a5 a6 a7 a8 a9 a10 a11 a12 a13 a14 a15 a16 a17 := by
  intro w
  induction w with
  | nil =>
    intro i c ra bb bc bs h R H
    have h' : i = N := h
    exact br_t (nI_le (by omega) (by omega)) (H ra bb bc R)
  | cons x w ih =>
    intro i c ra bb bc bs h R H
    have h' : i + (w.length + 1) = N := h
    refine br_f (nI_ge (by omega) (by omega)) (jr_getBit hE hL R (fun ra' bb' bc' R' => ?_))
    refine nm_r (jn_ma c 2 x) (nm_r (nI_1 i) ?_)
    exact ih (i + 1) (c * 2 + x) ra' bb' bc' bs (by omega) R' H
theorem jr_getBits {post : Int32 → St1 → Prop} (hE : E ≤ L) (hL : L ≤ 1900) {ra bc v n : Nat} {bb : Int32} {bs : List Nat} (hn : n ≤ 16) (hv : v < 2 ^ n) (R : jr_R a5 E ra bb bc (jb_bits v n ++ bs))
    (H : ∀ ra' bb' bc', jr_R a5 E ra' bb' bc' bs → post (nI v) (nq, ni, q, iv, nI L, cn, pr, bb', nI bc', nI ra', dc, a1, a2, a3, a4, a5, a6, a7, a8, a9, a10, a11, a12, a13, a14, a15, a16, a17)) : wpX_getBits post (nq, ni, q, iv, nI L, cn, pr, bb, nI bc, nI ra, dc, a1, a2, a3, a4, a5, a6, a7, a8, a9, a10, a11, a12, a13, a14, a15, a16, a17) (nI n) := by
  refine ⟨(jb_bits v n).length + 1, jr_bits hE hL hn (jb_bits v n) 0 0 ra bb bc bs (by rw [jb_bits_len]; omega) R ?_⟩
  rw [jb_val_bits, Nat.mod_eq_of_lt hv, Nat.zero_mul, Nat.zero_add]
  exact H
theorem jr_getValue {post : Int32 → St1 → Prop} (hE : E ≤ L) (hL : L ≤ 1900) {ra bc n : Nat} {v bb : Int32} {bs : List Nat} (hn : n ≤ 15) (hv : jz_sz v = n) (R : jr_R a5 E ra bb bc (jb_bits (jz_V v n) n ++ bs))
    (H : ∀ ra' bb' bc', jr_R a5 E ra' bb' bc' bs → post v (nq, ni, q, iv, nI L, cn, pr, bb', nI bc', nI ra', dc, a1, a2, a3, a4, a5, a6, a7, a8, a9, a10, a11, a12, a13, a14, a15, a16, a17)) : wpX_getValue post (nq, ni, q, iv, nI L, cn, pr, bb, nI bc, nI ra, dc, a1, a2, a3, a4, a5, a6, a7, a8, a9, a10, a11, a12, a13, a14, a15, a16, a17) (nI n) := by
  rcases Nat.eq_zero_or_pos n with z | z
  · subst z
    have e := jz_sz0 hv
    subst e
    exact br_t rfl (H ra bb bc R)
  · have hV : jz_V v n < 2 ^ n := jz_V_lt ((jz_le v n).mp (by omega))
    have hp := ji_p13 hn
    refine br_f (nI_ne0 z (by omega)) (jr_getBits hE hL (by omega) hV R (fun ra' bb' bc' R' => ?_))
    have e : nI (jz_V v n) >>> ((nI n - 1) &&& 31) = nI (jz_V v n / 2 ^ (n - 1)) := by
      obtain ⟨m, rfl⟩ : ∃ m, n = m + 1 := ⟨n - 1, by omega⟩
      rw [nI_pred]
      exact pk_shrN (by omega) _ m (jn_s31 m (by omega))
    have hd : jz_V v n / 2 ^ (n - 1) < 2 ^ 31 := Nat.lt_of_le_of_lt (Nat.div_le_self _ _) (by omega)
    rcases jz_back hn z hv with ⟨b1, b2⟩ | ⟨b1, b2⟩
    · refine br_t ?_ ?_
      · rw [e, b1]; rfl
      · rw [b2]; exact H ra' bb' bc' R'
    · refine br_f ?_ ?_
      · rw [e]; intro q; exact b1 ((nI_eq hd (by decide)).mp q)
      · rw [ji_pow (by omega), b2]; exact H ra' bb' bc' R'
theorem jr_sym {post : Int32 → St1 → Prop} (hE : E ≤ L) (hL : L ≤ 1900) {t c : Nat} (ht : t ≤ 1) (w : List Nat) (D : jt_dec a9 a10 a11 a12 t c w) : ∀ (w2 w1 : List Nat) (ra : Nat) (bb : Int32) (bc : Nat) (bs : List Nat), w1 ++ w2 = w → w2 ≠ [] → jr_R a5 E ra bb bc (w2 ++ bs) →
    (∀ ra' bb' bc', jr_R a5 E ra' bb' bc' bs → post (nI c) (nq, ni, q, iv, nI L, cn, pr, bb', nI bc', nI ra', dc, a1, a2, a3, a4, a5, a6, a7, a8, a9, a10, a11, a12, a13, a14, a15, a16, a17)) → wX_getSymbol_4 post (nI t) w2.length (nI (jb_val 0 w1)) (nI (w1.length + 1)) nq ni q iv (nI L) cn pr bb (nI bc) (nI ra) dc a1 a2 a3 a4 a5 a6 a7 a8 a9 a10 a11 a12 a13 a14 a15 a16 a17 := by
  obtain ⟨fc, sa, fp, d1, d2, d3, d4, d5, d6, d7, d8, d9, d10⟩ := D
  intro w2
  induction w2 with
  | nil => intro w1 ra bb bc bs _ h; exact absurd rfl h
  | cons x w2 ih =>
    intro w1 ra bb bc bs hw _ R H
    have hwl : w1.length + (w2.length + 1) = w.length := by rw [← hw, List.length_append]; rfl
    refine br_f (fun z => absurd z (nI_nlt (show w1.length + 1 ≤ 16 by omega) (by decide))) (jr_getBit hE hL R (fun ra' bb' bc' R' => ?_))
    have hx : x < 2 := d3 x (by rw [← hw]; exact List.mem_append_right _ List.mem_cons_self)
    have hb1 := jb_val_lt w1 0 (fun y hy => d3 y (by rw [← hw]; exact List.mem_append_left _ hy))
    have hp1 : 2 ^ w1.length ≤ 2 ^ 15 := Nat.pow_le_pow_right (by decide) (by omega)
    have ev : jb_val 0 (w1 ++ [x]) = jb_val 0 w1 * 2 + x := jb_val_app 0 w1 [x]
    have eix : nI t * 17 + nI (w1.length + 1) = nI (t * 17 + (w1.length + 1)) := jn_ma t 17 (w1.length + 1)
    have d4' := d4 (w1.length + 1) (by omega) (by omega)
    have hin : vp_in (nI t * 17 + nI (w1.length + 1)) 34 := pk_in (t * 17 + (w1.length + 1)) 34 (by omega) eix
    have ecl : (nI t * 17 + nI (w1.length + 1)).toNatClampNeg = t * 17 + (w1.length + 1) := by rw [eix]; exact nI_clamp (by omega)
    refine nm_r (jn_ma (jb_val 0 w1) 2 x) ⟨hin, ?_⟩
    rw [ecl, d4'.1, d4'.2.1]
    cases w2 with
    | nil =>
      have ew : w1 ++ [x] = w := hw
      rw [← ew] at d6 d7 d8 d9 d10
      have el : (w1 ++ [x]).length = w1.length + 1 := by rw [List.length_append]; rfl
      rw [el, ev] at d6 d7 d9 d10
      rw [el] at d8
      refine nm_r (pk_sub (by omega)) (br_f (nI_pos (by omega)) ⟨hin, br_f (nI_ge (by omega) (by omega)) ⟨hin, ?_⟩⟩)
      rw [d8, nI_add]
      refine ⟨vp_in_nI d9 (by decide), ?_⟩
      rw [nI_clamp (by omega), d10]
      exact H ra' bb' bc' R'
    | cons y w2 =>
      have et : w.take (w1.length + 1) = w1 ++ [x] := by
        rw [← hw, show w1 ++ x :: y :: w2 = (w1 ++ [x]) ++ (y :: w2) by rw [List.append_assoc]; rfl]
        exact List.take_left' (by rw [List.length_append]; rfl)
      have d5' := d5 (w1.length + 1) (by omega) (by have : (y :: w2).length = w2.length + 1 := rfl; omega)
      rw [et, ev] at d5'
      have K := ih (w1 ++ [x]) ra' bb' bc' bs (by rw [← hw, List.append_assoc]; rfl) (List.cons_ne_nil _ _) R' H
      rw [ev, show (w1 ++ [x]).length = w1.length + 1 by rw [List.length_append]; rfl] at K
      refine nm_r (pk_sub (by omega)) (br_f (nI_pos (by omega)) ⟨hin, br_t (nI_le (by omega) (by omega)) (nm_r (nI_1 _) K)⟩)
theorem jr_getSymbol {post : Int32 → St1 → Prop} (hE : E ≤ L) (hL : L ≤ 1900) {t c : Nat} (ht : t ≤ 1) {w : List Nat} (D : jt_dec a9 a10 a11 a12 t c w) {ra bc : Nat} {bb : Int32} {bs : List Nat} (R : jr_R a5 E ra bb bc (w ++ bs))
    (H : ∀ ra' bb' bc', jr_R a5 E ra' bb' bc' bs → post (nI c) (nq, ni, q, iv, nI L, cn, pr, bb', nI bc', nI ra', dc, a1, a2, a3, a4, a5, a6, a7, a8, a9, a10, a11, a12, a13, a14, a15, a16, a17)) : wpX_getSymbol post (nq, ni, q, iv, nI L, cn, pr, bb, nI bc, nI ra, dc, a1, a2, a3, a4, a5, a6, a7, a8, a9, a10, a11, a12, a13, a14, a15, a16, a17) (nI t) :=
  ⟨w.length, jr_sym hE hL ht w D w [] ra bb bc bs rfl (by obtain ⟨_, _, _, h, _⟩ := D; intro z; rw [z] at h; exact absurd h (by decide)) R H⟩
end
end
section
/-- what the reader makes of symbols: from place kd on, over A -/
def jy_dec : List (Nat × Int32) → Nat → (Nat → Int32) → Nat → Int32
  | [], _, A => A
  | p :: l, kd, A => if p.1 = 0 then A else jy_dec l (kd + p.1 / 16 + 1) (upd A (kd + p.1 / 16) p.2)
/-- symbols that end at place 64 -/
def jy_wf : List (Nat × Int32) → Nat → Prop
  | [], kd => kd = 64
  | p :: l, kd => kd < 64 ∧ ((p.1 = 0 ∧ l = []) ∨ (p.1 ≠ 0 ∧ kd + p.1 / 16 < 64 ∧ jy_wf l (kd + p.1 / 16 + 1)))
theorem jy_wf_z {l : List (Nat × Int32)} : ∀ z kd, kd + 16 * z < 64 → jy_wf l (kd + 16 * z) → jy_wf (List.replicate z (240, 0) ++ l) kd := by
  intro z
  induction z with
  | zero => intro kd _ h; exact h
  | succ z ih =>
    intro kd h1 h2
    show kd < 64 ∧ ((240 = 0 ∧ _) ∨ (240 ≠ 0 ∧ kd + 240 / 16 < 64 ∧ jy_wf (List.replicate z (240, 0) ++ l) (kd + 240 / 16 + 1)))
    refine ⟨by omega, Or.inr ⟨by decide, by omega, ?_⟩⟩
    refine ih _ (by omega) ?_
    rw [show kd + 240 / 16 + 1 + 16 * z = kd + 16 * (z + 1) by omega]
    exact h2
theorem jy_dec_z {l : List (Nat × Int32)} {A : Nat → Int32} : ∀ z kd, kd + 16 * z < 64 → (∀ i, kd ≤ i → i < 64 → A i = 0) → jy_dec (List.replicate z (240, 0) ++ l) kd A = jy_dec l (kd + 16 * z) A := by
  intro z
  induction z with
  | zero => intro kd _ _; rfl
  | succ z ih =>
    intro kd h1 h2
    show (if 240 = 0 then A else jy_dec (List.replicate z (240, 0) ++ l) (kd + 240 / 16 + 1) (upd A (kd + 240 / 16) 0)) = _
    have e : upd A (kd + 240 / 16) 0 = A := by
      funext j
      by_cases e : j = kd + 240 / 16
      · rw [e, pk_us, h2 _ (by omega) (by omega)]
      · exact pk_un e
    rw [if_neg (by decide), e, ih _ (by omega) (fun i h3 h4 => h2 i (by omega) h4), show kd + 240 / 16 + 1 + 16 * z = kd + 16 * (z + 1) by omega]
theorem jy_ac_wf {g : Nat → Int32} (hg : ∀ k, k < 64 → jz_sz (g k) ≤ 13) : ∀ m k run, k + m = 64 → run ≤ k → jy_wf (jy_ac g m k run) (k - run) := by
  intro m
  induction m with
  | zero =>
    intro k run h1 h2
    unfold jy_ac
    by_cases e : run = 0
    · rw [if_pos e]; show k - run = 64; omega
    · rw [if_neg e]; exact ⟨by omega, Or.inl ⟨rfl, rfl⟩⟩
  | succ m ih =>
    intro k run h1 h2
    unfold jy_ac
    by_cases e : g k = 0
    · rw [if_pos e, show k - run = k + 1 - (run + 1) by omega]; exact ih (k + 1) (run + 1) (by omega) (by omega)
    · rw [if_neg e]
      have h3 := hg k (by omega)
      have h4 := jz_pos e
      have e2 : (run % 16 * 16 + jz_sz (g k)) / 16 = run % 16 := by omega
      refine jy_wf_z (run / 16) (k - run) (by omega) ?_
      show k - run + 16 * (run / 16) < 64 ∧ ((_ ∧ _) ∨ (run % 16 * 16 + jz_sz (g k) ≠ 0 ∧ k - run + 16 * (run / 16) + (run % 16 * 16 + jz_sz (g k)) / 16 < 64 ∧ jy_wf (jy_ac g m (k + 1) 0) (k - run + 16 * (run / 16) + (run % 16 * 16 + jz_sz (g k)) / 16 + 1)))
      rw [e2, show k - run + 16 * (run / 16) + run % 16 + 1 = k + 1 - 0 by omega]
      exact ⟨by omega, Or.inr ⟨by omega, by omega, ih (k + 1) 0 (by omega) (by omega)⟩⟩
theorem jy_ac_dec {g : Nat → Int32} (hg : ∀ k, k < 64 → jz_sz (g k) ≤ 13) : ∀ m k run (A : Nat → Int32), k + m = 64 → run ≤ k → (∀ i, k - run ≤ i → i < 64 → A i = 0) → (∀ i, k - run ≤ i → i < k → g i = 0) →
    ∀ i, i < 64 → jy_dec (jy_ac g m k run) (k - run) A i = if i < k - run then A i else g i := by
  intro m
  induction m with
  | zero =>
    intro k run A h1 h2 h3 h4 i hi
    have hA : A i = if i < k - run then A i else g i := by
      by_cases e : i < k - run
      · rw [if_pos e]
      · rw [if_neg e, h3 i (by omega) hi, h4 i (by omega) (by omega)]
    unfold jy_ac
    by_cases e : run = 0
    · rw [if_pos e]; exact hA
    · rw [if_neg e]; exact hA
  | succ m ih =>
    intro k run A h1 h2 h3 h4 i hi
    unfold jy_ac
    by_cases e : g k = 0
    · rw [if_pos e, show k - run = k + 1 - (run + 1) by omega]
      refine ih (k + 1) (run + 1) A (by omega) (by omega) (fun j j1 j2 => h3 j (by omega) j2) (fun j j1 j2 => ?_) i hi
      by_cases ej : j = k
      · rw [ej, e]
      · exact h4 j (by omega) (by omega)
    · rw [if_neg e]
      have z3 := hg k (by omega)
      have z4 := jz_pos e
      have e2 : (run % 16 * 16 + jz_sz (g k)) / 16 = run % 16 := by omega
      rw [jy_dec_z (run / 16) (k - run) (by omega) h3]
      show (if run % 16 * 16 + jz_sz (g k) = 0 then A else jy_dec (jy_ac g m (k + 1) 0) (k - run + 16 * (run / 16) + (run % 16 * 16 + jz_sz (g k)) / 16 + 1) (upd A (k - run + 16 * (run / 16) + (run % 16 * 16 + jz_sz (g k)) / 16) (g k))) i = _
      rw [if_neg (by omega), e2, show k - run + 16 * (run / 16) + run % 16 + 1 = k + 1 - 0 by omega, show k - run + 16 * (run / 16) + run % 16 = k by omega]
      rw [ih (k + 1) 0 (upd A k (g k)) (by omega) (by omega) (fun j j1 j2 => by rw [pk_un (by omega)]; exact h3 j (by omega) j2) (fun j j1 j2 => absurd j1 (by omega)) i hi]
      by_cases e3 : i < k + 1 - 0
      · rw [if_pos e3]
        by_cases e4 : i = k
        · rw [e4, pk_us, if_neg (by omega)]
        · rw [pk_un e4]
          by_cases e5 : i < k - run
          · rw [if_pos e5]
          · rw [if_neg e5, h3 i (by omega) hi, h4 i (by omega) (by omega)]
      · rw [if_neg e3, if_neg (by omega)]
/-- the code words of a symbol's alphabet -/
def jt_ok (a9 a10 a11 a12 : Nat → Int32) (cw : Nat → List Nat) (c : Nat) : Prop := jt_dec a9 a10 a11 a12 (if c < 256 then 0 else 1) c (cw c)
section
variable {nq ni q iv cn pr dc : Int32} {a1 a2 a3 a4 a5 a6 a7 a8 a9 a10 a11 a12 a14 a15 a16 : Nat → Int32} {a17 : Nat → Int64} {E L : Nat}
theorem jr_48 {post : St1 → Prop} (hE : E ≤ L) (hL : L ≤ 1900) {cw : Nat → List Nat} {b : Nat} (hb : b < 4) (h3 : ∀ k, k < 64 → a3 k = nI (jo_od k)) : ∀ (l : List (Nat × Int32)) (kd rd : Nat) (A : Nat → Int32) (a13 : Nat → Int32) (ra : Nat) (bb : Int32) (bc : Nat) (bs : List Nat),
    jy_wf l kd → (∀ p, p ∈ l → p.1 < 256 ∧ jy_ok p ∧ jt_ok a9 a10 a11 a12 cw p.1) → rd < kd → (∀ i, i < 64 → a13 (b * 64 + jo_od i) = A i) → jr_R a5 E ra bb bc (jy_bb cw l ++ bs) →
    (∀ a13' ra' bb' bc', (∀ i, i < 64 → a13' (b * 64 + jo_od i) = jy_dec l kd A i) → (∀ j, j < b * 64 ∨ b * 64 + 64 ≤ j → a13' j = a13 j) → jr_R a5 E ra' bb' bc' bs → post (nq, ni, q, iv, nI L, cn, pr, bb', nI bc', nI ra', dc, a1, a2, a3, a4, a5, a6, a7, a8, a9, a10, a11, a12, a13', a14, a15, a16, a17)) →
    wX_readBlock_48 post (nI b) (l.length + 1) (nI kd) (nI rd) nq ni q iv (nI L) cn pr bb (nI bc) (nI ra) dc a1 a2 a3 a4 a5 a6 a7 a8 a9 a10 a11 a12 a13 a14 a15 a16 a17 := by
  intro l
  induction l with
  | nil =>
    intro kd rd A a13 ra bb bc bs hw _ hr hA R H
    have hw' : kd = 64 := hw
    subst hw'
    have Q := H a13 ra bb bc hA (fun j _ => rfl) R
    exact br_c (fun _ => Q) (fun _ => br_t (nI_le (Nat.le_refl 64) (by decide)) Q)
  | cons p l ih =>
    intro kd rd A a13 ra bb bc bs hw hp hr hA R H
    obtain ⟨w1, w2⟩ := hw
    obtain ⟨p1, p2, p3⟩ := hp p List.mem_cons_self
    have p3' : jt_dec a9 a10 a11 a12 0 p.1 (cw p.1) := by unfold jt_ok at p3; rw [if_pos p1] at p3; exact p3
    have R' : jr_R a5 E ra bb bc (cw p.1 ++ (jb_bits (jz_V p.2 (p.1 % 16)) (p.1 % 16) ++ (jy_bb cw l ++ bs))) := by
      have e : jy_bb cw (p :: l) ++ bs = cw p.1 ++ (jb_bits (jz_V p.2 (p.1 % 16)) (p.1 % 16) ++ (jy_bb cw l ++ bs)) := by
        show ((cw p.1 ++ jb_bits (jz_V p.2 (p.1 % 16)) (p.1 % 16)) ++ jy_bb cw l) ++ bs = _
        rw [List.append_assoc, List.append_assoc]
      rw [← e]; exact R
    refine br_f (nI_ge (b := 64) (by omega) (by decide)) (br_f (nI_ge (b := 64) w1 (by decide)) (jr_getSymbol (t := 0) hE hL (by decide) p3' R' (fun ra1 bb1 bc1 R1 => ?_)))
    rcases w2 with ⟨e0, el⟩ | ⟨e0, w3, w4⟩
    · rw [e0] at R1 ⊢
      refine br_t rfl (H a13 ra1 bb1 bc1 (fun i hi => ?_) (fun j _ => rfl) ?_)
      · show _ = (if p.1 = 0 then A else _) i
        rw [if_pos e0]; exact hA i hi
      · rw [el] at R1; exact R1
    · have esh : nI p.1 >>> ((4 : Int32) &&& 31) = nI (p.1 / 16) := pk_shrN (by omega) _ 4 (by decide)
      have ean : nI p.1 &&& 15 = nI (p.1 % 16) := pk_andN (by omega) 4 (by decide)
      refine br_f (nI_ne0 (by omega) (by omega)) ?_
      rw [esh, ean]
      refine nm_r (nI_add kd (p.1 / 16)) (jr_getValue hE hL (by have := p2.2.2; omega) p2.2.1.symm R1 (fun ra2 bb2 bc2 R2 => ?_))
      have hlt := jo_lt (kd + p.1 / 16) w3
      have ecl : (nI (kd + p.1 / 16)).toNatClampNeg = kd + p.1 / 16 := nI_clamp (by omega)
      have eix : nI b * 64 + nI (jo_od (kd + p.1 / 16)) = nI (b * 64 + jo_od (kd + p.1 / 16)) := jn_ma b 64 _
      refine br_f (nI_ge (b := 64) w3 (by decide)) ⟨vp_in_nI w3 (by decide), ?_⟩
      rw [ecl, h3 _ w3, eix]
      refine ⟨vp_in_nI (by omega) (by decide), ?_⟩
      rw [nI_clamp (by omega)]
      refine nm_e (nm_r (nI_1 _) (nm_r (nI_1 rd) ?_))
      refine ih (kd + p.1 / 16 + 1) (rd + 1) (upd A (kd + p.1 / 16) p.2) _ ra2 bb2 bc2 bs w4 (fun q hq => hp q (List.mem_cons_of_mem _ hq)) (by omega) (fun i hi => ?_) R2 (fun a13' ra' bb' bc' q1 q2 q3 => ?_)
      · by_cases e : i = kd + p.1 / 16
        · rw [e, pk_us, pk_us]
        · have hne : b * 64 + jo_od i ≠ b * 64 + jo_od (kd + p.1 / 16) := fun z => e (jo_inj i hi _ w3 (by omega))
          rw [pk_un e, pk_un hne]; exact hA i hi
      · refine H a13' ra' bb' bc' (fun i hi => ?_) (fun j hj => ?_) q3
        · show _ = (if p.1 = 0 then A else _) i
          rw [if_neg e0]; exact q1 i hi
        · rw [q2 j hj]; exact pk_un (by omega)
theorem jr_readBlock {post : St1 → Prop} (hE : E ≤ L) (hL : L ≤ 1900) {cw : Nat → List Nat} {lv : Nat → Int32} {ivN b : Nat} (hb : b < 4) (h3 : ∀ k, k < 64 → a3 k = nI (jo_od k)) (hlv : ∀ k, k < 256 → jz_sz (lv k) ≤ 12) (hd : jz_sz (lv (b * 64) - jy_pr lv ivN b) ≤ 13)
    (hcw : ∀ p, p ∈ jy_blk lv ivN b → jt_ok a9 a10 a11 a12 cw p.1) {a13 : Nat → Int32} (h0 : ∀ j, j < 64 → a13 (b * 64 + j) = 0) {ra bc : Nat} {bb : Int32} {bs : List Nat} (hpr : pr = jy_pr lv ivN b) (R : jr_R a5 E ra bb bc (jy_bb cw (jy_blk lv ivN b) ++ bs))
    (H : ∀ a13' ra' bb' bc', (∀ j, j < 64 → a13' (b * 64 + j) = lv (b * 64 + j)) → (∀ j, j < b * 64 ∨ b * 64 + 64 ≤ j → a13' j = a13 j) → jr_R a5 E ra' bb' bc' bs → post (nq, ni, q, iv, nI L, cn, lv (b * 64), bb', nI bc', nI ra', dc, a1, a2, a3, a4, a5, a6, a7, a8, a9, a10, a11, a12, a13', a14, a15, a16, a17)) :
    wpX_readBlock post (nq, ni, q, iv, nI L, cn, pr, bb, nI bc, nI ra, dc, a1, a2, a3, a4, a5, a6, a7, a8, a9, a10, a11, a12, a13, a14, a15, a16, a17) (nI b) := by
  have hg : ∀ k, k < 64 → jz_sz ((fun k => lv (b * 64 + jo_od k)) k) ≤ 13 := fun k hk => by have h1 := jo_lt k hk; have := hlv (b * 64 + jo_od k) (by omega); exact Nat.le_succ_of_le this
  have aok := jy_ac_ok hg 63 1 0 rfl
  generalize hd0 : lv (b * 64) - jy_pr lv ivN b = d at hd
  have eblk : jy_blk lv ivN b = (256 + jz_sz d, d) :: jy_ac (fun k => lv (b * 64 + jo_od k)) 63 1 0 := by unfold jy_blk; rw [hd0]
  rw [eblk] at hcw R
  have p3 := hcw _ List.mem_cons_self
  have p3' : jt_dec a9 a10 a11 a12 1 (256 + jz_sz d) (cw (256 + jz_sz d)) := by
    have : jt_dec a9 a10 a11 a12 (if 256 + jz_sz d < 256 then 0 else 1) (256 + jz_sz d) (cw (256 + jz_sz d)) := p3
    rw [if_neg (by omega)] at this; exact this
  have em : (256 + jz_sz d) % 16 = jz_sz d := by omega
  have R' : jr_R a5 E ra bb bc (cw (256 + jz_sz d) ++ (jb_bits (jz_V d (jz_sz d)) (jz_sz d) ++ (jy_bb cw (jy_ac (fun k => lv (b * 64 + jo_od k)) 63 1 0) ++ bs))) := by
    have e : jy_bb cw ((256 + jz_sz d, d) :: jy_ac (fun k => lv (b * 64 + jo_od k)) 63 1 0) ++ bs = cw (256 + jz_sz d) ++ (jb_bits (jz_V d (jz_sz d)) (jz_sz d) ++ (jy_bb cw (jy_ac (fun k => lv (b * 64 + jo_od k)) 63 1 0) ++ bs)) := by
      show ((cw (256 + jz_sz d) ++ jb_bits (jz_V d ((256 + jz_sz d) % 16)) ((256 + jz_sz d) % 16)) ++ jy_bb cw (jy_ac (fun k => lv (b * 64 + jo_od k)) 63 1 0)) ++ bs = _
      rw [em, List.append_assoc, List.append_assoc]
    rw [← e]; exact R
  refine jr_getSymbol (t := 1) hE hL (by decide) p3' R' (fun ra1 bb1 bc1 R1 => ?_)
  have ean : (nI (256 + jz_sz d) - 256) &&& 15 = nI (jz_sz d) := by
    have e1 : nI (256 + jz_sz d) - 256 = nI (jz_sz d) := by
      have := pk_sub (a := 256 + jz_sz d) (b := 256) (by omega)
      rw [Nat.add_sub_cancel_left] at this
      exact this
    rw [e1]
    have := pk_andN (n := jz_sz d) (m := 15) (by omega) 4 (by decide)
    rw [Nat.mod_eq_of_lt (by omega)] at this
    exact this
  show wpX_getValue _ _ ((nI (256 + jz_sz d) - 256) &&& 15)
  rw [ean]
  refine jr_getValue hE hL (by omega) rfl R1 (fun ra2 bb2 bc2 R2 => ?_)
  have epr : pr + d = lv (b * 64) := by rw [hpr, ← hd0]; grind
  have eix : nI b * 64 = nI (b * 64) := pk_mul b 64
  refine nm_r epr ?_
  rw [eix]
  refine ⟨vp_in_nI (by omega) (by decide), ?_⟩
  rw [nI_clamp (by omega)]
  refine nm_e ⟨_, jr_48 hE hL hb h3 (jy_ac (fun k => lv (b * 64 + jo_od k)) 63 1 0) 1 0 (upd (fun _ => 0) 0 (lv (b * 64))) _ ra2 bb2 bc2 bs (jy_ac_wf hg 63 1 0 rfl (by decide)) (fun p hp => ⟨(aok p hp).1, (aok p hp).2, hcw p (List.mem_cons_of_mem _ hp)⟩) (by decide) (fun i hi => ?_) R2 (fun a13' ra' bb' bc' q1 q2 q3 => ?_)⟩
  · by_cases e : i = 0
    · rw [e, jo_0, pk_us]; exact pk_us
    · have hne : jo_od i ≠ 0 := fun z => e (jo_inj i hi 0 (by decide) (by rw [z, jo_0]))
      rw [pk_un e, pk_un (by omega)]
      exact h0 _ (jo_lt i hi)
  · refine H a13' ra' bb' bc' (fun j hj => ?_) (fun j hj => ?_) q3
    · obtain ⟨i, hi, rfl⟩ := jo_sur j hj
      rw [q1 i hi, jy_ac_dec hg 63 1 0 _ rfl (by decide) (fun k k1 k2 => by rw [pk_un (by omega)]) (fun k k1 k2 => absurd k1 (by omega)) i hi]
      by_cases e : i < 1 - 0
      · rw [if_pos e, show i = 0 by omega, jo_0, pk_us]; rfl
      · rw [if_neg e]
    · rw [q2 j hj]; exact pk_un (by omega)
end
end
section
theorem jb_bits_snoc : ∀ n x b, b < 2 → jb_bits (x * 2 + b) (n + 1) = jb_bits x n ++ [b] := by
  intro n
  induction n with
  | zero => intro x b hb; show [(x * 2 + b) / 2 ^ 0 % 2] = [b]; rw [Nat.pow_zero, Nat.div_one, show (x * 2 + b) % 2 = b by omega]
  | succ n ih =>
    intro x b hb
    show ((x * 2 + b) / 2 ^ (n + 1) % 2) :: jb_bits (x * 2 + b) (n + 1) = (x / 2 ^ n % 2) :: (jb_bits x n ++ [b])
    rw [ih x b hb, Nat.pow_succ, Nat.mul_comm (2 ^ n) 2, ← Nat.div_div_eq_div_mul, show (x * 2 + b) / 2 = x by omega]
theorem jn_m1 (x : Int32) : x + (-1) = x - 1 := (Int32.sub_eq_add_neg x 1).symm
/-- the digits that are written from place S on -/
def jw_W (a5 : Nat → Int32) (S len bb bc : Nat) (bs : List Nat) : Prop :=
  ∃ Bs : List Nat, jb_by Bs ∧ jb_at a5 S (jb_st Bs) ∧ len = S + (jb_st Bs).length ∧ bb < 2 ^ bc ∧ bc < 8 ∧ bs = jb_un Bs ++ jb_bits bb bc
theorem jw_bc {a5 : Nat → Int32} {S len bb bc : Nat} {bs : List Nat} (h : jw_W a5 S len bb bc bs) : bc = bs.length % 8 ∧ S ≤ len ∧ len ≤ S + bs.length / 4 ∧ bc < 8 ∧ bb < 2 ^ bc := by
  obtain ⟨Bs, h1, h2, h3, h4, h5, h6⟩ := h
  have e : bs.length = 8 * Bs.length + bc := by rw [h6, List.length_append, jb_un_len, jb_bits_len]
  have := jb_st_len Bs
  omega
section
variable {nq ni q iv cn pr ra dc : Int32} {a1 a2 a3 a4 a6 a7 a8 a9 a10 a11 a12 a13 a14 a15 a16 : Nat → Int32} {a17 : Nat → Int64} {S : Nat}
theorem jw_pb {post : St1 → Prop} {x1 : Nat} (hx : x1 < 2 ^ 31) : ∀ (n len bb bc : Nat) (a5 : Nat → Int32) (bs : List Nat), n < 32 → jw_W a5 S len bb bc bs → S + (bs.length + n) / 4 ≤ 1900 →
    (∀ a5' len' bb' bc', jw_W a5' S len' bb' bc' (bs ++ jb_bits x1 n) → (∀ j, j < S → a5' j = a5 j) → post (nq, ni, q, iv, nI len', cn, pr, nI bb', nI bc', ra, dc, a1, a2, a3, a4, a5', a6, a7, a8, a9, a10, a11, a12, a13, a14, a15, a16, a17)) →
    wX_putBits_4 post (nI x1) (n + 1) (nI n - 1) nq ni q iv (nI len) cn pr (nI bb) (nI bc) ra dc a1 a2 a3 a4 a5 a6 a7 a8 a9 a10 a11 a12 a13 a14 a15 a16 a17 := by
  intro n
  induction n with
  | zero =>
    intro len bb bc a5 bs _ W hr H
    refine br_t (by decide) ?_
    have := H a5 len bb bc (by show jw_W a5 S len bb bc (bs ++ []); rw [List.append_nil]; exact W) (fun j _ => rfl)
    exact this
  | succ n ih =>
    intro len bb bc a5 bs hn W hr H
    obtain ⟨Bs, h1, h2, h3, h4, h5, h6⟩ := W
    have hbl : bs.length = 8 * Bs.length + bc := by rw [h6, List.length_append, jb_un_len, jb_bits_len]
    have hsl := jb_st_len Bs
    have hb7 : 2 ^ bc ≤ 2 ^ 7 := Nat.pow_le_pow_right (by decide) (by omega)
    have hd2 : x1 / 2 ^ n % 2 < 2 := Nat.mod_lt _ (by decide)
    generalize hd : x1 / 2 ^ n % 2 = d at hd2
    have ebits : jb_bits x1 (n + 1) = d :: jb_bits x1 n := by show (x1 / 2 ^ n % 2) :: _ = _; rw [hd]
    have e1 : (nI bb <<< ((1 : Int32) &&& 31)) ||| ((nI x1 >>> (nI n &&& 31)) &&& 1) = nI (bb * 2 + d) := by
      rw [jn_shl1 (by omega), jn_bit hx (by omega), hd]; exact jn_or1 d hd2 bb (by omega)
    rw [nI_pred]
    refine br_f (nI_pos (by omega)) (nm_r e1 (nm_r (nI_1 bc) ?_))
    rw [jn_m1]
    have hbs : ∀ l : List Nat, (bs ++ [d]) ++ l = bs ++ (d :: l) := fun l => by rw [List.append_assoc]; rfl
    refine pk_eq (bc + 1) 8 (fun e => ?_) (fun e => ?_)
    · have ebc : bc = 7 := by omega
      have hX : bb * 2 + d < 256 := by rw [ebc] at h4; omega
      have eun : jb_un (Bs ++ [bb * 2 + d]) = bs ++ [d] := by
        rw [jb_un_app, jb_un_one, jb_bits_snoc 7 bb d hd2, ← List.append_assoc, h6, ebc]
      refine ⟨pk_in len 1900 (by omega), nm_e (nm_r (nI_1 len) ?_)⟩
      rw [nI_clamp (by omega)]
      by_cases e255 : bb * 2 + d = 255
      · refine br_t (by rw [e255]; rfl) ⟨pk_in (len + 1) 1900 (by omega), nm_e (nm_r (nI_1 (len + 1)) ?_)⟩
        rw [nI_clamp (by omega)]
        refine nm_r (jn_m1 _) (ih (len + 1 + 1) 0 0 _ (bs ++ [d]) (by omega) ⟨Bs ++ [bb * 2 + d], jb_by_app h1 (jb_by_one hX), ?_, ?_, by decide, by decide, ?_⟩ ?_ ?_)
        · rw [e255, jb_st_app, jb_st_255]
          refine (jb_at_app _ _ _ S).mpr ⟨jb_at_upd (by omega) (jb_at_upd (by omega) h2), ?_, ?_, trivial⟩
          · rw [← h3, pk_un (by omega), pk_us]
          · rw [← h3]; exact pk_us
        · rw [e255, jb_st_app, jb_st_255, List.length_append]; show len + 1 + 1 = S + (_ + 2); omega
        · rw [eun]; exact (List.append_nil _).symm
        · rw [List.length_append]; show S + (bs.length + 1 + n) / 4 ≤ 1900; omega
        · intro a5' len' bb' bc' q1 q2
          rw [hbs, ← ebits] at q1
          exact H a5' len' bb' bc' q1 (fun j hj => by rw [q2 j hj, pk_un (by omega), pk_un (by omega)])
      · refine br_f (fun z => e255 ((nI_eq (by omega) (by decide)).mp z)) ?_
        refine nm_r (jn_m1 _) (ih (len + 1) 0 0 _ (bs ++ [d]) (by omega) ⟨Bs ++ [bb * 2 + d], jb_by_app h1 (jb_by_one hX), ?_, ?_, by decide, by decide, ?_⟩ ?_ ?_)
        · rw [jb_st_app, jb_st_one e255]
          refine (jb_at_app _ _ _ S).mpr ⟨jb_at_upd (by omega) h2, ?_, trivial⟩
          rw [← h3]; exact pk_us
        · rw [jb_st_app, jb_st_one e255, List.length_append]; show len + 1 = S + (_ + 1); omega
        · rw [eun]; exact (List.append_nil _).symm
        · rw [List.length_append]; show S + (bs.length + 1 + n) / 4 ≤ 1900; omega
        · intro a5' len' bb' bc' q1 q2
          rw [hbs, ← ebits] at q1
          exact H a5' len' bb' bc' q1 (fun j hj => by rw [q2 j hj, pk_un (by omega)])
    · refine nm_e (ih len (bb * 2 + d) (bc + 1) a5 (bs ++ [d]) (by omega) ⟨Bs, h1, h2, h3, ?_, by omega, ?_⟩ ?_ ?_)
      · rw [Nat.pow_succ]; omega
      · rw [jb_bits_snoc bc bb d hd2, h6, List.append_assoc]
      · rw [List.length_append]; show S + (bs.length + 1 + n) / 4 ≤ 1900; omega
      · intro a5' len' bb' bc' q1 q2
        rw [hbs, ← ebits] at q1
        exact H a5' len' bb' bc' q1 q2
theorem jw_putBits {post : St1 → Prop} {x1 n len bb bc : Nat} {a5 : Nat → Int32} {bs : List Nat} (hx : x1 < 2 ^ 31) (hn : n < 32) (W : jw_W a5 S len bb bc bs) (hr : S + (bs.length + n) / 4 ≤ 1900)
    (H : ∀ a5' len' bb' bc', jw_W a5' S len' bb' bc' (bs ++ jb_bits x1 n) → (∀ j, j < S → a5' j = a5 j) → post (nq, ni, q, iv, nI len', cn, pr, nI bb', nI bc', ra, dc, a1, a2, a3, a4, a5', a6, a7, a8, a9, a10, a11, a12, a13, a14, a15, a16, a17)) : wpX_putBits post (nq, ni, q, iv, nI len, cn, pr, nI bb, nI bc, ra, dc, a1, a2, a3, a4, a5, a6, a7, a8, a9, a10, a11, a12, a13, a14, a15, a16, a17) (nI x1) (nI n) :=
  nm_e ⟨n + 1, jw_pb hx n len bb bc a5 bs hn W hr H⟩
theorem jw_symbol {post : St1 → Prop} {p : Nat × Int32} {C l len bb bc : Nat} {a5 : Nat → Int32} {bs : List Nat} {cw : Nat → List Nat} (hp : jy_ok p) (hcn : cn = 0) (h8 : a8 p.1 = nI C) (h4 : a4 p.1 = nI l) (hl : l ≤ 15) (hC : C < 2 ^ l) (hcw : cw p.1 = jb_bits C l)
    (W : jw_W a5 S len bb bc bs) (hr : S + (bs.length + 28) / 4 ≤ 1900)
    (H : ∀ a5' len' bb' bc', jw_W a5' S len' bb' bc' (bs ++ jy_sb cw p) → (∀ j, j < S → a5' j = a5 j) → post (nq, ni, q, iv, nI len', cn, pr, nI bb', nI bc', ra, dc, a1, a2, a3, a4, a5', a6, a7, a8, a9, a10, a11, a12, a13, a14, a15, a16, a17)) : wpX_symbol post (nq, ni, q, iv, nI len, cn, pr, nI bb, nI bc, ra, dc, a1, a2, a3, a4, a5, a6, a7, a8, a9, a10, a11, a12, a13, a14, a15, a16, a17) (nI p.1) p.2 (nI (p.1 % 16)) := by
  obtain ⟨p1, p2, p3⟩ := hp
  have hC2 := ji_p13 hl
  have hv : p.2.toInt.natAbs < 2 ^ (p.1 % 16) := (jz_le p.2 _).mp (by omega)
  have hV := jz_V_lt hv
  have hV2 := ji_p13 (show p.1 % 16 ≤ 15 by omega)
  refine br_t hcn ⟨pk_in p.1 272 p1, pk_in p.1 272 p1, ?_⟩
  rw [nI_clamp (by omega), h8, h4]
  refine jw_putBits (by omega) (by omega) W (by omega) (fun a5' len' bb' bc' q1 q2 => ?_)
  have e : (bs ++ jb_bits C l) ++ jb_bits (jz_V p.2 (p.1 % 16)) (p.1 % 16) = bs ++ jy_sb cw p := by rw [List.append_assoc, ← hcw]; rfl
  have K : wX_symbol_56 post (nI (p.1 % 16)) (nI (jz_V p.2 (p.1 % 16))) nq ni q iv (nI len') cn pr (nI bb') (nI bc') ra dc a1 a2 a3 a4 a5' a6 a7 a8 a9 a10 a11 a12 a13 a14 a15 a16 a17 := by
    refine jw_putBits (by omega) (by omega) q1 ?_ (fun a5'' len'' bb'' bc'' r1 r2 => ?_)
    · rw [List.length_append, jb_bits_len]; omega
    · rw [e] at r1
      exact H a5'' len'' bb'' bc'' r1 (fun j hj => by rw [r2 j hj, q2 j hj])
  refine br_c (fun z => ?_) (fun z => ?_)
  · rw [ji_pow (by omega), jz_V_neg (by omega) hv (fun y => by have := Int32.lt_iff_toInt_lt.mp y; have := Int32.le_iff_toInt_le.mp z; omega)]
    exact K
  · have z' : 0 < p.2 := by
      apply Int32.lt_iff_toInt_lt.mpr
      rcases Int.lt_or_le (0 : Int32).toInt p.2.toInt with y | y
      · exact y
      · exact absurd (Int32.le_iff_toInt_le.mpr y) z
    have := jz_V_pos (p.1 % 16) z'
    rw [← this] at K
    exact K
theorem jw_35 {post : St1 → Prop} {sg len bb bc : Nat} {a5 : Nat → Int32} (hl : len + 2 ≤ 1900) (H : post (nq, ni, q, iv, nI (len + 2), cn, pr, nI bb, nI bc, ra, dc, a1, a2, a3, a4, upd (upd a5 len 255) (len + 1) (nI (208 + sg)), a6, a7, a8, a9, a10, a11, a12, a13, a14, a15, a16, a17)) : wX_endSegment_35 post (nI sg) nq ni q iv (nI len) cn pr (nI bb) (nI bc) ra dc a1 a2 a3 a4 a5 a6 a7 a8 a9 a10 a11 a12 a13 a14 a15 a16 a17 := by
  have e : (208 : Int32) + nI sg = nI (208 + sg) := nI_add 208 sg
  refine ⟨pk_in len 1900 (by omega), nm_e (nm_r (nI_1 len) ?_)⟩
  rw [nI_clamp (by omega), e]
  refine ⟨pk_in (len + 1) 1900 (by omega), nm_e (nm_r (nI_1 (len + 1)) ?_)⟩
  rw [nI_clamp (by omega)]
  exact H
theorem jw_es {post : St1 → Prop} {sg : Nat} : ∀ (d i len bb bc : Nat) (a5 : Nat → Int32) (bs : List Nat), i + d ≤ 8 → d < 8 → (bs.length + d) % 8 = 0 → jw_W a5 S len bb bc bs → S + (bs.length + d) / 4 + 2 ≤ 1900 →
    (∀ a5' len' Bs pad, jb_by Bs → pad.length < 8 → jb_un Bs = bs ++ pad → jb_at a5' S (jb_st Bs ++ [255, 208 + sg]) → len' = S + (jb_st Bs ++ [255, 208 + sg]).length → (∀ j, j < S → a5' j = a5 j) → post (nq, ni, q, iv, nI len', cn, pr, 0, 0, ra, dc, a1, a2, a3, a4, a5', a6, a7, a8, a9, a10, a11, a12, a13, a14, a15, a16, a17)) →
    wX_endSegment_10 post (nI sg) (d + 1) (nI i) nq ni q iv (nI len) cn pr (nI bb) (nI bc) ra dc a1 a2 a3 a4 a5 a6 a7 a8 a9 a10 a11 a12 a13 a14 a15 a16 a17 := by
  intro d
  induction d with
  | zero =>
    intro i len bb bc a5 bs _ _ hm W hr H
    have hw := jw_bc W
    obtain ⟨Bs, h1, h2, h3, h4, h5, h6⟩ := W
    have ebc : bc = 0 := by omega
    subst ebc
    have ebb : bb = 0 := by have : bb < 2 ^ 0 := h4; omega
    subst ebb
    have hsl := jb_st_len Bs
    have hbl : bs.length = 8 * Bs.length + 0 := by rw [h6, List.length_append, jb_un_len, jb_bits_len]
    have Q : wX_endSegment_35 post (nI sg) nq ni q iv (nI len) cn pr (nI 0) (nI 0) ra dc a1 a2 a3 a4 a5 a6 a7 a8 a9 a10 a11 a12 a13 a14 a15 a16 a17 := by
      refine jw_35 (by omega) (H _ (len + 2) Bs [] h1 (by decide) ?_ ?_ ?_ ?_)
      · rw [h6, List.append_nil]; exact (List.append_nil _).symm
      · refine (jb_at_app _ _ _ S).mpr ⟨jb_at_upd (by omega) (jb_at_upd (by omega) h2), ?_, ?_, trivial⟩
        · rw [← h3, pk_un (by omega), pk_us]; rfl
        · rw [← h3]; exact pk_us
      · rw [List.length_append, h3]; rfl
      · intro j hj; rw [pk_un (by omega), pk_un (by omega)]
    exact br_c (fun _ => Q) (fun _ => br_t rfl Q)
  | succ d ih =>
    intro i len bb bc a5 bs hi hd hm W hr H
    have hw := jw_bc W
    refine br_f (nI_ge (b := 8) (by omega) (by decide)) (br_f (nI_ne0 (by omega) (by omega)) ?_)
    refine jw_putBits (x1 := 1) (n := 1) (by decide) (by decide) W (by omega) (fun a5' len' bb' bc' q1 q2 => ?_)
    have e1 : jb_bits 1 1 = [1] := rfl
    rw [e1] at q1
    have el : (bs ++ [1]).length = bs.length + 1 := by rw [List.length_append]; rfl
    refine nm_r (nI_1 i) (ih (i + 1) len' bb' bc' a5' (bs ++ [1]) (by omega) (by omega) (by omega) q1 (by omega) (fun a5'' len'' Bs pad r1 r2 r3 r4 r5 r6 => ?_))
    refine H a5'' len'' Bs (1 :: pad) r1 ?_ ?_ r4 r5 (fun j hj => by rw [r6 j hj, q2 j hj])
    · have h8 : (jb_un Bs).length = 8 * Bs.length := jb_un_len Bs
      have h9 : (jb_un Bs).length = bs.length + 1 + pad.length := by rw [r3, List.length_append, el]
      have h10 : (1 :: pad : List Nat).length = pad.length + 1 := rfl
      omega
    · rw [r3, List.append_assoc]; rfl
theorem jw_endSegment {post : St1 → Prop} {sg len bb bc : Nat} {a5 : Nat → Int32} {bs : List Nat} (hcn : cn = 0) (W : jw_W a5 S len bb bc bs) (hr : S + (bs.length + 8) / 4 + 2 ≤ 1900)
    (H : ∀ a5' len' Bs pad, jb_by Bs → pad.length < 8 → jb_un Bs = bs ++ pad → jb_at a5' S (jb_st Bs ++ [255, 208 + sg]) → len' = S + (jb_st Bs ++ [255, 208 + sg]).length → (∀ j, j < S → a5' j = a5 j) → post (nq, ni, q, iv, nI len', cn, pr, 0, 0, ra, dc, a1, a2, a3, a4, a5', a6, a7, a8, a9, a10, a11, a12, a13, a14, a15, a16, a17)) :
    wpX_endSegment post (nq, ni, q, iv, nI len, cn, pr, nI bb, nI bc, ra, dc, a1, a2, a3, a4, a5, a6, a7, a8, a9, a10, a11, a12, a13, a14, a15, a16, a17) (nI sg) := by
  refine br_t hcn ⟨_, jw_es ((8 - bs.length % 8) % 8) 0 len bb bc a5 bs (by omega) (by omega) (by omega) W (by omega) H⟩
end
end
section
section
variable {nq ni q iv len cn pr bb bc ra dc : Int32} {a1 a2 a3 a4 a5 a6 a7 a8 a9 a10 a11 a12 a13 a14 a15 a16 : Nat → Int32} {a17 : Nat → Int64}
theorem jg_sz {post : Int32 → Prop} {a sz : Nat} (ha : a < 2 ^ 31) (h13 : sz ≤ 13) (hs : ∀ i, sz ≤ i ↔ a < 2 ^ i) (H : post (nI sz)) : ∀ r i, i + r = 14 → i ≤ sz → wX_sizeOf_16 post (nI a) nq ni q iv len cn pr bb bc ra dc a1 a2 a3 a4 a5 a6 a7 a8 a9 a10 a11 a12 a13 a14 a15 a16 a17 (r + 1) (nI i) (nI i) := by
  intro r
  induction r with
  | zero => intro i h1 h2; omega
  | succ r ih =>
    intro i h1 h2
    have e : nI a >>> (nI i &&& 31) = nI (a / 2 ^ i) := pk_shrN ha _ i (jn_s31 i (by omega))
    have hd : a / 2 ^ i < 2 ^ 31 := Nat.lt_of_le_of_lt (Nat.div_le_self _ _) ha
    refine br_f (nI_ge (b := 14) (by omega) (by decide)) ?_
    rw [e]
    by_cases z : sz ≤ i
    · have ez : i = sz := by omega
      rw [Nat.div_eq_of_lt ((hs i).mp z)]
      exact br_t rfl (ez ▸ H)
    · have h3 : 0 < a / 2 ^ i := Nat.div_pos (Nat.le_of_not_lt (fun q => z ((hs i).mpr q))) (Nat.two_pow_pos i)
      exact br_f (nI_ne0 h3 hd) (nm_r (nI_1 i) (nm_r (nI_1 i) (ih (i + 1) (by omega) (by omega))))
theorem jg_sizeOf {post : Int32 → Prop} {v : Int32} (h : jz_sz v ≤ 13) (H : post (nI (jz_sz v))) : wpX_sizeOf post (nq, ni, q, iv, len, cn, pr, bb, bc, ra, dc, a1, a2, a3, a4, a5, a6, a7, a8, a9, a10, a11, a12, a13, a14, a15, a16, a17) v := by
  have hv : v.toInt.natAbs < 2 ^ 13 := (jz_le v 13).mp h
  have K : ∃ fu, wX_sizeOf_16 post (nI v.toInt.natAbs) nq ni q iv len cn pr bb bc ra dc a1 a2 a3 a4 a5 a6 a7 a8 a9 a10 a11 a12 a13 a14 a15 a16 a17 fu 0 0 := ⟨15, jg_sz (by omega) h (jz_le v) H 14 0 rfl (Nat.zero_le _)⟩
  refine br_c (fun z => ?_) (fun z => ?_)
  · have e : v = nI v.toInt.natAbs := ji_nI (by have := Int32.le_iff_toInt_le.mp z; rw [ji_t0] at this; omega)
    rw [← e] at K
    exact K
  · have z' : v.toInt < 0 := by
      rcases Int.lt_or_le v.toInt 0 with y | y
      · exact y
      · exact absurd (Int32.le_iff_toInt_le.mpr (by rw [ji_t0]; exact y)) z
    have e : -v = nI v.toInt.natAbs := ji_nI (by rw [ji_neg (by omega) (by omega)]; omega)
    exact nm_r e K
end
section
variable {nq ni q iv cn ra dc : Int32} {a1 a2 a3 a4 a7 a8 a9 a10 a11 a12 a13 a14 a15 a16 : Nat → Int32} {a17 : Nat → Int64} {I : List (List (Nat × Int32)) → List (Nat × Int32) → Int32 → Int32 → Int32 → (Nat → Int32) → (Nat → Int32) → Prop} {all : List (Nat × Int32)}
theorem jg_126 {post : St1 → Prop} {J51 : Int32 → Int32 → Int32 → Int32 → Int32 → Int32 → Int32 → Int32 → Int32 → Int32 → Int32 → Int32 → Int32 → (Nat → Int32) → (Nat → Int32) → (Nat → Int32) → (Nat → Int32) → (Nat → Int32) → (Nat → Int32) → (Nat → Int32) → (Nat → Int32) → (Nat → Int32) → (Nat → Int32) → (Nat → Int32) → (Nat → Int32) → (Nat → Int32) → (Nat → Int32) → (Nat → Int32) → (Nat → Int32) → (Nat → Int64) → Prop} {pr : Int32}
    (Hsym : ∀ (pr : Int32) (D : List (List (Nat × Int32))) (cur : List (Nat × Int32)) (c : Nat) (v : Int32) (n : Nat) (rest : List (Nat × Int32)) (len bb bc : Int32) (a5 a6 : Nat → Int32) (post : St1 → Prop), c % 16 = n → D.flatten ++ (cur ++ (c, v) :: rest) = all → I D cur len bb bc a5 a6 → (∀ len' bb' bc' a5' a6', I D (cur ++ [(c, v)]) len' bb' bc' a5' a6' → post (nq, ni, q, iv, len', cn, pr, bb', bc', ra, dc, a1, a2, a3, a4, a5', a6', a7, a8, a9, a10, a11, a12, a13, a14, a15, a16, a17)) → wpX_symbol post (nq, ni, q, iv, len, cn, pr, bb, bc, ra, dc, a1, a2, a3, a4, a5, a6, a7, a8, a9, a10, a11, a12, a13, a14, a15, a16, a17) (nI c) v (nI n))
    {D : List (List (Nat × Int32))} {b k run : Nat} {v : Int32} {cur rest : List (Nat × Int32)} {len bb bc : Int32} {a5 a6 : Nat → Int32} (hv : jz_sz v ≤ 13) (hrun : run < 16) (hall : D.flatten ++ (cur ++ (run * 16 + jz_sz v, v) :: rest) = all) (hI : I D cur len bb bc a5 a6)
    (H : ∀ len' bb' bc' a5' a6', I D (cur ++ [(run * 16 + jz_sz v, v)]) len' bb' bc' a5' a6' → J51 0 (nI (k + 1)) nq ni q iv len' cn pr bb' bc' ra dc a1 a2 a3 a4 a5' a6' a7 a8 a9 a10 a11 a12 a13 a14 a15 a16 a17) :
    wX_writeBlock_126 post J51 (nI b) (nI run) (nI k) v nq ni q iv len cn pr bb bc ra dc a1 a2 a3 a4 a5 a6 a7 a8 a9 a10 a11 a12 a13 a14 a15 a16 a17 := by
  refine jg_sizeOf hv ?_
  have e : nI run * 16 + nI (jz_sz v) = nI (run * 16 + jz_sz v) := jn_ma run 16 _
  rw [e]
  exact Hsym pr D cur (run * 16 + jz_sz v) v (jz_sz v) rest len bb bc a5 a6 _ (by omega) hall hI (fun len' bb' bc' a5' a6' q => nm_r (nI_1 k) (H len' bb' bc' a5' a6' q))
theorem jg_91 {post : St1 → Prop} {J51 : Int32 → Int32 → Int32 → Int32 → Int32 → Int32 → Int32 → Int32 → Int32 → Int32 → Int32 → Int32 → Int32 → (Nat → Int32) → (Nat → Int32) → (Nat → Int32) → (Nat → Int32) → (Nat → Int32) → (Nat → Int32) → (Nat → Int32) → (Nat → Int32) → (Nat → Int32) → (Nat → Int32) → (Nat → Int32) → (Nat → Int32) → (Nat → Int32) → (Nat → Int32) → (Nat → Int32) → (Nat → Int32) → (Nat → Int64) → Prop} {pr : Int32}
    (Hsym : ∀ (pr : Int32) (D : List (List (Nat × Int32))) (cur : List (Nat × Int32)) (c : Nat) (v : Int32) (n : Nat) (rest : List (Nat × Int32)) (len bb bc : Int32) (a5 a6 : Nat → Int32) (post : St1 → Prop), c % 16 = n → D.flatten ++ (cur ++ (c, v) :: rest) = all → I D cur len bb bc a5 a6 → (∀ len' bb' bc' a5' a6', I D (cur ++ [(c, v)]) len' bb' bc' a5' a6' → post (nq, ni, q, iv, len', cn, pr, bb', bc', ra, dc, a1, a2, a3, a4, a5', a6', a7, a8, a9, a10, a11, a12, a13, a14, a15, a16, a17)) → wpX_symbol post (nq, ni, q, iv, len, cn, pr, bb, bc, ra, dc, a1, a2, a3, a4, a5, a6, a7, a8, a9, a10, a11, a12, a13, a14, a15, a16, a17) (nI c) v (nI n))
    {D : List (List (Nat × Int32))} {b k : Nat} {v : Int32} {rest : List (Nat × Int32)} (hv : jz_sz v ≤ 13) : ∀ (z i run : Nat) (cur : List (Nat × Int32)) (len bb bc : Int32) (a5 a6 : Nat → Int32), run / 16 = z → run < 64 → i + z ≤ 3 →
    D.flatten ++ (cur ++ (List.replicate z (240, 0) ++ (run % 16 * 16 + jz_sz v, v) :: rest)) = all → I D cur len bb bc a5 a6 →
    (∀ len' bb' bc' a5' a6', I D (cur ++ (List.replicate z (240, 0) ++ [(run % 16 * 16 + jz_sz v, v)])) len' bb' bc' a5' a6' → J51 0 (nI (k + 1)) nq ni q iv len' cn pr bb' bc' ra dc a1 a2 a3 a4 a5' a6' a7 a8 a9 a10 a11 a12 a13 a14 a15 a16 a17) →
    wX_writeBlock_91 post J51 (nI b) (nI k) v (z + 1) (nI run) (nI i) nq ni q iv len cn pr bb bc ra dc a1 a2 a3 a4 a5 a6 a7 a8 a9 a10 a11 a12 a13 a14 a15 a16 a17 := by
  intro z
  induction z with
  | zero =>
    intro i run cur len bb bc a5 a6 hz hr hi hall hI H
    have er : run % 16 = run := by omega
    rw [er] at hall H
    exact br_f (nI_ge (b := 4) (by omega) (by decide)) (br_t (nI_le (b := 15) (by omega) (by decide)) (jg_126 Hsym hv (by omega) hall hI H))
  | succ z ih =>
    intro i run cur len bb bc a5 a6 hz hr hi hall hI H
    have hS := Hsym pr D cur 240 0 0 (List.replicate z (240, 0) ++ (run % 16 * 16 + jz_sz v, v) :: rest) len bb bc a5 a6
    refine br_f (nI_ge (b := 4) (by omega) (by decide)) (br_f (nI_ge (a := 15) (by omega) (by omega)) (hS _ rfl hall hI (fun len' bb' bc' a5' a6' q => ?_)))
    have em : (run - 16) % 16 = run % 16 := by omega
    refine nm_r (pk_sub (a := run) (b := 16) (by omega)) (nm_r (nI_1 i) (ih (i + 1) (run - 16) (cur ++ [(240, 0)]) len' bb' bc' a5' a6' (by omega) (by omega) (by omega) ?_ q (fun l2 b2 c2 x2 y2 q2 => ?_)))
    · rw [em, List.append_assoc]; exact hall
    · rw [em, List.append_assoc] at q2
      exact H l2 b2 c2 x2 y2 q2
theorem jg_51 {post : St1 → Prop} {pr : Int32}
    (Hsym : ∀ (pr : Int32) (D : List (List (Nat × Int32))) (cur : List (Nat × Int32)) (c : Nat) (v : Int32) (n : Nat) (rest : List (Nat × Int32)) (len bb bc : Int32) (a5 a6 : Nat → Int32) (post : St1 → Prop), c % 16 = n → D.flatten ++ (cur ++ (c, v) :: rest) = all → I D cur len bb bc a5 a6 → (∀ len' bb' bc' a5' a6', I D (cur ++ [(c, v)]) len' bb' bc' a5' a6' → post (nq, ni, q, iv, len', cn, pr, bb', bc', ra, dc, a1, a2, a3, a4, a5', a6', a7, a8, a9, a10, a11, a12, a13, a14, a15, a16, a17)) → wpX_symbol post (nq, ni, q, iv, len, cn, pr, bb, bc, ra, dc, a1, a2, a3, a4, a5, a6, a7, a8, a9, a10, a11, a12, a13, a14, a15, a16, a17) (nI c) v (nI n))
    {D : List (List (Nat × Int32))} {b : Nat} {rest : List (Nat × Int32)} (hb : b < 4) (h3 : ∀ k, k < 64 → a3 k = nI (jo_od k)) (hlv : ∀ k, k < 256 → jz_sz (a13 k) ≤ 12) : ∀ (m k run : Nat) (cur : List (Nat × Int32)) (len bb bc : Int32) (a5 a6 : Nat → Int32), k + m = 64 → run < k →
    D.flatten ++ (cur ++ (jy_ac (fun k => a13 (b * 64 + jo_od k)) m k run ++ rest)) = all → I D cur len bb bc a5 a6 →
    (∀ len' bb' bc' a5' a6', I D (cur ++ jy_ac (fun k => a13 (b * 64 + jo_od k)) m k run) len' bb' bc' a5' a6' → post (nq, ni, q, iv, len', cn, pr, bb', bc', ra, dc, a1, a2, a3, a4, a5', a6', a7, a8, a9, a10, a11, a12, a13, a14, a15, a16, a17)) →
    wX_writeBlock_51 post (nI b) (m + 1) (nI run) (nI k) nq ni q iv len cn pr bb bc ra dc a1 a2 a3 a4 a5 a6 a7 a8 a9 a10 a11 a12 a13 a14 a15 a16 a17 := by
  intro m
  induction m with
  | zero =>
    intro k run cur len bb bc a5 a6 hk hr hall hI H
    unfold jy_ac at hall H
    refine br_t (nI_le (a := 64) (by omega) (by omega)) ?_
    by_cases e : run = 0
    · rw [if_pos e] at H
      rw [e]
      refine br_t (by decide) (H len bb bc a5 a6 ?_)
      rw [List.append_nil]; exact hI
    · rw [if_neg e] at hall H
      have hS := Hsym pr D cur 0 0 0 rest len bb bc a5 a6
      exact br_f (nI_nle (by omega) (by omega)) (hS _ rfl hall hI H)
  | succ m ih =>
    intro k run cur len bb bc a5 a6 hk hr hall hI H
    have hlt := jo_lt k (by omega)
    have eix : nI b * 64 + nI (jo_od k) = nI (b * 64 + jo_od k) := jn_ma b 64 _
    refine br_f (nI_ge (b := 64) (by omega) (by decide)) ⟨pk_in k 64 (by omega), ?_⟩
    rw [nI_clamp (by omega), h3 k (by omega), eix]
    refine ⟨vp_in_nI (by omega) (by decide), ?_⟩
    rw [nI_clamp (by omega)]
    refine nm_e ?_
    unfold jy_ac at hall H
    by_cases e : a13 (b * 64 + jo_od k) = 0
    · rw [if_pos e] at hall H
      exact br_t e (nm_r (nI_1 run) (nm_r (nI_1 k) (ih (k + 1) (run + 1) cur len bb bc a5 a6 (by omega) (by omega) hall hI H)))
    · rw [if_neg e] at hall H
      refine br_f e ⟨_, jg_91 (rest := jy_ac (fun k => a13 (b * 64 + jo_od k)) m (k + 1) 0 ++ rest) Hsym (by have := hlv (b * 64 + jo_od k) (by omega); omega) (run / 16) 0 run cur len bb bc a5 a6 rfl (by omega) (by omega) ?_ hI (fun l2 b2 c2 x2 y2 q2 => ?_)⟩
      · rw [List.append_assoc] at hall; exact hall
      · refine ih (k + 1) 0 _ l2 b2 c2 x2 y2 (by omega) (by omega) ?_ q2 (fun l3 b3 c3 x3 y3 q3 => H l3 b3 c3 x3 y3 ?_)
        · rw [← hall]; simp only [List.append_assoc, List.cons_append, List.nil_append]
        · have e2 : cur ++ (List.replicate (run / 16) (240, 0) ++ (run % 16 * 16 + jz_sz (a13 (b * 64 + jo_od k)), a13 (b * 64 + jo_od k)) :: jy_ac (fun k => a13 (b * 64 + jo_od k)) m (k + 1) 0) = (cur ++ (List.replicate (run / 16) (240, 0) ++ [(run % 16 * 16 + jz_sz (a13 (b * 64 + jo_od k)), a13 (b * 64 + jo_od k))])) ++ jy_ac (fun k => a13 (b * 64 + jo_od k)) m (k + 1) 0 := by
            simp only [List.append_assoc, List.cons_append, List.nil_append]
          rw [e2]; exact q3
theorem jg_writeBlock {post : St1 → Prop} {pr : Int32}
    (Hsym : ∀ (pr : Int32) (D : List (List (Nat × Int32))) (cur : List (Nat × Int32)) (c : Nat) (v : Int32) (n : Nat) (rest : List (Nat × Int32)) (len bb bc : Int32) (a5 a6 : Nat → Int32) (post : St1 → Prop), c % 16 = n → D.flatten ++ (cur ++ (c, v) :: rest) = all → I D cur len bb bc a5 a6 → (∀ len' bb' bc' a5' a6', I D (cur ++ [(c, v)]) len' bb' bc' a5' a6' → post (nq, ni, q, iv, len', cn, pr, bb', bc', ra, dc, a1, a2, a3, a4, a5', a6', a7, a8, a9, a10, a11, a12, a13, a14, a15, a16, a17)) → wpX_symbol post (nq, ni, q, iv, len, cn, pr, bb, bc, ra, dc, a1, a2, a3, a4, a5, a6, a7, a8, a9, a10, a11, a12, a13, a14, a15, a16, a17) (nI c) v (nI n))
    {D : List (List (Nat × Int32))} {b ivN : Nat} {cur rest : List (Nat × Int32)} (hb : b < 4) (h3 : ∀ k, k < 64 → a3 k = nI (jo_od k)) (hlv : ∀ k, k < 256 → jz_sz (a13 k) ≤ 12) (hd : jz_sz (a13 (b * 64) - jy_pr a13 ivN b) ≤ 13) (hpr : pr = jy_pr a13 ivN b)
    {len bb bc : Int32} {a5 a6 : Nat → Int32} (hall : D.flatten ++ (cur ++ (jy_blk a13 ivN b ++ rest)) = all) (hI : I D cur len bb bc a5 a6)
    (H : ∀ len' bb' bc' a5' a6', I D (cur ++ jy_blk a13 ivN b) len' bb' bc' a5' a6' → post (nq, ni, q, iv, len', cn, a13 (b * 64), bb', bc', ra, dc, a1, a2, a3, a4, a5', a6', a7, a8, a9, a10, a11, a12, a13, a14, a15, a16, a17)) :
    wpX_writeBlock post (nq, ni, q, iv, len, cn, pr, bb, bc, ra, dc, a1, a2, a3, a4, a5, a6, a7, a8, a9, a10, a11, a12, a13, a14, a15, a16, a17) (nI b) := by
  have eix : nI b * 64 = nI (b * 64) := pk_mul b 64
  have ein : vp_in (nI b * 64) 256 := by rw [eix]; exact vp_in_nI (by omega) (by decide)
  have ecl : (nI b * 64).toNatClampNeg = b * 64 := by rw [eix]; exact nI_clamp (by omega)
  have eblk : jy_blk a13 ivN b = (256 + jz_sz (a13 (b * 64) - pr), a13 (b * 64) - pr) :: jy_ac (fun k => a13 (b * 64 + jo_od k)) 63 1 0 := by unfold jy_blk; rw [hpr]
  rw [← hpr] at hd
  rw [eblk] at hall H
  generalize hd0 : a13 (b * 64) - pr = d at hd hall H
  refine ⟨ein, ?_⟩
  rw [ecl]
  refine nm_r hd0 ⟨ein, nm_e (jg_sizeOf hd ?_)⟩
  have e : (256 : Int32) + nI (jz_sz d) = nI (256 + jz_sz d) := nI_add 256 _
  rw [e]
  exact Hsym (a13 (b * 64)) D cur (256 + jz_sz d) d (jz_sz d) (jy_ac (fun k => a13 (b * 64 + jo_od k)) 63 1 0 ++ rest) len bb bc a5 a6 _ (by omega) hall hI (fun len' bb' bc' a5' a6' q =>
    ⟨_, jg_51 Hsym hb h3 hlv 63 1 0 (cur ++ [(256 + jz_sz d, d)]) len' bb' bc' a5' a6' rfl (by decide) (by rw [← hall, List.append_assoc]; rfl) q (fun l3 b3 c3 x3 y3 q3 => H l3 b3 c3 x3 y3 (by rw [List.append_assoc] at q3; exact q3))⟩)
end
end
section
theorem js_mod {b s iv : Nat} (h1 : s * iv ≤ b) (h2 : b < s * iv + iv) : b % iv = b - s * iv ∧ b / iv = s := by
  have e : b = (b - s * iv) + iv * s := by rw [Nat.mul_comm iv s]; omega
  have hlt : b - s * iv < iv := by omega
  constructor
  · conv => lhs; rw [e]
    rw [Nat.add_mul_mod_self_left, Nat.mod_eq_of_lt hlt]
  · conv => lhs; rw [e]
    rw [Nat.add_mul_div_left _ _ (by omega), Nat.div_eq_of_lt hlt, Nat.zero_add]
/-- the symbols of segment j; the first t segments; the number of segments -/
def js_sy (lv : Nat → Int32) (iv j : Nat) : List (Nat × Int32) := jy_cat (jy_blk lv iv) (j * iv) (min iv (4 - j * iv))
def js_D (lv : Nat → Int32) (iv t : Nat) : List (List (Nat × Int32)) := (List.range t).map (js_sy lv iv)
def js_n (iv : Nat) : Nat := 3 / iv + 1
theorem js_D_s (lv : Nat → Int32) (iv t : Nat) : js_D lv iv (t + 1) = js_D lv iv t ++ [js_sy lv iv t] := by
  unfold js_D; rw [List.range_succ, List.map_append]; rfl
theorem js_D_len (lv : Nat → Int32) (iv t : Nat) : (js_D lv iv t).length = t := by unfold js_D; rw [List.length_map, List.length_range]
section
variable {nq ni q iv cn ra dc : Int32} {a1 a2 a3 a4 a7 a8 a9 a10 a11 a12 a13 a14 a15 a16 : Nat → Int32} {a17 : Nat → Int64} {I : List (List (Nat × Int32)) → List (Nat × Int32) → Int32 → Int32 → Int32 → (Nat → Int32) → (Nat → Int32) → Prop} {all : List (Nat × Int32)}
theorem jg_17 {post : St1 → Prop} {ivN : Nat} (hiv : iv = nI ivN) (hiv1 : 1 ≤ ivN) (hiv4 : ivN ≤ 4) (hal : all = jy_cat (jy_blk a13 ivN) 0 4)
    (Hsym : ∀ (pr : Int32) (D : List (List (Nat × Int32))) (cur : List (Nat × Int32)) (c : Nat) (v : Int32) (n : Nat) (rest : List (Nat × Int32)) (len bb bc : Int32) (a5 a6 : Nat → Int32) (post : St1 → Prop), c % 16 = n → D.flatten ++ (cur ++ (c, v) :: rest) = all → I D cur len bb bc a5 a6 → (∀ len' bb' bc' a5' a6', I D (cur ++ [(c, v)]) len' bb' bc' a5' a6' → post (nq, ni, q, iv, len', cn, pr, bb', bc', ra, dc, a1, a2, a3, a4, a5', a6', a7, a8, a9, a10, a11, a12, a13, a14, a15, a16, a17)) → wpX_symbol post (nq, ni, q, iv, len, cn, pr, bb, bc, ra, dc, a1, a2, a3, a4, a5, a6, a7, a8, a9, a10, a11, a12, a13, a14, a15, a16, a17) (nI c) v (nI n))
    (Hend : ∀ (pr : Int32) (D : List (List (Nat × Int32))) (cur rest : List (Nat × Int32)) (sg : Nat) (len bb bc : Int32) (a5 a6 : Nat → Int32) (post : St1 → Prop), D.flatten ++ (cur ++ rest) = all → D.length = sg → sg < 4 → I D cur len bb bc a5 a6 → (∀ len' bb' bc' a5' a6', I (D ++ [cur]) [] len' bb' bc' a5' a6' → post (nq, ni, q, iv, len', cn, pr, bb', bc', ra, dc, a1, a2, a3, a4, a5', a6', a7, a8, a9, a10, a11, a12, a13, a14, a15, a16, a17)) → wpX_endSegment post (nq, ni, q, iv, len, cn, pr, bb, bc, ra, dc, a1, a2, a3, a4, a5, a6, a7, a8, a9, a10, a11, a12, a13, a14, a15, a16, a17) (nI sg))
    (h3 : ∀ k, k < 64 → a3 k = nI (jo_od k)) (hlv : ∀ k, k < 256 → jz_sz (a13 k) ≤ 12) (hd : ∀ b, b < 4 → jz_sz (a13 (b * 64) - jy_pr a13 ivN b) ≤ 13)
    (H : ∀ pr' len' bb' bc' a5' a6', I (js_D a13 ivN (js_n ivN)) [] len' bb' bc' a5' a6' → post (nq, ni, q, iv, len', cn, pr', bb', bc', ra, dc, a1, a2, a3, a4, a5', a6', a7, a8, a9, a10, a11, a12, a13, a14, a15, a16, a17)) :
    ∀ (r b seg : Nat) (cur : List (Nat × Int32)) (pr len bb bc : Int32) (a5 a6 : Nat → Int32), b + r = 4 → seg * ivN ≤ b → b ≤ seg * ivN + ivN → (b = 0 → seg = 0) → (0 < b → seg * ivN < b) → cur = jy_cat (jy_blk a13 ivN) (seg * ivN) (b - seg * ivN) → (js_D a13 ivN seg).flatten ++ cur = jy_cat (jy_blk a13 ivN) 0 b →
    (b = 0 → pr = 0) → (0 < b → pr = a13 ((b - 1) * 64)) → I (js_D a13 ivN seg) cur len bb bc a5 a6 → wX_writeAll_17 post (r + 1) (nI seg) (nI (b - seg * ivN)) (nI b) nq ni q iv len cn pr bb bc ra dc a1 a2 a3 a4 a5 a6 a7 a8 a9 a10 a11 a12 a13 a14 a15 a16 a17 := by
  subst hiv
  intro r
  have hcat : ∀ b, b < 4 → ∃ rest, jy_cat (jy_blk a13 ivN) 0 b ++ (jy_blk a13 ivN b ++ rest) = all := by
    intro b hb
    have key : ∀ d b, ∃ rest, jy_cat (jy_blk a13 ivN) 0 b ++ (jy_blk a13 ivN b ++ rest) = jy_cat (jy_blk a13 ivN) 0 (b + 1 + d) := by
      intro d
      induction d with
      | zero => intro b; exact ⟨[], by rw [List.append_nil, Nat.add_zero, jy_cat_end, Nat.zero_add]⟩
      | succ d ih =>
        intro b
        obtain ⟨rest, hr⟩ := ih b
        refine ⟨rest ++ jy_blk a13 ivN (b + 1 + d), ?_⟩
        rw [show b + 1 + (d + 1) = (b + 1 + d) + 1 by omega, jy_cat_end, ← hr, Nat.zero_add]
        simp only [List.append_assoc]
    obtain ⟨rest, hr⟩ := key (3 - b) b
    exact ⟨rest, by rw [hr, hal, show b + 1 + (3 - b) = 4 by omega]⟩
  induction r with
  | zero =>
    intro b seg cur pr len bb bc a5 a6 hb s1 s2 s3 s4 ecur efl _ _ hI
    have hb4 : b = 4 := by omega
    subst hb4
    have s4' := s4 (by decide)
    have hseg : seg < 4 := by
      rcases Nat.lt_or_ge seg 4 with z | z
      · exact z
      · have : 4 * 1 ≤ seg * ivN := Nat.mul_le_mul z hiv1
        omega
    have hm := (js_mod (b := 3) (s := seg) (iv := ivN) (by omega) (by omega)).2
    have ec : cur = js_sy a13 ivN seg := by
      rw [ecur]; unfold js_sy; rw [Nat.min_eq_right (by omega)]
    refine br_t (nI_le (a := 4) (Nat.le_refl 4) (by decide)) (Hend pr (js_D a13 ivN seg) cur [] seg len bb bc a5 a6 _ (by rw [List.append_nil, efl, hal]) (js_D_len _ _ _) hseg hI (fun len' bb' bc' a5' a6' q => ?_))
    rw [ec, ← js_D_s] at q
    refine H pr len' bb' bc' a5' a6' ?_
    unfold js_n
    rw [hm]; exact q
  | succ r ih =>
    intro b seg cur pr len bb bc a5 a6 hb s1 s2 s3 s4 ecur efl hp0 hp1 hI
    have P46 : ∀ (seg : Nat) (cur : List (Nat × Int32)) (pr len bb bc : Int32) (a5 a6 : Nat → Int32), seg * ivN ≤ b → b < seg * ivN + ivN → cur = jy_cat (jy_blk a13 ivN) (seg * ivN) (b - seg * ivN) → (js_D a13 ivN seg).flatten ++ cur = jy_cat (jy_blk a13 ivN) 0 b → pr = jy_pr a13 ivN b → I (js_D a13 ivN seg) cur len bb bc a5 a6 →
        wX_writeAll_46 post (wX_writeAll_17 post (r + 1)) (nI seg) (nI (b - seg * ivN)) (nI b) nq ni q (nI ivN) len cn pr bb bc ra dc a1 a2 a3 a4 a5 a6 a7 a8 a9 a10 a11 a12 a13 a14 a15 a16 a17 := by
      intro seg cur pr len bb bc a5 a6 t1 t2 tc tf tp tI
      obtain ⟨rest, hrest⟩ := hcat b (by omega)
      refine jg_writeBlock (ivN := ivN) (cur := cur) (rest := rest) Hsym (by omega) h3 hlv (hd b (by omega)) tp ?_ tI (fun len' bb' bc' a5' a6' q => ?_)
      · rw [← List.append_assoc, tf]; exact hrest
      · refine nm_r (nI_1 _) (nm_r (nI_1 _) ?_)
        rw [show b - seg * ivN + 1 = b + 1 - seg * ivN by omega]
        refine ih (b + 1) seg _ _ len' bb' bc' a5' a6' (by omega) (by omega) (by omega) (fun z => absurd z (by omega)) (fun _ => by omega) ?_ ?_ (fun z => absurd z (by omega)) (fun _ => by rw [Nat.add_sub_cancel]) q
        · rw [tc, show b + 1 - seg * ivN = (b - seg * ivN) + 1 by omega, jy_cat_end, show seg * ivN + (b - seg * ivN) = b by omega]
        · rw [← List.append_assoc, tf, jy_cat_end, Nat.zero_add]
    refine br_f (nI_ge (b := 4) (by omega) (by decide)) ?_
    refine pk_eq (b - seg * ivN) ivN (fun e => ?_) (fun e => ?_)
    · have hseg : seg < 4 := by
        rcases Nat.lt_or_ge seg 4 with z | z
        · exact z
        · have : 4 * 1 ≤ seg * ivN := Nat.mul_le_mul z hiv1
          omega
      have ec : cur = js_sy a13 ivN seg := by
        rw [ecur]; unfold js_sy; rw [e, Nat.min_eq_left (by omega)]
      have esm : (seg + 1) * ivN = b := by rw [Nat.succ_mul]; omega
      obtain ⟨rest, hrest⟩ := hcat b (by omega)
      refine Hend pr (js_D a13 ivN seg) cur (jy_blk a13 ivN b ++ rest) seg len bb bc a5 a6 _ (by rw [← List.append_assoc, efl]; exact hrest) (js_D_len _ _ _) hseg hI (fun len' bb' bc' a5' a6' q => nm_r (nI_1 seg) ?_)
      rw [ec, ← js_D_s] at q
      have K := P46 (seg + 1) [] 0 len' bb' bc' a5' a6' (by omega) (by omega) (by rw [esm, Nat.sub_self]; rfl) (by rw [js_D_s, ← ec, List.flatten_append, List.append_nil, ← efl]; simp only [List.flatten_cons, List.flatten_nil, List.append_nil]) (by unfold jy_pr; rw [if_pos (by rw [(js_mod (b := b) (s := seg + 1) (iv := ivN) (by omega) (by omega)).1]; omega)]) q
      rw [esm, Nat.sub_self] at K
      exact K
    · have hlt : b < seg * ivN + ivN := by omega
      refine P46 seg cur pr len bb bc a5 a6 s1 hlt ecur efl ?_ hI
      unfold jy_pr
      rw [(js_mod s1 hlt).1]
      by_cases z : b = 0
      · rw [if_pos (by omega)]; exact hp0 z
      · rw [if_neg (by have := s4 (by omega); omega)]; exact hp1 (by omega)
theorem jg_writeAll {post : St1 → Prop} {ivN : Nat} {cn0 pr0 : Int32} (hn : narrow .boolean (.int cn) = .int cn ∧ fits .boolean (.int cn) = true) (hiv : iv = nI ivN) (hiv1 : 1 ≤ ivN) (hiv4 : ivN ≤ 4) (hal : all = jy_cat (jy_blk a13 ivN) 0 4)
    (Hsym : ∀ (pr : Int32) (D : List (List (Nat × Int32))) (cur : List (Nat × Int32)) (c : Nat) (v : Int32) (n : Nat) (rest : List (Nat × Int32)) (len bb bc : Int32) (a5 a6 : Nat → Int32) (post : St1 → Prop), c % 16 = n → D.flatten ++ (cur ++ (c, v) :: rest) = all → I D cur len bb bc a5 a6 → (∀ len' bb' bc' a5' a6', I D (cur ++ [(c, v)]) len' bb' bc' a5' a6' → post (nq, ni, q, iv, len', cn, pr, bb', bc', ra, dc, a1, a2, a3, a4, a5', a6', a7, a8, a9, a10, a11, a12, a13, a14, a15, a16, a17)) → wpX_symbol post (nq, ni, q, iv, len, cn, pr, bb, bc, ra, dc, a1, a2, a3, a4, a5, a6, a7, a8, a9, a10, a11, a12, a13, a14, a15, a16, a17) (nI c) v (nI n))
    (Hend : ∀ (pr : Int32) (D : List (List (Nat × Int32))) (cur rest : List (Nat × Int32)) (sg : Nat) (len bb bc : Int32) (a5 a6 : Nat → Int32) (post : St1 → Prop), D.flatten ++ (cur ++ rest) = all → D.length = sg → sg < 4 → I D cur len bb bc a5 a6 → (∀ len' bb' bc' a5' a6', I (D ++ [cur]) [] len' bb' bc' a5' a6' → post (nq, ni, q, iv, len', cn, pr, bb', bc', ra, dc, a1, a2, a3, a4, a5', a6', a7, a8, a9, a10, a11, a12, a13, a14, a15, a16, a17)) → wpX_endSegment post (nq, ni, q, iv, len, cn, pr, bb, bc, ra, dc, a1, a2, a3, a4, a5, a6, a7, a8, a9, a10, a11, a12, a13, a14, a15, a16, a17) (nI sg))
    (h3 : ∀ k, k < 64 → a3 k = nI (jo_od k)) (hlv : ∀ k, k < 256 → jz_sz (a13 k) ≤ 12) (hd : ∀ b, b < 4 → jz_sz (a13 (b * 64) - jy_pr a13 ivN b) ≤ 13)
    (H : ∀ pr' len' bb' bc' a5' a6', I (js_D a13 ivN (js_n ivN)) [] len' bb' bc' a5' a6' → post (nq, ni, q, iv, len', cn, pr', bb', bc', ra, dc, a1, a2, a3, a4, a5', a6', a7, a8, a9, a10, a11, a12, a13, a14, a15, a16, a17))
    {len bb bc : Int32} {a5 a6 : Nat → Int32} (hI : I [] [] len bb bc a5 a6) : wpX_writeAll post (nq, ni, q, iv, len, cn0, pr0, bb, bc, ra, dc, a1, a2, a3, a4, a5, a6, a7, a8, a9, a10, a11, a12, a13, a14, a15, a16, a17) cn := by
  refine ⟨hn.1, hn.2, 5, ?_⟩
  have := jg_17 hiv hiv1 hiv4 hal Hsym Hend h3 hlv hd H 4 0 0 [] 0 len bb bc a5 a6 rfl (by omega) (by omega) (fun _ => rfl) (fun z => absurd z (by decide)) (by rw [Nat.zero_mul]; rfl) rfl (fun _ => rfl) (fun z => absurd z (by decide)) hI
  rw [Nat.zero_mul] at this
  exact this
end
end
section
/-- the arrays hold weights W and nodes above P -/
def jk_WP (W P : Nat → Nat) (a6 a7 : Nat → Int32) : Prop := ∀ k, k < 544 → a6 k = nI (W k) ∧ a7 k = (if P k = 0 then -1 else nI (P k)) ∧ W k < 2 ^ 30 ∧ P k ≤ 544
/-- the lightest free node below k, or -1 -/
def jk_best (fr to nx : Nat) (W P : Nat → Nat) (k : Nat) (x : Int32) : Prop :=
  (x = -1 ∧ ∀ j, j < k → ¬ jh_al fr to nx W P j) ∨ (∃ b, x = nI b ∧ b < k ∧ jh_al fr to nx W P b ∧ ∀ j, j < k → jh_al fr to nx W P j → W b ≤ W j)
theorem jk_skip {fr to nx : Nat} {W P : Nat → Nat} {k : Nat} {x : Int32} (h : jk_best fr to nx W P k x) (hk : ¬ jh_al fr to nx W P k) : jk_best fr to nx W P (k + 1) x := by
  rcases h with ⟨h1, h2⟩ | ⟨b, h1, h2, h3, h4⟩
  · refine Or.inl ⟨h1, fun j hj => ?_⟩
    by_cases e : j = k
    · rw [e]; exact hk
    · exact h2 j (by omega)
  · refine Or.inr ⟨b, h1, by omega, h3, fun j hj ha => ?_⟩
    by_cases e : j = k
    · exact absurd (e ▸ ha) hk
    · exact h4 j (by omega) ha
theorem jk_n1 : (-1 : Int32) < 0 := by decide
section
variable {nq ni q iv len cn pr bb bc ra dc : Int32} {a1 a2 a3 a4 a5 a6 a7 a8 a9 a10 a11 a12 a13 a14 a15 a16 : Nat → Int32} {a17 : Nat → Int64}
theorem jk_6 {post : Int32 → Prop} {fr to nx : Nat} {W P : Nat → Nat} (h : jk_WP W P a6 a7) (ht : to ≤ 272) (hn1 : 272 ≤ nx) (hn2 : nx ≤ 544) (H : ∀ x, jk_best fr to nx W P nx x → post x) : ∀ r k x, k + r = nx → fr ≤ k → jk_best fr to nx W P k x →
    wX_lightest_6 post (nI to) 272 (nI nx) nq ni q iv len cn pr bb bc ra dc a1 a2 a3 a4 a5 a6 a7 a8 a9 a10 a11 a12 a13 a14 a15 a16 a17 (r + 1) x (nI k) := by
  intro r
  induction r with
  | zero =>
    intro k x h1 h2 hB
    have e : k = nx := by omega
    subst e
    exact br_t (nI_le (Nat.le_refl _) (by omega)) (H x hB)
  | succ r ih =>
    intro k x h1 h2 hB
    obtain ⟨h6, h7, hW, hP⟩ := h k (by omega)
    have nxt : ∀ y, jk_best fr to nx W P (k + 1) y → ∀ z : Int32, z = nI k + 1 → wX_lightest_6 post (nI to) 272 (nI nx) nq ni q iv len cn pr bb bc ra dc a1 a2 a3 a4 a5 a6 a7 a8 a9 a10 a11 a12 a13 a14 a15 a16 a17 (r + 1) y z := fun y hy => nm_r (nI_1 k) (ih (k + 1) y (by omega) (by omega) hy)
    have ecl : (nI k).toNatClampNeg = k := nI_clamp (by omega)
    have hin : vp_in (nI k) 544 := pk_in k 544 (by omega)
    have own : k < to ∨ 272 ≤ k → wX_lightest_25 post (wX_lightest_6 post (nI to) 272 (nI nx) nq ni q iv len cn pr bb bc ra dc a1 a2 a3 a4 a5 a6 a7 a8 a9 a10 a11 a12 a13 a14 a15 a16 a17 (r + 1)) (nI to) 272 (nI nx) x (nI k) nq ni q iv len cn pr bb bc ra dc a1 a2 a3 a4 a5 a6 a7 a8 a9 a10 a11 a12 a13 a14 a15 a16 a17 := by
      intro ho
      refine br_f (by decide) ⟨hin, ?_⟩
      rw [ecl, h6, h7]
      refine pk_le (W k) 0 (fun z => ?_) (fun z => ⟨hin, ?_⟩)
      · exact nxt x (jk_skip hB (fun a => by have := a.2.1; omega))
      · by_cases eP : P k = 0
        · rw [if_pos eP]
          have hal : jh_al fr to nx W P k := ⟨⟨h2, ho, by omega⟩, z, eP⟩
          refine br_f (by decide) ?_
          rcases hB with ⟨b1, b2⟩ | ⟨b, b1, b2, b3, b4⟩
          · rw [b1]
            refine br_t jk_n1 (nxt (nI k) (Or.inr ⟨k, rfl, by omega, hal, fun j hj ha => ?_⟩))
            by_cases e : j = k
            · rw [e]; exact Nat.le_refl _
            · exact absurd ha (b2 j (by omega))
          · rw [b1]
            obtain ⟨g6, g7, gW, gP⟩ := h b (by omega)
            refine br_f (nI_pos (by omega)) ⟨hin, pk_in b 544 (by omega), ?_⟩
            rw [nI_clamp (by omega), g6]
            refine pk_le (W b) (W k) (fun y => ?_) (fun y => ?_)
            · refine nxt (nI b) (Or.inr ⟨b, rfl, by omega, b3, fun j hj ha => ?_⟩)
              by_cases e : j = k
              · rw [e]; exact y
              · exact b4 j (by omega) ha
            · refine nxt (nI k) (Or.inr ⟨k, rfl, by omega, hal, fun j hj ha => ?_⟩)
              by_cases e : j = k
              · rw [e]; exact Nat.le_refl _
              · have := b4 j (by omega) ha; omega
        · rw [if_neg eP]
          exact br_t (nI_pos' (by omega)) (nxt x (jk_skip hB (fun a => eP a.2.2)))
    refine br_f (nI_ge (by omega) (by omega)) (pk_lt k to (fun z => own (Or.inl z)) (fun z => pk_lt k 272 (fun y => ?_) (fun y => own (Or.inr y))))
    exact br_t rfl (nxt x (jk_skip hB (fun a => by have := a.1.2.1; omega)))
theorem jk_lightest {post : Int32 → Prop} {fr to nx : Nat} {W P : Nat → Nat} (h : jk_WP W P a6 a7) (hf : fr ≤ 272) (ht : to ≤ 272) (hn1 : 272 ≤ nx) (hn2 : nx ≤ 544) (H : ∀ x, jk_best fr to nx W P nx x → post x) : wpX_lightest post (nq, ni, q, iv, len, cn, pr, bb, bc, ra, dc, a1, a2, a3, a4, a5, a6, a7, a8, a9, a10, a11, a12, a13, a14, a15, a16, a17) (nI fr) (nI to) 272 (nI nx) :=
  ⟨nx - fr + 1, jk_6 h ht hn1 hn2 H (nx - fr) fr (-1) (by omega) (Nat.le_refl _) (Or.inl ⟨rfl, fun j hj a => by have := a.1.1; omega⟩)⟩
theorem jk_18 {post : Int32 → Prop} {W P : Nat → Nat} (h : jk_WP W P a6 a7) (hP : ∀ k, k < 544 → P k < 544) : ∀ r i d at_ : Nat, i + r = 32 → at_ < 544 → d ≤ i → (wX_depthOf_50 post (nI (d + jh_dep P r at_)) nq ni q iv len cn pr bb bc ra dc a1 a2 a3 a4 a5 a6 a7 a8 a9 a10 a11 a12 a13 a14 a15 a16 a17) → wX_depthOf_18 post nq ni q iv len cn pr bb bc ra dc a1 a2 a3 a4 a5 a6 a7 a8 a9 a10 a11 a12 a13 a14 a15 a16 a17 (r + 1) (nI d) (nI at_) (nI i) := by
  intro r
  induction r with
  | zero =>
    intro i d at_ h1 h2 h3 H
    exact br_t (nI_le (a := 32) (by omega) (by omega)) H
  | succ r ih =>
    intro i d at_ h1 h2 h3 H
    obtain ⟨h6, h7, hW, hP'⟩ := h at_ h2
    have hin : vp_in (nI at_) 544 := pk_in at_ 544 h2
    refine br_f (nI_ge (b := 32) (by omega) (by decide)) ⟨hin, ?_⟩
    rw [nI_clamp (by omega), h7]
    have eD : jh_dep P (r + 1) at_ = if P at_ = 0 then 0 else jh_dep P r (P at_) + 1 := rfl
    rw [eD] at H
    by_cases e : P at_ = 0
    · rw [if_pos e] at H ⊢
      exact br_t jk_n1 H
    · rw [if_neg e] at H ⊢
      refine br_f (nI_pos (by omega)) ⟨hin, nm_e (nm_r (nI_1 d) (nm_r (nI_1 i) ?_))⟩
      refine ih (i + 1) (d + 1) (P at_) (by omega) (hP at_ h2) (by omega) ?_
      rw [show d + 1 + jh_dep P r (P at_) = d + (jh_dep P r (P at_) + 1) by omega]; exact H
theorem jk_depthOf {post : Int32 → Prop} {W W0 P : Nat → Nat} (h : jk_WP W P a6 a7) (hP : ∀ k, k < 544 → P k < 544) {k : Nat} (hk : k < 272) (hW : W k = W0 k) (hd : W0 k ≠ 0 → jh_dep P 32 k ≤ 15) (H : post (nI (jh_L W0 P k))) : wpX_depthOf post (nq, ni, q, iv, len, cn, pr, bb, bc, ra, dc, a1, a2, a3, a4, a5, a6, a7, a8, a9, a10, a11, a12, a13, a14, a15, a16, a17) (nI k) := by
  obtain ⟨h6, h7, hWk, hP'⟩ := h k (by omega)
  refine ⟨pk_in k 544 (by omega), ?_⟩
  rw [nI_clamp (by omega), h6, hW]
  unfold jh_L at H
  by_cases e : W0 k = 0
  · rw [if_pos e] at H
    rw [e]
    exact br_t rfl H
  · rw [if_neg e] at H
    have hd' := hd e
    refine br_f (nI_ne0 (by omega) (by omega)) ⟨33, jk_18 h hP 32 0 0 k rfl (by omega) (by omega) ?_⟩
    rw [Nat.zero_add]
    by_cases e2 : jh_dep P 32 k = 0
    · rw [if_pos e2] at H
      rw [e2]
      exact br_t rfl H
    · rw [if_neg e2] at H
      exact br_f (nI_ne0 (by omega) (by omega)) H
end
section
variable {nq ni q iv len cn pr bb bc ra dc : Int32} {a1 a2 a3 a5 a6 a7 a8 a9 a10 a11 a12 a13 a14 a15 a16 : Nat → Int32} {a17 : Nat → Int64}
theorem jk_180 {post : St1 → Prop} {fr to : Nat} {W W0 P : Nat → Nat} (h : jk_WP W P a6 a7) (hP : ∀ k, k < 544 → P k < 544) (ht : to ≤ 272) (hW : ∀ k, k < 272 → W k = W0 k) (hd : ∀ k, fr ≤ k → k < to → W0 k ≠ 0 → jh_dep P 32 k ≤ 15) :
    ∀ (r k : Nat) (a4 : Nat → Int32), k + r = to → fr ≤ k → (∀ a4', (∀ j, k ≤ j → j < to → a4' j = nI (jh_L W0 P j)) → (∀ j, j < k ∨ to ≤ j → a4' j = a4 j) → post (nq, ni, q, iv, len, cn, pr, bb, bc, ra, dc, a1, a2, a3, a4', a5, a6, a7, a8, a9, a10, a11, a12, a13, a14, a15, a16, a17)) → wX_makeLengths_180 post (nI to) nq ni q iv len cn pr bb bc ra dc (r + 1) (nI k) a1 a2 a3 a4 a5 a6 a7 a8 a9 a10 a11 a12 a13 a14 a15 a16 a17 := by
  intro r
  induction r with
  | zero =>
    intro k a4 h1 h2 H
    have e : k = to := by omega
    subst e
    exact br_t (nI_le (Nat.le_refl _) (by omega)) (H a4 (fun j j1 j2 => absurd j1 (by omega)) (fun j _ => rfl))
  | succ r ih =>
    intro k a4 h1 h2 H
    refine br_f (nI_ge (by omega) (by omega)) (jk_depthOf h hP (by omega) (hW k (by omega)) (hd k h2 (by omega)) ⟨pk_in k 272 (by omega), nm_e (nm_r (nI_1 k) ?_)⟩)
    rw [nI_clamp (by omega)]
    refine ih (k + 1) _ (by omega) (by omega) (fun a4' q1 q2 => H a4' (fun j j1 j2 => ?_) (fun j hj => ?_))
    · by_cases e : j = k
      · rw [e, q2 k (by omega), pk_us]
      · exact q1 j (by omega) j2
    · rw [q2 j (by omega)]; exact pk_un (by omega)
end
/-- what makeLengths leaves -/
def jk_out (fr to : Nat) (W0 L : Nat → Nat) : Prop := (∀ k, fr ≤ k → k < to → (W0 k = 0 → L k = 0) ∧ (W0 k ≠ 0 → 1 ≤ L k ∧ L k ≤ 15)) ∧ jc_K L fr to
theorem jk_out_of {fr to T M nx : Nat} {W0 W P : Nat → Nat} (I : jh_I fr to W0 T M nx W P) (hT : T < 256) (h1 : ∀ k j, jh_al fr to nx W P k → jh_al fr to nx W P j → k = j) : jk_out fr to W0 (jh_L W0 P) := by
  have hl : ∀ k, fr ≤ k → k < to → (W0 k = 0 → jh_L W0 P k = 0) ∧ (W0 k ≠ 0 → 1 ≤ jh_L W0 P k ∧ jh_L W0 P k ≤ 15) := by
    intro k k1 k2
    refine ⟨fun e => ?_, fun e => jh_L_in I hT k k1 k2 (by omega)⟩
    unfold jh_L; rw [if_pos e]
  refine ⟨hl, ?_⟩
  have ht : to ≤ 272 := I.1.2.1
  have K := jh_kraft I hT h1
  have mono : ∀ (f : Nat → Nat) (d : Nat), jh_sum f to ≤ jh_sum f (to + d) := by
    intro f d
    induction d with
    | zero => exact Nat.le_refl _
    | succ d ih => show _ ≤ jh_sum f (to + d) + f (to + d); omega
  have m2 := mono (jh_lf fr to W0 (fun k => 2 ^ (16 - jh_L W0 P k))) (544 - to)
  rw [show to + (544 - to) = 544 by omega] at m2
  unfold jc_K
  refine Nat.le_trans (jh_sum_le to (fun k hk => ?_)) (Nat.le_trans m2 K)
  by_cases e : fr ≤ k ∧ 1 ≤ jh_L W0 P k
  · rw [if_pos e]
    unfold jh_lf
    rw [if_pos ⟨⟨e.1, hk⟩, by have := (hl k e.1 hk).1; omega⟩]
    exact Nat.le_refl _
  · rw [if_neg e]; exact Nat.zero_le _
theorem jk_al_up {fr to nx a : Nat} {W P : Nat → Nat} (hnx : nx ≠ 0) (k : Nat) : jh_al fr to nx W (jh_up P a nx) k ↔ jh_al fr to nx W P k ∧ k ≠ a := by
  unfold jh_al
  by_cases e : k = a
  · rw [e, jh_up_s]
    exact ⟨fun z => absurd z.2.2 hnx, fun z => absurd rfl z.2⟩
  · rw [jh_up_n e]
    exact ⟨fun z => ⟨z, e⟩, fun z => z.1⟩
theorem jk_WP_up {W P : Nat → Nat} {a6 a7 : Nat → Int32} {a nx : Nat} (h : jk_WP W P a6 a7) (h0 : nx ≠ 0) (hn : nx ≤ 544) : jk_WP W (jh_up P a nx) a6 (upd a7 a (nI nx)) := by
  intro k hk
  obtain ⟨h6, h7, hW, hP⟩ := h k hk
  by_cases e : k = a
  · rw [e, jh_up_s, pk_us, if_neg h0, ← e]; exact ⟨h6, rfl, hW, hn⟩
  · rw [jh_up_n e, pk_un e]; exact ⟨h6, h7, hW, hP⟩
section
variable {nq ni q iv len cn pr bb bc ra dc : Int32} {a1 a2 a3 a5 a8 a9 a10 a11 a12 a13 a14 a15 a16 : Nat → Int32} {a17 : Nat → Int64}
theorem jk_51 {post : St1 → Prop} {fr to T M : Nat} {W0 : Nat → Nat} {a4 : Nat → Int32} (hT : T < 256) (hM : M ≤ 256)
    (H : ∀ a4' a6' a7' L, jk_out fr to W0 L → (∀ k, fr ≤ k → k < to → a4' k = nI (L k)) → (∀ k, k < fr ∨ to ≤ k → a4' k = a4 k) → (∀ k, k < 272 → a6' k = nI (W0 k)) → post (nq, ni, q, iv, len, cn, pr, bb, bc, ra, dc, a1, a2, a3, a4', a5, a6', a7', a8, a9, a10, a11, a12, a13, a14, a15, a16, a17)) :
    ∀ (r nx : Nat) (W P : Nat → Nat) (a6 a7 : Nat → Int32), nx + r = 530 → jh_I fr to W0 T M nx W P → jk_WP W P a6 a7 → wX_makeLengths_51 post (nI fr) (nI to) nq ni q iv len cn pr bb bc ra dc (r + 2) (nI nx) 1 (nI (nx - 272)) a1 a2 a3 a4 a5 a6 a7 a8 a9 a10 a11 a12 a13 a14 a15 a16 a17 := by
  intro r
  induction r with
  | zero =>
    intro nx W P a6 a7 h1 I hWP
    have := I.2.2.2.2.2.2.2.2.2.1
    omega
  | succ r ih =>
    intro nx W P a6 a7 h1 I hWP
    have hb := I.1
    obtain ⟨hb1, hb2, hb3, hb4⟩ := hb
    have hsum := I.2.2.2.2.2.2.2.2.2.1
    have hnx0 : nx ≠ 0 := by omega
    have hPlt : ∀ k, k < 544 → P k < 544 := by
      intro k _
      by_cases e : P k = 0
      · omega
      · have := (I.2.2.2.1 k e).2.2.2.2; omega
    -- the way out: more = 0
    have out : (∀ k j, jh_al fr to nx W P k → jh_al fr to nx W P j → k = j) → ∀ (z : Int32) (a7' : Nat → Int32), (∀ k, k < 544 → a7' k = a7 k) → wX_makeLengths_51 post (nI fr) (nI to) nq ni q iv len cn pr bb bc ra dc (r + 2) (nI nx) 0 z a1 a2 a3 a4 a5 a6 a7' a8 a9 a10 a11 a12 a13 a14 a15 a16 a17 := by
      intro hone z a7' h7
      have hWP' : jk_WP W P a6 a7' := fun k hk => by rw [h7 k hk]; exact hWP k hk
      have K : ∃ fu, wX_makeLengths_180 post (nI to) nq ni q iv len cn pr bb bc ra dc fu (nI fr) a1 a2 a3 a4 a5 a6 a7' a8 a9 a10 a11 a12 a13 a14 a15 a16 a17 := by
        refine ⟨_, jk_180 hWP' hPlt hb2 I.2.1 (fun k k1 k2 k3 => jh_dep15 I hT 32 k k1 (Or.inl k2) (by rw [I.2.1 k (by omega)]; omega)) (to - fr) fr a4 (by omega) (Nat.le_refl _) (fun a4' q1 q2 => ?_)⟩
        exact H a4' a6 a7' _ (jk_out_of I hT hone) q1 q2 (fun k hk => by rw [(hWP k (by omega)).1, I.2.1 k hk])
      exact br_c (fun _ => K) (fun _ => br_t rfl K)
    refine br_f (nI_ge (b := 272) (by omega) (by decide)) (br_f (by decide) (jk_lightest hWP (by omega) hb2 hb3 hb4 (fun x hx => ?_)))
    rcases hx with ⟨x1, x2⟩ | ⟨a, x1, x2, x3, x4⟩
    · rw [x1]
      have hone : ∀ k j, jh_al fr to nx W P k → jh_al fr to nx W P j → k = j := fun k j hk _ => absurd hk (x2 k hk.1.2.2)
      refine br_t jk_n1 (jk_lightest hWP (by omega) hb2 hb3 hb4 (fun y _ => ?_))
      exact br_t jk_n1 (br_t rfl (br_t jk_n1 (nm_e (out hone _ a7 (fun _ _ => rfl)))))
    · rw [x1]
      have x4' : ∀ k, jh_al fr to nx W P k → W a ≤ W k := fun k hk => x4 k hk.1.2.2 hk
      refine br_f (nI_pos (by omega)) ⟨pk_in a 544 (by omega), nm_e ?_⟩
      rw [nI_clamp (by omega)]
      refine jk_lightest (jk_WP_up (a := a) hWP hnx0 hb4) (by omega) hb2 hb3 hb4 (fun y hy => ?_)
      refine br_f (nI_pos (by omega)) ?_
      rcases hy with ⟨y1, y2⟩ | ⟨b, y1, y2, y3, y4⟩
      · rw [y1]
        have hone' : ∀ k, jh_al fr to nx W P k → k = a := fun k hk => by
          by_cases e : k = a
          · exact e
          · exact absurd ((jk_al_up hnx0 k).mpr ⟨hk, e⟩) (y2 k hk.1.2.2)
        refine br_t jk_n1 (br_t rfl (br_f (nI_pos (by omega)) ⟨pk_in a 544 (by omega), nm_e ?_⟩))
        rw [nI_clamp (by omega)]
        refine nm_e (out (fun k j hk hj => by rw [hone' k hk, hone' j hj]) _ _ (fun k hk => ?_))
        by_cases e : k = a
        · rw [e, pk_us, (hWP a (by omega)).2.1, if_pos x3.2.2]
        · rw [pk_un e, pk_un e]
      · rw [y1]
        obtain ⟨y3a, y3b⟩ := (jk_al_up hnx0 b).mp y3
        have mb : ∀ k, jh_al fr to nx W P k → k ≠ a → W b ≤ W k := fun k hk hka => y4 k hk.1.2.2 ((jk_al_up hnx0 k).mpr ⟨hk, hka⟩)
        obtain ⟨n1, I'⟩ := jh_step I (by omega) x3 y3a (fun z => y3b z.symm) x4' mb
        refine br_f (nI_pos (by omega)) (br_f (by decide) ⟨pk_in b 544 (by omega), nm_e ⟨pk_in a 544 (by omega), pk_in b 544 (by omega), pk_in nx 544 n1, ?_⟩⟩)
        rw [nI_clamp (show a < 2 ^ 31 by omega), nI_clamp (show b < 2 ^ 31 by omega), nI_clamp (show nx < 2 ^ 31 by omega), (hWP a (by omega)).1, (hWP b (by omega)).1, nI_add]
        refine nm_e (nm_r (nI_1 nx) (nm_r (nI_1 _) ?_))
        rw [show nx - 272 + 1 = nx + 1 - 272 by omega]
        refine ih (nx + 1) _ _ _ _ (by omega) I' (fun k hk => ?_)
        have hT1 := I.2.2.2.2.2.2.2.1 a x3.1.1 x3.1.2.1
        have hT2 := I.2.2.2.2.2.2.2.1 b y3a.1.1 y3a.1.2.1
        have B2 := jk_WP_up (a := b) (jk_WP_up (a := a) hWP hnx0 hb4) hnx0 hb4 k hk
        obtain ⟨g6, g7, gW, gP⟩ := B2
        refine ⟨?_, g7, ?_, gP⟩
        · by_cases e : k = nx
          · rw [e, pk_us, jh_up_s]
          · rw [pk_un e, jh_up_n e]; exact g6
        · by_cases e : k = nx
          · rw [e, jh_up_s]; omega
          · rw [jh_up_n e]; exact gW
theorem jk_7 {post : St1 → Prop} {fr to : Nat} {W0 : Nat → Nat} {a4 : Nat → Int32}
    (K : ∀ a6' a7', (∀ k, k < 272 → a6' k = nI (W0 k)) → (∀ k, 272 ≤ k → k < 544 → a6' k = 0) → (∀ k, k < 544 → a7' k = -1) → ∃ fu, wX_makeLengths_51 post (nI fr) (nI to) nq ni q iv len cn pr bb bc ra dc fu 272 1 0 a1 a2 a3 a4 a5 a6' a7' a8 a9 a10 a11 a12 a13 a14 a15 a16 a17) :
    ∀ (r k : Nat) (a6 a7 : Nat → Int32), k + r = 544 → (∀ j, j < 272 → a6 j = nI (W0 j)) → (∀ j, 272 ≤ j → j < k → a6 j = 0) → (∀ j, j < k → a7 j = -1) → wX_makeLengths_7 post (nI fr) (nI to) 272 nq ni q iv len cn pr bb bc ra dc (r + 1) (nI k) a1 a2 a3 a4 a5 a6 a7 a8 a9 a10 a11 a12 a13 a14 a15 a16 a17 := by
  intro r
  induction r with
  | zero =>
    intro k a6 a7 h1 h2 h3 h4
    have e : k = 544 := by omega
    subst e
    exact br_t (nI_le (a := 544) (Nat.le_refl _) (by decide)) (K a6 a7 h2 h3 h4)
  | succ r ih =>
    intro k a6 a7 h1 h2 h3 h4
    refine br_f (nI_ge (b := 544) (by omega) (by decide)) ⟨pk_in k 544 (by omega), nm_e ?_⟩
    rw [nI_clamp (by omega)]
    have g7 : ∀ j, j < k + 1 → upd a7 k (-1) j = -1 := fun j hj => by
      by_cases e : j = k
      · rw [e, pk_us]
      · rw [pk_un e]; exact h4 j (by omega)
    refine pk_lt k 272 (fun z => nm_r (nI_1 k) (ih (k + 1) a6 _ (by omega) h2 (fun j j1 j2 => absurd j1 (by omega)) g7)) (fun z => ⟨pk_in k 544 (by omega), nm_e (nm_r (nI_1 k) (ih (k + 1) _ _ (by omega) (fun j hj => ?_) (fun j j1 j2 => ?_) g7))⟩)
    · rw [pk_un (by omega)]; exact h2 j hj
    · by_cases e : j = k
      · rw [e, pk_us]
      · rw [pk_un e]; exact h3 j j1 (by omega)
theorem jk_makeLengths {post : St1 → Prop} {fr to : Nat} {W0 : Nat → Nat} {a4 a6 a7 : Nat → Int32} (h1 : fr ≤ to) (h2 : to ≤ 272) (h3 : to - fr ≤ 256) (h6 : ∀ k, k < 272 → a6 k = nI (W0 k)) (hW : ∀ k, k < 272 → W0 k < 2 ^ 30) (hT : jh_sum (fun k => if fr ≤ k ∧ k < to then W0 k else 0) 272 < 256)
    (H : ∀ a4' a6' a7' L, jk_out fr to W0 L → (∀ k, fr ≤ k → k < to → a4' k = nI (L k)) → (∀ k, k < fr ∨ to ≤ k → a4' k = a4 k) → (∀ k, k < 272 → a6' k = nI (W0 k)) → post (nq, ni, q, iv, len, cn, pr, bb, bc, ra, dc, a1, a2, a3, a4', a5, a6', a7', a8, a9, a10, a11, a12, a13, a14, a15, a16, a17)) :
    wpX_makeLengths post (nq, ni, q, iv, len, cn, pr, bb, bc, ra, dc, a1, a2, a3, a4, a5, a6, a7, a8, a9, a10, a11, a12, a13, a14, a15, a16, a17) (nI fr) (nI to) := by
  refine ⟨545, jk_7 (W0 := W0) (fun a6' a7' q1 q2 q3 => ?_) 544 0 a6 a7 rfl h6 (fun j _ j2 => absurd j2 (by omega)) (fun j j1 => absurd j1 (by omega))⟩
  obtain ⟨T, M, eT, eM, I⟩ := jh_start (fr := fr) (to := to) (W0 := W0) (W := fun k => if k < 272 then W0 k else 0) h1 h2 (fun k hk => if_pos hk) (fun k hk => if_neg (by omega))
  refine ⟨_, jk_51 (T := T) (M := M) (by omega) (by omega) H 258 272 _ _ a6' a7' rfl I (fun k hk => ?_)⟩
  refine ⟨?_, ?_, ?_, Nat.zero_le _⟩
  · show a6' k = nI (if k < 272 then W0 k else 0)
    by_cases e : k < 272
    · rw [if_pos e]; exact q1 k e
    · rw [if_neg e]; exact q2 k (by omega) hk
  · rw [if_pos rfl]; exact q3 k hk
  · show (if k < 272 then W0 k else 0) < 2 ^ 30
    by_cases e : k < 272
    · rw [if_pos e]; exact hW k e
    · rw [if_neg e]; decide
end
end
section
theorem jm_sa {L : Nat → Nat} {fr to n : Nat} (h : 1 ≤ n) : jc_sa L fr to n = jc_cnt L fr n to := if_neg (by omega)
theorem jm_fp_mono (L : Nat → Nat) (fr to m : Nat) : ∀ d, jc_fp L fr to m ≤ jc_fp L fr to (m + d) := by
  intro d
  induction d with
  | zero => exact Nat.le_refl _
  | succ d ih => show _ ≤ jc_fp L fr to (m + d) + jc_sa L fr to (m + d); omega
/-- the symbols that have their codes when length n has come to symbol k -/
def jm_dn (L : Nat → Nat) (fr to n k j : Nat) : Prop := fr ≤ j ∧ j < to ∧ 1 ≤ L j ∧ (L j < n ∨ (L j = n ∧ j < k))
theorem jm_lt {L : Nat → Nat} {fr to n k j : Nat} (h : jm_dn L fr to n k j) : jc_fp L fr to (L j) + jc_cnt L fr (L j) j < jc_fp L fr to n + jc_cnt L fr n k := by
  obtain ⟨h1, h2, h3, h4⟩ := h
  rcases h4 with h4 | ⟨h4, h5⟩
  · have e1 := jc_cnt_lt (L := L) (n := L j) h1 rfl h2
    have e2 : jc_fp L fr to (L j + 1) = jc_fp L fr to (L j) + jc_sa L fr to (L j) := rfl
    rw [jm_sa h3] at e2
    have e3 := jm_fp_mono L fr to (L j + 1) (n - (L j + 1))
    rw [show L j + 1 + (n - (L j + 1)) = n by omega] at e3
    omega
  · have e1 := jc_cnt_lt (L := L) (n := n) h1 h4 h5
    rw [h4]; omega
/-- those symbols' codes and places stand in the arrays -/
def jm_D (L : Nat → Nat) (fr to n k : Nat) (a8 a9 : Nat → Int32) : Prop := ∀ j, jm_dn L fr to n k j → a8 j = nI (jc_code L fr to j) ∧ a9 (jc_fp L fr to (L j) + jc_cnt L fr (L j) j) = nI j
section
variable {nq ni q iv len cn pr bb bc ra dc : Int32} {a1 a2 a3 a4 a5 a6 a7 a10 a11 a12 a13 a14 a15 a16 : Nat → Int32} {a17 : Nat → Int64}
theorem jm_47 {post : St1 → Prop} {J9 : Int32 → Int32 → Int32 → (Nat → Int32) → (Nat → Int32) → (Nat → Int32) → (Nat → Int32) → (Nat → Int32) → (Nat → Int32) → (Nat → Int32) → (Nat → Int32) → (Nat → Int32) → (Nat → Int32) → (Nat → Int32) → (Nat → Int32) → (Nat → Int32) → (Nat → Int32) → (Nat → Int32) → (Nat → Int32) → (Nat → Int64) → Prop}
    {L : Nat → Nat} {fr to t n : Nat} (hto : to ≤ 272) (ht : t ≤ 1) (hn1 : 1 ≤ n) (hn2 : n ≤ 16) (K : jc_K L fr to) (h4 : ∀ k, fr ≤ k → k < to → a4 k = nI (L k) ∧ L k ≤ 16) (h11 : a11 (t * 17 + n) = nI (jc_fp L fr to n)) {b8 b9 : Nat → Int32}
    (H : ∀ a8 a9, jm_D L fr to (n + 1) fr a8 a9 → (∀ j, j < fr ∨ to ≤ j → a8 j = b8 j ∧ a9 j = b9 j) → J9 (nI (jc_fc L fr to (n + 1))) (nI (jc_fp L fr to (n + 1))) (nI (n + 1)) a1 a2 a3 a4 a5 a6 a7 a8 a9 a10 a11 (upd a12 (t * 17 + n) (nI (jc_sa L fr to n))) a13 a14 a15 a16 a17) :
    ∀ (r k : Nat) (a8 a9 : Nat → Int32), k + r = to → fr ≤ k → jm_D L fr to n k a8 a9 → (∀ j, j < fr ∨ to ≤ j → a8 j = b8 j ∧ a9 j = b9 j) →
    wX_makeCodes_47 post J9 (nI fr) (nI to) (nI t) (nI n) nq ni q iv len cn pr bb bc ra dc (r + 1) (nI (jc_fc L fr to n + jc_cnt L fr n k)) (nI (jc_fp L fr to n + jc_cnt L fr n k)) (nI k) a1 a2 a3 a4 a5 a6 a7 a8 a9 a10 a11 a12 a13 a14 a15 a16 a17 := by
  have hfc := jc_fc_lt K n hn1 hn2
  have hp2 : 2 ^ n ≤ 2 ^ 16 := Nat.pow_le_pow_right (by decide) hn2
  have eix : nI t * 17 + nI n = nI (t * 17 + n) := jn_ma t 17 n
  have hin : vp_in (nI t * 17 + nI n) 34 := by rw [eix]; exact vp_in_nI (by omega) (by decide)
  have ecl : (nI t * 17 + nI n).toNatClampNeg = t * 17 + n := by rw [eix]; exact nI_clamp (by omega)
  have esa := jm_sa (L := L) (fr := fr) (to := to) hn1
  intro r
  induction r with
  | zero =>
    intro k a8 a9 h1 h2 hD hF
    have e : k = to := by omega
    subst e
    have hpl := jc_fp_le L h2 n
    have efp : jc_fp L fr k (n + 1) = jc_fp L fr k n + jc_cnt L fr n k := by show _ + jc_sa L fr k n = _; rw [esa]
    have efc : (jc_fc L fr k n + jc_cnt L fr n k) * 2 = jc_fc L fr k (n + 1) := by show _ = (_ + jc_sa L fr k n) * 2; rw [esa]
    refine br_t (nI_le (Nat.le_refl _) (by omega)) ⟨hin, hin, ?_⟩
    rw [ecl, h11, pk_sub (Nat.le_add_right _ _), Nat.add_sub_cancel_left, ← esa, jn_shl1 (by omega), esa, efc, ← efp, ← esa]
    refine nm_e (nm_e (nm_r (nI_1 n) (H a8 a9 (fun j hj => hD j ?_) hF)))
    obtain ⟨j1, j2, j3, j4⟩ := hj
    exact ⟨j1, j2, j3, by omega⟩
  | succ r ih =>
    intro k a8 a9 h1 h2 hD hF
    obtain ⟨g4, gL⟩ := h4 k h2 (by omega)
    refine br_f (nI_ge (by omega) (by omega)) ⟨pk_in k 272 (by omega), ?_⟩
    rw [nI_clamp (show k < 2 ^ 31 by omega), g4]
    refine pk_eq (L k) n (fun e => ?_) (fun e => ?_)
    · have ec := jc_cnt_t (L := L) (n := n) h2 e
      have hpl := jc_place (L := L) h2 (show k < to by omega) (by omega)
      rw [e] at hpl
      have hcl := (jc_code_lt K h2 (show k < to by omega) (by omega) (by omega)).2
      have ecode : jc_code L fr to k = jc_fc L fr to n + jc_cnt L fr n k := by unfold jc_code; rw [e]
      rw [e] at hcl
      refine ⟨pk_in k 272 (by omega), nm_e ⟨vp_in_nI (by omega) (by decide), ?_⟩⟩
      rw [nI_clamp (by omega)]
      refine nm_e (nm_r (nI_1 _) (nm_r (nI_1 _) (nm_r (nI_1 k) ?_)))
      rw [Nat.add_assoc, Nat.add_assoc, ← ec]
      refine ih (k + 1) _ _ (by omega) (by omega) (fun j hj => ?_) (fun j hj => ?_)
      · by_cases ej : j = k
        · rw [ej, pk_us, e, pk_us, ecode]; exact ⟨rfl, rfl⟩
        · have hj' : jm_dn L fr to n k j := by obtain ⟨j1, j2, j3, j4⟩ := hj; exact ⟨j1, j2, j3, by omega⟩
          have := jm_lt hj'
          rw [pk_un ej, pk_un (by omega)]
          exact hD j hj'
      · have hfk : jc_fp L fr to n + jc_cnt L fr n k ≥ fr := by
          have := jm_fp_mono L fr to 0 n
          rw [Nat.zero_add] at this
          have e0 : jc_fp L fr to 0 = fr := rfl
          omega
        rw [pk_un (by omega), pk_un (by omega)]; exact hF j hj
    · have ec := jc_cnt_f (fr := fr) e
      refine nm_r (nI_1 k) ?_
      rw [← ec]
      refine ih (k + 1) a8 a9 (by omega) (by omega) (fun j hj => hD j ?_) hF
      obtain ⟨j1, j2, j3, j4⟩ := hj
      refine ⟨j1, j2, j3, ?_⟩
      rcases j4 with z | ⟨z, y⟩
      · exact Or.inl z
      · refine Or.inr ⟨z, ?_⟩
        rcases Nat.lt_or_ge j k with q | q
        · exact q
        · have : j = k := by omega
          exact absurd (this ▸ z) e
end
/-- the tables of the lengths below n -/
def jm_T (L : Nat → Nat) (fr to t n : Nat) (a10 a11 a12 : Nat → Int32) : Prop := ∀ m, 1 ≤ m → m < n → a10 (t * 17 + m) = nI (jc_fc L fr to m) ∧ a11 (t * 17 + m) = nI (jc_fp L fr to m) ∧ a12 (t * 17 + m) = nI (jc_sa L fr to m)
section
variable {nq ni q iv len cn pr bb bc ra dc : Int32} {a1 a2 a3 a4 a5 a6 a7 a13 a14 a15 a16 : Nat → Int32} {a17 : Nat → Int64}
theorem jm_9 {post : St1 → Prop} {L : Nat → Nat} {fr to t : Nat} (hfr : fr ≤ to) (hto : to ≤ 272) (ht : t ≤ 1) (K : jc_K L fr to) (h4 : ∀ k, fr ≤ k → k < to → a4 k = nI (L k) ∧ L k ≤ 16) {b8 b9 b10 b11 b12 : Nat → Int32}
    (H : ∀ a8 a9 a10 a11 a12, jc_tab L fr to t a8 a9 a10 a11 a12 → (∀ j, j < fr ∨ to ≤ j → a8 j = b8 j ∧ a9 j = b9 j) → (∀ j, j < t * 17 + 1 ∨ t * 17 + 17 ≤ j → a10 j = b10 j ∧ a11 j = b11 j ∧ a12 j = b12 j) → post (nq, ni, q, iv, len, cn, pr, bb, bc, ra, dc, a1, a2, a3, a4, a5, a6, a7, a8, a9, a10, a11, a12, a13, a14, a15, a16, a17)) :
    ∀ (r n : Nat) (a8 a9 a10 a11 a12 : Nat → Int32), n + r = 17 → 1 ≤ n → jm_D L fr to n fr a8 a9 → jm_T L fr to t n a10 a11 a12 → (∀ j, j < fr ∨ to ≤ j → a8 j = b8 j ∧ a9 j = b9 j) → (∀ j, j < t * 17 + 1 ∨ t * 17 + 17 ≤ j → a10 j = b10 j ∧ a11 j = b11 j ∧ a12 j = b12 j) →
    wX_makeCodes_9 post (nI fr) (nI to) (nI t) nq ni q iv len cn pr bb bc ra dc (r + 1) (nI (jc_fc L fr to n)) (nI (jc_fp L fr to n)) (nI n) a1 a2 a3 a4 a5 a6 a7 a8 a9 a10 a11 a12 a13 a14 a15 a16 a17 := by
  intro r
  induction r with
  | zero =>
    intro n a8 a9 a10 a11 a12 h1 h2 hD hT hF hG
    have e : n = 17 := by omega
    subst e
    refine br_t (by decide) (H a8 a9 a10 a11 a12 ⟨fun m m1 m2 => hT m m1 (by omega), fun k k1 k2 k3 k4 => hD k ⟨k1, k2, k3, Or.inl (by omega)⟩⟩ hF hG)
  | succ r ih =>
    intro n a8 a9 a10 a11 a12 h1 h2 hD hT hF hG
    have eix : nI t * 17 + nI n = nI (t * 17 + n) := jn_ma t 17 n
    have hin : vp_in (nI t * 17 + nI n) 34 := by rw [eix]; exact vp_in_nI (by omega) (by decide)
    have ecl : (nI t * 17 + nI n).toNatClampNeg = t * 17 + n := by rw [eix]; exact nI_clamp (by omega)
    refine br_f (nI_nlt (a := 16) (by omega) (by decide)) ⟨hin, ?_⟩
    rw [ecl]
    refine nm_e ⟨hin, nm_e ⟨to - fr + 1, ?_⟩⟩
    have K47 : wX_makeCodes_47 post (wX_makeCodes_9 post (nI fr) (nI to) (nI t) nq ni q iv len cn pr bb bc ra dc (r + 1)) (nI fr) (nI to) (nI t) (nI n) nq ni q iv len cn pr bb bc ra dc (to - fr + 1) (nI (jc_fc L fr to n + jc_cnt L fr n fr)) (nI (jc_fp L fr to n + jc_cnt L fr n fr)) (nI fr) a1 a2 a3 a4 a5 a6 a7 a8 a9 (upd a10 (t * 17 + n) (nI (jc_fc L fr to n))) (upd a11 (t * 17 + n) (nI (jc_fp L fr to n))) a12 a13 a14 a15 a16 a17 := by
      refine jm_47 hto ht h2 (by omega) K h4 pk_us (b8 := b8) (b9 := b9) (fun a8' a9' q1 q2 => ?_) (to - fr) fr a8 a9 (by omega) (Nat.le_refl _) hD hF
      refine ih (n + 1) _ _ _ _ _ (by omega) (by omega) q1 (fun m m1 m2 => ?_) q2 (fun j hj => ?_)
      · by_cases e : m = n
        · rw [e, pk_us, pk_us, pk_us]; exact ⟨rfl, rfl, rfl⟩
        · rw [pk_un (by omega), pk_un (by omega), pk_un (by omega)]; exact hT m m1 (by omega)
      · rw [pk_un (by omega), pk_un (by omega), pk_un (by omega)]; exact hG j hj
    rw [jc_cnt_0, Nat.add_zero, Nat.add_zero] at K47
    exact K47
theorem jm_makeCodes {post : St1 → Prop} {L : Nat → Nat} {fr to t : Nat} (hfr : fr ≤ to) (hto : to ≤ 272) (ht : t ≤ 1) (K : jc_K L fr to) (h4 : ∀ k, fr ≤ k → k < to → a4 k = nI (L k) ∧ L k ≤ 16) {a8 a9 a10 a11 a12 : Nat → Int32}
    (H : ∀ a8' a9' a10' a11' a12', jc_tab L fr to t a8' a9' a10' a11' a12' → (∀ j, j < fr ∨ to ≤ j → a8' j = a8 j ∧ a9' j = a9 j) → (∀ j, j < t * 17 + 1 ∨ t * 17 + 17 ≤ j → a10' j = a10 j ∧ a11' j = a11 j ∧ a12' j = a12 j) → post (nq, ni, q, iv, len, cn, pr, bb, bc, ra, dc, a1, a2, a3, a4, a5, a6, a7, a8', a9', a10', a11', a12', a13, a14, a15, a16, a17)) :
    wpX_makeCodes post (nq, ni, q, iv, len, cn, pr, bb, bc, ra, dc, a1, a2, a3, a4, a5, a6, a7, a8, a9, a10, a11, a12, a13, a14, a15, a16, a17) (nI fr) (nI to) (nI t) :=
  ⟨17, jm_9 hfr hto ht K h4 H 16 1 a8 a9 a10 a11 a12 rfl (Nat.le_refl _) (fun j hj => by obtain ⟨j1, j2, j3, j4⟩ := hj; omega) (fun m m1 m2 => absurd m1 (by omega)) (fun j _ => ⟨rfl, rfl⟩) (fun j _ => ⟨rfl, rfl, rfl⟩)⟩
end
end
section
/-- bounds -/
theorem jq_addb {x y : Int32} {A B : Nat} (hx : x.toInt.natAbs ≤ A) (hy : y.toInt.natAbs ≤ B) (h : A + B < 2147483648) : (x + y).toInt.natAbs ≤ A + B := by
  rw [ji_add (by omega) (by omega)]; omega
theorem jq_subb {x y : Int32} {A B : Nat} (hx : x.toInt.natAbs ≤ A) (hy : y.toInt.natAbs ≤ B) (h : A + B < 2147483648) : (x - y).toInt.natAbs ≤ A + B := by
  rw [ji_sub (by omega) (by omega)]; omega
theorem jq_negb {x : Int32} {A : Nat} (hx : x.toInt.natAbs ≤ A) (h : A < 2147483648) : (-x).toInt.natAbs ≤ A := by
  rw [ji_neg (by omega) (by omega)]; omega
theorem jq_mulb {x y : Int32} {A B : Nat} (hx : x.toInt.natAbs ≤ A) (hy : y.toInt.natAbs ≤ B) (h : A * B < 2147483648) : (x * y).toInt.natAbs ≤ A * B := by
  have e : (x.toInt * y.toInt).natAbs ≤ A * B := by rw [Int.natAbs_mul]; exact Nat.mul_le_mul hx hy
  rw [ji_mul (by omega) (by omega)]; exact e
theorem jn_x3 (a b c d : Nat) : nI a + nI b * nI c + nI d = nI (a + b * c + d) := by rw [pk_mul, nI_add, nI_add]
theorem jq_fill {F s : Nat → Int32} {k : Nat} {x : Int32} (h : ∀ m, m < k → s m = F m) (hx : x = F k) : ∀ m, m < k + 1 → upd s k x m = F m := by
  intro m hm
  by_cases e : m = k
  · rw [e, pk_us, hx]
  · rw [pk_un e]; exact h m (by omega)
/-- a wave's value -/
def jq_wave (a2 : Nat → Int32) (u i : Nat) : Int32 :=
  if 8 < (2 * i + 1) * u % 32 then (if 16 < (2 * i + 1) * u % 32 then (if 24 < (2 * i + 1) * u % 32 then a2 (32 - (2 * i + 1) * u % 32) else -(a2 ((2 * i + 1) * u % 32 - 16))) else -(a2 (16 - (2 * i + 1) * u % 32))) else a2 ((2 * i + 1) * u % 32)
theorem jq_wave_b {a2 : Nat → Int32} (h : ∀ j, j < 9 → (a2 j).toInt.natAbs ≤ 64) (u i : Nat) : (jq_wave a2 u i).toInt.natAbs ≤ 64 := by
  unfold jq_wave
  generalize ht : (2 * i + 1) * u % 32 = t
  have htl : t < 32 := by rw [← ht]; exact Nat.mod_lt _ (by decide)
  split
  · split
    · split
      · exact h _ (by omega)
      · exact jq_negb (h _ (by omega)) (by decide)
    · exact jq_negb (h _ (by omega)) (by decide)
  · exact h _ (by omega)
/-- the first i of four pairs, with their waves -/
def jq_fp (h a2 : Nat → Int32) (x1 x2 u : Nat) : Nat → Int32
  | 0 => 0
  | i + 1 => jq_fp h a2 x1 x2 u i + (if u % 2 = 0 then h (x1 + i * x2) + h (x1 + (7 - i) * x2) else h (x1 + i * x2) - h (x1 + (7 - i) * x2)) * jq_wave a2 u i
theorem jq_fp_cg {h h' a2 : Nat → Int32} {x1 x2 u : Nat} (hx : x1 + 7 * x2 < 64) (hh : ∀ k, k < 64 → h k = h' k) : ∀ i, i ≤ 4 → jq_fp h a2 x1 x2 u i = jq_fp h' a2 x1 x2 u i := by
  intro i
  induction i with
  | zero => intro _; rfl
  | succ i ih =>
    intro hi
    have m1 : i * x2 ≤ 7 * x2 := Nat.mul_le_mul_right _ (by omega)
    have m2 : (7 - i) * x2 ≤ 7 * x2 := Nat.mul_le_mul_right _ (by omega)
    show jq_fp h a2 x1 x2 u i + (if u % 2 = 0 then h (x1 + i * x2) + h (x1 + (7 - i) * x2) else h (x1 + i * x2) - h (x1 + (7 - i) * x2)) * jq_wave a2 u i = jq_fp h' a2 x1 x2 u i + (if u % 2 = 0 then h' (x1 + i * x2) + h' (x1 + (7 - i) * x2) else h' (x1 + i * x2) - h' (x1 + (7 - i) * x2)) * jq_wave a2 u i
    rw [ih (by omega), hh _ (show x1 + i * x2 < 64 by omega), hh _ (show x1 + (7 - i) * x2 < 64 by omega)]
theorem jq_fp_b {h a2 : Nat → Int32} {x1 x2 u M : Nat} (hx : x1 + 7 * x2 < 64) (hM : M ≤ 65536) (h2 : ∀ j, j < 9 → (a2 j).toInt.natAbs ≤ 64) (hh : ∀ k, k < 64 → (h k).toInt.natAbs ≤ M) : ∀ i, i ≤ 4 → (jq_fp h a2 x1 x2 u i).toInt.natAbs ≤ i * (128 * M) := by
  intro i
  induction i with
  | zero => intro _; exact Nat.zero_le _
  | succ i ih =>
    intro hi
    have m1 : i * x2 ≤ 7 * x2 := Nat.mul_le_mul_right _ (by omega)
    have m2 : (7 - i) * x2 ≤ 7 * x2 := Nat.mul_le_mul_right _ (by omega)
    have p1 := hh _ (show x1 + i * x2 < 64 by omega)
    have p2 := hh _ (show x1 + (7 - i) * x2 < 64 by omega)
    have p3 : (if u % 2 = 0 then h (x1 + i * x2) + h (x1 + (7 - i) * x2) else h (x1 + i * x2) - h (x1 + (7 - i) * x2)).toInt.natAbs ≤ M + M := by
      split
      · exact jq_addb p1 p2 (by omega)
      · exact jq_subb p1 p2 (by omega)
    have p4 := jq_mulb p3 (jq_wave_b h2 u i) (by omega)
    have m3 : i * (128 * M) ≤ 4 * (128 * M) := Nat.mul_le_mul_right _ (by omega)
    have p5 := jq_addb (ih (by omega)) p4 (by omega)
    have e : (i + 1) * (128 * M) = i * (128 * M) + 128 * M := Nat.succ_mul _ _
    rw [e]
    refine Nat.le_trans p5 (by omega)
section
variable {nq ni q iv len cn pr bb bc ra dc : Int32} {a1 a2 a3 a4 a5 a6 a7 a8 a9 a10 a11 a12 a13 a14 a15 a16 : Nat → Int32} {a17 : Nat → Int64}
theorem jq_wv {post : Int32 → Prop} {u i : Nat} (hu : u < 8) (hi : i < 8) (H : post (jq_wave a2 u i)) : wpX_wave post (nq, ni, q, iv, len, cn, pr, bb, bc, ra, dc, a1, a2, a3, a4, a5, a6, a7, a8, a9, a10, a11, a12, a13, a14, a15, a16, a17) (nI u) (nI i) := by
  have hm : (2 * i + 1) * u ≤ 15 * 7 := Nat.mul_le_mul (by omega) (by omega)
  have e : (((2 : Int32) * nI i + 1) * nI u) &&& 31 = nI ((2 * i + 1) * u % 32) := by
    have e1 : (2 : Int32) * nI i + 1 = nI (2 * i + 1) := jn_ma 2 i 1
    rw [e1, pk_mul]
    exact pk_andN (by omega) 5 (by decide)
  unfold jq_wave at H
  refine nm_r e ?_
  have htl : (2 * i + 1) * u % 32 < 32 := Nat.mod_lt _ (by decide)
  generalize (2 * i + 1) * u % 32 = t at H htl ⊢
  refine pk_lt 8 t (fun z => ?_) (fun z => ?_)
  · rw [if_pos z] at H
    refine pk_lt 16 t (fun z => ?_) (fun z => ?_)
    · rw [if_pos z] at H
      refine pk_lt 24 t (fun z => ?_) (fun z => ?_)
      · rw [if_pos z] at H
        have e2 : (32 : Int32) - nI t = nI (32 - t) := pk_sub (a := 32) (by omega)
        rw [e2, nI_clamp (by omega)]
        exact ⟨vp_in_nI (by omega) (by decide), H⟩
      · rw [if_neg (by omega)] at H
        have e2 : nI t - (16 : Int32) = nI (t - 16) := pk_sub (b := 16) (by omega)
        rw [e2, nI_clamp (by omega)]
        exact ⟨vp_in_nI (by omega) (by decide), H⟩
    · rw [if_neg (by omega)] at H
      have e2 : (16 : Int32) - nI t = nI (16 - t) := pk_sub (a := 16) (by omega)
      rw [e2, nI_clamp (by omega)]
      exact ⟨vp_in_nI (by omega) (by decide), H⟩
  · rw [if_neg (by omega)] at H
    rw [nI_clamp (by omega)]
    exact ⟨vp_in_nI (by omega) (by decide), H⟩
theorem jq_folded {post : Int32 → Prop} {x1 x2 u : Nat} (hx : x1 + 7 * x2 < 64) (hu : u < 8) (H : post (jq_fp a15 a2 x1 x2 u 4)) : wpX_folded post (nq, ni, q, iv, len, cn, pr, bb, bc, ra, dc, a1, a2, a3, a4, a5, a6, a7, a8, a9, a10, a11, a12, a13, a14, a15, a16, a17) (nI x1) (nI x2) (nI u) := by
  refine pk_loop (fun n i s => wX_folded_6 post (nI x1) (nI x2) (nI u) nq ni q iv len cn pr bb bc ra dc a1 a2 a3 a4 a5 a6 a7 a8 a9 a10 a11 a12 a13 a14 a15 a16 a17 n s (nI i)) (fun i s => s = jq_fp a15 a2 x1 x2 u i) 4 0 0 (by decide) rfl (fun n s h => ?_) (fun n i s hi h hw => ?_)
  · exact br_t (nI_le (a := 4) (Nat.le_refl _) (by decide)) (by rw [h]; exact H)
  · have m1 : i * x2 ≤ 7 * x2 := Nat.mul_le_mul_right _ (by omega)
    have m2 : (7 - i) * x2 ≤ 7 * x2 := Nat.mul_le_mul_right _ (by omega)
    have e1 : nI x1 + nI i * nI x2 = nI (x1 + i * x2) := jn_am x1 i x2
    have e2 : nI x1 + ((7 : Int32) - nI i) * nI x2 = nI (x1 + (7 - i) * x2) := by
      have : (7 : Int32) - nI i = nI (7 - i) := pk_sub (a := 7) (by omega)
      rw [this]; exact jn_am x1 (7 - i) x2
    have e3 : nI u &&& 1 = nI (u % 2) := pk_andN (by omega) 1 (by decide)
    have h' := hw (jq_fp a15 a2 x1 x2 u (i + 1)) rfl
    have eS : jq_fp a15 a2 x1 x2 u (i + 1) = jq_fp a15 a2 x1 x2 u i + (if u % 2 = 0 then a15 (x1 + i * x2) + a15 (x1 + (7 - i) * x2) else a15 (x1 + i * x2) - a15 (x1 + (7 - i) * x2)) * jq_wave a2 u i := rfl
    refine br_f (nI_ge (b := 4) hi (by decide)) ?_
    rw [e1, e2, e3, nI_clamp (show x1 + i * x2 < 2 ^ 31 by omega), nI_clamp (show x1 + (7 - i) * x2 < 2 ^ 31 by omega)]
    refine ⟨vp_in_nI (by omega) (by decide), nm_e ⟨vp_in_nI (by omega) (by decide), nm_e ?_⟩⟩
    refine pk_eq (u % 2) 0 (fun z => ?_) (fun z => ?_)
    · rw [if_pos z, ← h] at eS
      exact jq_wv hu (by omega) (nm_r eS.symm (nm_r (nI_1 i) h'))
    · rw [if_neg z, ← h] at eS
      exact jq_wv hu (by omega) (nm_r eS.symm (nm_r (nI_1 i) h'))
end
/-- the corner of block b; what half holds at first; the sums along rows; the sums -/
def jq_cor (b : Nat) : Nat := b / 2 * 128 + b % 2 * 8
def jq_h1 (a1 : Nat → Int32) (b m : Nat) : Int32 := a1 (jq_cor b + m / 8 * 16 + m % 8) - 128
def jq_s1 (h a2 : Nat → Int32) (m : Nat) : Int32 := jq_fp h a2 (m / 8 * 8) 1 (m % 8) 4
def jq_s2 (h a2 : Nat → Int32) (m : Nat) : Int32 := jq_fp h a2 (m % 8) 8 (m / 8) 4
def jq_S (a1 a2 : Nat → Int32) (b m : Nat) : Int32 := jq_s2 (jq_s1 (jq_h1 a1 b) a2) a2 m
theorem jq_corner {post : Int32 → Prop} {u : St1} {b : Nat} (hb : b < 4) (H : post (nI (jq_cor b))) : wpX_corner post u (nI b) := by
  have e : (((nI b >>> ((1 : Int32) &&& 31)) * 8) * 16) + ((nI b &&& 1) * 8) = nI (jq_cor b) := by
    have : ∀ b, b < 4 → (((nI b >>> ((1 : Int32) &&& 31)) * 8) * 16) + ((nI b &&& 1) * 8) = nI (jq_cor b) := by decide +kernel
    exact this b hb
  obtain ⟨⟩ := u
  rw [← e] at H
  exact H
theorem jq_cor_lt : ∀ b, b < 4 → jq_cor b ≤ 136 := by decide +kernel
end
section
section
variable {nq ni q iv len cn pr bb bc ra dc : Int32} {a1 a2 a3 a4 a5 a6 a7 a8 a9 a10 a11 a12 a13 a14 a15 a16 : Nat → Int32} {a17 : Nat → Int64}
theorem jq_17 {post : St1 → Prop} {J8 : Int32 → (Nat → Int32) → (Nat → Int32) → (Nat → Int32) → (Nat → Int32) → (Nat → Int32) → (Nat → Int32) → (Nat → Int32) → (Nat → Int32) → (Nat → Int32) → (Nat → Int32) → (Nat → Int32) → (Nat → Int32) → (Nat → Int32) → (Nat → Int32) → (Nat → Int32) → (Nat → Int32) → (Nat → Int64) → Prop} {b j : Nat} (hb : b < 4) (hj : j < 8) (h0 : ∀ m, m < j * 8 → a15 m = jq_h1 a1 b m)
    (H : ∀ s : Nat → Int32, (∀ m, m < (j + 1) * 8 → s m = jq_h1 a1 b m) → J8 (nI (j + 1)) a1 a2 a3 a4 a5 a6 a7 a8 a9 a10 a11 a12 a13 a14 s a16 a17) : ∃ n, wX_transform_17 post J8 (nI (jq_cor b)) (nI j) nq ni q iv len cn pr bb bc ra dc n 0 a1 a2 a3 a4 a5 a6 a7 a8 a9 a10 a11 a12 a13 a14 a15 a16 a17 := by
  have hc := jq_cor_lt b hb
  refine pk_loop (fun n i s => wX_transform_17 post J8 (nI (jq_cor b)) (nI j) nq ni q iv len cn pr bb bc ra dc n (nI i) a1 a2 a3 a4 a5 a6 a7 a8 a9 a10 a11 a12 a13 a14 s a16 a17) (fun i s => ∀ m, m < j * 8 + i → s m = jq_h1 a1 b m) 8 0 a15 (by decide) h0 (fun n s h => ?_) (fun n i s hi h hw => ?_)
  · exact br_t (nI_le (a := 8) (Nat.le_refl _) (by decide)) (nm_r (nI_1 j) (H s (fun m hm => h m (by omega))))
  · have e1 : nI (jq_cor b) + nI j * 16 + nI i = nI (jq_cor b + j * 16 + i) := jn_x3 _ _ 16 _
    have e2 : nI j * 8 + nI i = nI (j * 8 + i) := jn_ma j 8 i
    refine br_f (nI_ge (b := 8) hi (by decide)) ?_
    rw [e1, e2, nI_clamp (show jq_cor b + j * 16 + i < 2 ^ 31 by omega), nI_clamp (show j * 8 + i < 2 ^ 31 by omega)]
    refine ⟨vp_in_nI (by omega) (by decide), vp_in_nI (by omega) (by decide), nm_e (nm_r (nI_1 i) (hw _ (fun m hm => jq_fill h ?_ m hm)))⟩
    show _ = a1 (jq_cor b + (j * 8 + i) / 8 * 16 + (j * 8 + i) % 8) - 128
    rw [show (j * 8 + i) / 8 = j by omega, show (j * 8 + i) % 8 = i by omega]
theorem jq_77 {post : St1 → Prop} {J68 : Int32 → (Nat → Int32) → (Nat → Int32) → (Nat → Int32) → (Nat → Int32) → (Nat → Int32) → (Nat → Int32) → (Nat → Int32) → (Nat → Int32) → (Nat → Int32) → (Nat → Int32) → (Nat → Int32) → (Nat → Int32) → (Nat → Int32) → (Nat → Int32) → (Nat → Int32) → (Nat → Int32) → (Nat → Int64) → Prop} {j : Nat} (hj : j < 8) (h0 : ∀ m, m < j * 8 → a16 m = jq_s1 a15 a2 m)
    (H : ∀ s : Nat → Int32, (∀ m, m < (j + 1) * 8 → s m = jq_s1 a15 a2 m) → J68 (nI (j + 1)) a1 a2 a3 a4 a5 a6 a7 a8 a9 a10 a11 a12 a13 a14 a15 s a17) : ∃ n, wX_transform_77 post J68 (nI j) nq ni q iv len cn pr bb bc ra dc n 0 a1 a2 a3 a4 a5 a6 a7 a8 a9 a10 a11 a12 a13 a14 a15 a16 a17 := by
  refine pk_loop (fun n i s => wX_transform_77 post J68 (nI j) nq ni q iv len cn pr bb bc ra dc n (nI i) a1 a2 a3 a4 a5 a6 a7 a8 a9 a10 a11 a12 a13 a14 a15 s a17) (fun i s => ∀ m, m < j * 8 + i → s m = jq_s1 a15 a2 m) 8 0 a16 (by decide) h0 (fun n s h => ?_) (fun n i s hi h hw => ?_)
  · exact br_t (nI_le (a := 8) (Nat.le_refl _) (by decide)) (nm_r (nI_1 j) (H s (fun m hm => h m (by omega))))
  · have e2 : nI j * 8 + nI i = nI (j * 8 + i) := jn_ma j 8 i
    have e3 : nI j * 8 = nI (j * 8) := pk_mul j 8
    refine br_f (nI_ge (b := 8) hi (by decide)) ?_
    rw [e2, e3, nI_clamp (show j * 8 + i < 2 ^ 31 by omega)]
    refine jq_folded (x2 := 1) (by omega) hi ⟨vp_in_nI (by omega) (by decide), nm_e (nm_r (nI_1 i) (hw _ (fun m hm => jq_fill h ?_ m hm)))⟩
    show _ = jq_fp a15 a2 ((j * 8 + i) / 8 * 8) 1 ((j * 8 + i) % 8) 4
    rw [show (j * 8 + i) / 8 = j by omega, show (j * 8 + i) % 8 = i by omega]
theorem jq_156 {post : St1 → Prop} {J147 : Int32 → (Nat → Int32) → (Nat → Int32) → (Nat → Int32) → (Nat → Int32) → (Nat → Int32) → (Nat → Int32) → (Nat → Int32) → (Nat → Int32) → (Nat → Int32) → (Nat → Int32) → (Nat → Int32) → (Nat → Int32) → (Nat → Int32) → (Nat → Int32) → (Nat → Int32) → (Nat → Int32) → (Nat → Int64) → Prop} {u : Nat} (hu : u < 8) (h0 : ∀ m, m < 64 → m % 8 < u → a16 m = jq_s2 a15 a2 m)
    (H : ∀ s : Nat → Int32, (∀ m, m < 64 → m % 8 < u + 1 → s m = jq_s2 a15 a2 m) → J147 (nI (u + 1)) a1 a2 a3 a4 a5 a6 a7 a8 a9 a10 a11 a12 a13 a14 a15 s a17) : ∃ n, wX_transform_156 post J147 (nI u) nq ni q iv len cn pr bb bc ra dc n 0 a1 a2 a3 a4 a5 a6 a7 a8 a9 a10 a11 a12 a13 a14 a15 a16 a17 := by
  refine pk_loop (fun n v s => wX_transform_156 post J147 (nI u) nq ni q iv len cn pr bb bc ra dc n (nI v) a1 a2 a3 a4 a5 a6 a7 a8 a9 a10 a11 a12 a13 a14 a15 s a17) (fun v s => ∀ m, m < 64 → (m % 8 < u ∨ (m % 8 = u ∧ m / 8 < v)) → s m = jq_s2 a15 a2 m) 8 0 a16 (by decide) (fun m m1 m2 => h0 m m1 (by omega)) (fun n s h => ?_) (fun n v s hi h hw => ?_)
  · exact br_t (nI_le (a := 8) (Nat.le_refl _) (by decide)) (nm_r (nI_1 u) (H s (fun m m1 m2 => h m m1 (by omega))))
  · have e2 : nI v * 8 + nI u = nI (v * 8 + u) := jn_ma v 8 u
    refine br_f (nI_ge (b := 8) hi (by decide)) ?_
    rw [e2, nI_clamp (show v * 8 + u < 2 ^ 31 by omega)]
    refine jq_folded (x2 := 8) (by omega) hi ⟨vp_in_nI (by omega) (by decide), nm_e (nm_r (nI_1 v) (hw _ (fun m m1 m2 => ?_)))⟩
    by_cases e : m = v * 8 + u
    · rw [e, pk_us]
      show _ = jq_fp a15 a2 ((v * 8 + u) % 8) 8 ((v * 8 + u) / 8) 4
      rw [show (v * 8 + u) / 8 = v by omega, show (v * 8 + u) % 8 = u by omega]
    · rw [pk_un e]; exact h m m1 (by omega)
theorem jq_147 {post : St1 → Prop} (H : ∀ s : Nat → Int32, (∀ m, m < 64 → s m = jq_s2 a15 a2 m) → post (nq, ni, q, iv, len, cn, pr, bb, bc, ra, dc, a1, a2, a3, a4, a5, a6, a7, a8, a9, a10, a11, a12, a13, a14, a15, s, a17)) : ∃ n, wX_transform_147 post nq ni q iv len cn pr bb bc ra dc n 0 a1 a2 a3 a4 a5 a6 a7 a8 a9 a10 a11 a12 a13 a14 a15 a16 a17 := by
  refine pk_loop (fun n u s => wX_transform_147 post nq ni q iv len cn pr bb bc ra dc n (nI u) a1 a2 a3 a4 a5 a6 a7 a8 a9 a10 a11 a12 a13 a14 a15 s a17) (fun u s => ∀ m, m < 64 → m % 8 < u → s m = jq_s2 a15 a2 m) 8 0 a16 (by decide) (fun m m1 m2 => absurd m2 (by omega)) (fun n s h => ?_) (fun n u s hi h hw => ?_)
  · exact br_t (nI_le (a := 8) (Nat.le_refl _) (by decide)) (H s (fun m m1 => h m m1 (by omega)))
  · exact br_f (nI_ge (b := 8) hi (by decide)) (jq_156 hi h hw)
theorem jq_121 {post : St1 → Prop} (H : ∀ t s : Nat → Int32, (∀ m, m < 64 → t m = a16 m) → (∀ m, m < 64 → s m = jq_s2 t a2 m) → post (nq, ni, q, iv, len, cn, pr, bb, bc, ra, dc, a1, a2, a3, a4, a5, a6, a7, a8, a9, a10, a11, a12, a13, a14, t, s, a17)) : ∃ n, wX_transform_121 post nq ni q iv len cn pr bb bc ra dc n 0 a1 a2 a3 a4 a5 a6 a7 a8 a9 a10 a11 a12 a13 a14 a15 a16 a17 := by
  refine pk_loop (fun n u s => wX_transform_121 post nq ni q iv len cn pr bb bc ra dc n (nI u) a1 a2 a3 a4 a5 a6 a7 a8 a9 a10 a11 a12 a13 a14 s a16 a17) (fun u s => ∀ m, m < u → s m = a16 m) 64 0 a15 (by decide) (fun m m1 => absurd m1 (by omega)) (fun n s h => ?_) (fun n u s hi h hw => ?_)
  · exact br_t (nI_le (a := 64) (Nat.le_refl _) (by decide)) (jq_147 (fun s' h' => H s s' h h'))
  · refine br_f (nI_ge (b := 64) hi (by decide)) ⟨pk_in u 64 hi, pk_in u 64 hi, ?_⟩
    rw [nI_clamp (by omega)]
    exact nm_e (nm_r (nI_1 u) (hw _ (jq_fill h rfl)))
theorem jq_68 {post : St1 → Prop} (H : ∀ t s : Nat → Int32, (∀ m, m < 64 → s m = jq_s2 (jq_s1 a15 a2) a2 m) → post (nq, ni, q, iv, len, cn, pr, bb, bc, ra, dc, a1, a2, a3, a4, a5, a6, a7, a8, a9, a10, a11, a12, a13, a14, t, s, a17)) : ∃ n, wX_transform_68 post nq ni q iv len cn pr bb bc ra dc n 0 a1 a2 a3 a4 a5 a6 a7 a8 a9 a10 a11 a12 a13 a14 a15 a16 a17 := by
  refine pk_loop (fun n j s => wX_transform_68 post nq ni q iv len cn pr bb bc ra dc n (nI j) a1 a2 a3 a4 a5 a6 a7 a8 a9 a10 a11 a12 a13 a14 a15 s a17) (fun j s => ∀ m, m < j * 8 → s m = jq_s1 a15 a2 m) 8 0 a16 (by decide) (fun m m1 => absurd m1 (by omega)) (fun n s h => ?_) (fun n j s hi h hw => ?_)
  · refine br_t (nI_le (a := 8) (Nat.le_refl _) (by decide)) (jq_121 (fun t s' h1 h2 => H t s' (fun m hm => ?_)))
    rw [h2 m hm]
    exact jq_fp_cg (by omega) (fun k hk => by rw [h1 k hk, h k (by omega)]) 4 (Nat.le_refl _)
  · exact br_f (nI_ge (b := 8) hi (by decide)) (jq_77 hi h hw)
theorem jq_transform {post : St1 → Prop} {b : Nat} (hb : b < 4) (H : ∀ t s : Nat → Int32, (∀ m, m < 64 → s m = jq_S a1 a2 b m) → post (nq, ni, q, iv, len, cn, pr, bb, bc, ra, dc, a1, a2, a3, a4, a5, a6, a7, a8, a9, a10, a11, a12, a13, a14, t, s, a17)) : wpX_transform post (nq, ni, q, iv, len, cn, pr, bb, bc, ra, dc, a1, a2, a3, a4, a5, a6, a7, a8, a9, a10, a11, a12, a13, a14, a15, a16, a17) (nI b) := by
  unfold wpX_transform
  refine jq_corner hb ?_
  refine pk_loop (fun n j s => wX_transform_8 post (nI (jq_cor b)) nq ni q iv len cn pr bb bc ra dc n (nI j) a1 a2 a3 a4 a5 a6 a7 a8 a9 a10 a11 a12 a13 a14 s a16 a17) (fun j s => ∀ m, m < j * 8 → s m = jq_h1 a1 b m) 8 0 a15 (by decide) (fun m m1 => absurd m1 (by omega)) (fun n s h => ?_) (fun n j s hi h hw => ?_)
  · refine br_t (nI_le (a := 8) (Nat.le_refl _) (by decide)) (jq_68 (fun t s' h2 => H t s' (fun m hm => ?_)))
    rw [h2 m hm]
    exact jq_fp_cg (by omega) (fun k hk => jq_fp_cg (by omega) (fun l hl => h l (by omega)) 4 (Nat.le_refl _)) 4 (Nat.le_refl _)
  · exact br_f (nI_ge (b := 8) hi (by decide)) (jq_17 hb hi h hw)
end
theorem jq_S_b {a1 a2 : Nat → Int32} {b : Nat} (hb : b < 4) (h2 : ∀ j, j < 9 → (a2 j).toInt.natAbs ≤ 64) (h1 : ∀ j, j < 256 → 0 ≤ (a1 j).toInt ∧ (a1 j).toInt ≤ 255) (m : Nat) (hm : m < 64) : (jq_S a1 a2 b m).toInt.natAbs ≤ 33554432 := by
  have hc := jq_cor_lt b hb
  have e128 : (128 : Int32).toInt = 128 := rfl
  have b1 : ∀ k, k < 64 → (jq_h1 a1 b k).toInt.natAbs ≤ 128 := by
    intro k hk
    unfold jq_h1
    have := h1 (jq_cor b + k / 8 * 16 + k % 8) (by omega)
    rw [ji_sub (by rw [e128]; omega) (by rw [e128]; omega), e128]; omega
  have b2 : ∀ k, k < 64 → (jq_s1 (jq_h1 a1 b) a2 k).toInt.natAbs ≤ 65536 := fun k hk => jq_fp_b (M := 128) (by omega) (by omega) h2 b1 4 (Nat.le_refl _)
  exact jq_fp_b (M := 65536) (by omega) (by omega) h2 b2 4 (Nat.le_refl _)
/-- a level out of a sum -/
def jq_lev (qN : Nat) (s : Int32) (m : Nat) : Int32 :=
  if 0 ≤ s then nI ((2 * s.toInt.natAbs + 8192 * qN * (2 + m % 8 + m / 8)) / (2 * (8192 * qN * (2 + m % 8 + m / 8)))) else -nI ((2 * s.toInt.natAbs + 8192 * qN * (2 + m % 8 + m / 8)) / (2 * (8192 * qN * (2 + m % 8 + m / 8))))
theorem jq_lev_n {a d : Nat} (ha : a ≤ 33554432) (hd : 16384 ≤ d) : (2 * a + d) / (2 * d) ≤ 2048 := by
  have : (2 * a + d) / (2 * d) < 2049 := (Nat.div_lt_iff_lt_mul (by omega)).mpr (by omega)
  omega
theorem jq_d {qN m : Nat} (h1 : 1 ≤ qN) (h8 : qN ≤ 8) (hm : m < 64) : 16384 ≤ 8192 * qN * (2 + m % 8 + m / 8) ∧ 8192 * qN * (2 + m % 8 + m / 8) ≤ 1048576 := by
  constructor
  · have := Nat.mul_le_mul (show 8192 ≤ 8192 * qN by omega) (show 2 ≤ 2 + m % 8 + m / 8 by omega)
    omega
  · have := Nat.mul_le_mul (show 8192 * qN ≤ 65536 by omega) (show 2 + m % 8 + m / 8 ≤ 16 by omega)
    omega
theorem jq_lev_b {qN m : Nat} {s : Int32} (h1 : 1 ≤ qN) (h8 : qN ≤ 8) (hm : m < 64) (hs : s.toInt.natAbs ≤ 33554432) : (jq_lev qN s m).toInt.natAbs ≤ 2048 := by
  have hd := jq_d h1 h8 hm
  have hl := jq_lev_n hs hd.1
  unfold jq_lev
  generalize (2 * s.toInt.natAbs + 8192 * qN * (2 + m % 8 + m / 8)) / (2 * (8192 * qN * (2 + m % 8 + m / 8))) = x at hl ⊢
  have e : (nI x).toInt.natAbs ≤ 2048 := by
    rw [nI_toInt (by omega)]; omega
  split
  · exact e
  · exact jq_negb e (by decide)
/-- the level at place k of all 256 -/
def jq_F (a1 a2 : Nat → Int32) (qN k : Nat) : Int32 := jq_lev qN (jq_S a1 a2 (k / 64) (k % 64)) (k % 64)
section
variable {nq ni q iv len cn pr bb bc ra dc : Int32} {a1 a2 a3 a4 a5 a6 a7 a8 a9 a10 a11 a12 a13 a14 a15 a16 : Nat → Int32} {a17 : Nat → Int64}
theorem jq_15 {post : St1 → Prop} {J7 : Int32 → (Nat → Int32) → (Nat → Int32) → (Nat → Int32) → (Nat → Int32) → (Nat → Int32) → (Nat → Int32) → (Nat → Int32) → (Nat → Int32) → (Nat → Int32) → (Nat → Int32) → (Nat → Int32) → (Nat → Int32) → (Nat → Int32) → (Nat → Int32) → (Nat → Int32) → (Nat → Int32) → (Nat → Int64) → Prop} {b v qN : Nat} (hb : b < 4) (hv : v < 8) (hq : q = nI qN) (h1 : 1 ≤ qN) (h8 : qN ≤ 8) {S : Nat → Int32} (hS : ∀ m, m < 64 → a16 m = S m) (hSb : ∀ m, m < 64 → (S m).toInt.natAbs ≤ 33554432) {b13 : Nat → Int32}
    (h0 : ∀ m, m < v * 8 → a13 (b * 64 + m) = jq_lev qN (S m) m) (g0 : ∀ j, j < b * 64 ∨ b * 64 + 64 ≤ j → a13 j = b13 j)
    (H : ∀ s : Nat → Int32, (∀ m, m < (v + 1) * 8 → s (b * 64 + m) = jq_lev qN (S m) m) → (∀ j, j < b * 64 ∨ b * 64 + 64 ≤ j → s j = b13 j) → J7 (nI (v + 1)) a1 a2 a3 a4 a5 a6 a7 a8 a9 a10 a11 a12 s a14 a15 a16 a17) : ∃ n, wX_quantise_15 post J7 (nI b) (nI v) nq ni q iv len cn pr bb bc ra dc n 0 a1 a2 a3 a4 a5 a6 a7 a8 a9 a10 a11 a12 a13 a14 a15 a16 a17 := by
  refine pk_loop (fun n u s => wX_quantise_15 post J7 (nI b) (nI v) nq ni q iv len cn pr bb bc ra dc n (nI u) a1 a2 a3 a4 a5 a6 a7 a8 a9 a10 a11 a12 s a14 a15 a16 a17) (fun u s => (∀ m, m < v * 8 + u → s (b * 64 + m) = jq_lev qN (S m) m) ∧ (∀ j, j < b * 64 ∨ b * 64 + 64 ≤ j → s j = b13 j)) 8 0 a13 (by decide) ⟨h0, g0⟩ (fun n s h => ?_) (fun n u s hi h hw => ?_)
  · exact br_t (nI_le (a := 8) (Nat.le_refl _) (by decide)) (nm_r (nI_1 v) (H s (fun m hm => h.1 m (by omega)) h.2))
  · have hd := jq_d (m := v * 8 + u) h1 h8 (by omega)
    have hl := jq_lev_n (hSb (v * 8 + u) (by omega)) hd.1
    have ed : ((8192 : Int32) * q) * ((2 + nI u) + nI v) = nI (8192 * qN * (2 + (v * 8 + u) % 8 + (v * 8 + u) / 8)) := by
      have e1 : (8192 : Int32) * nI qN = nI (8192 * qN) := pk_mul 8192 qN
      have e2 : (2 : Int32) + nI u = nI (2 + u) := nI_add 2 u
      rw [hq, e1, e2, nI_add, pk_mul, show (v * 8 + u) / 8 = v by omega, show (v * 8 + u) % 8 = u by omega]
    have eix : nI v * 8 + nI u = nI (v * 8 + u) := jn_ma v 8 u
    have eix2 : nI b * 64 + nI v * 8 + nI u = nI (b * 64 + (v * 8 + u)) := by
      have : nI b * 64 = nI (b * 64) := pk_mul b 64
      have e3 : nI (b * 64) + nI v * 8 + nI u = nI (b * 64 + v * 8 + u) := jn_x3 _ v 8 u
      rw [this, e3, Nat.add_assoc]
    have fin : ∀ x : Int32, x = jq_lev qN (S (v * 8 + u)) (v * 8 + u) → ∀ y : Nat → Int32, y = upd s (b * 64 + (v * 8 + u)) x → ∀ z : Int32, z = nI u + 1 → wX_quantise_15 post J7 (nI b) (nI v) nq ni q iv len cn pr bb bc ra dc n z a1 a2 a3 a4 a5 a6 a7 a8 a9 a10 a11 a12 y a14 a15 a16 a17 := by
      intro x hx
      refine nm_e (nm_r (nI_1 u) (hw _ ⟨fun m hm => ?_, fun j hj => ?_⟩))
      · by_cases e : m = v * 8 + u
        · rw [e, pk_us, hx]
        · rw [pk_un (by omega)]; exact h.1 m (by omega)
      · rw [pk_un (by omega)]; exact h.2 j hj
    have P78 : ∀ (x5 : Int32), x5 = S (v * 8 + u) → wX_quantise_78 post J7 (wX_quantise_15 post J7 (nI b) (nI v) nq ni q iv len cn pr bb bc ra dc n) (nI b) (nI v) (nI u) x5 (nI ((2 * (S (v * 8 + u)).toInt.natAbs + 8192 * qN * (2 + (v * 8 + u) % 8 + (v * 8 + u) / 8)) / (2 * (8192 * qN * (2 + (v * 8 + u) % 8 + (v * 8 + u) / 8))))) nq ni q iv len cn pr bb bc ra dc a1 a2 a3 a4 a5 a6 a7 a8 a9 a10 a11 a12 s a14 a15 a16 a17 := by
      intro x5 hx5
      unfold jq_lev at fin
      rw [← hx5] at fin ⊢
      refine br_c (fun z => ?_) (fun z => ?_)
      · rw [if_pos z] at fin
        rw [eix2]
        refine ⟨vp_in_nI (by omega) (by decide), ?_⟩
        rw [nI_clamp (by omega)]
        exact fin _ rfl
      · rw [if_neg z] at fin
        rw [eix2]
        refine ⟨vp_in_nI (by omega) (by decide), ?_⟩
        rw [nI_clamp (by omega)]
        exact fin _ rfl
    have P55 : ∀ (x5 z0 : Int32), x5 = S (v * 8 + u) → z0 = nI (S (v * 8 + u)).toInt.natAbs → wX_quantise_55 post J7 (wX_quantise_15 post J7 (nI b) (nI v) nq ni q iv len cn pr bb bc ra dc n) (nI b) (nI v) (nI u) (nI (8192 * qN * (2 + (v * 8 + u) % 8 + (v * 8 + u) / 8))) x5 z0 nq ni q iv len cn pr bb bc ra dc a1 a2 a3 a4 a5 a6 a7 a8 a9 a10 a11 a12 s a14 a15 a16 a17 := by
      intro x5 z0 hx5 hz
      have p := P78 x5 hx5
      have hb2 := hSb (v * 8 + u) (by omega)
      rw [hz]
      generalize 8192 * qN * (2 + (v * 8 + u) % 8 + (v * 8 + u) / 8) = d at p hd ⊢
      generalize (S (v * 8 + u)).toInt.natAbs = a at p hb2 ⊢
      have e1 : (2 : Int32) * nI a + nI d = nI (2 * a + d) := jn_ma 2 a d
      have e2 : (2 : Int32) * nI d = nI (2 * d) := pk_mul 2 d
      refine br_f (nI_nle (by omega) (by omega)) ?_
      rw [e1, e2, pk_div (by omega) (by omega) (by omega)]
      exact ⟨nI_ne0 (by omega) (by omega), p⟩
    refine br_f (nI_ge (b := 8) hi (by decide)) ?_
    show wpX_step _ _ (nI u) (nI v)
    refine (?_ : _ ∧ _)
    rw [ed, eix, nI_clamp (by omega), hS _ (show v * 8 + u < 64 by omega)]
    refine ⟨vp_in_nI (by omega) (by decide), nm_e (br_c (fun z => ?_) (fun z => ?_))⟩
    · refine P55 _ _ rfl (ji_nI ?_)
      have := Int32.le_iff_toInt_le.mp z
      rw [ji_t0] at this
      omega
    · have hb2 := hSb (v * 8 + u) (by omega)
      refine P55 _ _ rfl (ji_nI ?_)
      rw [ji_neg (by omega) (by omega)]
      have : ¬ 0 ≤ (S (v * 8 + u)).toInt := fun y => z (Int32.le_iff_toInt_le.mpr (by rw [ji_t0]; exact y))
      omega
theorem jq_quantise {post : St1 → Prop} {b qN : Nat} (hb : b < 4) (hq : q = nI qN) (h1 : 1 ≤ qN) (h8 : qN ≤ 8) (h2 : ∀ j, j < 9 → (a2 j).toInt.natAbs ≤ 64) (ha1 : ∀ j, j < 256 → 0 ≤ (a1 j).toInt ∧ (a1 j).toInt ≤ 255)
    (H : ∀ a13' t s : Nat → Int32, (∀ m, m < 64 → a13' (b * 64 + m) = jq_F a1 a2 qN (b * 64 + m)) → (∀ j, j < b * 64 ∨ b * 64 + 64 ≤ j → a13' j = a13 j) → post (nq, ni, q, iv, len, cn, pr, bb, bc, ra, dc, a1, a2, a3, a4, a5, a6, a7, a8, a9, a10, a11, a12, a13', a14, t, s, a17)) : wpX_quantise post (nq, ni, q, iv, len, cn, pr, bb, bc, ra, dc, a1, a2, a3, a4, a5, a6, a7, a8, a9, a10, a11, a12, a13, a14, a15, a16, a17) (nI b) := by
  refine jq_transform hb (fun t s hs => ?_)
  refine pk_loop (fun n v x => wX_quantise_7 post (nI b) nq ni q iv len cn pr bb bc ra dc n (nI v) a1 a2 a3 a4 a5 a6 a7 a8 a9 a10 a11 a12 x a14 t s a17) (fun v x => (∀ m, m < v * 8 → x (b * 64 + m) = jq_lev qN (jq_S a1 a2 b m) m) ∧ (∀ j, j < b * 64 ∨ b * 64 + 64 ≤ j → x j = a13 j)) 8 0 a13 (by decide) ⟨fun m hm => absurd hm (by omega), fun j _ => rfl⟩ (fun n x h => ?_) (fun n v x hi h hw => ?_)
  · refine br_t (nI_le (a := 8) (Nat.le_refl _) (by decide)) (H x t s (fun m hm => ?_) h.2)
    rw [h.1 m (by omega)]
    unfold jq_F
    rw [show (b * 64 + m) / 64 = b by omega, show (b * 64 + m) % 64 = m by omega]
  · exact br_f (nI_ge (b := 8) hi (by decide)) (jq_15 hb hi hq h1 h8 hs (fun m hm => jq_S_b hb h2 ha1 m hm) h.1 h.2 (fun y y1 y2 => hw y ⟨y1, y2⟩))
end
theorem jq_F_b {a1 a2 : Nat → Int32} {qN k : Nat} (h1 : 1 ≤ qN) (h8 : qN ≤ 8) (h2 : ∀ j, j < 9 → (a2 j).toInt.natAbs ≤ 64) (ha1 : ∀ j, j < 256 → 0 ≤ (a1 j).toInt ∧ (a1 j).toInt ≤ 255) (hk : k < 256) : (jq_F a1 a2 qN k).toInt.natAbs ≤ 2048 :=
  jq_lev_b h1 h8 (Nat.mod_lt _ (by decide)) (jq_S_b (by omega) h2 ha1 _ (Nat.mod_lt _ (by decide)))
end
section
/-- a grey -/
def jv_g (x : Int32) : Prop := 0 ≤ x.toInt ∧ x.toInt ≤ 255
/-- the block of a pixel -/
def jv_bk (j : Nat) : Nat := j / 128 * 2 + j % 16 / 8
section
variable {nq ni q iv len cn pr bb bc ra dc : Int32} {a1 a2 a3 a4 a5 a6 a7 a8 a9 a10 a11 a12 a13 a14 a15 a16 : Nat → Int32} {a17 : Nat → Int64}
theorem jv_clamp {post : Int32 → Prop} {x : Int32} (H : ∀ g, jv_g g → (x = 128 → g = 128) → post g) : wpX_clamp post (nq, ni, q, iv, len, cn, pr, bb, bc, ra, dc, a1, a2, a3, a4, a5, a6, a7, a8, a9, a10, a11, a12, a13, a14, a15, a16, a17) x := by
  refine br_c (fun z => br_c (fun y => H x ?_ (fun e => e)) (fun y => H 255 ⟨by decide, by decide⟩ (fun e => absurd (by rw [e]; decide) y))) (fun z => H 0 ⟨by decide, by decide⟩ (fun e => absurd (by rw [e]; decide) z))
  have h1 := Int32.le_iff_toInt_le.mp z
  have h2 := Int32.le_iff_toInt_le.mp y
  exact ⟨h1, h2⟩
theorem jv_unf {post : Int64 → Prop} {Z : Prop} {x1 x2 i : Nat} (hx : x1 + 7 * x2 < 64) (hi : i < 8) (hZ : Z → ∀ j, j < 64 → a17 j = 0) (H : ∀ r, (Z → r = 0) → post r) : wpX_unfolded post (nq, ni, q, iv, len, cn, pr, bb, bc, ra, dc, a1, a2, a3, a4, a5, a6, a7, a8, a9, a10, a11, a12, a13, a14, a15, a16, a17) (nI x1) (nI x2) (nI i) := by
  refine ⟨vp_in_nI (by omega) (by decide), ?_⟩
  rw [nI_clamp (by omega)]
  refine jq_wv (u := 0) (by decide) hi (fun x4 hx4 => ?_)
  refine pk_loop (fun n u s => wX_unfolded_19 post (nI x1) (nI x2) (nI i) nq ni q iv len cn pr bb bc ra dc a1 a2 a3 a4 a5 a6 a7 a8 a9 a10 a11 a12 a13 a14 a15 a16 a17 n s (nI u)) (fun u s => Z → s = 0) 8 1 x4 (by decide) (fun z => ?_) (fun n s h => ?_) (fun n u s hu h hw => ?_)
  · rw [hx4, hZ z x1 (by omega)]; simp
  · exact br_t (nI_le (a := 8) (Nat.le_refl _) (by decide)) (H s h)
  · have m1 : u * x2 ≤ 7 * x2 := Nat.mul_le_mul_right _ (by omega)
    have e1 : nI x1 + nI u * nI x2 = nI (x1 + u * x2) := jn_am x1 u x2
    refine br_f (nI_ge (b := 8) hu (by decide)) ?_
    rw [e1, nI_clamp (by omega)]
    refine ⟨vp_in_nI (by omega) (by decide), jq_wv hu hi (nm_e (nm_r (nI_1 u) (hw _ (fun z => ?_))))⟩
    rw [h z, hZ z _ (by omega)]; simp
theorem jv_col {post : St1 → Prop} {Z : Prop} {c : Nat} (hc : c < 8) (hZ : Z → ∀ j, j < 64 → a17 j = 0) (H : ∀ s, (Z → ∀ j, j < 64 → s j = 0) → post (nq, ni, q, iv, len, cn, pr, bb, bc, ra, dc, a1, a2, a3, a4, a5, a6, a7, a8, a9, a10, a11, a12, a13, a14, a15, a16, s)) : wpX_unfoldColumn post (nq, ni, q, iv, len, cn, pr, bb, bc, ra, dc, a1, a2, a3, a4, a5, a6, a7, a8, a9, a10, a11, a12, a13, a14, a15, a16, a17) (nI c) := by
  have e8 : (8 : Int32) + nI c = nI (8 + c) := nI_add 8 c
  have e16 : (16 : Int32) + nI c = nI (16 + c) := nI_add 16 c
  have e24 : (24 : Int32) + nI c = nI (24 + c) := nI_add 24 c
  have e32 : (32 : Int32) + nI c = nI (32 + c) := nI_add 32 c
  have e40 : (40 : Int32) + nI c = nI (40 + c) := nI_add 40 c
  have e48 : (48 : Int32) + nI c = nI (48 + c) := nI_add 48 c
  have e56 : (56 : Int32) + nI c = nI (56 + c) := nI_add 56 c
  have up : ∀ (s : Nat → Int64) (k : Nat) (r : Int64), (Z → ∀ j, j < 64 → s j = 0) → (Z → r = 0) → (Z → ∀ j, j < 64 → vp_updL s k r j = 0) := by
    intro s k r h1 h2 z j hj
    by_cases e : j = k
    · rw [e, pk_uLs, h2 z]
    · rw [pk_uLn e, h1 z j hj]
  refine jv_unf (x2 := 8) (i := 0) (by omega) (by decide) hZ (fun r0 h0 => ?_)
  refine jv_unf (x2 := 8) (i := 1) (by omega) (by decide) hZ (fun r1 h1 => ?_)
  refine jv_unf (x2 := 8) (i := 2) (by omega) (by decide) hZ (fun r2 h2 => ?_)
  refine jv_unf (x2 := 8) (i := 3) (by omega) (by decide) hZ (fun r3 h3 => ?_)
  refine jv_unf (x2 := 8) (i := 4) (by omega) (by decide) hZ (fun r4 h4 => ?_)
  refine jv_unf (x2 := 8) (i := 5) (by omega) (by decide) hZ (fun r5 h5 => ?_)
  refine jv_unf (x2 := 8) (i := 6) (by omega) (by decide) hZ (fun r6 h6 => ?_)
  refine jv_unf (x2 := 8) (i := 7) (by omega) (by decide) hZ (fun r7 h7 => ?_)
  rw [e8, e16, e24, e32, e40, e48, e56]
  refine ⟨vp_in_nI (by omega) (by decide), nm_e ⟨vp_in_nI (by omega) (by decide), nm_e ⟨vp_in_nI (by omega) (by decide), nm_e ⟨vp_in_nI (by omega) (by decide), nm_e ⟨vp_in_nI (by omega) (by decide), nm_e ⟨vp_in_nI (by omega) (by decide), nm_e ⟨vp_in_nI (by omega) (by decide), nm_e ⟨vp_in_nI (by omega) (by decide), nm_e ?_⟩⟩⟩⟩⟩⟩⟩⟩
  exact H _ (up _ _ _ (up _ _ _ (up _ _ _ (up _ _ _ (up _ _ _ (up _ _ _ (up _ _ _ (up _ _ _ hZ h0) h1) h2) h3) h4) h5) h6) h7)
theorem jv_100 {post : St1 → Prop} {J91 : Int32 → (Nat → Int32) → (Nat → Int32) → (Nat → Int32) → (Nat → Int32) → (Nat → Int32) → (Nat → Int32) → (Nat → Int32) → (Nat → Int32) → (Nat → Int32) → (Nat → Int32) → (Nat → Int32) → (Nat → Int32) → (Nat → Int32) → (Nat → Int32) → (Nat → Int32) → (Nat → Int32) → (Nat → Int64) → Prop} {Z : Prop} {b r : Nat} {o : Nat → Int32} (hb : b < 4) (hr : r < 8) (hZ : Z → ∀ j, j < 64 → a17 j = 0)
    (h0 : ∀ j, j < 256 → jv_bk j = b → j / 16 % 8 < r → jv_g (a14 j) ∧ (Z → a14 j = 128)) (g0 : ∀ j, jv_bk j ≠ b → a14 j = o j)
    (H : ∀ s : Nat → Int32, (∀ j, j < 256 → jv_bk j = b → j / 16 % 8 < r + 1 → jv_g (s j) ∧ (Z → s j = 128)) → (∀ j, jv_bk j ≠ b → s j = o j) → J91 (nI (r + 1)) a1 a2 a3 a4 a5 a6 a7 a8 a9 a10 a11 a12 a13 s a15 a16 a17) : ∃ n, wX_showBlock_100 post J91 (nI (jq_cor b)) (nI r) nq ni q iv len cn pr bb bc ra dc n 0 a1 a2 a3 a4 a5 a6 a7 a8 a9 a10 a11 a12 a13 a14 a15 a16 a17 := by
  refine pk_loop (fun n c s => wX_showBlock_100 post J91 (nI (jq_cor b)) (nI r) nq ni q iv len cn pr bb bc ra dc n (nI c) a1 a2 a3 a4 a5 a6 a7 a8 a9 a10 a11 a12 a13 s a15 a16 a17) (fun c s => (∀ j, j < 256 → jv_bk j = b → (j / 16 % 8 < r ∨ (j / 16 % 8 = r ∧ j % 8 < c)) → jv_g (s j) ∧ (Z → s j = 128)) ∧ (∀ j, jv_bk j ≠ b → s j = o j)) 8 0 a14 (by decide) ⟨fun j j1 j2 j3 => h0 j j1 j2 (by omega), g0⟩ (fun n s h => ?_) (fun n c s hi h hw => ?_)
  · exact br_t (nI_le (a := 8) (Nat.le_refl _) (by decide)) (nm_r (nI_1 r) (H s (fun j j1 j2 j3 => h.1 j j1 j2 (by omega)) h.2))
  · have e1 : nI (jq_cor b) + nI r * 16 + nI c = nI (jq_cor b + r * 16 + c) := jn_x3 _ _ 16 _
    have e2 : nI r * 8 = nI (r * 8) := pk_mul r 8
    have hcb : jq_cor b = b / 2 * 128 + b % 2 * 8 := rfl
    have hbk : jv_bk (jq_cor b + r * 16 + c) = b := by unfold jv_bk; rw [hcb]; omega
    refine br_f (nI_ge (b := 8) hi (by decide)) ?_
    rw [e1, e2, nI_clamp (by omega)]
    refine jv_unf (x2 := 1) (Z := Z) (by omega) hi hZ (fun t ht => nm_e (jv_clamp (fun g g1 g2 => ⟨vp_in_nI (by omega) (by decide), nm_e (nm_r (nI_1 c) (hw _ ⟨fun j j1 j2 j3 => ?_, fun j hj => ?_⟩))⟩)))
    · by_cases e : j = jq_cor b + r * 16 + c
      · rw [e, pk_us]
        exact ⟨g1, fun z => g2 (by rw [ht z]; decide)⟩
      · rw [pk_un e]
        refine h.1 j j1 j2 ?_
        rcases j3 with z | ⟨z, y⟩
        · exact Or.inl z
        · refine Or.inr ⟨z, ?_⟩
          have j2' : j / 128 * 2 + j % 16 / 8 = b := j2
          have e' : ¬ j = b / 2 * 128 + b % 2 * 8 + r * 16 + c := e
          omega
    · rw [pk_un (fun e => hj (by rw [e]; exact hbk))]; exact h.2 j hj
theorem jv_91 {post : St1 → Prop} {Z : Prop} {b : Nat} (hb : b < 4) (hZ : Z → ∀ j, j < 64 → a17 j = 0)
    (H : ∀ s : Nat → Int32, (∀ j, j < 256 → jv_bk j = b → jv_g (s j) ∧ (Z → s j = 128)) → (∀ j, jv_bk j ≠ b → s j = a14 j) → post (nq, ni, q, iv, len, cn, pr, bb, bc, ra, dc, a1, a2, a3, a4, a5, a6, a7, a8, a9, a10, a11, a12, a13, s, a15, a16, a17)) : ∃ n, wX_showBlock_91 post (nI (jq_cor b)) nq ni q iv len cn pr bb bc ra dc n 0 a1 a2 a3 a4 a5 a6 a7 a8 a9 a10 a11 a12 a13 a14 a15 a16 a17 := by
  refine pk_loop (fun n r s => wX_showBlock_91 post (nI (jq_cor b)) nq ni q iv len cn pr bb bc ra dc n (nI r) a1 a2 a3 a4 a5 a6 a7 a8 a9 a10 a11 a12 a13 s a15 a16 a17) (fun r s => (∀ j, j < 256 → jv_bk j = b → j / 16 % 8 < r → jv_g (s j) ∧ (Z → s j = 128)) ∧ (∀ j, jv_bk j ≠ b → s j = a14 j)) 8 0 a14 (by decide) ⟨fun j j1 j2 j3 => absurd j3 (by omega), fun j _ => rfl⟩ (fun n s h => ?_) (fun n r s hi h hw => ?_)
  · exact br_t (nI_le (a := 8) (Nat.le_refl _) (by decide)) (H s (fun j j1 j2 => h.1 j j1 j2 (by omega)) h.2)
  · exact br_f (nI_ge (b := 8) hi (by decide)) (jv_100 hb hi hZ h.1 h.2 (fun s s1 s2 => hw s ⟨s1, s2⟩))
theorem jv_66 {post : St1 → Prop} {Z : Prop} {b : Nat} (hb : b < 4) (hZ : Z → ∀ j, j < 64 → a17 j = 0)
    (H : ∀ (s : Nat → Int32) (w : Nat → Int64), (∀ j, j < 256 → jv_bk j = b → jv_g (s j) ∧ (Z → s j = 128)) → (∀ j, jv_bk j ≠ b → s j = a14 j) → post (nq, ni, q, iv, len, cn, pr, bb, bc, ra, dc, a1, a2, a3, a4, a5, a6, a7, a8, a9, a10, a11, a12, a13, s, a15, a16, w)) : ∃ n, wX_showBlock_66 post (nI b) n 0 nq ni q iv len cn pr bb bc ra dc a1 a2 a3 a4 a5 a6 a7 a8 a9 a10 a11 a12 a13 a14 a15 a16 a17 := by
  refine pk_loop (fun n c w => wX_showBlock_66 post (nI b) n (nI c) nq ni q iv len cn pr bb bc ra dc a1 a2 a3 a4 a5 a6 a7 a8 a9 a10 a11 a12 a13 a14 a15 a16 w) (fun c w => Z → ∀ j, j < 64 → w j = 0) 8 0 a17 (by decide) hZ (fun n w h => ?_) (fun n c w hi h hw => ?_)
  · exact br_t (nI_le (a := 8) (Nat.le_refl _) (by decide)) (jq_corner hb (jv_91 hb h (fun s s1 s2 => H s w s1 s2)))
  · exact br_f (nI_ge (b := 8) hi (by decide)) (jv_col hi h (fun s hs => nm_r (nI_1 c) (hw s hs)))
theorem jv_10 {post : St1 → Prop} {J2 : Int32 → (Nat → Int32) → (Nat → Int32) → (Nat → Int32) → (Nat → Int32) → (Nat → Int32) → (Nat → Int32) → (Nat → Int32) → (Nat → Int32) → (Nat → Int32) → (Nat → Int32) → (Nat → Int32) → (Nat → Int32) → (Nat → Int32) → (Nat → Int32) → (Nat → Int32) → (Nat → Int32) → (Nat → Int64) → Prop} {b v : Nat} (hb : b < 4) (hv : v < 8) (h0 : (∀ m, m < 64 → a13 (b * 64 + m) = 0) → ∀ j, j < v * 8 → a17 j = 0)
    (H : ∀ s, ((∀ m, m < 64 → a13 (b * 64 + m) = 0) → ∀ j, j < (v + 1) * 8 → s j = 0) → J2 (nI (v + 1)) a1 a2 a3 a4 a5 a6 a7 a8 a9 a10 a11 a12 a13 a14 a15 a16 s) : ∃ n, wX_showBlock_10 post J2 (nI b) (nI v) nq ni q iv len cn pr bb bc ra dc n 0 a1 a2 a3 a4 a5 a6 a7 a8 a9 a10 a11 a12 a13 a14 a15 a16 a17 := by
  refine pk_loop (fun n u s => wX_showBlock_10 post J2 (nI b) (nI v) nq ni q iv len cn pr bb bc ra dc n (nI u) a1 a2 a3 a4 a5 a6 a7 a8 a9 a10 a11 a12 a13 a14 a15 a16 s) (fun u s => (∀ m, m < 64 → a13 (b * 64 + m) = 0) → ∀ j, j < v * 8 + u → s j = 0) 8 0 a17 (by decide) h0 (fun n s h => ?_) (fun n u s hi h hw => ?_)
  · exact br_t (nI_le (a := 8) (Nat.le_refl _) (by decide)) (nm_r (nI_1 v) (H s (fun z j hj => h z j (by omega))))
  · have eix : nI v * 8 + nI u = nI (v * 8 + u) := jn_ma v 8 u
    have eix2 : nI b * 64 + nI v * 8 + nI u = nI (b * 64 + (v * 8 + u)) := by
      have e1 : nI b * 64 = nI (b * 64) := pk_mul b 64
      have e3 : nI (b * 64) + nI v * 8 + nI u = nI (b * 64 + v * 8 + u) := jn_x3 _ v 8 u
      rw [e1, e3, Nat.add_assoc]
    refine br_f (nI_ge (b := 8) hi (by decide)) ?_
    rw [eix, eix2, nI_clamp (show v * 8 + u < 2 ^ 31 by omega), nI_clamp (show b * 64 + (v * 8 + u) < 2 ^ 31 by omega)]
    refine ⟨vp_in_nI (by omega) (by decide), vp_in_nI (by omega) (by decide), nm_e (nm_r (nI_1 u) (hw _ (fun z j hj => ?_)))⟩
    by_cases e : j = v * 8 + u
    · rw [e, pk_uLs, z _ (by omega)]; simp
    · rw [pk_uLn e]; exact h z j (by omega)
theorem jv_showBlock {post : St1 → Prop} {b : Nat} (hb : b < 4)
    (H : ∀ (s : Nat → Int32) (w : Nat → Int64), (∀ j, j < 256 → jv_bk j = b → jv_g (s j) ∧ ((∀ m, m < 64 → a13 (b * 64 + m) = 0) → s j = 128)) → (∀ j, jv_bk j ≠ b → s j = a14 j) → post (nq, ni, q, iv, len, cn, pr, bb, bc, ra, dc, a1, a2, a3, a4, a5, a6, a7, a8, a9, a10, a11, a12, a13, s, a15, a16, w)) : wpX_showBlock post (nq, ni, q, iv, len, cn, pr, bb, bc, ra, dc, a1, a2, a3, a4, a5, a6, a7, a8, a9, a10, a11, a12, a13, a14, a15, a16, a17) (nI b) := by
  refine pk_loop (fun n v s => wX_showBlock_2 post (nI b) nq ni q iv len cn pr bb bc ra dc n (nI v) a1 a2 a3 a4 a5 a6 a7 a8 a9 a10 a11 a12 a13 a14 a15 a16 s) (fun v s => (∀ m, m < 64 → a13 (b * 64 + m) = 0) → ∀ j, j < v * 8 → s j = 0) 8 0 a17 (by decide) (fun _ j hj => absurd hj (by omega)) (fun n s h => ?_) (fun n v s hi h hw => ?_)
  · exact br_t (nI_le (a := 8) (Nat.le_refl _) (by decide)) (jv_66 hb h H)
  · exact br_f (nI_ge (b := 8) hi (by decide)) (jv_10 hb hi h hw)
end
end
section
/-- where segment j begins -/
def jd_pos (Bs : Nat → List Nat) : Nat → Nat
  | 0 => 0
  | j + 1 => jd_pos Bs j + (jb_st (Bs j)).length + 2
/-- the bytes of n segments stand in the array -/
def jd_at (a5 : Nat → Int32) (Bs : Nat → List Nat) (n : Nat) : Prop :=
  ∀ j, j < n → jb_at a5 (jd_pos Bs j) (jb_st (Bs j)) ∧ a5 (jd_pos Bs j + (jb_st (Bs j)).length) = 255 ∧ a5 (jd_pos Bs j + (jb_st (Bs j)).length + 1) = nI (208 + j)
theorem jd_pos_mono (Bs : Nat → List Nat) (j : Nat) : ∀ d, jd_pos Bs j ≤ jd_pos Bs (j + d) := by
  intro d
  induction d with
  | zero => exact Nat.le_refl _
  | succ d ih => show _ ≤ jd_pos Bs (j + d) + _ + 2; omega
theorem jd_pos_le {Bs : Nat → List Nat} {j n : Nat} (h : j < n) : jd_pos Bs j + (jb_st (Bs j)).length + 2 ≤ jd_pos Bs n := by
  have := jd_pos_mono Bs (j + 1) (n - (j + 1))
  rw [show j + 1 + (n - (j + 1)) = n by omega] at this
  exact this
/-- behind a 255 of a stuffed list stands a 0 -/
theorem jd_st255 {a5 : Nat → Int32} : ∀ (B : List Nat) (p i : Nat), jb_by B → jb_at a5 p (jb_st B) → i < (jb_st B).length → a5 (p + i) = 255 → a5 (p + i + 1) = 0 := by
  intro B
  induction B with
  | nil => intro p i _ _ h; exact absurd h (Nat.not_lt_zero i)
  | cons x B ih =>
    intro p i hb ha hi h5
    have hb' : jb_by B := fun y hy => hb y (List.mem_cons_of_mem _ hy)
    by_cases e : x = 255
    · have es : jb_st (x :: B) = 255 :: 0 :: jb_st B := if_pos e
      rw [es] at ha hi
      obtain ⟨h1, h2, h3⟩ := ha
      cases i with
      | zero => exact h2
      | succ i =>
        cases i with
        | zero => rw [h2] at h5; exact absurd h5 (by decide)
        | succ i =>
          have := ih (p + 1 + 1) i hb' h3 (by have : (255 :: 0 :: jb_st B).length = (jb_st B).length + 2 := rfl; omega) (by rw [show p + 1 + 1 + i = p + (i + 1 + 1) by omega]; exact h5)
          rw [show p + (i + 1 + 1) + 1 = p + 1 + 1 + i + 1 by omega]; exact this
    · have es : jb_st (x :: B) = x :: jb_st B := if_neg e
      rw [es] at ha hi
      obtain ⟨h1, h2⟩ := ha
      cases i with
      | zero =>
        have h1' : a5 (p + 0) = nI x := h1
        rw [h1'] at h5
        have := hb x List.mem_cons_self
        exact absurd ((nI_eq (b := 255) (by omega) (by decide)).mp h5) e
      | succ i =>
        have := ih (p + 1) i hb' h2 (by have : (x :: jb_st B).length = (jb_st B).length + 1 := rfl; omega) (by rw [show p + 1 + i = p + (i + 1) by omega]; exact h5)
        rw [show p + (i + 1) + 1 = p + 1 + i + 1 by omega]; exact this
section
variable {nq ni q iv cn pr bb bc ra dc : Int32} {a1 a2 a3 a4 a5 a6 a7 a8 a9 a10 a11 a12 a13 a14 a15 a16 : Nat → Int32} {a17 : Nat → Int64} {L : Nat}
theorem jd_mark1 {post : Int32 → Prop} {at_ : Nat} (hL : L ≤ 1900) (h1 : at_ + 1 < L) (h2 : a5 at_ = 255) (h3 : ¬ a5 (at_ + 1) < 208) (H : post 1) : wpX_markAt post (nq, ni, q, iv, nI L, cn, pr, bb, bc, ra, dc, a1, a2, a3, a4, a5, a6, a7, a8, a9, a10, a11, a12, a13, a14, a15, a16, a17) (nI at_) := by
  have e : nI at_ + 1 = nI (at_ + 1) := nI_1 at_
  unfold wpX_markAt
  rw [e]
  refine br_f (nI_ge h1 (by omega)) ⟨pk_in at_ 1900 (by omega), ?_⟩
  rw [nI_clamp (by omega)]
  refine br_t h2 ⟨vp_in_nI (by omega) (by decide), ?_⟩
  rw [nI_clamp (by omega)]
  exact br_f h3 H
theorem jd_mark0 {post : Int32 → Prop} {at_ : Nat} (hL : L ≤ 1900) (hat : at_ ≤ 1900) (h : at_ + 1 < L → a5 at_ = 255 → a5 (at_ + 1) < 208) (H : post 0) : wpX_markAt post (nq, ni, q, iv, nI L, cn, pr, bb, bc, ra, dc, a1, a2, a3, a4, a5, a6, a7, a8, a9, a10, a11, a12, a13, a14, a15, a16, a17) (nI at_) := by
  have e : nI at_ + 1 = nI (at_ + 1) := nI_1 at_
  unfold wpX_markAt
  rw [e]
  refine pk_le L (at_ + 1) (fun _ => H) (fun z => ⟨pk_in at_ 1900 (by omega), ?_⟩)
  rw [nI_clamp (by omega), nI_clamp (by omega)]
  refine br_c (fun y => ⟨vp_in_nI (by omega) (by decide), br_t (h z y) H⟩) (fun _ => H)
end
theorem jd_208 : ∀ j, j < 4 → ¬ nI (208 + j) < 208 ∧ nI (208 + j) ≠ 255 := by decide +kernel
/-- the stream: what a store wrote, and a loss took away (Bs j = []) -/
def jd_sg (lv : Nat → Int32) (ivN : Nat) (Bs : Nat → List Nat) (cw : Nat → List Nat) (a9 a10 a11 a12 : Nat → Int32) (j : Nat) : Prop :=
  jb_by (Bs j) ∧ (Bs j ≠ [] → ∃ pad, pad.length < 8 ∧ jb_un (Bs j) = jy_bb cw (js_sy lv ivN j) ++ pad ∧ ∀ p, p ∈ js_sy lv ivN j → jt_ok a9 a10 a11 a12 cw p.1)
def jd_Str (ivN L : Nat) (Bs : Nat → List Nat) (lv : Nat → Int32) (a5 a9 a10 a11 a12 : Nat → Int32) : Prop :=
  (1 ≤ ivN ∧ ivN ≤ 4) ∧ L ≤ 1900 ∧ L = jd_pos Bs (js_n ivN) ∧ jd_at a5 Bs (js_n ivN) ∧ (∀ k, k < 256 → jz_sz (lv k) ≤ 12) ∧ (∀ b, b < 4 → jz_sz (lv (b * 64) - jy_pr lv ivN b) ≤ 13) ∧ ∃ cw, ∀ j, j < js_n ivN → jd_sg lv ivN Bs cw a9 a10 a11 a12 j
theorem jd_n4 : ∀ iv, 1 ≤ iv → iv ≤ 4 → js_n iv ≤ 4 := by
  intro iv h1 h2
  have : iv = 1 ∨ iv = 2 ∨ iv = 3 ∨ iv = 4 := by omega
  rcases this with rfl | rfl | rfl | rfl <;> decide
theorem jd_jn {iv j b : Nat} (h1 : j * iv ≤ b) (h2 : b < 4) (h0 : 1 ≤ iv) : j < js_n iv := by
  unfold js_n
  have : j ≤ 3 / iv := (Nat.le_div_iff_mul_le h0).mpr (by omega)
  omega
/-- the levels that are shown -/
def jd_lv (Bs : Nat → List Nat) (lv : Nat → Int32) (ivN k : Nat) : Int32 := if Bs (k / 64 / ivN) = [] then 0 else lv k
def jd_rem (cw : Nat → List Nat) (lv : Nat → Int32) (ivN j b : Nat) : List Nat := jy_cat (fun i => jy_bb cw (jy_blk lv ivN i)) b (j * ivN + min ivN (4 - j * ivN) - b)
theorem jd_cat_mem {α : Type} {f : Nat → List α} {x : α} : ∀ n b i, b ≤ i → i < b + n → x ∈ f i → x ∈ jy_cat f b n := by
  intro n
  induction n with
  | zero => intro b i h1 h2; omega
  | succ n ih =>
    intro b i h1 h2 h
    show x ∈ f b ++ jy_cat f (b + 1) n
    by_cases e : i = b
    · exact List.mem_append_left _ (e ▸ h)
    · exact List.mem_append_right _ (ih (b + 1) i (by omega) (by omega) h)
/-- the reader in segment j before block b -/
def jd_Q (cw : Nat → List Nat) (lv : Nat → Int32) (ivN : Nat) (Bs : Nat → List Nat) (a5 : Nat → Int32) (j b : Nat) (pr : Int32) (ra : Nat) (bb : Int32) (bc : Nat) : Prop :=
  (Bs j = [] → ra = jd_pos Bs j) ∧ (Bs j ≠ [] → (b < j * ivN + ivN → pr = jy_pr lv ivN b) ∧ ∃ pad, pad.length < 8 ∧ jr_R a5 (jd_pos Bs j + (jb_st (Bs j)).length) ra bb bc (jd_rem cw lv ivN j b ++ pad))
theorem jd_Q_end {cw : Nat → List Nat} {lv : Nat → Int32} {ivN : Nat} {Bs : Nat → List Nat} {a5 : Nat → Int32} {j b : Nat} {pr : Int32} {ra : Nat} {bb : Int32} {bc : Nat} (h : jd_Q cw lv ivN Bs a5 j b pr ra bb bc) (hb : b = j * ivN + ivN) : ra = jd_pos Bs j + (jb_st (Bs j)).length := by
  by_cases e : Bs j = []
  · rw [h.1 e, e]; rfl
  · obtain ⟨_, pad, h1, h2⟩ := h.2 e
    have e0 : jd_rem cw lv ivN j b = [] := by
      unfold jd_rem
      rw [show j * ivN + min ivN (4 - j * ivN) - b = 0 by have := Nat.min_le_left ivN (4 - j * ivN); omega]; rfl
    rw [e0] at h2
    obtain ⟨B, x, r1, r2, r3, r4, r5, r6, r7⟩ := h2
    have hl : ([] ++ pad : List Nat).length = bc + 8 * B.length := by rw [r7, List.length_append, jb_bits_len, jb_un_len]
    have hl' : pad.length = bc + 8 * B.length := hl
    have hB : B = [] := List.eq_nil_of_length_eq_zero (by omega)
    rw [hB] at r3
    have : (jb_st []).length = 0 := rfl
    omega
theorem jd_Q_start {cw : Nat → List Nat} {lv : Nat → Int32} {ivN : Nat} {Bs : Nat → List Nat} {a5 a9 a10 a11 a12 : Nat → Int32} {j n : Nat} (hj : j < n) (hat : jd_at a5 Bs n) (hs : jd_sg lv ivN Bs cw a9 a10 a11 a12 j) (hiv : 1 ≤ ivN) (bb : Int32) : jd_Q cw lv ivN Bs a5 j (j * ivN) 0 (jd_pos Bs j) bb 0 := by
  refine ⟨fun _ => rfl, fun e => ⟨fun _ => ?_, ?_⟩⟩
  · unfold jy_pr; rw [if_pos (by rw [Nat.mul_mod_left])]
  · obtain ⟨pad, h1, h2, _⟩ := hs.2 e
    refine ⟨pad, h1, Bs j, 0, hs.1, (hat j hj).1, rfl, by decide, by decide, Or.inl rfl, ?_⟩
    show _ = [] ++ jb_un (Bs j)
    rw [h2, List.nil_append]
    unfold jd_rem js_sy
    rw [jy_bb_cat, show j * ivN + min ivN (4 - j * ivN) - j * ivN = min ivN (4 - j * ivN) by omega]
section
variable {nq ni q cn dc : Int32} {a1 a2 a3 a4 a5 a6 a7 a8 a9 a10 a11 a12 a14 a15 a16 : Nat → Int32} {a17 : Nat → Int64} {L ivN : Nat} {Bs : Nat → List Nat} {lv : Nat → Int32} {cw : Nat → List Nat}
theorem jd_58 {post : St1 → Prop} (hiv1 : 1 ≤ ivN) (hiv4 : ivN ≤ 4) (hL : L ≤ 1900) (eL : L = jd_pos Bs (js_n ivN)) (hat : jd_at a5 Bs (js_n ivN)) (hlv : ∀ k, k < 256 → jz_sz (lv k) ≤ 12) (hdc : ∀ b, b < 4 → jz_sz (lv (b * 64) - jy_pr lv ivN b) ≤ 13) (hsg : ∀ j, j < js_n ivN → jd_sg lv ivN Bs cw a9 a10 a11 a12 j) (h3 : ∀ k, k < 64 → a3 k = nI (jo_od k))
    (H : ∀ pr bb bc ra a13, (∀ k, k < 256 → a13 k = jd_lv Bs lv ivN k) → ∃ n, wX_decode_121 post n 0 nq ni q (nI ivN) (nI L) cn pr bb bc ra dc a1 a2 a3 a4 a5 a6 a7 a8 a9 a10 a11 a12 a13 a14 a15 a16 a17) :
    ∀ (r b j : Nat) (x2 pr bb : Int32) (bc ra : Nat) (a13 : Nat → Int32), b + r = 4 → j * ivN ≤ b → b ≤ j * ivN + ivN → (b = 0 → j = 0) → (0 < b → j * ivN < b) → (x2 = 0 ↔ Bs j ≠ []) → jd_Q cw lv ivN Bs a5 j b pr ra bb bc → (∀ k, k < 256 → a13 k = if k / 64 < b then jd_lv Bs lv ivN k else 0) →
    wX_decode_58 post (r + 1) (nI (j * ivN + ivN - b)) x2 (nI b) nq ni q (nI ivN) (nI L) cn pr bb (nI bc) (nI ra) dc a1 a2 a3 a4 a5 a6 a7 a8 a9 a10 a11 a12 a13 a14 a15 a16 a17 := by
  intro r
  induction r with
  | zero =>
    intro b j x2 pr bb bc ra a13 hb j1 j2 j3 j4 hx hQ h13
    have e : b = 4 := by omega
    subst e
    exact br_t (nI_le (a := 4) (Nat.le_refl _) (by decide)) (H pr bb (nI bc) (nI ra) a13 (fun k hk => by rw [h13 k hk, if_pos (by omega)]))
  | succ r ih =>
    intro b j x2 pr bb bc ra a13 hb j1 j2 j3 j4 hx hQ h13
    have hn4 := jd_n4 ivN hiv1 hiv4
    have P101 : ∀ (j : Nat) (x2 pr bb : Int32) (bc ra : Nat), j * ivN ≤ b → b < j * ivN + ivN → (x2 = 0 ↔ Bs j ≠ []) → jd_Q cw lv ivN Bs a5 j b pr ra bb bc →
        wX_decode_101 post (wX_decode_58 post (r + 1)) (nI (j * ivN + ivN - b)) x2 (nI b) nq ni q (nI ivN) (nI L) cn pr bb (nI bc) (nI ra) dc a1 a2 a3 a4 a5 a6 a7 a8 a9 a10 a11 a12 a13 a14 a15 a16 a17 := by
      intro j x2 pr bb bc ra t1 t2 tx tQ
      have hjn := jd_jn (iv := ivN) t1 (show b < 4 by omega) hiv1
      have em1 : nI (j * ivN + ivN - b) + (-1) = nI (j * ivN + ivN - (b + 1)) := by
        have := pk_m1 (j * ivN + ivN - (b + 1))
        rw [show j * ivN + ivN - (b + 1) + 1 = j * ivN + ivN - b by omega] at this
        exact this
      have hjj : ∀ m, m < 64 → (b * 64 + m) / 64 / ivN = j := fun m hm => by rw [show (b * 64 + m) / 64 = b by omega]; exact (js_mod t1 t2).2
      refine br_c (fun z => ?_) (fun z => ?_)
      · have hne := tx.mp z
        obtain ⟨q1, pad, q2, q3⟩ := tQ.2 hne
        obtain ⟨s1, s2⟩ := hsg j hjn
        obtain ⟨_, _, _, s3⟩ := s2 hne
        have hpl := jd_pos_le (Bs := Bs) hjn
        have hmin : b < j * ivN + min ivN (4 - j * ivN) := by omega
        have erem : jd_rem cw lv ivN j b = jy_bb cw (jy_blk lv ivN b) ++ jd_rem cw lv ivN j (b + 1) := by
          unfold jd_rem
          rw [show j * ivN + min ivN (4 - j * ivN) - b = (j * ivN + min ivN (4 - j * ivN) - (b + 1)) + 1 by omega]; rfl
        rw [erem, List.append_assoc] at q3
        refine jr_readBlock (E := jd_pos Bs j + (jb_st (Bs j)).length) (lv := lv) (ivN := ivN) (by omega) hL (by omega) h3 hlv (hdc b (by omega)) (fun p hp => s3 p (jd_cat_mem _ _ b t1 hmin hp)) (fun m hm => ?_) (q1 t2) q3 (fun a13' ra' bb' bc' r1 r2 r3 => ?_)
        · rw [h13 _ (by omega), if_neg (by omega)]
        · refine nm_r em1 (nm_r (nI_1 b) (ih (b + 1) j x2 _ bb' bc' ra' a13' (by omega) (by omega) (by omega) (fun y => absurd y (by omega)) (fun _ => by omega) tx ⟨fun e => absurd e hne, fun _ => ⟨fun y => ?_, pad, q2, r3⟩⟩ (fun k hk => ?_)))
          · unfold jy_pr; rw [(js_mod (b := b + 1) (s := j) (iv := ivN) (by omega) y).1, if_neg (by omega), Nat.add_sub_cancel]
          · by_cases e : k / 64 = b
            · have ek : k = b * 64 + k % 64 := by omega
              rw [if_pos (by omega), ek, r1 _ (by omega)]
              unfold jd_lv
              rw [hjj _ (by omega), if_neg hne]
            · rw [r2 k (by omega), h13 k hk]
              by_cases e2 : k / 64 < b
              · rw [if_pos e2, if_pos (by omega)]
              · rw [if_neg e2, if_neg (by omega)]
      · have he : Bs j = [] := by
          by_cases e : Bs j = []
          · exact e
          · exact absurd (tx.mpr e) z
        refine nm_r em1 (nm_r (nI_1 b) (ih (b + 1) j x2 pr bb bc ra a13 (by omega) (by omega) (by omega) (fun y => absurd y (by omega)) (fun _ => by omega) tx ⟨tQ.1, fun e => absurd he e⟩ (fun k hk => ?_)))
        rw [h13 k hk]
        by_cases e : k / 64 = b
        · have ek : k = b * 64 + k % 64 := by omega
          rw [if_neg (by omega), if_pos (by omega)]
          unfold jd_lv
          rw [ek, hjj _ (by omega), if_pos he]
        · by_cases e2 : k / 64 < b
          · rw [if_pos e2, if_pos (by omega)]
          · rw [if_neg e2, if_neg (by omega)]
    refine br_f (nI_ge (b := 4) (by omega) (by decide)) (pk_eq (j * ivN + ivN - b) 0 (fun e => ?_) (fun e => ?_))
    · have eb : b = j * ivN + ivN := by omega
      have esm : (j + 1) * ivN = b := by rw [Nat.succ_mul]; omega
      have era := jd_Q_end hQ eb
      have hjn := jd_jn (iv := ivN) (j := j + 1) (b := b) (by omega) (by omega) hiv1
      have epos : ra + 2 = jd_pos Bs (j + 1) := by rw [era]; rfl
      have hpl := jd_pos_le (Bs := Bs) hjn
      obtain ⟨m1, m2, m3⟩ := hat (j + 1) hjn
      have hs := hsg (j + 1) hjn
      have Q0 := jd_Q_start (bb := bb) hjn hat hs hiv1
      rw [esm] at Q0
      refine nm_r (nI_add ra 2) ?_
      rw [epos]
      have fin : ∀ x : Int32, (x = 0 ↔ Bs (j + 1) ≠ []) → wX_decode_101 post (wX_decode_58 post (r + 1)) (nI ivN) x (nI b) nq ni q (nI ivN) (nI L) cn 0 bb (nI 0) (nI (jd_pos Bs (j + 1))) dc a1 a2 a3 a4 a5 a6 a7 a8 a9 a10 a11 a12 a13 a14 a15 a16 a17 := by
        intro x hx'
        have := P101 (j + 1) x 0 bb 0 (jd_pos Bs (j + 1)) (by omega) (by omega) hx' Q0
        rw [show (j + 1) * ivN + ivN - b = ivN by omega] at this
        exact this
      by_cases e0 : Bs (j + 1) = []
      · have el : (jb_st (Bs (j + 1))).length = 0 := by rw [e0]; rfl
        rw [el] at m2 m3 hpl
        refine jd_mark1 hL (by omega) m2 (by rw [m3]; exact (jd_208 (j + 1) (by omega)).1) (fin 1 ⟨fun z => absurd z (by decide), fun z => absurd e0 z⟩)
      · refine jd_mark0 hL (by omega) (fun _ y => ?_) (fin 0 ⟨fun _ => e0, fun _ => rfl⟩)
        have hpos : 0 < (jb_st (Bs (j + 1))).length := by
          have := (jb_st_len (Bs (j + 1))).2
          have : 0 < (Bs (j + 1)).length := List.length_pos_iff.mpr e0
          omega
        rw [jd_st255 (Bs (j + 1)) (jd_pos Bs (j + 1)) 0 hs.1 m1 hpos y]; decide
    · exact P101 j x2 pr bb bc ra j1 (by omega) hx hQ
end
/-- the levels and the shown pixels are those of the stream -/
def jd_Dec (Bs : Nat → List Nat) (lv : Nat → Int32) (ivN : Nat) (a13 a14 : Nat → Int32) : Prop :=
  (∀ k, k < 256 → a13 k = jd_lv Bs lv ivN k) ∧ (∀ j, j < 256 → jv_g (a14 j) ∧ ((∀ m, m < 64 → jd_lv Bs lv ivN (jv_bk j * 64 + m) = 0) → a14 j = 128))
section
variable {nq ni q iv len cn pr bb bc ra dc : Int32} {a1 a2 a3 a4 a5 a6 a7 a8 a9 a10 a11 a12 a13 a14 a15 a16 : Nat → Int32} {a17 : Nat → Int64}
theorem jd_121 {post : St1 → Prop} {ivN : Nat} {Bs : Nat → List Nat} {lv : Nat → Int32} (h13 : ∀ k, k < 256 → a13 k = jd_lv Bs lv ivN k) (H : ∀ a14 a17, jd_Dec Bs lv ivN a13 a14 → post (nq, ni, q, iv, len, cn, pr, bb, bc, ra, 1, a1, a2, a3, a4, a5, a6, a7, a8, a9, a10, a11, a12, a13, a14, a15, a16, a17)) : ∃ n, wX_decode_121 post n 0 nq ni q iv len cn pr bb bc ra dc a1 a2 a3 a4 a5 a6 a7 a8 a9 a10 a11 a12 a13 a14 a15 a16 a17 := by
  refine pk_loop (fun n b (s : (Nat → Int32) × (Nat → Int64)) => wX_decode_121 post n (nI b) nq ni q iv len cn pr bb bc ra dc a1 a2 a3 a4 a5 a6 a7 a8 a9 a10 a11 a12 a13 s.1 a15 a16 s.2) (fun b s => ∀ j, j < 256 → jv_bk j < b → jv_g (s.1 j) ∧ ((∀ m, m < 64 → jd_lv Bs lv ivN (jv_bk j * 64 + m) = 0) → s.1 j = 128)) 4 0 (a14, a17) (by decide) (fun j _ h => absurd h (by omega)) (fun n s h => ?_) (fun n b s hi h hw => ?_)
  · refine br_t (nI_le (a := 4) (Nat.le_refl _) (by decide)) (H s.1 s.2 ⟨h13, fun j hj => h j hj ?_⟩)
    show j / 128 * 2 + j % 16 / 8 < 4
    omega
  · refine br_f (nI_ge (b := 4) hi (by decide)) (jv_showBlock hi (fun t w t1 t2 => nm_r (nI_1 b) (hw (t, w) (fun j j1 j2 => ?_))))
    by_cases e : jv_bk j = b
    · obtain ⟨g1, g2⟩ := t1 j j1 e
      refine ⟨g1, fun z => g2 (fun m hm => ?_)⟩
      rw [h13 _ (by omega), ← e]; exact z m hm
    · show jv_g (t j) ∧ (_ → t j = 128)
      rw [t2 j e]; exact h j j1 (by omega)
end
section
variable {nq ni q iv len cn pr bb bc ra dc : Int32} {a1 a2 a3 a4 a5 a6 a7 a8 a9 a10 a11 a12 a13 a14 a15 a16 : Nat → Int32} {a17 : Nat → Int64}
theorem jd_decode {post : St1 → Prop} {ivN L : Nat} {Bs : Nat → List Nat} {lv : Nat → Int32} (hiv : iv = nI ivN) (hlen : len = nI L) (hS : jd_Str ivN L Bs lv a5 a9 a10 a11 a12) (h3 : ∀ k, k < 64 → a3 k = nI (jo_od k)) (hD : dc ≠ 0 → jd_Dec Bs lv ivN a13 a14)
    (H : ∀ pr bb bc ra dc a13 a14 a17, dc ≠ 0 → jd_Dec Bs lv ivN a13 a14 → post (nq, ni, q, iv, len, cn, pr, bb, bc, ra, dc, a1, a2, a3, a4, a5, a6, a7, a8, a9, a10, a11, a12, a13, a14, a15, a16, a17)) : wpX_decode post (nq, ni, q, iv, len, cn, pr, bb, bc, ra, dc, a1, a2, a3, a4, a5, a6, a7, a8, a9, a10, a11, a12, a13, a14, a15, a16, a17) := by
  obtain ⟨⟨hiv1, hiv4⟩, hL, eL, hat, hlv, hdc, cw, hsg⟩ := hS
  refine br_c (fun z => ?_) (fun z => H pr bb bc ra dc a13 a14 a17 z (hD z))
  subst hiv
  subst hlen
  refine pk_loop (fun n i s => wX_decode_10 post nq ni q (nI ivN) (nI L) cn pr bb bc ra dc n (nI i) a1 a2 a3 a4 a5 a6 a7 a8 a9 a10 a11 a12 s a14 a15 a16 a17) (fun i s => ∀ k, k < i → s k = 0) 256 0 a13 (by decide) (fun k hk => absurd hk (by omega)) (fun n s h => ?_) (fun n i s hi h hw => ?_)
  · have hjn := jd_jn (iv := ivN) (j := 0) (b := 0) (by omega) (by decide) hiv1
    have Q0 := jd_Q_start (bb := bb) hjn hat (hsg 0 hjn) hiv1
    rw [Nat.zero_mul] at Q0
    have hpl := jd_pos_le (Bs := Bs) hjn
    obtain ⟨m1, m2, m3⟩ := hat 0 hjn
    have hs := hsg 0 hjn
    have fin : ∀ x : Int32, (x = 0 ↔ Bs 0 ≠ []) → ∃ fu, wX_decode_58 post fu (nI ivN) x 0 nq ni q (nI ivN) (nI L) cn 0 bb 0 0 dc a1 a2 a3 a4 a5 a6 a7 a8 a9 a10 a11 a12 s a14 a15 a16 a17 := by
      intro x hx
      have := jd_58 (post := post) (dc := dc) (a14 := a14) (a17 := a17) hiv1 hiv4 hL eL hat hlv hdc hsg h3 (fun pr bb bc ra a13 q13 => jd_121 q13 (fun a14 a17 q2 => H pr bb bc ra 1 a13 a14 a17 (by decide) q2)) 4 0 0 x 0 bb 0 (jd_pos Bs 0) s rfl (by omega) (by omega) (fun _ => rfl) (fun z => absurd z (by decide)) hx Q0 (fun k hk => by rw [if_neg (by omega)]; exact h k hk)
      rw [Nat.zero_mul, Nat.zero_add, Nat.sub_zero] at this
      exact ⟨5, this⟩
    refine br_t (nI_le (a := 256) (Nat.le_refl _) (by decide)) ?_
    have p0 : jd_pos Bs 0 = 0 := rfl
    by_cases e0 : Bs 0 = []
    · have el : (jb_st (Bs 0)).length = 0 := by rw [e0]; rfl
      rw [el, p0] at m2 m3
      rw [el, p0, ← eL] at hpl
      exact jd_mark1 (at_ := 0) hL (by omega) m2 (by rw [m3]; decide) (fin 1 ⟨fun z => absurd z (by decide), fun z => absurd e0 z⟩)
    · refine jd_mark0 (at_ := 0) hL (by omega) (fun _ y => ?_) (fin 0 ⟨fun _ => e0, fun _ => rfl⟩)
      have hpos : 0 < (jb_st (Bs 0)).length := by
        have := (jb_st_len (Bs 0)).2
        have : 0 < (Bs 0).length := List.length_pos_iff.mpr e0
        omega
      have := jd_st255 (Bs 0) (jd_pos Bs 0) 0 hs.1 m1 hpos y
      rw [p0] at this
      rw [this]; decide
  · refine br_f (nI_ge (b := 256) hi (by decide)) ⟨pk_in i 256 hi, ?_⟩
    rw [nI_clamp (by omega)]
    exact nm_e (nm_r (nI_1 i) (hw _ (jq_fill (F := fun _ => 0) h rfl)))
end
end
section
/-- the object at rest -/
def jx_I (Bs : Nat → List Nat) (lv : Nat → Int32) (ivN L : Nat) (u : St1) : Prop := match u with
  | (nq, ni, q, iv, len, cn, pr, bb, bc, ra, dc, a1, a2, a3, a4, a5, a6, a7, a8, a9, a10, a11, a12, a13, a14, a15, a16, a17) => iv = nI ivN ∧ len = nI L ∧ jd_Str ivN L Bs lv a5 a9 a10 a11 a12 ∧ (dc ≠ 0 → jd_Dec Bs lv ivN a13 a14) ∧ (∀ k, k < 64 → a3 k = nI (jo_od k)) ∧ (∀ j, j < 9 → (a2 j).toInt.natAbs ≤ 64) ∧ (∀ j, j < 256 → jv_g (a1 j)) ∧ (∃ n, 1 ≤ n ∧ n ≤ 8 ∧ nq = nI n) ∧ (∃ n, 1 ≤ n ∧ n ≤ 4 ∧ ni = nI n)
/-- what looking does not change -/
def jx_k (u : St1) : Int32 × Int32 × (Nat → Int32) × (Nat → Int32) := match u with
  | (nq, ni, q, iv, len, cn, pr, bb, bc, ra, dc, a1, a2, a3, a4, a5, a6, a7, a8, a9, a10, a11, a12, a13, a14, a15, a16, a17) => (nq, ni, a1, a2)
def jx_dc (u : St1) : Int32 := match u with
  | (nq, ni, q, iv, len, cn, pr, bb, bc, ra, dc, a1, a2, a3, a4, a5, a6, a7, a8, a9, a10, a11, a12, a13, a14, a15, a16, a17) => dc
/-- the number of levels of block b that are not 0; of all blocks -/
def jx_c (f : Nat → Int32) (b : Nat) : Nat := jh_sum (fun k => if f (b * 64 + k) = 0 then 0 else 1) 64
def jx_w (f : Nat → Int32) : Nat := jh_sum (jx_c f) 4
theorem jx_sum_b {f : Nat → Nat} (h : ∀ k, f k ≤ 1) : ∀ n, jh_sum f n ≤ n := by
  intro n
  induction n with
  | zero => exact Nat.le_refl _
  | succ n ih => have := h n; show jh_sum f n + f n ≤ n + 1; omega
theorem jx_c_le (f : Nat → Int32) (b : Nat) : jx_c f b ≤ 64 := jx_sum_b (fun k => by split <;> omega) 64
theorem jx_decode {post : St1 → Prop} {u : St1} {Bs : Nat → List Nat} {lv : Nat → Int32} {ivN L : Nat} (hI : jx_I Bs lv ivN L u) (H : ∀ u', jx_I Bs lv ivN L u' → jx_dc u' ≠ 0 → jx_k u' = jx_k u → post u') : wpX_decode post u := by
  obtain ⟨nq, ni, q, iv, len, cn, pr, bb, bc, ra, dc, a1, a2, a3, a4, a5, a6, a7, a8, a9, a10, a11, a12, a13, a14, a15, a16, a17⟩ := u
  obtain ⟨i1, i2, i3, i4, i5, i6, i7, i8, i9⟩ := hI
  exact jd_decode i1 i2 i3 i5 i4 (fun pr bb bc ra dc a13 a14 a17 h1 h2 => H (nq, ni, q, iv, len, cn, pr, bb, bc, ra, dc, a1, a2, a3, a4, a5, a6, a7, a8, a9, a10, a11, a12, a13, a14, a15, a16, a17) ⟨i1, i2, i3, fun _ => h2, i5, i6, i7, i8, i9⟩ h1 rfl)
theorem jx_decode1 {post : St1 → Prop} {u : St1} (h : jx_dc u ≠ 0) (H : post u) : wpX_decode post u := by
  obtain ⟨nq, ni, q, iv, len, cn, pr, bb, bc, ra, dc, a1, a2, a3, a4, a5, a6, a7, a8, a9, a10, a11, a12, a13, a14, a15, a16, a17⟩ := u
  exact br_f h H
theorem jx_weight {post : Int32 → St1 → Prop} {u : St1} {Bs : Nat → List Nat} {lv : Nat → Int32} {ivN L b : Nat} (hb : b < 4) (hI : jx_I Bs lv ivN L u) (H : ∀ u', jx_I Bs lv ivN L u' → jx_dc u' ≠ 0 → jx_k u' = jx_k u → post (nI (jx_c (jd_lv Bs lv ivN) b)) u') : wpX_weight post u (nI b) := by
  obtain ⟨nq, ni, q, iv, len, cn, pr, bb, bc, ra, dc, a1, a2, a3, a4, a5, a6, a7, a8, a9, a10, a11, a12, a13, a14, a15, a16, a17⟩ := u
  refine br_f (nI_pos (by omega)) (br_t (nI_le (b := 3) (by omega) (by decide)) (jx_decode hI (fun u' hI' hd hk => ?_)))
  have H' := H u' hI' hd hk
  obtain ⟨nq, ni, q, iv, len, cn, pr, bb, bc, ra, dc, a1, a2, a3, a4, a5, a6, a7, a8, a9, a10, a11, a12, a13, a14, a15, a16, a17⟩ := u'
  have h13 := (hI'.2.2.2.1 hd).1
  refine pk_loop (fun n i s => wX_weight_20 post (nI b) nq ni q iv len cn pr bb bc ra dc a1 a2 a3 a4 a5 a6 a7 a8 a9 a10 a11 a12 a13 a14 a15 a16 a17 n s (nI i)) (fun i s => s = nI (jh_sum (fun k => if jd_lv Bs lv ivN (b * 64 + k) = 0 then 0 else 1) i)) 64 0 0 (by decide) rfl (fun n s h => ?_) (fun n i s hi h hw => ?_)
  · exact br_t (nI_le (a := 64) (Nat.le_refl _) (by decide)) (by rw [h]; exact H')
  · have e : nI b * 64 + nI i = nI (b * 64 + i) := jn_ma b 64 i
    refine br_f (nI_ge (b := 64) hi (by decide)) ?_
    rw [e, nI_clamp (by omega), h13 _ (show b * 64 + i < 256 by omega)]
    have es : jh_sum (fun k => if jd_lv Bs lv ivN (b * 64 + k) = 0 then 0 else 1) (i + 1) = jh_sum (fun k => if jd_lv Bs lv ivN (b * 64 + k) = 0 then 0 else 1) i + (if jd_lv Bs lv ivN (b * 64 + i) = 0 then 0 else 1) := rfl
    refine ⟨vp_in_nI (by omega) (by decide), br_c (fun z => ?_) (fun z => ?_)⟩
    · rw [if_pos z, Nat.add_zero] at es
      exact nm_r (nI_1 i) (hw s (by rw [es]; exact h))
    · rw [if_neg z] at es
      refine nm_e (nm_r (nI_1 i) (hw _ ?_))
      rw [es, h, nI_1]
theorem jx_weights {post : Int32 → St1 → Prop} {u : St1} {Bs : Nat → List Nat} {lv : Nat → Int32} {ivN L : Nat} (hI : jx_I Bs lv ivN L u) (H : ∀ u', jx_I Bs lv ivN L u' → jx_dc u' ≠ 0 → jx_k u' = jx_k u → post (nI (jx_w (jd_lv Bs lv ivN))) u') : wpL_weights post u := by
  obtain ⟨nq, ni, q, iv, len, cn, pr, bb, bc, ra, dc, a1, a2, a3, a4, a5, a6, a7, a8, a9, a10, a11, a12, a13, a14, a15, a16, a17⟩ := u
  unfold wpL_weights
  refine jx_weight (b := 0) (by decide) hI (fun u1 hI1 hd1 hk1 => ?_)
  rw [← hk1] at H
  clear hI hk1
  obtain ⟨nq, ni, q, iv, len, cn, pr, bb, bc, ra, dc, a1, a2, a3, a4, a5, a6, a7, a8, a9, a10, a11, a12, a13, a14, a15, a16, a17⟩ := u1
  refine jx_weight (b := 1) (by decide) hI1 (fun u2 hI2 hd2 hk2 => ?_)
  rw [← hk2] at H
  obtain ⟨nq, ni, q, iv, len, cn, pr, bb, bc, ra, dc, a1, a2, a3, a4, a5, a6, a7, a8, a9, a10, a11, a12, a13, a14, a15, a16, a17⟩ := u2
  refine jx_weight (b := 2) (by decide) hI2 (fun u3 hI3 hd3 hk3 => ?_)
  rw [← hk3] at H
  obtain ⟨nq, ni, q, iv, len, cn, pr, bb, bc, ra, dc, a1, a2, a3, a4, a5, a6, a7, a8, a9, a10, a11, a12, a13, a14, a15, a16, a17⟩ := u3
  refine jx_weight (b := 3) (by decide) hI3 (fun u4 hI4 hd4 hk4 => ?_)
  have H' := H u4 hI4 hd4 hk4
  obtain ⟨nq, ni, q, iv, len, cn, pr, bb, bc, ra, dc, a1, a2, a3, a4, a5, a6, a7, a8, a9, a10, a11, a12, a13, a14, a15, a16, a17⟩ := u4
  have e : nI (jx_c (jd_lv Bs lv ivN) 0) + nI (jx_c (jd_lv Bs lv ivN) 1) + nI (jx_c (jd_lv Bs lv ivN) 2) + nI (jx_c (jd_lv Bs lv ivN) 3) = nI (jx_w (jd_lv Bs lv ivN)) := by
    rw [nI_add, nI_add, nI_add]
    show _ = nI (0 + jx_c (jd_lv Bs lv ivN) 0 + jx_c (jd_lv Bs lv ivN) 1 + jx_c (jd_lv Bs lv ivN) 2 + jx_c (jd_lv Bs lv ivN) 3)
    rw [Nat.zero_add]
  show post (nI (jx_c (jd_lv Bs lv ivN) 0) + nI (jx_c (jd_lv Bs lv ivN) 1) + nI (jx_c (jd_lv Bs lv ivN) 2) + nI (jx_c (jd_lv Bs lv ivN) 3)) (nq, ni, q, iv, len, cn, pr, bb, bc, ra, dc, a1, a2, a3, a4, a5, a6, a7, a8, a9, a10, a11, a12, a13, a14, a15, a16, a17)
  rw [e]
  exact H'
/-- the difference of the picture and what is shown -/
def jx_ds (a1 a14 : Nat → Int32) : Nat → Int32
  | 0 => 0
  | n + 1 => jx_ds a1 a14 n + (if 0 ≤ a1 n - a14 n then a1 n - a14 n else -(a1 n - a14 n))
def jx_dif (u : St1) : Int32 := match u with
  | (nq, ni, q, iv, len, cn, pr, bb, bc, ra, dc, a1, a2, a3, a4, a5, a6, a7, a8, a9, a10, a11, a12, a13, a14, a15, a16, a17) => jx_ds a1 a14 256
theorem jx_difference {post : Int32 → St1 → Prop} {u : St1} {Bs : Nat → List Nat} {lv : Nat → Int32} {ivN L : Nat} (hI : jx_I Bs lv ivN L u) (H : ∀ u', jx_I Bs lv ivN L u' → jx_dc u' ≠ 0 → jx_k u' = jx_k u → post (jx_dif u') u') : wpX_difference post u := by
  obtain ⟨nq, ni, q, iv, len, cn, pr, bb, bc, ra, dc, a1, a2, a3, a4, a5, a6, a7, a8, a9, a10, a11, a12, a13, a14, a15, a16, a17⟩ := u
  unfold wpX_difference
  refine jx_decode hI (fun u' hI' hd hk => ?_)
  have H' := H u' hI' hd hk
  obtain ⟨nq, ni, q, iv, len, cn, pr, bb, bc, ra, dc, a1, a2, a3, a4, a5, a6, a7, a8, a9, a10, a11, a12, a13, a14, a15, a16, a17⟩ := u'
  refine pk_loop (fun n i s => wX_difference_8 post nq ni q iv len cn pr bb bc ra dc a1 a2 a3 a4 a5 a6 a7 a8 a9 a10 a11 a12 a13 a14 a15 a16 a17 n s (nI i)) (fun i s => s = jx_ds a1 a14 i) 256 0 0 (by decide) rfl (fun n s h => ?_) (fun n i s hi h hw => ?_)
  · exact br_t (nI_le (a := 256) (Nat.le_refl _) (by decide)) (by rw [h]; exact H')
  · have es : jx_ds a1 a14 (i + 1) = jx_ds a1 a14 i + (if 0 ≤ a1 i - a14 i then a1 i - a14 i else -(a1 i - a14 i)) := rfl
    refine br_f (nI_ge (b := 256) hi (by decide)) ⟨pk_in i 256 hi, pk_in i 256 hi, ?_⟩
    rw [nI_clamp (by omega)]
    refine nm_e (br_c (fun z => ?_) (fun z => ?_))
    · rw [if_pos z, ← h] at es
      exact nm_e (nm_r (nI_1 i) (hw _ es.symm))
    · rw [if_neg z, ← h] at es
      exact nm_e (nm_r (nI_1 i) (hw _ es.symm))
section
variable {nq ni q iv len cn pr bb bc ra dc : Int32} {a1 a2 a3 a4 a5 a6 a7 a8 a9 a10 a11 a12 a13 a14 a15 a16 : Nat → Int32} {a17 : Nat → Int64}
theorem jx_off {post : Int32 → Prop} {x : Nat} (h : x < 16) (H : post 0) : wpX_off post (nq, ni, q, iv, len, cn, pr, bb, bc, ra, dc, a1, a2, a3, a4, a5, a6, a7, a8, a9, a10, a11, a12, a13, a14, a15, a16, a17) (nI x) := br_f (nI_pos (by omega)) (br_t (nI_lt (b := 16) h (by decide)) H)
theorem jx_pixel {post : Int32 → Prop} {x y : Nat} (hx : x < 16) (hy : y < 16) (H : post (a1 (y * 16 + x))) : wpX_pixel post (nq, ni, q, iv, len, cn, pr, bb, bc, ra, dc, a1, a2, a3, a4, a5, a6, a7, a8, a9, a10, a11, a12, a13, a14, a15, a16, a17) (nI x) (nI y) := by
  unfold wpX_pixel
  have e : nI y * 16 + nI x = nI (y * 16 + x) := jn_ma y 16 x
  refine jx_off hx (br_t rfl (jx_off hy (br_t rfl ?_)))
  rw [e, nI_clamp (by omega)]
  exact ⟨vp_in_nI (by omega) (by decide), H⟩
theorem jx_show1 {post : Int32 → St1 → Prop} {x y : Nat} (hx : x < 16) (hy : y < 16) (hd : dc ≠ 0) (H : post (a14 (y * 16 + x)) (nq, ni, q, iv, len, cn, pr, bb, bc, ra, dc, a1, a2, a3, a4, a5, a6, a7, a8, a9, a10, a11, a12, a13, a14, a15, a16, a17)) : wpX_show post (nq, ni, q, iv, len, cn, pr, bb, bc, ra, dc, a1, a2, a3, a4, a5, a6, a7, a8, a9, a10, a11, a12, a13, a14, a15, a16, a17) (nI x) (nI y) := by
  unfold wpX_show
  have e : nI y * 16 + nI x = nI (y * 16 + x) := jn_ma y 16 x
  refine jx_off hx (br_t rfl (jx_off hy (br_t rfl (br_f hd ?_))))
  rw [e, nI_clamp (by omega)]
  exact ⟨vp_in_nI (by omega) (by decide), H⟩
end
theorem jx_x15 : ∀ i, i < 256 → nI i &&& 15 = nI (i % 16) := fun i hi => pk_andN (by omega) 4 (by decide)
theorem jx_x4 : ∀ i, i < 256 → nI i >>> ((4 : Int32) &&& 31) = nI (i / 16) := fun i hi => pk_shrN (by omega) _ 4 (by decide)
theorem jx_Ldifference {post : Int32 → St1 → Prop} {u : St1} (hd : jx_dc u ≠ 0) (H : post (jx_dif u) u) : wpL_difference post u := by
  obtain ⟨nq, ni, q, iv, len, cn, pr, bb, bc, ra, dc, a1, a2, a3, a4, a5, a6, a7, a8, a9, a10, a11, a12, a13, a14, a15, a16, a17⟩ := u
  refine pk_loop (fun n i s => wL_difference_4 post n s (nI i) nq ni q iv len cn pr bb bc ra dc a1 a2 a3 a4 a5 a6 a7 a8 a9 a10 a11 a12 a13 a14 a15 a16 a17) (fun i s => s = jx_ds a1 a14 i) 256 0 0 (by decide) rfl (fun n s h => ?_) (fun n i s hi h hw => ?_)
  · exact br_t (nI_le (a := 256) (Nat.le_refl _) (by decide)) (by rw [h]; exact H)
  · have es : jx_ds a1 a14 (i + 1) = jx_ds a1 a14 i + (if 0 ≤ a1 i - a14 i then a1 i - a14 i else -(a1 i - a14 i)) := rfl
    have ei : i / 16 * 16 + i % 16 = i := by omega
    refine br_f (nI_ge (b := 256) hi (by decide)) ?_
    rw [jx_x15 i hi, jx_x4 i hi]
    refine jx_pixel (by omega) (by omega) (jx_show1 (by omega) (by omega) hd ?_)
    rw [ei]
    refine nm_e (br_c (fun z => ?_) (fun z => ?_))
    · rw [if_pos z, ← h] at es
      exact nm_e (nm_r (nI_1 i) (hw _ es.symm))
    · rw [if_neg z, ← h] at es
      exact nm_r (Int32.sub_eq_add_neg _ _) (nm_r (nI_1 i) (hw _ es.symm))
theorem jx_fx : ∀ b, b < 4 → ∀ i, i < 64 → (8 * (nI b &&& 1)) + (nI i &&& 7) = nI (b % 2 * 8 + i % 8) ∧ (8 * (nI b >>> ((1 : Int32) &&& 31))) + (nI i >>> ((3 : Int32) &&& 31)) = nI (b / 2 * 8 + i / 8) := by decide +kernel
theorem jx_isFlat {post : Int32 → St1 → Prop} {u : St1} {Bs : Nat → List Nat} {lv : Nat → Int32} {ivN L b : Nat} (hb : b < 4) (hI : jx_I Bs lv ivN L u) (hd : jx_dc u ≠ 0) (h0 : ∀ m, m < 64 → jd_lv Bs lv ivN (b * 64 + m) = 0) (H : post 1 u) : wpL_isFlat post u (nI b) := by
  obtain ⟨nq, ni, q, iv, len, cn, pr, bb, bc, ra, dc, a1, a2, a3, a4, a5, a6, a7, a8, a9, a10, a11, a12, a13, a14, a15, a16, a17⟩ := u
  have h14 := (hI.2.2.2.1 hd).2
  refine pk_loop (fun n i (s : Unit) => wL_isFlat_2 post (nI b) n (nI i) nq ni q iv len cn pr bb bc ra dc a1 a2 a3 a4 a5 a6 a7 a8 a9 a10 a11 a12 a13 a14 a15 a16 a17) (fun i s => True) 64 0 () (by decide) trivial (fun n s h => ?_) (fun n i s hi h hw => ?_)
  · exact br_t (nI_le (a := 64) (Nat.le_refl _) (by decide)) H
  · refine br_f (nI_ge (b := 64) hi (by decide)) ?_
    rw [(jx_fx b hb i hi).1, (jx_fx b hb i hi).2]
    refine jx_show1 (by omega) (by omega) hd (br_t ((h14 _ (by omega)).2 (fun m hm => ?_)) (nm_r (nI_1 i) (hw () trivial)))
    have eb : jv_bk ((b / 2 * 8 + i / 8) * 16 + (b % 2 * 8 + i % 8)) = b := by unfold jv_bk; omega
    rw [eb]; exact h0 m hm
end
section
/-- counting: each symbol's weight is how often it came -/
def jt_C (D : List (List (Nat × Int32))) (cur : List (Nat × Int32)) (len bb bc : Int32) (a5 a6 : Nat → Int32) : Prop := ∀ c, c < 272 → a6 c = nI (jy_cnt c (D.flatten ++ cur))
theorem jt_sum_add (f g : Nat → Nat) : ∀ n, jh_sum (fun k => f k + g k) n = jh_sum f n + jh_sum g n := by
  intro n
  induction n with
  | zero => rfl
  | succ n ih => show jh_sum (fun k => f k + g k) n + (f n + g n) = (jh_sum f n + f n) + (jh_sum g n + g n); rw [ih]; omega
theorem jt_tot (a b : Nat) : ∀ l : List (Nat × Int32), jh_sum (fun k => if a ≤ k ∧ k < b then jy_cnt k l else 0) 272 ≤ jy_tot a b l := by
  intro l
  induction l with
  | nil => rw [jh_sum_0 272 (fun k _ => by split <;> rfl)]; exact Nat.zero_le _
  | cons p l ih =>
    have e : jh_sum (fun k => if a ≤ k ∧ k < b then jy_cnt k (p :: l) else 0) 272 = jh_sum (fun k => (if a ≤ k ∧ k < b then (if p.1 = k then 1 else 0) else 0) + (if a ≤ k ∧ k < b then jy_cnt k l else 0)) 272 := by
      apply jh_sum_cg
      intro k _
      show (if a ≤ k ∧ k < b then (if p.1 = k then 1 else 0) + jy_cnt k l else 0) = _
      by_cases z : a ≤ k ∧ k < b
      · rw [if_pos z, if_pos z, if_pos z]
      · rw [if_neg z, if_neg z, if_neg z]
    rw [e, jt_sum_add]
    have e2 : jh_sum (fun k => if a ≤ k ∧ k < b then (if p.1 = k then 1 else 0) else 0) 272 ≤ (if a ≤ p.1 ∧ p.1 < b then 1 else 0) := by
      refine jh_sum_one 272 (fun k _ => ?_) (fun k j _ _ hk hj => ?_)
      · by_cases z : a ≤ k ∧ k < b
        · rw [if_pos z]
          by_cases y : p.1 = k
          · rw [if_pos y, y, if_pos z]; exact Nat.le_refl _
          · rw [if_neg y]; exact Nat.zero_le _
        · rw [if_neg z]; exact Nat.zero_le _
      · have f : ∀ k, (if a ≤ k ∧ k < b then (if p.1 = k then 1 else 0) else 0) ≠ 0 → p.1 = k := by
          intro k h
          by_cases z : a ≤ k ∧ k < b
          · rw [if_pos z] at h
            by_cases y : p.1 = k
            · exact y
            · rw [if_neg y] at h; exact absurd rfl h
          · rw [if_neg z] at h; exact absurd rfl h
        rw [← f k hk, ← f j hj]
    show _ ≤ (if a ≤ p.1 ∧ p.1 < b then 1 else 0) + jy_tot a b l
    omega
theorem jt_fl (D : List (List (Nat × Int32))) (cur : List (Nat × Int32)) : (D ++ [cur]).flatten ++ [] = D.flatten ++ cur := by
  rw [List.append_nil, List.flatten_append]; simp only [List.flatten_cons, List.flatten_nil, List.append_nil]
section
variable {nq ni q iv cn ra dc : Int32} {a1 a2 a3 a4 a7 a8 a9 a10 a11 a12 a13 a14 a15 a16 : Nat → Int32} {a17 : Nat → Int64} {all : List (Nat × Int32)}
theorem jt_C_sym (hcn : cn = 1) (hok : ∀ p, p ∈ all → jy_ok p) : ∀ (pr : Int32) (D : List (List (Nat × Int32))) (cur : List (Nat × Int32)) (c : Nat) (v : Int32) (n : Nat) (rest : List (Nat × Int32)) (len bb bc : Int32) (a5 a6 : Nat → Int32) (post : St1 → Prop), c % 16 = n → D.flatten ++ (cur ++ (c, v) :: rest) = all → jt_C D cur len bb bc a5 a6 → (∀ len' bb' bc' a5' a6', jt_C D (cur ++ [(c, v)]) len' bb' bc' a5' a6' → post (nq, ni, q, iv, len', cn, pr, bb', bc', ra, dc, a1, a2, a3, a4, a5', a6', a7, a8, a9, a10, a11, a12, a13, a14, a15, a16, a17)) → wpX_symbol post (nq, ni, q, iv, len, cn, pr, bb, bc, ra, dc, a1, a2, a3, a4, a5, a6, a7, a8, a9, a10, a11, a12, a13, a14, a15, a16, a17) (nI c) v (nI n) := by
  intro pr D cur c v n rest len bb bc a5 a6 post _ hall hI H
  have hc : c < 272 := (hok (c, v) (by rw [← hall]; exact List.mem_append_right _ (List.mem_append_right _ List.mem_cons_self))).1
  refine br_f (by rw [hcn]; decide) ⟨pk_in c 544 (by omega), pk_in c 544 (by omega), ?_⟩
  rw [nI_clamp (by omega), hI c hc, nI_1]
  refine nm_e (H len bb bc a5 _ (fun d hd => ?_))
  have ec : jy_cnt d (D.flatten ++ (cur ++ [(c, v)])) = jy_cnt d (D.flatten ++ cur) + ((if c = d then 1 else 0) + 0) := by
    rw [← List.append_assoc, jy_cnt_app (l := D.flatten ++ cur)]; rfl
  rw [ec]
  by_cases e : d = c
  · rw [e, pk_us, if_pos rfl]
  · rw [pk_un e, if_neg (fun z => e z.symm)]; exact hI d hd
theorem jt_C_end (hcn : cn = 1) : ∀ (pr : Int32) (D : List (List (Nat × Int32))) (cur rest : List (Nat × Int32)) (sg : Nat) (len bb bc : Int32) (a5 a6 : Nat → Int32) (post : St1 → Prop), D.flatten ++ (cur ++ rest) = all → D.length = sg → sg < 4 → jt_C D cur len bb bc a5 a6 → (∀ len' bb' bc' a5' a6', jt_C (D ++ [cur]) [] len' bb' bc' a5' a6' → post (nq, ni, q, iv, len', cn, pr, bb', bc', ra, dc, a1, a2, a3, a4, a5', a6', a7, a8, a9, a10, a11, a12, a13, a14, a15, a16, a17)) → wpX_endSegment post (nq, ni, q, iv, len, cn, pr, bb, bc, ra, dc, a1, a2, a3, a4, a5, a6, a7, a8, a9, a10, a11, a12, a13, a14, a15, a16, a17) (nI sg) := by
  intro pr D cur rest sg len bb bc a5 a6 post _ _ _ hI H
  refine br_f (by rw [hcn]; decide) (H len bb bc a5 a6 (fun d hd => ?_))
  rw [jt_fl]; exact hI d hd
end
theorem jd_pos_cg {Bs Bs' : Nat → List Nat} : ∀ n, (∀ j, j < n → Bs' j = Bs j) → jd_pos Bs' n = jd_pos Bs n := by
  intro n
  induction n with
  | zero => intro _; rfl
  | succ n ih => intro h; show jd_pos Bs' n + (jb_st (Bs' n)).length + 2 = jd_pos Bs n + (jb_st (Bs n)).length + 2; rw [ih (fun j hj => h j (by omega)), h n (by omega)]
theorem jd_at_cg {a5 a5' : Nat → Int32} {Bs : Nat → List Nat} {n : Nat} (h : ∀ j, j < jd_pos Bs n → a5' j = a5 j) (g : jd_at a5 Bs n) : jd_at a5' Bs n := by
  intro j hj
  have := jd_pos_le (Bs := Bs) hj
  obtain ⟨g1, g2, g3⟩ := g j hj
  refine ⟨jb_at_cg _ _ (fun i i1 i2 => h i (by omega)) g1, ?_, ?_⟩
  · rw [h _ (by omega)]; exact g2
  · rw [h _ (by omega)]; exact g3
/-- writing: the segments that are done, and the digits of the one under way -/
def jt_W (cw : Nat → List Nat) (D : List (List (Nat × Int32))) (cur : List (Nat × Int32)) (len bb bc : Int32) (a5 a6 : Nat → Int32) : Prop :=
  ∃ (Bs : Nat → List Nat) (lenN bbN bcN : Nat), len = nI lenN ∧ bb = nI bbN ∧ bc = nI bcN ∧ D.length ≤ 4 ∧ jd_at a5 Bs D.length ∧ (∀ j s, D[j]? = some s → jb_by (Bs j) ∧ ∃ pad, pad.length < 8 ∧ jb_un (Bs j) = jy_bb cw s ++ pad) ∧
    jw_W a5 (jd_pos Bs D.length) lenN bbN bcN (jy_bb cw cur) ∧ 4 * jd_pos Bs D.length ≤ (jy_bb cw D.flatten).length + 16 * D.length
section
variable {nq ni q iv cn ra dc : Int32} {a1 a2 a3 a4 a7 a8 a9 a10 a11 a12 a13 a14 a15 a16 : Nat → Int32} {a17 : Nat → Int64} {all : List (Nat × Int32)} {cw : Nat → List Nat}
theorem jt_room {D : List (List (Nat × Int32))} {cur rest : List (Nat × Int32)} {P : Nat} (hlen : all.length ≤ 256) (hcl : ∀ p, p ∈ all → (cw p.1).length ≤ 15 ∧ jy_ok p) (hall : D.flatten ++ (cur ++ rest) = all) (hD : D.length ≤ 4) (hP : 4 * P ≤ (jy_bb cw D.flatten).length + 16 * D.length) :
    4 * P + (jy_bb cw cur).length + 28 * rest.length ≤ 7232 := by
  have l1 : (jy_bb cw D.flatten).length ≤ 28 * D.flatten.length := jy_bb_len (fun p hp => hcl p (by rw [← hall]; exact List.mem_append_left _ hp))
  have l2 : (jy_bb cw cur).length ≤ 28 * cur.length := jy_bb_len (fun p hp => hcl p (by rw [← hall]; exact List.mem_append_right _ (List.mem_append_left _ hp)))
  have l3 : D.flatten.length + (cur.length + rest.length) = all.length := by rw [← hall, List.length_append, List.length_append]
  omega
theorem jt_W_sym (hcn : cn = 0) (hlen : all.length ≤ 256) {C Lc : Nat → Nat} (hcl : ∀ p, p ∈ all → jy_ok p ∧ a8 p.1 = nI (C p.1) ∧ a4 p.1 = nI (Lc p.1) ∧ Lc p.1 ≤ 15 ∧ C p.1 < 2 ^ Lc p.1 ∧ cw p.1 = jb_bits (C p.1) (Lc p.1)) : ∀ (pr : Int32) (D : List (List (Nat × Int32))) (cur : List (Nat × Int32)) (c : Nat) (v : Int32) (n : Nat) (rest : List (Nat × Int32)) (len bb bc : Int32) (a5 a6 : Nat → Int32) (post : St1 → Prop), c % 16 = n → D.flatten ++ (cur ++ (c, v) :: rest) = all → jt_W cw D cur len bb bc a5 a6 → (∀ len' bb' bc' a5' a6', jt_W cw D (cur ++ [(c, v)]) len' bb' bc' a5' a6' → post (nq, ni, q, iv, len', cn, pr, bb', bc', ra, dc, a1, a2, a3, a4, a5', a6', a7, a8, a9, a10, a11, a12, a13, a14, a15, a16, a17)) → wpX_symbol post (nq, ni, q, iv, len, cn, pr, bb, bc, ra, dc, a1, a2, a3, a4, a5, a6, a7, a8, a9, a10, a11, a12, a13, a14, a15, a16, a17) (nI c) v (nI n) := by
  intro pr D cur c v n rest len bb bc a5 a6 post hn hall hI H
  obtain ⟨Bs, lenN, bbN, bcN, e1, e2, e3, hD, hat, hsg, hW, hP⟩ := hI
  have hin : (c, v) ∈ all := by rw [← hall]; exact List.mem_append_right _ (List.mem_append_right _ List.mem_cons_self)
  obtain ⟨g1, g2, g3, g4, g5, g6⟩ := hcl _ hin
  have rm := jt_room hlen (fun p hp => ⟨by rw [(hcl p hp).2.2.2.2.2, jb_bits_len]; exact (hcl p hp).2.2.2.1, (hcl p hp).1⟩) hall hD hP
  have hr : ((c, v) :: rest).length = rest.length + 1 := rfl
  rw [e1, e2, e3, ← hn]
  refine jw_symbol (p := (c, v)) g1 hcn g2 g3 g4 g5 g6 hW (by omega) (fun a5' len' bb' bc' q1 q2 => H _ _ _ _ _ ?_)
  refine ⟨Bs, len', bb', bc', rfl, rfl, rfl, hD, jd_at_cg q2 hat, hsg, ?_, hP⟩
  rw [jy_bb_app, jy_bb_one]; exact q1
theorem jt_W_end (hcn : cn = 0) (hlen : all.length ≤ 256) (hcl : ∀ p, p ∈ all → (cw p.1).length ≤ 15 ∧ jy_ok p) : ∀ (pr : Int32) (D : List (List (Nat × Int32))) (cur rest : List (Nat × Int32)) (sg : Nat) (len bb bc : Int32) (a5 a6 : Nat → Int32) (post : St1 → Prop), D.flatten ++ (cur ++ rest) = all → D.length = sg → sg < 4 → jt_W cw D cur len bb bc a5 a6 → (∀ len' bb' bc' a5' a6', jt_W cw (D ++ [cur]) [] len' bb' bc' a5' a6' → post (nq, ni, q, iv, len', cn, pr, bb', bc', ra, dc, a1, a2, a3, a4, a5', a6', a7, a8, a9, a10, a11, a12, a13, a14, a15, a16, a17)) → wpX_endSegment post (nq, ni, q, iv, len, cn, pr, bb, bc, ra, dc, a1, a2, a3, a4, a5, a6, a7, a8, a9, a10, a11, a12, a13, a14, a15, a16, a17) (nI sg) := by
  intro pr D cur rest sg len bb bc a5 a6 post hall hsgl hsg4 hI H
  obtain ⟨Bs, lenN, bbN, bcN, e1, e2, e3, hD, hat, hsg, hW, hP⟩ := hI
  have rm := jt_room hlen hcl hall hD hP
  rw [e1, e2, e3]
  refine jw_endSegment hcn hW (by omega) (fun a5' len' B pad q1 q2 q3 q4 q5 q6 => H _ _ _ _ _ ?_)
  have hBs : ∀ j, j < D.length → (fun j => if j = D.length then B else Bs j) j = Bs j := fun j hj => if_neg (by omega)
  have hBn : (fun j => if j = D.length then B else Bs j) D.length = B := if_pos rfl
  generalize (fun j => if j = D.length then B else Bs j) = Bs' at hBs hBn
  have hpn : jd_pos Bs' D.length = jd_pos Bs D.length := jd_pos_cg _ hBs
  have hl : (D ++ [cur]).length = D.length + 1 := by rw [List.length_append]; rfl
  have hps : jd_pos Bs' (D.length + 1) = jd_pos Bs D.length + (jb_st B).length + 2 := by show jd_pos Bs' D.length + (jb_st (Bs' D.length)).length + 2 = _; rw [hpn, hBn]
  have hl2 : (jb_st B ++ [255, 208 + sg]).length = (jb_st B).length + 2 := by rw [List.length_append]; rfl
  rw [hl2] at q5
  refine ⟨Bs', len', 0, 0, rfl, rfl, rfl, by omega, ?_, ?_, ?_, ?_⟩
  · rw [hl]
    intro j hj
    by_cases e : j = D.length
    · rw [e, hpn, hBn]
      obtain ⟨w1, w2, w3, _⟩ := (jb_at_app a5' _ _ _).mp q4
      exact ⟨w1, w2, hsgl ▸ w3⟩
    · have hj' : j < D.length := by omega
      have hple := jd_pos_le (Bs := Bs) hj'
      have := jd_at_cg q6 hat j hj'
      have hpj : jd_pos Bs' j = jd_pos Bs j := jd_pos_cg j (fun i hi => hBs i (by omega))
      rw [hpj, hBs j hj']; exact this
  · intro j s hs
    rw [List.getElem?_append] at hs
    by_cases e : j < D.length
    · rw [if_pos e] at hs
      rw [hBs j e]; exact hsg j s hs
    · rw [if_neg e] at hs
      have ej : j - D.length = 0 := by
        rcases Nat.eq_zero_or_pos (j - D.length) with z | z
        · exact z
        · rw [List.getElem?_eq_none (by show [cur].length ≤ _; exact z)] at hs; exact absurd hs (by simp)
      rw [ej] at hs
      have es : cur = s := by injection hs
      rw [show j = D.length by omega, hBn, ← es]
      exact ⟨q1, pad, q2, q3⟩
  · rw [hl, hps]
    exact ⟨[], jb_by_nil, trivial, by rw [q5]; rfl, by decide, by decide, rfl⟩
  · rw [hl, hps]
    have hf : (jy_bb cw (D ++ [cur]).flatten).length = (jy_bb cw D.flatten).length + (jy_bb cw cur).length := by
      have := jt_fl D cur
      rw [List.append_nil] at this
      rw [this, jy_bb_app, List.length_append]
    have hun : 8 * B.length = (jy_bb cw cur).length + pad.length := by rw [← jb_un_len, q3, List.length_append]
    have hst := (jb_st_len B).1
    rw [hf]
    omega
end
end
section
theorem jo_cat_inv {α : Type} {f : Nat → List α} {x : α} : ∀ n b, x ∈ jy_cat f b n → ∃ i, b ≤ i ∧ i < b + n ∧ x ∈ f i := by
  intro n
  induction n with
  | zero => intro b h; exact absurd h List.not_mem_nil
  | succ n ih =>
    intro b h
    rcases List.mem_append.mp h with z | z
    · exact ⟨b, Nat.le_refl _, by omega, z⟩
    · obtain ⟨i, h1, h2, h3⟩ := ih (b + 1) z
      exact ⟨i, by omega, by omega, h3⟩
/-- what a store answers, out of what looking does not change -/
def jo_st (k : Int32 × Int32 × (Nat → Int32) × (Nat → Int32)) : Nat := jx_w (jq_F k.2.2.1 k.2.2.2 k.1.toNatClampNeg)
theorem jo_w_cg {f g : Nat → Int32} (h : ∀ k, k < 256 → f k = g k) : jx_w f = jx_w g := by
  apply jh_sum_cg
  intro b hb
  apply jh_sum_cg
  intro k hk
  show (if f (b * 64 + k) = 0 then 0 else 1) = (if g (b * 64 + k) = 0 then 0 else 1)
  rw [h _ (by omega)]
theorem jo_128 {post : Int32 → St1 → Prop} {Bs : Nat → List Nat} {lv : Nat → Int32} {ivN L : Nat} {k0 : Int32 × Int32 × (Nat → Int32) × (Nat → Int32)} (H : ∀ u', jx_I Bs lv ivN L u' → jx_dc u' ≠ 0 → jx_k u' = k0 → post (nI (jx_w (jd_lv Bs lv ivN))) u') :
    ∀ (r b : Nat) (u : St1), b + r = 4 → jx_I Bs lv ivN L u → jx_k u = k0 → (0 < b → jx_dc u ≠ 0) → match u with | (nq, ni, q, iv, len, cn, pr, bb, bc, ra, dc, a1, a2, a3, a4, a5, a6, a7, a8, a9, a10, a11, a12, a13, a14, a15, a16, a17) => wX_store_128 post (r + 1) (nI (jh_sum (jx_c (jd_lv Bs lv ivN)) b)) (nI b) nq ni q iv len cn pr bb bc ra dc a1 a2 a3 a4 a5 a6 a7 a8 a9 a10 a11 a12 a13 a14 a15 a16 a17 := by
  intro r
  induction r with
  | zero =>
    intro b u hb hI hk hd
    have e : b = 4 := by omega
    subst e
    have H' := H u hI (hd (by decide)) hk
    obtain ⟨nq, ni, q, iv, len, cn, pr, bb, bc, ra, dc, a1, a2, a3, a4, a5, a6, a7, a8, a9, a10, a11, a12, a13, a14, a15, a16, a17⟩ := u
    exact br_t (nI_le (a := 4) (Nat.le_refl _) (by decide)) H'
  | succ r ih =>
    intro b u hb hI hk hd
    obtain ⟨nq, ni, q, iv, len, cn, pr, bb, bc, ra, dc, a1, a2, a3, a4, a5, a6, a7, a8, a9, a10, a11, a12, a13, a14, a15, a16, a17⟩ := u
    refine br_f (nI_ge (b := 4) (by omega) (by decide)) (jx_weight (by omega) hI (fun u' hI' hd' hk' => ?_))
    have K := ih (b + 1) u' (by omega) hI' (by rw [hk', hk]) (fun _ => hd')
    obtain ⟨nq, ni, q, iv, len, cn, pr, bb, bc, ra, dc, a1, a2, a3, a4, a5, a6, a7, a8, a9, a10, a11, a12, a13, a14, a15, a16, a17⟩ := u'
    exact nm_r (nI_add _ _) (nm_r (nI_1 b) K)
theorem jo_bb1 (cw : Nat → List Nat) (p : Nat × Int32) (l : List (Nat × Int32)) : (cw p.1).length ≤ (jy_bb cw (p :: l)).length := by
  show _ ≤ ((cw p.1 ++ jb_bits _ _) ++ jy_bb cw l).length
  rw [List.length_append, List.length_append]; omega
/-- all symbols of four blocks -/
theorem jo_all {lv : Nat → Int32} {ivN : Nat} (h12 : ∀ k, k < 256 → jz_sz (lv k) ≤ 12) (h13 : ∀ b, b < 4 → jz_sz (lv (b * 64) - jy_pr lv ivN b) ≤ 13) :
    (∀ p, p ∈ jy_cat (jy_blk lv ivN) 0 4 → jy_ok p) ∧ (jy_cat (jy_blk lv ivN) 0 4).length ≤ 256 ∧ jy_tot 0 256 (jy_cat (jy_blk lv ivN) 0 4) ≤ 252 ∧ jy_tot 256 272 (jy_cat (jy_blk lv ivN) 0 4) ≤ 4 := by
  have e : jy_cat (jy_blk lv ivN) 0 4 = jy_blk lv ivN 0 ++ (jy_blk lv ivN 1 ++ (jy_blk lv ivN 2 ++ (jy_blk lv ivN 3 ++ []))) := rfl
  have t0 := jy_blk_tot (lv := lv) (iv := ivN) (b := 0) (by decide) h12
  have t1 := jy_blk_tot (lv := lv) (iv := ivN) (b := 1) (by decide) h12
  have t2 := jy_blk_tot (lv := lv) (iv := ivN) (b := 2) (by decide) h12
  have t3 := jy_blk_tot (lv := lv) (iv := ivN) (b := 3) (by decide) h12
  refine ⟨fun p hp => ?_, ?_, ?_, ?_⟩
  · obtain ⟨i, _, h2, h3⟩ := jo_cat_inv 4 0 hp
    exact jy_blk_ok (by omega) h12 (h13 i (by omega)) p h3
  · rw [e, List.length_append, List.length_append, List.length_append, List.append_nil]; omega
  · rw [e, jy_tot_app, jy_tot_app, jy_tot_app, List.append_nil]; omega
  · rw [e, jy_tot_app, jy_tot_app, jy_tot_app, List.append_nil]; omega
theorem jo_app {α : Type} (f : Nat → List α) : ∀ m n b, jy_cat f b (n + m) = jy_cat f b n ++ jy_cat f (b + n) m := by
  intro m n
  induction n with
  | zero => intro b; rw [Nat.zero_add]; rfl
  | succ n ih => intro b; rw [show n + 1 + m = (n + m) + 1 by omega]; show f b ++ jy_cat f (b + 1) (n + m) = (f b ++ jy_cat f (b + 1) n) ++ _; rw [ih (b + 1), List.append_assoc, show b + 1 + n = b + (n + 1) by omega]
/-- the segments one behind another are the blocks one behind another -/
theorem jo_flatten {lv : Nat → Int32} {ivN : Nat} (hiv1 : 1 ≤ ivN) : (js_D lv ivN (js_n ivN)).flatten = jy_cat (jy_blk lv ivN) 0 4 := by
  have key : ∀ t, t * ivN ≤ 4 → (js_D lv ivN t).flatten = jy_cat (jy_blk lv ivN) 0 (t * ivN) := by
    intro t
    induction t with
    | zero => intro _; rw [Nat.zero_mul]; rfl
    | succ t ih =>
      intro ht
      rw [Nat.succ_mul] at ht
      rw [js_D_s, List.flatten_append, ih (by omega), Nat.succ_mul, jo_app, Nat.zero_add]
      simp only [List.flatten_cons, List.flatten_nil, List.append_nil]
      unfold js_sy
      rw [Nat.min_eq_left (by omega)]
  have hn : js_n ivN = 3 / ivN + 1 := rfl
  rw [hn, js_D_s, List.flatten_append]
  have h3 : 3 / ivN * ivN ≤ 3 := Nat.div_mul_le_self 3 ivN
  rw [key _ (by omega)]
  simp only [List.flatten_cons, List.flatten_nil, List.append_nil]
  have h4 : 4 ≤ 3 / ivN * ivN + ivN := by
    have := Nat.lt_div_mul_add (a := 3) (show 0 < ivN by omega)
    omega
  unfold js_sy
  rw [Nat.min_eq_right (by omega)]
  have := jo_app (jy_blk lv ivN) (4 - 3 / ivN * ivN) (3 / ivN * ivN) 0
  rw [show 3 / ivN * ivN + (4 - 3 / ivN * ivN) = 4 by omega, Nat.zero_add] at this
  rw [← this]
/-- from the writer's end to the stream -/
theorem jo_str {lv : Nat → Int32} {ivN : Nat} {cw : Nat → List Nat} {len bb bc : Int32} {a5 a6 a9 a10 a11 a12 : Nat → Int32} (hiv1 : 1 ≤ ivN) (hiv4 : ivN ≤ 4) (h12 : ∀ k, k < 256 → jz_sz (lv k) ≤ 12) (h13 : ∀ b, b < 4 → jz_sz (lv (b * 64) - jy_pr lv ivN b) ≤ 13)
    (hcl : ∀ p, p ∈ jy_cat (jy_blk lv ivN) 0 4 → (cw p.1).length ≤ 15 ∧ 1 ≤ (cw p.1).length ∧ jt_ok a9 a10 a11 a12 cw p.1) (hW : jt_W cw (js_D lv ivN (js_n ivN)) [] len bb bc a5 a6) :
    ∃ (Bs : Nat → List Nat) (L : Nat), len = nI L ∧ jd_Str ivN L Bs lv a5 a9 a10 a11 a12 ∧ ∀ k, k < 256 → jd_lv Bs lv ivN k = lv k := by
  obtain ⟨Bs, lenN, bbN, bcN, e1, e2, e3, hD, hat, hsg, hw, hP⟩ := hW
  rw [js_D_len] at hD hat hw hP
  obtain ⟨aok, alen, _, _⟩ := jo_all h12 h13
  have hwb := jw_bc hw
  have hl0 : (jy_bb cw ([] : List (Nat × Int32))).length = 0 := rfl
  rw [hl0] at hwb
  have eL : lenN = jd_pos Bs (js_n ivN) := by omega
  have sub : ∀ j, j < js_n ivN → j * ivN < 4 ∧ ∀ p, p ∈ js_sy lv ivN j → p ∈ jy_cat (jy_blk lv ivN) 0 4 := by
    intro j hj
    unfold js_n at hj
    have h1 : j * ivN ≤ 3 := (Nat.le_div_iff_mul_le hiv1).mp (by omega)
    refine ⟨by omega, fun p hp => ?_⟩
    obtain ⟨i, g1, g2, g3⟩ := jo_cat_inv _ _ hp
    exact jd_cat_mem 4 0 i (Nat.zero_le _) (by omega) g3
  have sget : ∀ j, j < js_n ivN → (js_D lv ivN (js_n ivN))[j]? = some (js_sy lv ivN j) := by
    intro j hj
    unfold js_D
    rw [List.getElem?_map, List.getElem?_range hj]; rfl
  have hfl : (js_D lv ivN (js_n ivN)).flatten.length ≤ 256 ∧ ∀ p, p ∈ (js_D lv ivN (js_n ivN)).flatten → p ∈ jy_cat (jy_blk lv ivN) 0 4 := by
    rw [jo_flatten hiv1]; exact ⟨alen, fun p hp => hp⟩
  have hbits := jy_bb_len (cw := cw) (l := (js_D lv ivN (js_n ivN)).flatten) (fun p hp => ⟨(hcl p (hfl.2 p hp)).1, aok p (hfl.2 p hp)⟩)
  have hne : ∀ j, j < js_n ivN → Bs j ≠ [] := by
    intro j hj e
    obtain ⟨_, pad, p1, p2⟩ := hsg j _ (sget j hj)
    rw [e] at p2
    have p2' : [] = jy_bb cw (js_sy lv ivN j) ++ pad := p2
    have hsy : js_sy lv ivN j = jy_blk lv ivN (j * ivN) ++ jy_cat (jy_blk lv ivN) (j * ivN + 1) (min ivN (4 - j * ivN) - 1) := by
      have := (sub j hj).1
      unfold js_sy
      conv => lhs; rw [show min ivN (4 - j * ivN) = (min ivN (4 - j * ivN) - 1) + 1 by omega]
      rfl
    have hb : jy_blk lv ivN (j * ivN) = (256 + jz_sz (lv (j * ivN * 64) - jy_pr lv ivN (j * ivN)), lv (j * ivN * 64) - jy_pr lv ivN (j * ivN)) :: jy_ac (fun k => lv (j * ivN * 64 + jo_od k)) 63 1 0 := rfl
    have hin : (256 + jz_sz (lv (j * ivN * 64) - jy_pr lv ivN (j * ivN)), lv (j * ivN * 64) - jy_pr lv ivN (j * ivN)) ∈ js_sy lv ivN j := by rw [hsy, hb]; exact List.mem_append_left _ List.mem_cons_self
    have hc := (hcl _ ((sub j hj).2 _ hin)).2.1
    have hl := congrArg List.length p2'
    rw [hsy, hb, List.length_append, jy_bb_app, List.length_append] at hl
    have hl2 := jo_bb1 cw (256 + jz_sz (lv (j * ivN * 64) - jy_pr lv ivN (j * ivN)), lv (j * ivN * 64) - jy_pr lv ivN (j * ivN)) (jy_ac (fun k => lv (j * ivN * 64 + jo_od k)) 63 1 0)
    have h0 : ([] : List Nat).length = 0 := rfl
    omega
  refine ⟨Bs, lenN, e1, ⟨⟨hiv1, hiv4⟩, by omega, eL, hat, h12, h13, cw, fun j hj => ?_⟩, fun k hk => ?_⟩
  · obtain ⟨g1, pad, g2, g3⟩ := hsg j _ (sget j hj)
    exact ⟨g1, fun _ => ⟨pad, g2, g3, fun p hp => (hcl p ((sub j hj).2 p hp)).2.2⟩⟩
  · unfold jd_lv
    rw [if_neg (hne _ ?_)]
    refine jd_jn (b := k / 64) (Nat.div_mul_le_self _ _) (by omega) hiv1
end
section
section
variable {nq ni q iv : Int32} {a1 a2 a3 a13 a14 a15 a16 : Nat → Int32} {a17 : Nat → Int64}
theorem jo_36 {post : Int32 → St1 → Prop} {ivN qN : Nat} (hiv : iv = nI ivN) (hiv1 : 1 ≤ ivN) (hiv4 : ivN ≤ 4) (hnq : nq = nI qN) (hq1 : 1 ≤ qN) (hq8 : qN ≤ 8) (hni : ∃ n, 1 ≤ n ∧ n ≤ 4 ∧ ni = nI n) (h3 : ∀ k, k < 64 → a3 k = nI (jo_od k)) (h2 : ∀ j, j < 9 → (a2 j).toInt.natAbs ≤ 64) (ha1 : ∀ j, j < 256 → jv_g (a1 j))
    (hF : ∀ k, k < 256 → a13 k = jq_F a1 a2 qN k)
    (H : ∀ u' Bs lv ivN L, jx_I Bs lv ivN L u' → jx_dc u' ≠ 0 → jx_k u' = (nq, ni, a1, a2) → jx_w (jd_lv Bs lv ivN) = jo_st (nq, ni, a1, a2) → post (nI (jo_st (nq, ni, a1, a2))) u')
    {len cn pr bb bc ra dc : Int32} {a4 a5 a6 a7 a8 a9 a10 a11 a12 : Nat → Int32} : ∃ n, wX_store_36 post nq ni q iv len cn pr bb bc ra dc n 0 a1 a2 a3 a4 a5 a6 a7 a8 a9 a10 a11 a12 a13 a14 a15 a16 a17 := by
  have hb : ∀ k, k < 256 → (a13 k).toInt.natAbs ≤ 2048 := fun k hk => by rw [hF k hk]; exact jq_F_b hq1 hq8 h2 ha1 hk
  have h12 : ∀ k, k < 256 → jz_sz (a13 k) ≤ 12 := fun k hk => (jz_le _ 12).mpr (by have := hb k hk; omega)
  have h13 : ∀ b, b < 4 → jz_sz (a13 (b * 64) - jy_pr a13 ivN b) ≤ 13 := fun b hb4 => by
    have p1 := hb (b * 64) (by omega)
    have p2 : (jy_pr a13 ivN b).toInt.natAbs ≤ 2048 := by
      unfold jy_pr
      split
      · decide
      · exact hb _ (by omega)
    have := jq_subb p1 p2 (by decide)
    exact (jz_le _ 13).mpr (by omega)
  obtain ⟨aok, alen, at0, at1⟩ := jo_all h12 h13
  generalize hall : jy_cat (jy_blk a13 ivN) 0 4 = all at aok alen at0 at1
  refine pk_loop (fun n i s => wX_store_36 post nq ni q iv len cn pr bb bc ra dc n (nI i) a1 a2 a3 a4 a5 s a7 a8 a9 a10 a11 a12 a13 a14 a15 a16 a17) (fun i s => ∀ k, k < i → s k = 0) 272 0 a6 (by decide) (fun k hk => absurd hk (by omega)) (fun n s h => ?_) (fun n i s hi h hw => ?_)
  rotate_left
  · refine br_f (nI_ge (b := 272) hi (by decide)) ⟨pk_in i 544 (by omega), ?_⟩
    rw [nI_clamp (by omega)]
    exact nm_e (nm_r (nI_1 i) (hw _ (jq_fill (F := fun _ => 0) h rfl)))
  refine br_t (nI_le (a := 272) (Nat.le_refl _) (by decide)) ?_
  refine jg_writeAll (I := jt_C) (cn := 1) ⟨rfl, rfl⟩ hiv hiv1 hiv4 hall.symm (jt_C_sym rfl aok) (jt_C_end rfl) h3 h12 h13 (fun pr1 len1 bb1 bc1 x5 x6 hC => ?_) (fun c hc => by rw [h c hc]; rfl)
  have hfl : ∀ c, c < 272 → x6 c = nI (jy_cnt c all) := by
    intro c hc
    have := hC c hc
    rw [List.append_nil] at this
    rw [this, jo_flatten hiv1, hall]
  have hcnt : ∀ c, c < 272 → jy_cnt c all < 2 ^ 30 := fun c _ => Nat.lt_of_le_of_lt (Nat.le_trans (jy_cnt_len c all) alen) (by decide)
  refine jk_makeLengths (fr := 0) (to := 256) (W0 := fun c => jy_cnt c all) (by decide) (by decide) (by decide) hfl hcnt (Nat.lt_of_le_of_lt (Nat.le_trans (jt_tot 0 256 all) at0) (by decide)) (fun y4 y6 y7 L0 o0 g4 g4' g6 => ?_)
  refine jk_makeLengths (fr := 256) (to := 272) (W0 := fun c => jy_cnt c all) (by decide) (by decide) (by decide) g6 hcnt (Nat.lt_of_le_of_lt (Nat.le_trans (jt_tot 256 272 all) at1) (by decide)) (fun z4 z6 z7 L1 o1 k4 k4' k6 => ?_)
  have l0 : ∀ k, 0 ≤ k → k < 256 → z4 k = nI (L0 k) ∧ L0 k ≤ 16 := fun k k1 k2 => by
    refine ⟨by rw [k4' k (Or.inl k2)]; exact g4 k k1 k2, ?_⟩
    have := o0.1 k k1 k2
    omega
  have l1 : ∀ k, 256 ≤ k → k < 272 → z4 k = nI (L1 k) ∧ L1 k ≤ 16 := fun k k1 k2 => by
    refine ⟨k4 k k1 k2, ?_⟩
    have := o1.1 k k1 k2
    omega
  refine jm_makeCodes (fr := 0) (to := 256) (t := 0) (by decide) (by decide) (by decide) o0.2 l0 (fun b8 b9 b10 b11 b12 T0 f8 f10 => ?_)
  refine jm_makeCodes (fr := 256) (to := 272) (t := 1) (by decide) (by decide) (by decide) o1.2 l1 (fun c8 c9 c10 c11 c12 T1 m8 m10 => ?_)
  have T0' : jc_tab L0 0 256 0 c8 c9 c10 c11 c12 := by
    refine ⟨fun n n1 n2 => ?_, fun k k1 k2 k3 k5 => ?_⟩
    · have e := m10 (0 * 17 + n) (by omega)
      rw [e.1, e.2.1, e.2.2]; exact T0.1 n n1 n2
    · have hp := jc_place (L := L0) k1 k2 k3
      rw [(m8 k (by omega)).1, (m8 _ (Or.inl hp)).2]; exact T0.2 k k1 k2 k3 k5
  have hcl : ∀ p, p ∈ all → jy_ok p ∧ c8 p.1 = nI (if p.1 < 256 then jc_code L0 0 256 p.1 else jc_code L1 256 272 p.1) ∧ z4 p.1 = nI (if p.1 < 256 then L0 p.1 else L1 p.1) ∧ (if p.1 < 256 then L0 p.1 else L1 p.1) ≤ 15 ∧ (if p.1 < 256 then jc_code L0 0 256 p.1 else jc_code L1 256 272 p.1) < 2 ^ (if p.1 < 256 then L0 p.1 else L1 p.1) ∧ 1 ≤ (if p.1 < 256 then L0 p.1 else L1 p.1) ∧ jt_ok c9 c10 c11 c12 (fun c => jb_bits (if c < 256 then jc_code L0 0 256 c else jc_code L1 256 272 c) (if c < 256 then L0 c else L1 c)) p.1 := by
    intro p hp
    have ok := aok p hp
    have hw : jy_cnt p.1 all ≠ 0 := by have := jy_cnt_in hp; omega
    have h272 := ok.1
    unfold jt_ok
    by_cases e : p.1 < 256
    · have ln := (o0.1 p.1 (Nat.zero_le _) e).2 hw
      simp only [if_pos e]
      exact ⟨ok, (T0'.2 p.1 (Nat.zero_le _) e ln.1 (by omega)).1, (l0 p.1 (Nat.zero_le _) e).1, ln.2, (jc_code_lt o0.2 (Nat.zero_le _) e ln.1 (by omega)).2, ln.1, jc_dec o0.2 (by decide) T0' (Nat.zero_le _) e ln.1 (by omega)⟩
    · have ln := (o1.1 p.1 (by omega) h272).2 hw
      simp only [if_neg e]
      exact ⟨ok, (T1.2 p.1 (by omega) h272 ln.1 (by omega)).1, (l1 p.1 (by omega) h272).1, ln.2, (jc_code_lt o1.2 (by omega) h272 ln.1 (by omega)).2, ln.1, jc_dec o1.2 (by decide) T1 (by omega) h272 ln.1 (by omega)⟩
  refine jg_writeAll (I := jt_W (fun c => jb_bits (if c < 256 then jc_code L0 0 256 c else jc_code L1 256 272 c) (if c < 256 then L0 c else L1 c))) (cn := 0) ⟨rfl, rfl⟩ hiv hiv1 hiv4 hall.symm (jt_W_sym (C := fun c => if c < 256 then jc_code L0 0 256 c else jc_code L1 256 272 c) (Lc := fun c => if c < 256 then L0 c else L1 c) rfl alen (fun p hp => ⟨(hcl p hp).1, (hcl p hp).2.1, (hcl p hp).2.2.1, (hcl p hp).2.2.2.1, (hcl p hp).2.2.2.2.1, rfl⟩)) (jt_W_end rfl alen (fun p hp => ⟨by rw [jb_bits_len]; exact (hcl p hp).2.2.2.1, (hcl p hp).1⟩)) h3 h12 h13 (fun pr2 len2 bb2 bc2 w5 w6 hW => ?_) ?_
  · obtain ⟨Bs, L, eL, hS, hlv⟩ := jo_str hiv1 hiv4 h12 h13 (fun p hp => by rw [hall] at hp; rw [jb_bits_len]; exact ⟨(hcl p hp).2.2.2.1, (hcl p hp).2.2.2.2.2.1, (hcl p hp).2.2.2.2.2.2⟩) hW
    have ew : jx_w (jd_lv Bs a13 ivN) = jo_st (nq, ni, a1, a2) := by
      unfold jo_st
      show _ = jx_w (jq_F a1 a2 nq.toNatClampNeg)
      rw [hnq, nI_clamp (by omega)]
      exact jo_w_cg (fun k hk => by rw [hlv k hk, hF k hk])
    refine ⟨5, jo_128 (Bs := Bs) (lv := a13) (ivN := ivN) (L := L) (k0 := (nq, ni, a1, a2)) (fun u' hI' hd' hk' => ?_) 4 0 (nq, ni, q, iv, len2, 0, pr2, bb2, bc2, ra, 0, a1, a2, a3, z4, w5, w6, z7, c8, c9, c10, c11, c12, a13, a14, a15, a16, a17) rfl ?_ rfl (fun z => absurd z (by decide))⟩
    · rw [ew]; exact H u' Bs a13 ivN L hI' hd' hk' ew
    · exact ⟨hiv, eL, hS, fun z => absurd rfl z, h3, h2, ha1, ⟨qN, hq1, hq8, hnq⟩, hni⟩
  · exact ⟨fun _ => [], 0, 0, 0, rfl, rfl, rfl, by decide, fun j hj => absurd hj (Nat.not_lt_zero j), fun j s hs => absurd hs (by simp), ⟨[], jb_by_nil, trivial, rfl, by decide, by decide, rfl⟩, Nat.zero_le _⟩
end
theorem jo_store {post : Int32 → St1 → Prop} {u : St1} {Bs : Nat → List Nat} {lv : Nat → Int32} {ivN L : Nat} (hI : jx_I Bs lv ivN L u) (H : ∀ u' Bs lv ivN L, jx_I Bs lv ivN L u' → jx_dc u' ≠ 0 → jx_k u' = jx_k u → jx_w (jd_lv Bs lv ivN) = jo_st (jx_k u) → post (nI (jo_st (jx_k u))) u') : wpX_store post u := by
  obtain ⟨nq, ni, q, iv, len, cn, pr, bb, bc, ra, dc, a1, a2, a3, a4, a5, a6, a7, a8, a9, a10, a11, a12, a13, a14, a15, a16, a17⟩ := u
  obtain ⟨i1, i2, i3, i4, i5, i6, i7, ⟨qN, q1, q8, eq⟩, ⟨nN, n1, n4, en⟩⟩ := hI
  refine pk_loop (fun n b (s : (Nat → Int32) × (Nat → Int32) × (Nat → Int32)) => wX_store_18 post n (nI b) nq ni nq ni len cn pr bb bc ra dc a1 a2 a3 a4 a5 a6 a7 a8 a9 a10 a11 a12 s.1 a14 s.2.1 s.2.2 a17) (fun b s => ∀ k, k < 256 → k / 64 < b → s.1 k = jq_F a1 a2 qN k) 4 0 (a13, a15, a16) (by decide) (fun k _ h => absurd h (by omega)) (fun n s h => ?_) (fun n b s hi h hw => ?_)
  · exact br_t (nI_le (a := 4) (Nat.le_refl _) (by decide)) (jo_36 en n1 n4 eq q1 q8 ⟨nN, n1, n4, en⟩ i5 i6 i7 (fun k hk => h k hk (by omega)) H)
  · refine br_f (nI_ge (b := 4) hi (by decide)) (jq_quantise hi eq q1 q8 i6 i7 (fun a13' t x t1 t2 => nm_r (nI_1 b) (hw (a13', t, x) (fun k hk hkb => ?_))))
    by_cases e : k / 64 = b
    · have ek : k = b * 64 + k % 64 := by omega
      rw [ek]; exact t1 _ (by omega)
    · show a13' k = _
      rw [t2 k (by omega)]; exact h k hk (by omega)
end
section
section
variable {nq ni q len cn pr bb bc ra dc : Int32} {a1 a2 a3 a4 a5 a6 a7 a8 a9 a10 a11 a12 a13 a14 a15 a16 : Nat → Int32} {a17 : Nat → Int64}
theorem jl_seg {post : Int32 → Prop} {ivN b : Nat} (hiv1 : 1 ≤ ivN) (hiv4 : ivN ≤ 4) (hb : b < 4) (H : post (nI (b / ivN))) : wpX_segmentOf post (nq, ni, q, nI ivN, len, cn, pr, bb, bc, ra, dc, a1, a2, a3, a4, a5, a6, a7, a8, a9, a10, a11, a12, a13, a14, a15, a16, a17) (nI b) := by
  have h3 : b / ivN ≤ 3 := Nat.le_trans (Nat.div_le_self b ivN) (by omega)
  refine pk_loop (fun n i s => wX_segmentOf_4 post (nI b) nq ni q (nI ivN) len cn pr bb bc ra dc a1 a2 a3 a4 a5 a6 a7 a8 a9 a10 a11 a12 a13 a14 a15 a16 a17 n s (nI i)) (fun i s => s = nI (min i (b / ivN))) 4 0 0 (by decide) (by rw [Nat.zero_min]; rfl) (fun n s h => ?_) (fun n i s hi h hw => ?_)
  · refine br_t (nI_le (a := 4) (Nat.le_refl _) (by decide)) ?_
    rw [h, Nat.min_eq_right (by omega)]; exact H
  · have hm : (min i (b / ivN) + 1) * ivN ≤ 4 * 4 := Nat.mul_le_mul (by omega) hiv4
    have e : (s + 1) * nI ivN = nI ((min i (b / ivN) + 1) * ivN) := by rw [h, nI_1, pk_mul]
    refine br_f (nI_ge (b := 4) hi (by decide)) ?_
    rw [e]
    refine pk_lt b ((min i (b / ivN) + 1) * ivN) (fun z => ?_) (fun z => ?_)
    · have := (Nat.div_lt_iff_lt_mul (show 0 < ivN by omega)).mpr z
      exact nm_r (nI_1 i) (hw s (by rw [h]; congr 1; omega))
    · have := (Nat.le_div_iff_mul_le (show 0 < ivN by omega)).mpr z
      exact nm_e (nm_r (nI_1 i) (hw _ (by rw [h, nI_1]; congr 1; omega)))
end
/-- the number of levels that are not 0 in segment sg -/
def jl_n (f : Nat → Int32) (ivN sg : Nat) : Nat := jh_sum (fun k => if k / ivN = sg then jx_c f k else 0) 4
theorem jl_23 {post : Int32 → St1 → Prop} {Bs : Nat → List Nat} {lv : Nat → Int32} {ivN L sg : Nat} {k0 : Int32 × Int32 × (Nat → Int32) × (Nat → Int32)}
    (H : ∀ u', jx_I Bs lv ivN L u' → jx_k u' = k0 → match u' with | (nq, ni, q, iv, len, cn, pr, bb, bc, ra, dc, a1, a2, a3, a4, a5, a6, a7, a8, a9, a10, a11, a12, a13, a14, a15, a16, a17) => ∃ n, wX_lose_70 post (nI sg) (nI (jl_n (jd_lv Bs lv ivN) ivN sg)) nq ni q iv len cn pr bb bc ra dc a1 a2 a3 a4 a5 a6 a7 a8 a9 a10 a11 a12 a13 a14 a15 a16 a17 n 0 0 0 0) (hsg : sg ≤ 3) :
    ∀ (r b : Nat) (u : St1), b + r = 4 → jx_I Bs lv ivN L u → jx_k u = k0 → match u with | (nq, ni, q, iv, len, cn, pr, bb, bc, ra, dc, a1, a2, a3, a4, a5, a6, a7, a8, a9, a10, a11, a12, a13, a14, a15, a16, a17) => wX_lose_23 post (nI sg) (r + 1) (nI (jh_sum (fun k => if k / ivN = sg then jx_c (jd_lv Bs lv ivN) k else 0) b)) (nI b) nq ni q iv len cn pr bb bc ra dc a1 a2 a3 a4 a5 a6 a7 a8 a9 a10 a11 a12 a13 a14 a15 a16 a17 := by
  intro r
  induction r with
  | zero =>
    intro b u hb hI hk
    have e : b = 4 := by omega
    subst e
    have H' := H u hI hk
    obtain ⟨nq, ni, q, iv, len, cn, pr, bb, bc, ra, dc, a1, a2, a3, a4, a5, a6, a7, a8, a9, a10, a11, a12, a13, a14, a15, a16, a17⟩ := u
    exact br_t (nI_le (a := 4) (Nat.le_refl _) (by decide)) H'
  | succ r ih =>
    intro b u hb hI hk
    obtain ⟨nq, ni, q, iv, len, cn, pr, bb, bc, ra, dc, a1, a2, a3, a4, a5, a6, a7, a8, a9, a10, a11, a12, a13, a14, a15, a16, a17⟩ := u
    have i1 := hI.1
    subst i1
    obtain ⟨⟨hiv1, hiv4⟩, _⟩ := hI.2.2.1
    have h3 : b / ivN ≤ 3 := Nat.le_trans (Nat.div_le_self b ivN) (by omega)
    have es : jh_sum (fun k => if k / ivN = sg then jx_c (jd_lv Bs lv ivN) k else 0) (b + 1) = jh_sum (fun k => if k / ivN = sg then jx_c (jd_lv Bs lv ivN) k else 0) b + (if b / ivN = sg then jx_c (jd_lv Bs lv ivN) b else 0) := rfl
    refine br_f (nI_ge (b := 4) (by omega) (by decide)) (jl_seg hiv1 hiv4 (by omega) (pk_eq (b / ivN) sg (fun e => ?_) (fun e => ?_)))
    · rw [if_pos e] at es
      refine jx_weight (by omega) hI (fun u' hI' hd' hk' => ?_)
      have K := ih (b + 1) u' (by omega) hI' (by rw [hk', hk])
      obtain ⟨nq, ni, q, iv, len, cn, pr, bb, bc, ra, dc, a1, a2, a3, a4, a5, a6, a7, a8, a9, a10, a11, a12, a13, a14, a15, a16, a17⟩ := u'
      exact nm_r (by rw [nI_add, ← es]) (nm_r (nI_1 b) K)
    · rw [if_neg e, Nat.add_zero] at es
      have K := ih (b + 1) _ (by omega) hI hk
      rw [es] at K
      exact nm_r (nI_1 b) K
/-- without segment sg -/
def jl_B (Bs : Nat → List Nat) (sg j : Nat) : List Nat := if j = sg then [] else Bs j
theorem jl_pos_lo (Bs : Nat → List Nat) (sg : Nat) : ∀ j, j ≤ sg → jd_pos (jl_B Bs sg) j = jd_pos Bs j := fun j hj => jd_pos_cg j (fun i hi => if_neg (by omega))
theorem jl_pos_hi (Bs : Nat → List Nat) (sg : Nat) : ∀ d, jd_pos (jl_B Bs sg) (sg + 1 + d) + (jb_st (Bs sg)).length = jd_pos Bs (sg + 1 + d) := by
  intro d
  induction d with
  | zero =>
    show jd_pos (jl_B Bs sg) sg + (jb_st (jl_B Bs sg sg)).length + 2 + (jb_st (Bs sg)).length = jd_pos Bs sg + (jb_st (Bs sg)).length + 2
    rw [jl_pos_lo Bs sg sg (Nat.le_refl _), show jl_B Bs sg sg = [] from if_pos rfl]
    have : (jb_st []).length = 0 := rfl
    omega
  | succ d ih =>
    show jd_pos (jl_B Bs sg) (sg + 1 + d) + (jb_st (jl_B Bs sg (sg + 1 + d))).length + 2 + (jb_st (Bs sg)).length = jd_pos Bs (sg + 1 + d) + (jb_st (Bs (sg + 1 + d))).length + 2
    rw [show jl_B Bs sg (sg + 1 + d) = Bs (sg + 1 + d) from if_neg (by omega)]
    omega
theorem jl_str {Bs : Nat → List Nat} {lv : Nat → Int32} {ivN L sg : Nat} {a5 a5' a9 a10 a11 a12 : Nat → Int32} (hS : jd_Str ivN L Bs lv a5 a9 a10 a11 a12) (hsg : sg < js_n ivN)
    (h1 : ∀ k, k < jd_pos Bs sg → a5' k = a5 k) (h2 : ∀ k, jd_pos Bs sg ≤ k → k + (jb_st (Bs sg)).length < L → a5' k = a5 (k + (jb_st (Bs sg)).length)) : jd_Str ivN (L - (jb_st (Bs sg)).length) (jl_B Bs sg) lv a5' a9 a10 a11 a12 := by
  obtain ⟨hiv, hL, eL, hat, hlv, hd, cw, hsgs⟩ := hS
  have hple := jd_pos_le (Bs := Bs) hsg
  have hn := jl_pos_hi Bs sg (js_n ivN - (sg + 1))
  rw [show sg + 1 + (js_n ivN - (sg + 1)) = js_n ivN by omega] at hn
  refine ⟨hiv, by omega, by omega, fun j hj => ?_, hlv, hd, cw, fun j hj => ?_⟩
  · obtain ⟨g1, g2, g3⟩ := hat j hj
    have hpj := jd_pos_le (Bs := Bs) hj
    by_cases e : j = sg
    · subst e
      rw [jl_pos_lo Bs j j (Nat.le_refl _), show jl_B Bs j j = [] from if_pos rfl]
      refine ⟨trivial, ?_, ?_⟩
      · show a5' (jd_pos Bs j + 0) = 255
        rw [Nat.add_zero, h2 _ (Nat.le_refl _) (by omega)]; exact g2
      · show a5' (jd_pos Bs j + 0 + 1) = _
        rw [Nat.add_zero, h2 _ (by omega) (by omega), show jd_pos Bs j + 1 + (jb_st (Bs j)).length = jd_pos Bs j + (jb_st (Bs j)).length + 1 by omega]; exact g3
    · rw [show jl_B Bs sg j = Bs j from if_neg e]
      rcases Nat.lt_or_ge j sg with z | z
      · have hp2 := jd_pos_le (Bs := Bs) z
        rw [jl_pos_lo Bs sg j (by omega)]
        refine ⟨jb_at_cg _ _ (fun i i1 i2 => h1 i (by omega)) g1, ?_, ?_⟩
        · rw [h1 _ (by omega)]; exact g2
        · rw [h1 _ (by omega)]; exact g3
      · have hj2 := jl_pos_hi Bs sg (j - (sg + 1))
        rw [show sg + 1 + (j - (sg + 1)) = j by omega] at hj2
        have hp2 := jd_pos_le (Bs := jl_B Bs sg) (show sg < j by omega)
        rw [jl_pos_lo Bs sg sg (Nat.le_refl _)] at hp2
        refine ⟨jb_at_sh _ _ _ (fun i hi => ?_) g1, ?_, ?_⟩
        · rw [h2 _ (by omega) (by omega), show jd_pos (jl_B Bs sg) j + i + (jb_st (Bs sg)).length = jd_pos Bs j + i by omega]
        · rw [h2 _ (by omega) (by omega), show jd_pos (jl_B Bs sg) j + (jb_st (Bs j)).length + (jb_st (Bs sg)).length = jd_pos Bs j + (jb_st (Bs j)).length by omega]; exact g2
        · rw [h2 _ (by omega) (by omega), show jd_pos (jl_B Bs sg) j + (jb_st (Bs j)).length + 1 + (jb_st (Bs sg)).length = jd_pos Bs j + (jb_st (Bs j)).length + 1 by omega]; exact g3
  · by_cases e : j = sg
    · unfold jd_sg
      rw [show jl_B Bs sg j = [] from if_pos e]
      exact ⟨jb_by_nil, fun z => absurd rfl z⟩
    · have := hsgs j hj
      unfold jd_sg at this ⊢
      rw [show jl_B Bs sg j = Bs j from if_neg e]; exact this
theorem jl_lv (Bs : Nat → List Nat) (lv : Nat → Int32) (ivN sg k : Nat) : jd_lv (jl_B Bs sg) lv ivN k = if k / 64 / ivN = sg then 0 else jd_lv Bs lv ivN k := by
  unfold jd_lv
  by_cases e : k / 64 / ivN = sg
  · rw [if_pos e, if_pos (show jl_B Bs sg (k / 64 / ivN) = [] from if_pos e)]
  · rw [if_neg e, show jl_B Bs sg (k / 64 / ivN) = Bs (k / 64 / ivN) from if_neg e]
section
variable {nq ni q iv cn pr bb bc ra dc : Int32} {a1 a2 a3 a4 a6 a7 a8 a9 a10 a11 a12 a13 a14 a15 a16 : Nat → Int32} {a17 : Nat → Int64}
theorem jl_141 {post : Int32 → St1 → Prop} {n L P G : Nat} {a5 : Nat → Int32} (hL : L ≤ 1900) (hPG : P + G ≤ L)
    (H : ∀ a5', (∀ k, k < P → a5' k = a5 k) → (∀ k, P ≤ k → k + G < L → a5' k = a5 (k + G)) → post (nI n) (nq, ni, q, iv, nI (L - G), cn, pr, bb, bc, ra, 0, a1, a2, a3, a4, a5', a6, a7, a8, a9, a10, a11, a12, a13, a14, a15, a16, a17)) : ∃ fu, wX_lose_141 post (nI n) (nI G) nq ni q iv (nI L) cn pr bb bc ra dc fu (nI (P + G)) a1 a2 a3 a4 a5 a6 a7 a8 a9 a10 a11 a12 a13 a14 a15 a16 a17 := by
  refine pk_loop (fun fu i s => wX_lose_141 post (nI n) (nI G) nq ni q iv (nI L) cn pr bb bc ra dc fu (nI i) a1 a2 a3 a4 s a6 a7 a8 a9 a10 a11 a12 a13 a14 a15 a16 a17) (fun i s => P + G ≤ i ∧ (∀ k, k < P → s k = a5 k) ∧ (∀ k, P ≤ k → k + G < i → s k = a5 (k + G)) ∧ (∀ k, i ≤ k → s k = a5 k)) L (P + G) a5 hPG ⟨Nat.le_refl _, fun k _ => rfl, fun k k1 k2 => absurd k2 (by omega), fun k _ => rfl⟩ (fun fu s h => ?_) (fun fu i s hi h hw => ?_)
  · exact br_t (nI_le (Nat.le_refl _) (by omega)) (nm_r (pk_sub (by omega)) (H s h.2.1 h.2.2.1))
  · obtain ⟨h0, h1, h2, h3⟩ := h
    refine br_f (nI_ge hi (by omega)) ?_
    rw [pk_sub (show G ≤ i by omega), nI_clamp (show i < 2 ^ 31 by omega), nI_clamp (show i - G < 2 ^ 31 by omega)]
    refine ⟨pk_in i 1900 (by omega), vp_in_nI (by omega) (by decide), nm_e (nm_r (nI_1 i) (hw _ ⟨by omega, fun k hk => ?_, fun k k1 k2 => ?_, fun k hk => ?_⟩))⟩
    · rw [pk_un (by omega)]; exact h1 k hk
    · by_cases e : k = i - G
      · rw [e, pk_us, h3 i (Nat.le_refl _)]; congr 1; omega
      · rw [pk_un e]; exact h2 k k1 (by omega)
    · rw [pk_un (by omega)]; exact h3 k (by omega)
theorem jl_70 {post : Int32 → St1 → Prop} {n L sg N : Nat} {a5 : Nat → Int32} {Bs : Nat → List Nat} (hL : L ≤ 1900) (hN : N ≤ 4) (hsg : sg < N) (eL : L = jd_pos Bs N) (hat : jd_at a5 Bs N) (hby : ∀ j, j < N → jb_by (Bs j))
    (H : ∃ fu, wX_lose_141 post (nI n) (nI (jb_st (Bs sg)).length) nq ni q iv (nI L) cn pr bb bc ra dc fu (nI (jd_pos Bs sg + (jb_st (Bs sg)).length)) a1 a2 a3 a4 a5 a6 a7 a8 a9 a10 a11 a12 a13 a14 a15 a16 a17) :
    ∀ (r at_ j : Nat) (x4 x6 : Nat), at_ + r = L → j ≤ sg → jd_pos Bs j ≤ at_ → ((at_ ≤ jd_pos Bs j + (jb_st (Bs j)).length ∧ x6 = j ∧ x4 = (if j = sg then jd_pos Bs sg else 0)) ∨ (at_ = jd_pos Bs j + (jb_st (Bs j)).length + 1 ∧ j < sg ∧ x6 = j + 1 ∧ x4 = (if j + 1 = sg then jd_pos Bs sg else 0))) →
    wX_lose_70 post (nI sg) (nI n) nq ni q iv (nI L) cn pr bb bc ra dc a1 a2 a3 a4 a5 a6 a7 a8 a9 a10 a11 a12 a13 a14 a15 a16 a17 (r + 1) (nI x4) 0 (nI x6) (nI at_) := by
  intro r
  induction r with
  | zero =>
    intro at_ j x4 x6 h1 h2 h3 h4
    have hp := jd_pos_le (Bs := Bs) (show j < N by omega)
    omega
  | succ r ih =>
    intro at_ j x4 x6 h1 h2 h3 h4
    have hj : j < N := by omega
    have hp := jd_pos_le (Bs := Bs) hj
    obtain ⟨g1, g2, g3⟩ := hat j hj
    rcases h4 with ⟨h4, e6, e4⟩ | ⟨h4, h5, e6, e4⟩
    · refine br_f (nI_ge (by omega) (by omega)) (br_f (nI_nlt (by omega) (by omega)) ?_)
      rcases Nat.lt_or_ge at_ (jd_pos Bs j + (jb_st (Bs j)).length) with z | z
      · refine jd_mark0 hL (by omega) (fun _ y => ?_) (br_t rfl (nm_r (nI_1 at_) (ih (at_ + 1) j x4 x6 (by omega) h2 (by omega) (Or.inl ⟨by omega, e6, e4⟩))))
        have := jd_st255 (Bs j) (jd_pos Bs j) (at_ - jd_pos Bs j) (hby j hj) g1 (by omega) (by rw [show jd_pos Bs j + (at_ - jd_pos Bs j) = at_ by omega]; exact y)
        rw [show jd_pos Bs j + (at_ - jd_pos Bs j) + 1 = at_ + 1 by omega] at this
        rw [this]; decide
      · have ea : at_ = jd_pos Bs j + (jb_st (Bs j)).length := by omega
        rw [← ea] at g2 g3
        refine jd_mark1 hL (by omega) g2 (by rw [g3]; exact (jd_208 j (by omega)).1) (br_f (by decide) (nm_r (nI_1 x6) ?_))
        rw [e6]
        refine pk_eq (j + 1) sg (fun e => ?_) (fun e => ?_)
        · refine nm_r (nI_add at_ 2) (nm_r (nI_1 at_) (ih (at_ + 1) j (at_ + 2) (j + 1) (by omega) h2 (by omega) (Or.inr ⟨by omega, by omega, rfl, ?_⟩)))
          rw [if_pos e, ← e]; show _ = jd_pos Bs j + (jb_st (Bs j)).length + 2; omega
        · have e1 : nI sg + 1 = nI (sg + 1) := nI_1 sg
          rw [e1]
          refine pk_eq (j + 1) (sg + 1) (fun e2 => ?_) (fun e2 => ?_)
          · have ej : j = sg := by omega
            subst ej
            refine nm_r (nI_1 at_) ?_
            have K : ∀ y : Int32, y = nI at_ - nI x4 → ∃ fu, wX_lose_141 post (nI n) y nq ni q iv (nI L) cn pr bb bc ra dc fu (nI at_) a1 a2 a3 a4 a5 a6 a7 a8 a9 a10 a11 a12 a13 a14 a15 a16 a17 := by
              rw [e4, if_pos rfl]
              refine nm_r (pk_sub (by omega)) ?_
              rw [show at_ - jd_pos Bs j = (jb_st (Bs j)).length by omega, ea]; exact H
            exact br_c (fun _ => K) (fun _ => br_t (nI_lt (by omega) (by omega)) K)
          · refine nm_r (nI_1 at_) (ih (at_ + 1) j x4 (j + 1) (by omega) h2 (by omega) (Or.inr ⟨by omega, by omega, rfl, ?_⟩))
            rw [e4, if_neg (by omega), if_neg e]
    · refine br_f (nI_ge (by omega) (by omega)) (br_f (nI_nlt (by omega) (by omega)) (jd_mark0 hL (by omega) (fun _ y => ?_) (br_t rfl (nm_r (nI_1 at_) (ih (at_ + 1) (j + 1) x4 x6 (by omega) (by omega) ?_ (Or.inl ⟨?_, e6, e4⟩))))))
      · rw [← h4] at g3
        rw [g3] at y
        exact absurd y (jd_208 j (by omega)).2
      · show jd_pos Bs j + (jb_st (Bs j)).length + 2 ≤ at_ + 1; omega
      · show at_ + 1 ≤ jd_pos Bs j + (jb_st (Bs j)).length + 2 + _; omega
end
theorem jl_lose {post : Int32 → St1 → Prop} {u : St1} {Bs : Nat → List Nat} {lv : Nat → Int32} {ivN L b : Nat} (hb : b < 4) (hI : jx_I Bs lv ivN L u)
    (H : ∀ u' L', jx_I (jl_B Bs (b / ivN)) lv ivN L' u' → jx_k u' = jx_k u → post (nI (jl_n (jd_lv Bs lv ivN) ivN (b / ivN))) u') : wpX_lose post u (nI b) := by
  obtain ⟨nq, ni, q, iv, len, cn, pr, bb, bc, ra, dc, a1, a2, a3, a4, a5, a6, a7, a8, a9, a10, a11, a12, a13, a14, a15, a16, a17⟩ := u
  have i1 := hI.1
  subst i1
  obtain ⟨⟨hiv1, hiv4⟩, _⟩ := hI.2.2.1
  have h3 : b / ivN ≤ 3 := Nat.le_trans (Nat.div_le_self b ivN) (by omega)
  refine br_f (nI_pos (by omega)) (br_t (nI_le (b := 3) (by omega) (by decide)) (jl_seg hiv1 hiv4 hb ⟨5, ?_⟩))
  refine jl_23 (Bs := Bs) (lv := lv) (ivN := ivN) (L := L) (sg := b / ivN) (k0 := (nq, ni, a1, a2)) (fun u' hI' hk' => ?_) h3 4 0 (nq, ni, q, nI ivN, len, cn, pr, bb, bc, ra, dc, a1, a2, a3, a4, a5, a6, a7, a8, a9, a10, a11, a12, a13, a14, a15, a16, a17) rfl hI rfl
  obtain ⟨nq1, ni1, q1, iv1, len1, cn1, pr1, bb1, bc1, ra1, dc1, a11, a21, a31, a41, a51, a61, a71, a81, a91, a101, a111, a121, a131, a141, a151, a161, a171⟩ := u'
  obtain ⟨j1, j2, j3, j4, j5, j6, j7, j8, j9⟩ := hI'
  have hsg : b / ivN < js_n ivN := jd_jn (Nat.div_mul_le_self b ivN) hb hiv1
  have j3' := j3
  obtain ⟨_, hL, eL, hat, _, _, cw, hsgs⟩ := j3'
  have hple := jd_pos_le (Bs := Bs) hsg
  subst j2
  refine ⟨L + 1, jl_70 hL (jd_n4 ivN hiv1 hiv4) hsg eL hat (fun j hj => (hsgs j hj).1) (jl_141 hL (by omega) (fun a5' q1 q2 => ?_)) L 0 0 0 0 (by omega) (Nat.zero_le _) (Nat.le_refl _) (Or.inl ⟨Nat.zero_le _, rfl, ?_⟩)⟩
  · refine H _ (L - (jb_st (Bs (b / ivN))).length) ⟨j1, rfl, jl_str j3 hsg q1 q2, fun z => absurd rfl z, j5, j6, j7, j8, j9⟩ hk'
  · by_cases e : 0 = b / ivN
    · rw [if_pos e, ← e]; rfl
    · rw [if_neg e]
end
section
/-- all pixels are greys -/
def jp_G (a1 : Nat → Int32) : Prop := ∀ j, j < 256 → jv_g (a1 j)
theorem jp_up {a1 : Nat → Int32} {k : Nat} {x : Int32} (h : jp_G a1) (hx : jv_g x) : jp_G (upd a1 k x) := by
  intro j hj
  by_cases e : j = k
  · rw [e, pk_us]; exact hx
  · rw [pk_un e]; exact h j hj
theorem jp_nI {g : Nat} (h : g ≤ 255) : jv_g (nI g) := by
  unfold jv_g
  rw [nI_toInt (by omega)]; omega
theorem jp_255 {x : Int32} (h : jv_g x) : jv_g (255 - x) := by
  have e : (255 : Int32).toInt = 255 := rfl
  obtain ⟨h1, h2⟩ := h
  unfold jv_g
  rw [ji_sub (by rw [e]; omega) (by rw [e]; omega), e]; omega
section
variable {nq ni q iv len cn pr bb bc ra dc : Int32} {a1 a2 a3 a4 a5 a6 a7 a8 a9 a10 a11 a12 a13 a14 a15 a16 : Nat → Int32} {a17 : Nat → Int64} {Bs : Nat → List Nat} {lv : Nat → Int32} {ivN L : Nat}
theorem jp_a1 {s : Nat → Int32} (hI : jx_I Bs lv ivN L (nq, ni, q, iv, len, cn, pr, bb, bc, ra, dc, a1, a2, a3, a4, a5, a6, a7, a8, a9, a10, a11, a12, a13, a14, a15, a16, a17)) (h : jp_G s) : jx_I Bs lv ivN L (nq, ni, q, iv, len, cn, pr, bb, bc, ra, dc, s, a2, a3, a4, a5, a6, a7, a8, a9, a10, a11, a12, a13, a14, a15, a16, a17) := by
  obtain ⟨i1, i2, i3, i4, i5, i6, i7, i8, i9⟩ := hI
  exact ⟨i1, i2, i3, i4, i5, i6, h, i8, i9⟩
theorem jp_grey {post : Int32 → Prop} {g : Nat} (h : g ≤ 255) (H : post 0) : wpX_badGrey post (nq, ni, q, iv, len, cn, pr, bb, bc, ra, dc, a1, a2, a3, a4, a5, a6, a7, a8, a9, a10, a11, a12, a13, a14, a15, a16, a17) (nI g) := br_f (nI_pos (by omega)) (br_t (nI_le (b := 255) h (by decide)) H)
theorem jp_put {post : Int32 → St1 → Prop} {x y g : Nat} (hx : x < 16) (hy : y < 16) (hg : g ≤ 255) (hI : jx_I Bs lv ivN L (nq, ni, q, iv, len, cn, pr, bb, bc, ra, dc, a1, a2, a3, a4, a5, a6, a7, a8, a9, a10, a11, a12, a13, a14, a15, a16, a17)) (H : ∀ r u', jx_I Bs lv ivN L u' → post r u') : wpX_put post (nq, ni, q, iv, len, cn, pr, bb, bc, ra, dc, a1, a2, a3, a4, a5, a6, a7, a8, a9, a10, a11, a12, a13, a14, a15, a16, a17) (nI x) (nI y) (nI g) := by
  have e : nI y * 16 + nI x = nI (y * 16 + x) := jn_ma y 16 x
  have hin : vp_in (nI y * 16 + nI x) 256 := by rw [e]; exact vp_in_nI (by omega) (by decide)
  unfold wpX_put
  exact jx_off hx (br_t rfl (jx_off hy (br_t rfl (jp_grey hg (br_t rfl ⟨hin, nm_e ⟨hin, nm_e (H _ _ (jp_a1 hI (jp_up hI.2.2.2.2.2.2.1 (jp_nI hg))))⟩⟩)))))
theorem jp_fill {post : Int32 → St1 → Prop} {x y g : Nat} (hx : x < 16) (hy : y < 16) (hg : g ≤ 255) (hI : jx_I Bs lv ivN L (nq, ni, q, iv, len, cn, pr, bb, bc, ra, dc, a1, a2, a3, a4, a5, a6, a7, a8, a9, a10, a11, a12, a13, a14, a15, a16, a17)) (H : ∀ r u', jx_I Bs lv ivN L u' → post r u') : wpX_fill post (nq, ni, q, iv, len, cn, pr, bb, bc, ra, dc, a1, a2, a3, a4, a5, a6, a7, a8, a9, a10, a11, a12, a13, a14, a15, a16, a17) (nI x) (nI y) (nI g) := by
  unfold wpX_fill
  refine jx_off hx (br_t rfl (jx_off hy (br_t rfl (jp_grey hg (br_t rfl ?_)))))
  refine pk_loop (fun n i s => wX_fill_30 post (nI x) (nI g) nq ni q iv len cn pr bb bc ra dc n (nI i) s a2 a3 a4 a5 a6 a7 a8 a9 a10 a11 a12 a13 a14 a15 a16 a17) (fun i s => jp_G s) 16 y a1 (by omega) hI.2.2.2.2.2.2.1 (fun n s h => ?_) (fun n i s hi h hw => ?_)
  · exact br_t (nI_le (a := 16) (Nat.le_refl _) (by decide)) (H _ _ (jp_a1 hI h))
  · refine br_f (nI_ge (b := 16) hi (by decide)) ?_
    refine pk_loop (fun m k t => wX_fill_40 post (wX_fill_30 post (nI x) (nI g) nq ni q iv len cn pr bb bc ra dc n) (nI x) (nI g) (nI i) nq ni q iv len cn pr bb bc ra dc m (nI k) t a2 a3 a4 a5 a6 a7 a8 a9 a10 a11 a12 a13 a14 a15 a16 a17) (fun k t => jp_G t) 16 x s (by omega) h (fun m t ht => ?_) (fun m k t hk ht hw2 => ?_)
    · exact br_t (nI_le (a := 16) (Nat.le_refl _) (by decide)) (nm_r (nI_1 i) (hw t ht))
    · have e : nI i * 16 + nI k = nI (i * 16 + k) := jn_ma i 16 k
      refine br_f (nI_ge (b := 16) hk (by decide)) ?_
      rw [e]
      exact ⟨vp_in_nI (by omega) (by decide), nm_e (nm_r (nI_1 k) (hw2 _ (jp_up ht (jp_nI hg))))⟩
theorem jp_ramp {post : Int32 → St1 → Prop} {p0 p1 p2 : Int32} (hI : jx_I Bs lv ivN L (nq, ni, q, iv, len, cn, pr, bb, bc, ra, dc, a1, a2, a3, a4, a5, a6, a7, a8, a9, a10, a11, a12, a13, a14, a15, a16, a17)) (H : ∀ r u', jx_I Bs lv ivN L u' → post r u') : wpX_ramp post (nq, ni, q, iv, len, cn, pr, bb, bc, ra, dc, a1, a2, a3, a4, a5, a6, a7, a8, a9, a10, a11, a12, a13, a14, a15, a16, a17) p0 p1 p2 := by
  unfold wpX_ramp
  have K : ∃ fu, wX_ramp_38 post p0 p1 p2 nq ni q iv len cn pr bb bc ra dc fu 0 a1 a2 a3 a4 a5 a6 a7 a8 a9 a10 a11 a12 a13 a14 a15 a16 a17 := by
    refine pk_loop (fun n i s => wX_ramp_38 post p0 p1 p2 nq ni q iv len cn pr bb bc ra dc n (nI i) s a2 a3 a4 a5 a6 a7 a8 a9 a10 a11 a12 a13 a14 a15 a16 a17) (fun i s => jp_G s) 16 0 a1 (by omega) hI.2.2.2.2.2.2.1 (fun n s h => ?_) (fun n i s hi h hw => ?_)
    · exact br_t (nI_le (a := 16) (Nat.le_refl _) (by decide)) (H _ _ (jp_a1 hI h))
    · refine br_f (nI_ge (b := 16) hi (by decide)) ?_
      refine pk_loop (fun m k t => wX_ramp_48 post (wX_ramp_38 post p0 p1 p2 nq ni q iv len cn pr bb bc ra dc n) p0 p1 p2 (nI i) nq ni q iv len cn pr bb bc ra dc m (nI k) t a2 a3 a4 a5 a6 a7 a8 a9 a10 a11 a12 a13 a14 a15 a16 a17) (fun k t => jp_G t) 16 0 s (by omega) h (fun m t ht => ?_) (fun m k t hk ht hw2 => ?_)
      · exact br_t (nI_le (a := 16) (Nat.le_refl _) (by decide)) (nm_r (nI_1 i) (hw t ht))
      · have e : nI i * 16 + nI k = nI (i * 16 + k) := jn_ma i 16 k
        refine br_f (nI_ge (b := 16) hk (by decide)) (jv_clamp (fun c c1 c2 => ?_))
        rw [e]
        exact ⟨vp_in_nI (by omega) (by decide), nm_e (nm_r (nI_1 k) (hw2 _ (jp_up ht c1)))⟩
  have Q := H (-1000000) _ hI
  have body : ∀ r : Int32, (r = 0 → ((p1 < (-64) → post (-1000000) (nq, ni, q, iv, len, cn, pr, bb, bc, ra, dc, a1, a2, a3, a4, a5, a6, a7, a8, a9, a10, a11, a12, a13, a14, a15, a16, a17)) ∧ (¬ p1 < (-64) → ((64 < p1 → post (-1000000) (nq, ni, q, iv, len, cn, pr, bb, bc, ra, dc, a1, a2, a3, a4, a5, a6, a7, a8, a9, a10, a11, a12, a13, a14, a15, a16, a17)) ∧ (¬ 64 < p1 → ((p2 < (-64) → post (-1000000) (nq, ni, q, iv, len, cn, pr, bb, bc, ra, dc, a1, a2, a3, a4, a5, a6, a7, a8, a9, a10, a11, a12, a13, a14, a15, a16, a17)) ∧ (¬ p2 < (-64) → ((p2 ≤ 64 → ∃ fu38, wX_ramp_38 post p0 p1 p2 nq ni q iv len cn pr bb bc ra dc fu38 0 a1 a2 a3 a4 a5 a6 a7 a8 a9 a10 a11 a12 a13 a14 a15 a16 a17) ∧ (¬ p2 ≤ 64 → post (-1000000) (nq, ni, q, iv, len, cn, pr, bb, bc, ra, dc, a1, a2, a3, a4, a5, a6, a7, a8, a9, a10, a11, a12, a13, a14, a15, a16, a17)))))))))) ∧ (¬ r = 0 → post (-1000000) (nq, ni, q, iv, len, cn, pr, bb, bc, ra, dc, a1, a2, a3, a4, a5, a6, a7, a8, a9, a10, a11, a12, a13, a14, a15, a16, a17)) :=
    fun r => br_c (fun _ => br_c (fun _ => Q) (fun _ => br_c (fun _ => Q) (fun _ => br_c (fun _ => Q) (fun _ => br_c (fun _ => K) (fun _ => Q))))) (fun _ => Q)
  exact br_c (fun _ => body 1) (fun _ => br_c (fun _ => body 0) (fun _ => body 1))
theorem jp_weave {post : Int32 → St1 → Prop} {p0 : Int32} (hI : jx_I Bs lv ivN L (nq, ni, q, iv, len, cn, pr, bb, bc, ra, dc, a1, a2, a3, a4, a5, a6, a7, a8, a9, a10, a11, a12, a13, a14, a15, a16, a17)) (H : ∀ r u', jx_I Bs lv ivN L u' → post r u') : wpX_weave post (nq, ni, q, iv, len, cn, pr, bb, bc, ra, dc, a1, a2, a3, a4, a5, a6, a7, a8, a9, a10, a11, a12, a13, a14, a15, a16, a17) p0 := by
  have Q := H (-1000000) _ hI
  refine br_c (fun _ => Q) (fun _ => br_c (fun _ => ?_) (fun _ => Q))
  refine pk_loop (fun n i s => wX_weave_14 post p0 nq ni q iv len cn pr bb bc ra dc n (nI i) s a2 a3 a4 a5 a6 a7 a8 a9 a10 a11 a12 a13 a14 a15 a16 a17) (fun i s => jp_G s) 16 0 a1 (by omega) hI.2.2.2.2.2.2.1 (fun n s h => ?_) (fun n i s hi h hw => ?_)
  · exact br_t (nI_le (a := 16) (Nat.le_refl _) (by decide)) (H _ _ (jp_a1 hI h))
  · refine br_f (nI_ge (b := 16) hi (by decide)) ?_
    refine pk_loop (fun m k t => wX_weave_22 post (wX_weave_14 post p0 nq ni q iv len cn pr bb bc ra dc n) p0 (nI i) nq ni q iv len cn pr bb bc ra dc m (nI k) t a2 a3 a4 a5 a6 a7 a8 a9 a10 a11 a12 a13 a14 a15 a16 a17) (fun k t => jp_G t) 16 0 s (by omega) h (fun m t ht => ?_) (fun m k t hk ht hw2 => ?_)
    · exact br_t (nI_le (a := 16) (Nat.le_refl _) (by decide)) (nm_r (nI_1 i) (hw t ht))
    · have e : nI i * 16 + nI k = nI (i * 16 + k) := jn_ma i 16 k
      refine br_f (nI_ge (b := 16) hk (by decide)) (br_c (fun _ => nm_r (nI_1 k) (hw2 t ht)) (fun _ => ?_))
      rw [e, nI_clamp (by omega)]
      exact ⟨vp_in_nI (by omega) (by decide), vp_in_nI (by omega) (by decide), nm_e (nm_r (nI_1 k) (hw2 _ (jp_up ht (jp_255 (ht _ (by omega))))))⟩
theorem jp_quality {post : Int32 → St1 → Prop} {m : Nat} (hm : m < 8) (hI : jx_I Bs lv ivN L (nq, ni, q, iv, len, cn, pr, bb, bc, ra, dc, a1, a2, a3, a4, a5, a6, a7, a8, a9, a10, a11, a12, a13, a14, a15, a16, a17)) (H : ∀ r u', jx_I Bs lv ivN L u' → post r u') : wpX_quality post (nq, ni, q, iv, len, cn, pr, bb, bc, ra, dc, a1, a2, a3, a4, a5, a6, a7, a8, a9, a10, a11, a12, a13, a14, a15, a16, a17) (nI m) := by
  obtain ⟨i1, i2, i3, i4, i5, i6, i7, i8, i9⟩ := id hI
  refine pk_lt m 1 (fun _ => H _ _ hI) (fun z => br_t (nI_le (b := 8) (by omega) (by decide)) (H _ _ ⟨i1, i2, i3, i4, i5, i6, i7, ⟨m, z, by omega, rfl⟩, i9⟩))
theorem jp_interval {post : Int32 → St1 → Prop} {m : Nat} (hm : m < 8) (hI : jx_I Bs lv ivN L (nq, ni, q, iv, len, cn, pr, bb, bc, ra, dc, a1, a2, a3, a4, a5, a6, a7, a8, a9, a10, a11, a12, a13, a14, a15, a16, a17)) (H : ∀ r u', jx_I Bs lv ivN L u' → post r u') : wpX_interval post (nq, ni, q, iv, len, cn, pr, bb, bc, ra, dc, a1, a2, a3, a4, a5, a6, a7, a8, a9, a10, a11, a12, a13, a14, a15, a16, a17) (nI m) := by
  obtain ⟨i1, i2, i3, i4, i5, i6, i7, i8, i9⟩ := id hI
  exact pk_lt m 1 (fun _ => H _ _ hI) (fun z => pk_le m 4 (fun y => H _ _ ⟨i1, i2, i3, i4, i5, i6, i7, i8, ⟨m, z, y, rfl⟩⟩) (fun _ => H _ _ hI))
theorem jp_adopt {post : Int32 → St1 → Prop} (hI : jx_I Bs lv ivN L (nq, ni, q, iv, len, cn, pr, bb, bc, ra, dc, a1, a2, a3, a4, a5, a6, a7, a8, a9, a10, a11, a12, a13, a14, a15, a16, a17)) (H : ∀ r u', jx_I Bs lv ivN L u' → post r u') : wpX_adopt post (nq, ni, q, iv, len, cn, pr, bb, bc, ra, dc, a1, a2, a3, a4, a5, a6, a7, a8, a9, a10, a11, a12, a13, a14, a15, a16, a17) := by
  unfold wpX_adopt
  refine jx_difference hI (fun u' hI' hd _ => ?_)
  generalize jx_dif u' = r
  obtain ⟨nq, ni, q, iv, len, cn, pr, bb, bc, ra, dc, a1, a2, a3, a4, a5, a6, a7, a8, a9, a10, a11, a12, a13, a14, a15, a16, a17⟩ := u'
  have h14 := (hI'.2.2.2.1 hd).2
  refine pk_loop (fun n i s => wX_adopt_7 post r nq ni q iv len cn pr bb bc ra dc n (nI i) s a2 a3 a4 a5 a6 a7 a8 a9 a10 a11 a12 a13 a14 a15 a16 a17) (fun i s => jp_G s) 256 0 a1 (by omega) hI'.2.2.2.2.2.2.1 (fun n s h => ?_) (fun n i s hi h hw => ?_)
  · exact br_t (nI_le (a := 256) (Nat.le_refl _) (by decide)) (H _ _ (jp_a1 hI' h))
  · refine br_f (nI_ge (b := 256) hi (by decide)) ⟨pk_in i 256 hi, pk_in i 256 hi, ?_⟩
    rw [nI_clamp (by omega)]
    exact nm_e (nm_r (nI_1 i) (hw _ (jp_up h (h14 i hi).1)))
end
theorem jp_c_lose (Bs : Nat → List Nat) (lv : Nat → Int32) (ivN sg b : Nat) : jx_c (jd_lv (jl_B Bs sg) lv ivN) b = if b / ivN = sg then 0 else jx_c (jd_lv Bs lv ivN) b := by
  by_cases e : b / ivN = sg
  · rw [if_pos e]
    refine jh_sum_0 64 (fun k hk => ?_)
    have h0 : jd_lv (jl_B Bs sg) lv ivN (b * 64 + k) = 0 := by rw [jl_lv, show (b * 64 + k) / 64 = b by omega, if_pos e]
    rw [h0, if_pos rfl]
  · rw [if_neg e]
    refine jh_sum_cg 64 (fun k hk => ?_)
    have h0 : jd_lv (jl_B Bs sg) lv ivN (b * 64 + k) = jd_lv Bs lv ivN (b * 64 + k) := by rw [jl_lv, show (b * 64 + k) / 64 = b by omega, if_neg e]
    rw [h0]
theorem jp_w_lose (Bs : Nat → List Nat) (lv : Nat → Int32) (ivN sg : Nat) : jx_w (jd_lv (jl_B Bs sg) lv ivN) + jl_n (jd_lv Bs lv ivN) ivN sg = jx_w (jd_lv Bs lv ivN) := by
  unfold jx_w jl_n
  rw [← jt_sum_add]
  refine jh_sum_cg 4 (fun b hb => ?_)
  rw [jp_c_lose]
  by_cases e : b / ivN = sg
  · rw [if_pos e, if_pos e]; omega
  · rw [if_neg e, if_neg e]; omega
theorem jp_sub {a b c : Nat} (h : a + b = c) : nI c - nI b = nI a := by rw [← h, pk_sub (Nat.le_add_left _ _), Nat.add_sub_cancel]
theorem jp_turn {post : Int32 → St1 → Prop} {u : St1} {Bs : Nat → List Nat} {lv : Nat → Int32} {ivN L o : Nat} {p1 p2 : Int32} (ho : p1 &&& 15 = nI o) (ho2 : o < 16) (hI : jx_I Bs lv ivN L u)
    (H : ∀ r u' Bs' lv' ivN' L', jx_I Bs' lv' ivN' L' u' → (9 ≤ o → o < 13 → r = nI (jx_w (jd_lv Bs' lv' ivN'))) → (13 ≤ o → o < 15 → nI (jx_w (jd_lv Bs lv ivN)) - r = nI (jx_w (jd_lv Bs' lv' ivN'))) → (o < 9 ∨ o = 15 → jx_w (jd_lv Bs' lv' ivN') = jx_w (jd_lv Bs lv ivN)) → post r u') : wpL_turn post u p1 p2 := by
  obtain ⟨nq, ni, q, iv, len, cn, pr, bb, bc, ra, dc, a1, a2, a3, a4, a5, a6, a7, a8, a9, a10, a11, a12, a13, a14, a15, a16, a17⟩ := u
  obtain ⟨x, hx, ex⟩ := pk_andE p2 (m := 15) 4 (by decide)
  obtain ⟨y, hy, ey⟩ := pk_andE (p2 >>> ((4 : Int32) &&& 31)) (m := 15) 4 (by decide)
  obtain ⟨g, hg, eg⟩ := pk_andE (p2 >>> ((8 : Int32) &&& 31)) (m := 255) 8 (by decide)
  have e7 : nI x &&& 7 = nI (x % 8) := pk_andN (by omega) 3 (by decide)
  have e3 : nI x &&& 3 = nI (x % 4) := pk_andN (by omega) 2 (by decide)
  refine nm_r ho (nm_r ex (nm_r ey (nm_r eg ?_)))
  have H0 : o < 9 ∨ o = 15 → ∀ r u', jx_I Bs lv ivN L u' → post r u' := fun hh r u' hI' => H r u' Bs lv ivN L hI' (fun _ _ => by omega) (fun _ _ => by omega) (fun _ => rfl)
  refine pk_le 3 o (fun z => ?_) (fun z => jp_put hx hy (by omega) hI (fun r u' hI' => ?_))
  rotate_left
  · have K := H0 (by omega) r u' hI'
    obtain ⟨nq, ni, q, iv, len, cn, pr, bb, bc, ra, dc, a1, a2, a3, a4, a5, a6, a7, a8, a9, a10, a11, a12, a13, a14, a15, a16, a17⟩ := u'
    exact K
  refine pk_eq o 3 (fun z => jp_fill hx hy (by omega) hI (fun r u' hI' => ?_)) (fun z3 => ?_)
  · have K := H0 (by omega) r u' hI'
    obtain ⟨nq, ni, q, iv, len, cn, pr, bb, bc, ra, dc, a1, a2, a3, a4, a5, a6, a7, a8, a9, a10, a11, a12, a13, a14, a15, a16, a17⟩ := u'
    exact K
  refine pk_eq o 4 (fun z => jp_ramp hI (fun r u' hI' => ?_)) (fun z4 => ?_)
  · have K := H0 (by omega) r u' hI'
    obtain ⟨nq, ni, q, iv, len, cn, pr, bb, bc, ra, dc, a1, a2, a3, a4, a5, a6, a7, a8, a9, a10, a11, a12, a13, a14, a15, a16, a17⟩ := u'
    exact K
  refine pk_eq o 5 (fun z => jp_weave hI (fun r u' hI' => ?_)) (fun z5 => ?_)
  · have K := H0 (by omega) r u' hI'
    obtain ⟨nq, ni, q, iv, len, cn, pr, bb, bc, ra, dc, a1, a2, a3, a4, a5, a6, a7, a8, a9, a10, a11, a12, a13, a14, a15, a16, a17⟩ := u'
    exact K
  rw [e7, e3]
  refine pk_le 8 o (fun z8 => ?_) (fun z8 => jp_quality (by omega) hI (fun r u' hI' => ?_))
  rotate_left
  · have K := H0 (by omega) r u' hI'
    obtain ⟨nq, ni, q, iv, len, cn, pr, bb, bc, ra, dc, a1, a2, a3, a4, a5, a6, a7, a8, a9, a10, a11, a12, a13, a14, a15, a16, a17⟩ := u'
    exact K
  refine pk_eq o 8 (fun z => jp_interval (by omega) hI (fun r u' hI' => ?_)) (fun z9 => ?_)
  · have K := H0 (by omega) r u' hI'
    obtain ⟨nq, ni, q, iv, len, cn, pr, bb, bc, ra, dc, a1, a2, a3, a4, a5, a6, a7, a8, a9, a10, a11, a12, a13, a14, a15, a16, a17⟩ := u'
    exact K
  refine pk_le 13 o (fun z13 => ?_) (fun z13 => jo_store hI (fun u' Bs' lv' ivN' L' hI' _ _ hw => ?_))
  rotate_left
  · have K := H (nI (jo_st (jx_k (nq, ni, q, iv, len, cn, pr, bb, bc, ra, dc, a1, a2, a3, a4, a5, a6, a7, a8, a9, a10, a11, a12, a13, a14, a15, a16, a17)))) u' Bs' lv' ivN' L' hI' (fun _ _ => by rw [hw]) (fun _ _ => by omega) (fun _ => by omega)
    obtain ⟨nq, ni, q, iv, len, cn, pr, bb, bc, ra, dc, a1, a2, a3, a4, a5, a6, a7, a8, a9, a10, a11, a12, a13, a14, a15, a16, a17⟩ := u'
    exact K
  refine pk_le 15 o (fun z15 => jp_adopt hI (fun r u' hI' => ?_)) (fun z15 => jl_lose (by omega) hI (fun u' L' hI' _ => ?_))
  · have K := H0 (by omega) r u' hI'
    obtain ⟨nq, ni, q, iv, len, cn, pr, bb, bc, ra, dc, a1, a2, a3, a4, a5, a6, a7, a8, a9, a10, a11, a12, a13, a14, a15, a16, a17⟩ := u'
    exact K
  · have K := H _ u' _ lv ivN L' hI' (fun _ _ => by omega) (fun _ _ => jp_sub (jp_w_lose Bs lv ivN (x % 4 / ivN))) (fun _ => by omega)
    obtain ⟨nq, ni, q, iv, len, cn, pr, bb, bc, ra, dc, a1, a2, a3, a4, a5, a6, a7, a8, a9, a10, a11, a12, a13, a14, a15, a16, a17⟩ := u'
    exact K
end
section
/-- step t of filling the order: diagonal t / 8, place t % 8 -/
def jn_v (t : Nat) : Nat := if t / 8 % 2 = 0 then 7 - t % 8 else t % 8
def jn_c (t : Nat) : Bool := decide (jn_v t ≤ t / 8) && decide (t / 8 - jn_v t < 8)
def jn_w (t : Nat) : Nat := jn_v t * 8 + (t / 8 - jn_v t)
def jn_N : Nat → Nat
  | 0 => 0
  | t + 1 => jn_N t + (if jn_c t = true then 1 else 0)
theorem jn_N_mono (s : Nat) : ∀ d, jn_N s ≤ jn_N (s + d) := by
  intro d
  induction d with
  | zero => exact Nat.le_refl _
  | succ d ih => show _ ≤ jn_N (s + d) + _; omega
theorem jn_N_lt {s t : Nat} (h : s < t) (hc : jn_c s = true) : jn_N s < jn_N t := by
  have h1 := jn_N_mono (s + 1) (t - (s + 1))
  rw [show s + 1 + (t - (s + 1)) = t by omega] at h1
  have h2 : jn_N (s + 1) = jn_N s + 1 := by show jn_N s + (if jn_c s = true then 1 else 0) = _; rw [if_pos hc]
  omega
theorem jn_N64 : jn_N 120 = 64 := by decide +kernel
theorem jn_end : ∀ k, k < 64 → ∃ s, s < 120 ∧ jn_c s = true ∧ jn_N s = k ∧ jn_w s = jo_od k := by decide +kernel
theorem jn_step_lt {t : Nat} (h : t < 120) (hc : jn_c t = true) : jn_N t < 64 := by have := jn_N_lt h hc; rw [jn_N64] at this; exact this
/-- the order is filled up to step t -/
def jn_O (t : Nat) (a3 : Nat → Int32) : Prop := ∀ s, s < t → jn_c s = true → a3 (jn_N s) = nI (jn_w s)
section
variable {nq ni q iv len cn pr bb bc ra dc : Int32} {a1 a2 a4 a5 a6 a7 a8 a9 a10 a11 a12 a13 a14 a15 a16 : Nat → Int32} {a17 : Nat → Int64} {mc ms kc ks : Nat}
theorem jn_271 {post : St1 → Prop} {J243 J251 : Int32 → Int32 → (Nat → Int32) → (Nat → Int32) → (Nat → Int32) → (Nat → Int32) → (Nat → Int32) → (Nat → Int32) → (Nat → Int32) → (Nat → Int32) → (Nat → Int32) → (Nat → Int32) → (Nat → Int32) → (Nat → Int32) → (Nat → Int32) → (Nat → Int32) → (Nat → Int32) → (Nat → Int32) → (Nat → Int64) → Prop} {d k : Nat} (hd : d < 15) (hk : k < 8) {a3 : Nat → Int32} (h : jn_O (d * 8 + k) a3) (H : ∀ a3', jn_O (d * 8 + (k + 1)) a3' → J251 (nI (jn_N (d * 8 + (k + 1)))) (nI (k + 1)) a1 a2 a3' a4 a5 a6 a7 a8 a9 a10 a11 a12 a13 a14 a15 a16 a17) :
    wX_init_271 post mc ms J243 J251 (nI (jn_N (d * 8 + k))) (nI d) (nI k) (nI (jn_v (d * 8 + k))) kc ks nq ni q iv len cn pr bb bc ra dc a1 a2 a3 a4 a5 a6 a7 a8 a9 a10 a11 a12 a13 a14 a15 a16 a17 := by
  have e8 : (d * 8 + k) / 8 = d := by omega
  have hv : jn_v (d * 8 + k) ≤ 7 := by unfold jn_v; split <;> omega
  have eN : jn_N (d * 8 + (k + 1)) = jn_N (d * 8 + k) + (if jn_c (d * 8 + k) = true then 1 else 0) := rfl
  have ec : jn_c (d * 8 + k) = (decide (jn_v (d * 8 + k) ≤ d) && decide (d - jn_v (d * 8 + k) < 8)) := by unfold jn_c; rw [e8]
  have ew : jn_w (d * 8 + k) = jn_v (d * 8 + k) * 8 + (d - jn_v (d * 8 + k)) := by unfold jn_w; rw [e8]
  have hlt := fun hc => jn_step_lt (t := d * 8 + k) (by omega) hc
  have skip : ¬ jn_c (d * 8 + k) = true → J251 (nI (jn_N (d * 8 + k))) (nI (k + 1)) a1 a2 a3 a4 a5 a6 a7 a8 a9 a10 a11 a12 a13 a14 a15 a16 a17 := by
    intro hc
    have := H a3 (fun s hs hcs => by
      by_cases e : s = d * 8 + k
      · exact absurd (e ▸ hcs) hc
      · exact h s (by omega) hcs)
    rw [eN, if_neg hc, Nat.add_zero] at this
    exact this
  have add : jn_c (d * 8 + k) = true → J251 (nI (jn_N (d * 8 + k) + 1)) (nI (k + 1)) a1 a2 (upd a3 (jn_N (d * 8 + k)) (nI (jn_w (d * 8 + k)))) a4 a5 a6 a7 a8 a9 a10 a11 a12 a13 a14 a15 a16 a17 := by
    intro hc
    have := H (upd a3 (jn_N (d * 8 + k)) (nI (jn_w (d * 8 + k)))) (fun s hs hcs => by
      by_cases e : s = d * 8 + k
      · rw [e, pk_us]
      · have := jn_N_lt (show s < d * 8 + k by omega) hcs
        rw [pk_un (by omega)]; exact h s (by omega) hcs)
    rw [eN, if_pos hc] at this
    exact this
  rw [ew] at add
  generalize jn_v (d * 8 + k) = v at *
  rcases Nat.lt_or_ge d v with z | z
  · have hs : nI d - nI v < 0 := pk_sneg (by omega) z
    refine nm_e (br_t hs (nm_r (nI_1 k) (skip ?_)))
    rw [ec]; simp; omega
  · refine nm_r (pk_sub z) (br_f (nI_pos (by omega)) (pk_le 8 (d - v) (fun y => nm_r (nI_1 k) (skip ?_)) (fun y => ?_)))
    · rw [ec]; simp; omega
    · have hc : jn_c (d * 8 + k) = true := by rw [ec]; simp; omega
      have e : nI v * 8 + nI (d - v) = nI (v * 8 + (d - v)) := jn_ma v 8 _
      have := hlt hc
      rw [e, nI_clamp (by omega)]
      exact ⟨vp_in_nI this (by decide), nm_e (nm_r (nI_1 _) (nm_r (nI_1 k) (add hc)))⟩
theorem jn_251 {post : St1 → Prop} {J243 : Int32 → Int32 → (Nat → Int32) → (Nat → Int32) → (Nat → Int32) → (Nat → Int32) → (Nat → Int32) → (Nat → Int32) → (Nat → Int32) → (Nat → Int32) → (Nat → Int32) → (Nat → Int32) → (Nat → Int32) → (Nat → Int32) → (Nat → Int32) → (Nat → Int32) → (Nat → Int32) → (Nat → Int32) → (Nat → Int64) → Prop} {d : Nat} (hd : d < 15) {a3 : Nat → Int32} (h : jn_O (d * 8) a3) (H : ∀ a3', jn_O ((d + 1) * 8) a3' → J243 (nI (jn_N ((d + 1) * 8))) (nI (d + 1)) a1 a2 a3' a4 a5 a6 a7 a8 a9 a10 a11 a12 a13 a14 a15 a16 a17) :
    ∃ n, wX_init_251 post mc ms J243 (nI d) kc ks nq ni q iv len cn pr bb bc ra dc n (nI (jn_N (d * 8))) 0 a1 a2 a3 a4 a5 a6 a7 a8 a9 a10 a11 a12 a13 a14 a15 a16 a17 := by
  refine pk_loop (fun n k s => wX_init_251 post mc ms J243 (nI d) kc ks nq ni q iv len cn pr bb bc ra dc n (nI (jn_N (d * 8 + k))) (nI k) a1 a2 s a4 a5 a6 a7 a8 a9 a10 a11 a12 a13 a14 a15 a16 a17) (fun k s => jn_O (d * 8 + k) s) 8 0 a3 (by decide) h (fun n s h => ?_) (fun n k s hk h hw => ?_)
  · refine br_t (nI_le (a := 8) (Nat.le_refl _) (by decide)) (nm_r (nI_1 d) ?_)
    have := H s (by rw [Nat.succ_mul]; exact h)
    rw [Nat.succ_mul] at this
    exact this
  · refine br_f (nI_ge (b := 8) hk (by decide)) ?_
    have K : wX_init_271 post mc ms J243 (wX_init_251 post mc ms J243 (nI d) kc ks nq ni q iv len cn pr bb bc ra dc n) (nI (jn_N (d * 8 + k))) (nI d) (nI k) (nI (jn_v (d * 8 + k))) kc ks nq ni q iv len cn pr bb bc ra dc a1 a2 s a4 a5 a6 a7 a8 a9 a10 a11 a12 a13 a14 a15 a16 a17 := jn_271 hd hk h hw
    have e1 : nI d &&& 1 = nI (d % 2) := pk_andN (by omega) 1 (by decide)
    rw [e1]
    refine pk_eq (d % 2) 0 (fun z => ?_) (fun z => ?_)
    · have ev : jn_v (d * 8 + k) = 7 - k := by unfold jn_v; rw [show (d * 8 + k) / 8 = d by omega, if_pos z, show (d * 8 + k) % 8 = k by omega]
      have e7 : (7 : Int32) - nI k = nI (7 - k) := pk_sub (a := 7) (by omega)
      rw [ev] at K
      rw [e7]; exact K
    · have ev : jn_v (d * 8 + k) = k := by unfold jn_v; rw [show (d * 8 + k) / 8 = d by omega, if_neg z]; omega
      rw [ev] at K
      exact K
theorem jn_243 {post : St1 → Prop} {a3 : Nat → Int32} (H : ∀ a3', (∀ k, k < 64 → a3' k = nI (jo_od k)) → post (1, 4, 1, 4, 2, cn, pr, bb, bc, ra, dc, a1, a2, a3', a4, upd (upd a5 0 255) 1 208, a6, a7, a8, a9, a10, a11, a12, a13, a14, a15, a16, a17)) : ∃ n, wX_init_243 post mc ms kc ks nq ni q iv len cn pr bb bc ra dc n 0 0 a1 a2 a3 a4 a5 a6 a7 a8 a9 a10 a11 a12 a13 a14 a15 a16 a17 := by
  refine pk_loop (fun n d s => wX_init_243 post mc ms kc ks nq ni q iv len cn pr bb bc ra dc n (nI (jn_N (d * 8))) (nI d) a1 a2 s a4 a5 a6 a7 a8 a9 a10 a11 a12 a13 a14 a15 a16 a17) (fun d s => jn_O (d * 8) s) 15 0 a3 (by decide) (fun s hs => absurd hs (by omega)) (fun n s h => ?_) (fun n d s hd h hw => ?_)
  · refine br_t (nI_le (a := 15) (Nat.le_refl _) (by decide)) (nm_e (nm_e (H s (fun k hk => ?_))))
    obtain ⟨t, t1, t2, t3, t4⟩ := jn_end k hk
    have := h t t1 t2
    rw [t3, t4] at this
    exact this
  · exact br_f (nI_ge (b := 15) hd (by decide)) (jn_251 hd h hw)
end
theorem jn_a2 : ∀ j, j < 9 → ((upd (upd (upd (upd (upd (upd (upd (upd (fun _ => (0 : Int32)) 0 64) 1 63) 2 59) 3 53) 4 45) 5 36) 6 24) 7 12) j).toInt.natAbs ≤ 64 := by decide +kernel
theorem jn_str0 {a5 a9 a10 a11 a12 : Nat → Int32} (h0 : a5 0 = 255) (h1 : a5 1 = 208) : jd_Str 4 2 (fun _ => []) (fun _ => 0) a5 a9 a10 a11 a12 := by
  refine ⟨⟨by decide, by decide⟩, by decide, rfl, fun j hj => ?_, fun k _ => (by decide : jz_sz 0 ≤ 12), fun b _ => ?_, fun _ => [], fun j _ => ⟨jb_by_nil, fun z => absurd rfl z⟩⟩
  · have hj' : j < 1 := hj
    have e : j = 0 := by omega
    subst e
    exact ⟨trivial, h0, h1⟩
  · have e : jy_pr (fun _ => (0 : Int32)) 4 b = 0 := by unfold jy_pr; split <;> rfl
    show jz_sz ((0 : Int32) - jy_pr (fun _ => (0 : Int32)) 4 b) ≤ 13
    rw [e]; decide
theorem jn_init {post : St1 → Prop} (H : ∀ u, jx_I (fun _ => []) (fun _ => 0) 4 2 u → post u) : wpX_init post 17 4939 (0, 0, 0, 0, 0, 0, 0, 0, 0, 0, 0) := by
  refine ⟨by decide, by decide, by decide, by decide, by decide, by decide, by decide, by decide, by decide, by decide, by decide, by decide, by decide, by decide, by decide, by decide, by decide, by decide, by decide, by decide, by decide, by decide, by decide, by decide, by decide, by decide, by decide, by decide, by decide, by decide, by decide, by decide, by decide, by decide, ?_⟩
  refine pk_loop (fun n i s => wX_init_151 post 17 4939 17 4939 0 0 0 0 0 0 0 0 0 0 0 n (nI i) s (fun _ => 0) (fun _ => 0) (fun _ => 0) (fun _ => 0) (fun _ => 0) (fun _ => 0) (fun _ => 0) (fun _ => 0) (fun _ => 0) (fun _ => 0) (fun _ => 0) (fun _ => 0) (fun _ => 0) (fun _ => 0) (fun _ => 0) (fun _ => 0)) (fun i s => ∀ k, k < i → s k = 128) 256 0 (fun _ => 0) (by decide) (fun k hk => absurd hk (by omega)) (fun n s h => ?_) (fun n i s hi h hw => ?_)
  · refine br_t (nI_le (a := 256) (Nat.le_refl _) (by decide)) (nm_e (nm_e (nm_e (nm_e (nm_e (nm_e (nm_e (nm_e (jn_243 (fun a3' h3 => H _ ?_))))))))))
    exact ⟨rfl, rfl, jn_str0 rfl rfl, fun z => absurd rfl z, h3, jn_a2, fun j hj => by rw [h j hj]; exact ⟨by decide, by decide⟩, ⟨1, by decide, by decide, rfl⟩, ⟨4, by decide, by decide, rfl⟩⟩
  · refine br_f (nI_ge (b := 256) hi (by decide)) ⟨pk_in i 256 hi, ?_⟩
    rw [nI_clamp (by omega)]
    exact nm_e (nm_r (nI_1 i) (hw _ (jq_fill (F := fun _ => 128) h rfl)))
end
section
theorem jz_w0 (lv : Nat → Int32) (ivN : Nat) : jx_w (jd_lv (fun _ => []) lv ivN) = 0 := by
  refine jh_sum_0 4 (fun b _ => jh_sum_0 64 (fun k _ => ?_))
  have h0 : jd_lv (fun _ => []) lv ivN (b * 64 + k) = 0 := if_pos rfl
  rw [h0, if_pos rfl]
theorem jz_n_ge (f : Nat → Int32) {ivN b : Nat} (hb : b < 4) : jx_c f b ≤ jl_n f ivN (b / ivN) := by
  have := jh_sum_ge (f := fun k => if k / ivN = b / ivN then jx_c f k else 0) (a := b) 4 hb
  have e : (if b / ivN = b / ivN then jx_c f b else 0) = jx_c f b := if_pos rfl
  rw [e] at this
  exact this
theorem jz_n_le (f : Nat → Int32) (ivN sg : Nat) : jl_n f ivN sg ≤ 256 := by
  have e : jl_n f ivN sg ≤ jh_sum (fun _ => 64) 4 := jh_sum_le 4 (fun k _ => by
    have := jx_c_le f k
    show (if k / ivN = sg then jx_c f k else 0) ≤ 64
    split <;> omega)
  exact Nat.le_trans e (by decide)
theorem jz_LD {post : Int32 → St1 → Prop} {u : St1} {r : Int32} (hd : jx_dc u ≠ 0) (hr : jx_dif u = r) (H : post r u) : wpL_difference post u := jx_Ldifference hd (by rw [hr]; exact H)
theorem jz_end {post : Int32 → Prop} {L : Nat} {xs : Nat → Int32} {x3 : Int32} {kc ks n : Nat} {x2 x4 : Int32} {u : St1} {Bs : Nat → List Nat} {lv : Nat → Int32} {ivN Ls : Nat} (hx : Int32.ofNat L ≤ x4 + 1) (hI : jx_I Bs lv ivN Ls u) (h2 : x2 = nI (jx_w (jd_lv Bs lv ivN))) (H : post 1) :
    match u with | (nq, ni, q, iv, len, cn, pr, bb, bc, ra, dc, a1, a2, a3, a4, a5, a6, a7, a8, a9, a10, a11, a12, a13, a14, a15, a16, a17) => wL_law_26 post L xs x3 kc ks (n + 1) x2 x4 nq ni q iv len cn pr bb bc ra dc a1 a2 a3 a4 a5 a6 a7 a8 a9 a10 a11 a12 a13 a14 a15 a16 a17 := by
  obtain ⟨nq, ni, q, iv, len, cn, pr, bb, bc, ra, dc, a1, a2, a3, a4, a5, a6, a7, a8, a9, a10, a11, a12, a13, a14, a15, a16, a17⟩ := u
  obtain ⟨b, hb, eb⟩ := pk_andE x3 (m := 3) 2 (by decide)
  have hb4 : b < 4 := hb
  refine br_t hx (jx_weights hI (fun u1 hI1 _ _ => ?_))
  obtain ⟨nq, ni, q, iv, len, cn, pr, bb, bc, ra, dc, a1, a2, a3, a4, a5, a6, a7, a8, a9, a10, a11, a12, a13, a14, a15, a16, a17⟩ := u1
  refine br_t h2.symm (jx_difference hI1 (fun u2 hI2 hd2 _ => ?_))
  generalize hr : jx_dif u2 = r
  obtain ⟨nq, ni, q, iv, len, cn, pr, bb, bc, ra, dc, a1, a2, a3, a4, a5, a6, a7, a8, a9, a10, a11, a12, a13, a14, a15, a16, a17⟩ := u2
  refine jz_LD hd2 hr (br_t rfl (nm_r eb (jx_weight hb4 hI2 (fun u3 hI3 _ _ => ?_))))
  clear hr
  obtain ⟨nq, ni, q, iv, len, cn, pr, bb, bc, ra, dc, a1, a2, a3, a4, a5, a6, a7, a8, a9, a10, a11, a12, a13, a14, a15, a16, a17⟩ := u3
  refine jl_lose hb4 hI3 (fun u4 L4 hI4 _ => ?_)
  obtain ⟨nq, ni, q, iv, len, cn, pr, bb, bc, ra, dc, a1, a2, a3, a4, a5, a6, a7, a8, a9, a10, a11, a12, a13, a14, a15, a16, a17⟩ := u4
  have c1 := jz_n_ge (jd_lv Bs lv ivN) (ivN := ivN) hb4
  have c2 := jz_n_le (jd_lv Bs lv ivN) ivN (b / ivN)
  refine br_f (nI_nlt c1 (by omega)) (jx_weight hb4 hI4 (fun u5 hI5 _ _ => ?_))
  obtain ⟨nq, ni, q, iv, len, cn, pr, bb, bc, ra, dc, a1, a2, a3, a4, a5, a6, a7, a8, a9, a10, a11, a12, a13, a14, a15, a16, a17⟩ := u5
  have c3 : jx_c (jd_lv (jl_B Bs (b / ivN)) lv ivN) b = 0 := by rw [jp_c_lose, if_pos rfl]
  refine br_t (by rw [c3]; rfl) (jx_weights hI5 (fun u6 hI6 hd6 _ => ?_))
  obtain ⟨nq, ni, q, iv, len, cn, pr, bb, bc, ra, dc, a1, a2, a3, a4, a5, a6, a7, a8, a9, a10, a11, a12, a13, a14, a15, a16, a17⟩ := u6
  refine br_t (by rw [h2, jp_sub (jp_w_lose Bs lv ivN (b / ivN))]) (jx_isFlat hb4 hI6 hd6 (fun m hm => by rw [jl_lv, show (b * 64 + m) / 64 = b by omega, if_pos rfl]) (br_f (by decide) (jo_store hI6 (fun u7 Bs7 lv7 iv7 L7 hI7 _ hk7 _ => ?_))))
  rw [← hk7]
  obtain ⟨nq, ni, q, iv, len, cn, pr, bb, bc, ra, dc, a1, a2, a3, a4, a5, a6, a7, a8, a9, a10, a11, a12, a13, a14, a15, a16, a17⟩ := u7
  refine jo_store hI7 (fun u8 Bs8 lv8 iv8 L8 hI8 _ _ hw8 => ?_)
  obtain ⟨nq, ni, q, iv, len, cn, pr, bb, bc, ra, dc, a1, a2, a3, a4, a5, a6, a7, a8, a9, a10, a11, a12, a13, a14, a15, a16, a17⟩ := u8
  refine br_t rfl (jx_weights hI8 (fun u9 hI9 _ _ => ?_))
  obtain ⟨nq, ni, q, iv, len, cn, pr, bb, bc, ra, dc, a1, a2, a3, a4, a5, a6, a7, a8, a9, a10, a11, a12, a13, a14, a15, a16, a17⟩ := u9
  refine br_t (by rw [hw8]) (jx_difference hI9 (fun u10 hI10 hd10 _ => ?_))
  generalize hr : jx_dif u10 = r
  obtain ⟨nq, ni, q, iv, len, cn, pr, bb, bc, ra, dc, a1, a2, a3, a4, a5, a6, a7, a8, a9, a10, a11, a12, a13, a14, a15, a16, a17⟩ := u10
  exact jz_LD hd10 hr (br_t rfl H)
theorem jz_26 {post : Int32 → Prop} {L : Nat} {xs : Nat → Int32} {x3 : Int32} {kc ks : Nat} (hL : L ≤ 260) (H : post 1) : ∀ (r k : Nat) (x2 : Int32) (u : St1) (Bs : Nat → List Nat) (lv : Nat → Int32) (ivN Ls : Nat), L ≤ k + 1 + 2 * r → k ≤ 300 → jx_I Bs lv ivN Ls u → x2 = nI (jx_w (jd_lv Bs lv ivN)) →
    match u with | (nq, ni, q, iv, len, cn, pr, bb, bc, ra, dc, a1, a2, a3, a4, a5, a6, a7, a8, a9, a10, a11, a12, a13, a14, a15, a16, a17) => wL_law_26 post L xs x3 kc ks (r + 1) x2 (nI k) nq ni q iv len cn pr bb bc ra dc a1 a2 a3 a4 a5 a6 a7 a8 a9 a10 a11 a12 a13 a14 a15 a16 a17 := by
  intro r
  induction r with
  | zero =>
    intro k x2 u Bs lv ivN Ls h1 h2 hI hx
    exact jz_end (jn_le (show L ≤ k + 1 by omega) rfl (nI_1 k) (by omega)) hI hx H
  | succ r ih =>
    intro k x2 u Bs lv ivN Ls h1 h2 hI hx
    rcases Nat.lt_or_ge (k + 1) L with z | z
    · obtain ⟨nq, ni, q, iv, len, cn, pr, bb, bc, ra, dc, a1, a2, a3, a4, a5, a6, a7, a8, a9, a10, a11, a12, a13, a14, a15, a16, a17⟩ := u
      obtain ⟨o, ho, eo⟩ := pk_andE (xs k) (m := 15) 4 (by decide)
      have ho2 : o < 16 := ho
      have e1 : nI k + 1 = nI (k + 1) := nI_1 k
      have ek2 : nI k + 2 = nI (k + 2) := nI_add k 2
      have hx4 : ¬ Int32.ofNat L ≤ nI k + 1 := by rw [e1]; exact nI_ge z (by omega)
      refine br_f hx4 ⟨vp_in_nI (by omega) (by omega), ?_⟩
      rw [e1, nI_clamp (show k < 2 ^ 31 by omega), nI_clamp (show k + 1 < 2 ^ 31 by omega)]
      refine nm_r eo ⟨vp_in_nI (by omega) (by omega), vp_in_nI z (by omega), jp_turn eo ho2 hI (fun a u' Bs' lv' iv' L' hI' t1 t2 t3 => ?_)⟩
      have K := fun y hy => ih (k + 2) y u' Bs' lv' iv' L' (by omega) (by omega) hI' hy
      obtain ⟨nq, ni, q, iv, len, cn, pr, bb, bc, ra, dc, a1, a2, a3, a4, a5, a6, a7, a8, a9, a10, a11, a12, a13, a14, a15, a16, a17⟩ := u'
      have P79 : o ≤ 8 ∨ 13 ≤ o → wL_law_79 post L xs (wL_law_26 post L xs x3 kc ks (r + 1)) x2 x3 (nI k) (nI o) a kc ks nq ni q iv len cn pr bb bc ra dc a1 a2 a3 a4 a5 a6 a7 a8 a9 a10 a11 a12 a13 a14 a15 a16 a17 := by
        intro hh
        refine pk_eq o 13 (fun y => ?_) (fun y => pk_eq o 14 (fun w => ?_) (fun w => ?_))
        · refine nm_e (nm_r ek2 (K _ ?_))
          rw [hx]; exact t2 (by omega) (by omega)
        · refine nm_e (nm_r ek2 (K _ ?_))
          rw [hx]; exact t2 (by omega) (by omega)
        · refine nm_r ek2 (K _ ?_)
          rw [hx, t3 (by omega)]
      exact pk_le o 8 (fun y => P79 (Or.inl y)) (fun y => pk_le 13 o (fun w => P79 (Or.inr w)) (fun w => nm_r ek2 (K _ (t1 (by omega) (by omega)))))
    · exact jz_end (jn_le (show L ≤ k + 1 by omega) rfl (nI_1 k) (by omega)) hI hx H
end
section
theorem i_vc (xs : Nat → Int32) (L : Nat) (hL : L ≤ 260) : wpL_law (fun r => r = 1) L xs := by
  refine ⟨17, 4939, by decide, by decide, jn_init (fun u hI => ?_)⟩
  have K : ∀ x3, match u with | (nq, ni, q, iv, len, cn, pr, bb, bc, ra, dc, a1, a2, a3, a4, a5, a6, a7, a8, a9, a10, a11, a12, a13, a14, a15, a16, a17) => wL_law_26 (fun r => r = 1) L xs x3 (1 + 17) (28 + 4939) 151 0 (nI 1) nq ni q iv len cn pr bb bc ra dc a1 a2 a3 a4 a5 a6 a7 a8 a9 a10 a11 a12 a13 a14 a15 a16 a17 := fun x3 => jz_26 (post := fun r => r = 1) hL rfl 150 1 0 u _ _ 4 2 (by omega) (by omega) hI (by rw [jz_w0]; rfl)
  obtain ⟨nq, ni, q, iv, len, cn, pr, bb, bc, ra, dc, a1, a2, a3, a4, a5, a6, a7, a8, a9, a10, a11, a12, a13, a14, a15, a16, a17⟩ := u
  refine pk_le L 0 (fun _ => ⟨151, K 0⟩) (fun z => ⟨vp_in_nI (n := 0) z (by omega), nm_e ⟨151, K _⟩⟩)
end
