section
theorem pk_us {f : Nat → Int32} {k : Nat} {x : Int32} : upd f k x k = x := if_pos rfl
theorem pk_un {f : Nat → Int32} {k j : Nat} {x : Int32} (h : j ≠ k) : upd f k x j = f j := if_neg h
theorem pk_sub {a b : Nat} (h : b ≤ a) : nI a - nI b = nI (a - b) := by
  obtain ⟨c, rfl⟩ : ∃ c, a = c + b := ⟨a - b, by omega⟩
  rw [← nI_add, Int32.add_sub_cancel, Nat.add_sub_cancel]
theorem pk_m1 (n : Nat) : nI (n + 1) + (-1) = nI n := by
  rw [← nI_1, Int32.add_assoc, show (1 : Int32) + (-1) = 0 from rfl, Int32.add_zero]
theorem pk_mul (a b : Nat) : nI a * nI b = nI (a * b) := (Int32.ofNat_mul a b).symm
theorem pk_div {a d : Nat} (ha : a < 2 ^ 31) (h0 : 0 < d) (hd : d < 2 ^ 31) : nI a / nI d = nI (a / d) := by
  apply Int32.toInt_inj.mp
  rw [lg_idiv_nonneg (by rw [nI_toInt ha]; omega) (by rw [nI_toInt hd]; omega), nI_toInt ha, nI_toInt hd, nI_toInt (Nat.lt_of_le_of_lt (Nat.div_le_self a d) ha)]
  first | rfl | exact (Int.natCast_ediv _ _).symm
theorem pk_rem {a d : Nat} (ha : a < 2 ^ 31) (h0 : 0 < d) (hd : d < 2 ^ 31) : nI a - nI a / nI d * nI d = nI (a % d) := by
  rw [pk_div ha h0 hd, pk_mul, pk_sub (Nat.div_mul_le_self a d)]
  exact congrArg nI (by have := Nat.div_add_mod' a d; omega)
theorem pk_le {x y : Int32} {A B : Prop} (a b : Nat) (f : a ≤ b → A) (g : b < a → B) (hx : x = nI a := by rfl) (hy : y = nI b := by rfl) (ha : a < 2 ^ 31 := by omega) (hb : b < 2 ^ 31 := by omega) : (x ≤ y → A) ∧ (¬ x ≤ y → B) := by
  subst hx hy
  rw [nI_leI ha hb]
  exact ⟨f, fun z => g (by omega)⟩
theorem pk_lt {x y : Int32} {A B : Prop} (a b : Nat) (f : a < b → A) (g : b ≤ a → B) (hx : x = nI a := by rfl) (hy : y = nI b := by rfl) (ha : a < 2 ^ 31 := by omega) (hb : b < 2 ^ 31 := by omega) : (x < y → A) ∧ (¬ x < y → B) := by
  subst hx hy
  rw [nI_ltI ha hb]
  exact ⟨f, fun z => g (by omega)⟩
theorem pk_eq {x y : Int32} {A B : Prop} (a b : Nat) (f : a = b → A) (g : a ≠ b → B) (hx : x = nI a := by rfl) (hy : y = nI b := by rfl) (ha : a < 2 ^ 31 := by omega) (hb : b < 2 ^ 31 := by omega) : (x = y → A) ∧ (¬ x = y → B) := by
  subst hx hy
  rw [nI_eq ha hb]
  exact ⟨f, g⟩
theorem pk_in {x : Int32} (n N : Nat) (h : n < N) (hx : x = nI n := by rfl) (hN : N < 2 ^ 31 := by omega) : vp_in x N := by
  subst hx
  exact vp_in_nI h hN
theorem pk_cl {x : Int32} (n : Nat) (hx : x = nI n := by rfl) (h : n < 2 ^ 31 := by omega) : x.toNatClampNeg = n := by
  subst hx
  exact nI_clamp h
theorem pk_tn {n : Nat} (h : n < 2 ^ 32) : (nI n).toBitVec.toNat = n := Nat.mod_eq_of_lt h
theorem pk_and (x : Int32) {m : Int32} (k : Nat) (hm : m.toBitVec.toNat = 2 ^ k - 1) : x &&& m = nI (x.toBitVec.toNat % 2 ^ k) := by
  apply Int32.toBitVec_inj.mp
  apply BitVec.eq_of_toNat_eq
  rw [Int32.toBitVec_and, BitVec.toNat_and, hm, Nat.and_two_pow_sub_one_eq_mod]
  show _ = (BitVec.ofNat 32 _).toNat
  rw [BitVec.toNat_ofNat]
  exact (Nat.mod_eq_of_lt (Nat.lt_of_le_of_lt (Nat.mod_le _ _) x.toBitVec.isLt)).symm
theorem pk_andN {n : Nat} (h : n < 2 ^ 32) {m : Int32} (k : Nat) (hm : m.toBitVec.toNat = 2 ^ k - 1) : nI n &&& m = nI (n % 2 ^ k) := by
  rw [pk_and _ k hm, pk_tn h]
theorem pk_shr (a s : Int32) (k : Nat) (hs : (s.toBitVec.smod 32).toNat = k) : (a >>> s).toInt = a.toInt >>> k := by
  show (a.toBitVec.sshiftRight (s.toBitVec.smod 32).toNat).toInt = _
  rw [hs, BitVec.toInt_sshiftRight]
  rfl
theorem pk_shrN {n : Nat} (h : n < 2 ^ 31) (s : Int32) (k : Nat) (hs : (s.toBitVec.smod 32).toNat = k) : nI n >>> s = nI (n / 2 ^ k) := by
  apply Int32.toInt_inj.mp
  have h2 : n / 2 ^ k ≤ n := Nat.div_le_self _ _
  rw [pk_shr _ _ k hs, nI_toInt h, nI_toInt (by omega), Int.shiftRight_eq_div_pow]
  rfl
theorem ms_m4 (a : Nat) : nI a * 4 = nI (a * 4) := pk_mul a 4
theorem ms_m5 (a : Nat) : nI a * 5 = nI (a * 5) := pk_mul a 5
theorem ms_m10 (a : Nat) : nI a * 10 = nI (a * 10) := pk_mul a 10
theorem ms_m16 (a : Nat) : nI a * 16 = nI (a * 16) := pk_mul a 16
theorem ms_m25 (a : Nat) : nI a * 25 = nI (a * 25) := pk_mul a 25
theorem ms_m100 (a : Nat) : nI a * 100 = nI (a * 100) := pk_mul a 100
theorem ms_l2 (a : Nat) : 2 + nI a = nI (2 + a) := nI_add 2 a
theorem ms_l3 (a : Nat) : 3 + nI a = nI (3 + a) := nI_add 3 a
theorem ms_l4 (a : Nat) : 4 + nI a = nI (4 + a) := nI_add 4 a
theorem ms_l15 (a : Nat) : 15 + nI a = nI (15 + a) := nI_add 15 a
theorem ms_l75 (a : Nat) : 75 + nI a = nI (75 + a) := nI_add 75 a
theorem ms_r2 (a : Nat) : nI a + 2 = nI (a + 2) := nI_add a 2
theorem ms_r3 (a : Nat) : nI a + 3 = nI (a + 3) := nI_add a 3
theorem ms_r25 (a : Nat) : nI a + 25 = nI (a + 25) := nI_add a 25
theorem ms_r8 (a : Nat) : nI a + 8 = nI (a + 8) := nI_add a 8
theorem ms_ge1 {a : Nat} (h : a < 2 ^ 31) : (1 : Int32) ≤ nI a ↔ 1 ≤ a := nI_leI (a := 1) (by decide) h
theorem ms_ge3 {a : Nat} (h : a < 2 ^ 31) : (3 : Int32) ≤ nI a ↔ 3 ≤ a := nI_leI (a := 3) (by decide) h
theorem ms_ge4 {a : Nat} (h : a < 2 ^ 31) : (4 : Int32) ≤ nI a ↔ 4 ≤ a := nI_leI (a := 4) (by decide) h
theorem ms_ge5 {a : Nat} (h : a < 2 ^ 31) : (5 : Int32) ≤ nI a ↔ 5 ≤ a := nI_leI (a := 5) (by decide) h
theorem ms_ge6 {a : Nat} (h : a < 2 ^ 31) : (6 : Int32) ≤ nI a ↔ 6 ≤ a := nI_leI (a := 6) (by decide) h
theorem ms_ge7 {a : Nat} (h : a < 2 ^ 31) : (7 : Int32) ≤ nI a ↔ 7 ≤ a := nI_leI (a := 7) (by decide) h
theorem ms_ge10 {a : Nat} (h : a < 2 ^ 31) : (10 : Int32) ≤ nI a ↔ 10 ≤ a := nI_leI (a := 10) (by decide) h
theorem ms_ge25 {a : Nat} (h : a < 2 ^ 31) : (25 : Int32) ≤ nI a ↔ 25 ≤ a := nI_leI (a := 25) (by decide) h
theorem ms_ge100 {a : Nat} (h : a < 2 ^ 31) : (100 : Int32) ≤ nI a ↔ 100 ≤ a := nI_leI (a := 100) (by decide) h
theorem ms_gt3 {a : Nat} (h : a < 2 ^ 31) : (3 : Int32) < nI a ↔ 3 < a := nI_ltI (a := 3) (by decide) h
theorem ms_lt1 {a : Nat} (h : a < 2 ^ 31) : nI a < (1 : Int32) ↔ a < 1 := nI_ltI (b := 1) h (by decide)
theorem ms_lt3 {a : Nat} (h : a < 2 ^ 31) : nI a < (3 : Int32) ↔ a < 3 := nI_ltI (b := 3) h (by decide)
theorem ms_lt4 {a : Nat} (h : a < 2 ^ 31) : nI a < (4 : Int32) ↔ a < 4 := nI_ltI (b := 4) h (by decide)
theorem ms_lt16 {a : Nat} (h : a < 2 ^ 31) : nI a < (16 : Int32) ↔ a < 16 := nI_ltI (b := 16) h (by decide)
theorem ms_lt99 {a : Nat} (h : a < 2 ^ 31) : nI a < (99 : Int32) ↔ a < 99 := nI_ltI (b := 99) h (by decide)
theorem ms_le3 {a : Nat} (h : a < 2 ^ 31) : nI a ≤ (3 : Int32) ↔ a ≤ 3 := nI_leI (b := 3) h (by decide)
theorem ms_eq1 {a : Nat} (h : a < 2 ^ 31) : nI a = (1 : Int32) ↔ a = 1 := nI_eq (b := 1) h (by decide)
theorem ms_eq2 {a : Nat} (h : a < 2 ^ 31) : nI a = (2 : Int32) ↔ a = 2 := nI_eq (b := 2) h (by decide)
theorem ms_eq99 {a : Nat} (h : a < 2 ^ 31) : nI a = (99 : Int32) ↔ a = 99 := nI_eq (b := 99) h (by decide)
theorem ms_le0 {a : Nat} (h : a < 2 ^ 31) : nI a ≤ 0 ↔ a = 0 := by
  rw [← nI_0, nI_leI h (by omega)]; omega
theorem ms_eq0 {a : Nat} (h : a < 2 ^ 31) : nI a = 0 ↔ a = 0 := by
  rw [← nI_0, nI_eq h (by omega)]
theorem ms_lt0 {a : Nat} (h : a < 2 ^ 31) : nI a < 0 ↔ False := by
  simp only [nI_pos h]
theorem ms_0le {a : Nat} (h : a < 2 ^ 31) : 0 ≤ nI a ↔ True := by
  simp only [nI_pos' h]
theorem ms_0lt {a : Nat} (h : a < 2 ^ 31) : 0 < nI a ↔ 0 < a := by
  rw [← nI_0, nI_ltI (by omega) h]
theorem ms_n1lt : (-1 : Int32) < 0 := by decide
theorem ms_n1le : ¬ (0 : Int32) ≤ -1 := by decide
theorem ms_ne1 {a : Nat} (h : a < 2 ^ 31) : ¬ nI a = -1 := by
  intro e
  have := nI_pos (n := a) h
  rw [e] at this
  exact this ms_n1lt
theorem ms_s1 {a : Nat} (h : 0 < a) : nI a - 1 = nI (a - 1) := by
  obtain ⟨m, rfl⟩ : ∃ m, a = m + 1 := ⟨a - 1, by omega⟩
  exact nI_pred m
theorem ms_vb0 : vp_nar .boolean 0 = 0 := by decide
theorem ms_vb1 : vp_nar .boolean 1 = 1 := by decide
def ms_enc : Nat → Int32
  | 0 => -1
  | k + 1 => nI k
theorem ms_e0 : ms_enc 0 = -1 := rfl
theorem ms_eS (k : Nat) : ms_enc (k + 1) = nI k := rfl
theorem ms_e_pos {k : Nat} (h : k ≠ 0) : ms_enc k = nI (k - 1) := by
  obtain ⟨m, rfl⟩ : ∃ m, k = m + 1 := ⟨k - 1, by omega⟩
  rfl
theorem ms_e_lt {k : Nat} (hk : k < 2 ^ 31) : ms_enc k < 0 ↔ k = 0 := by
  cases k with
  | zero => exact ⟨fun _ => rfl, fun _ => ms_n1lt⟩
  | succ k => exact ⟨fun h => absurd h (nI_pos (by omega)), fun h => absurd h (by omega)⟩
theorem ms_e_ge {k : Nat} (hk : k < 2 ^ 31) : 0 ≤ ms_enc k ↔ k ≠ 0 := by
  cases k with
  | zero => exact ⟨fun h => absurd h ms_n1le, fun h => absurd rfl h⟩
  | succ k => exact ⟨fun _ => by omega, fun _ => nI_pos' (by omega)⟩
theorem ms_e_eq {k j : Nat} (hk : k < 2 ^ 31) (hj : j < 2 ^ 31) : ms_enc k = nI j ↔ k = j + 1 := by
  cases k with
  | zero => exact ⟨fun h => absurd h.symm (ms_ne1 hj), fun h => absurd h (by omega)⟩
  | succ k =>
    show nI k = nI j ↔ _
    rw [nI_eq (by omega) hj]; omega
def ms_b : Bool → Int32
  | true => 1
  | false => 0
theorem ms_b0 (b : Bool) : ms_b b = 0 ↔ b = false := by cases b <;> decide
theorem ms_bt : ms_b true = 1 := rfl
theorem ms_bf' : ms_b false = 0 := rfl
theorem ms_and15 {a : Nat} (h : a < 2 ^ 31) : nI a &&& 15 = nI (a % 16) := pk_andN (by omega) 4 (by decide)
theorem ms_and3 {a : Nat} (h : a < 2 ^ 31) : nI a &&& 3 = nI (a % 4) := pk_andN (by omega) 2 (by decide)
theorem ms_shr2 {a : Nat} (h : a < 2 ^ 31) : nI a >>> ((2 : Int32) &&& 31) = nI (a / 4) := pk_shrN h _ 2 (by decide)
theorem ms_div4 {a : Nat} (h : a < 2 ^ 31) : nI a / 4 = nI (a / 4) := pk_div (d := 4) h (by decide) (by decide)
theorem ms_rem4 {a : Nat} (h : a < 2 ^ 31) : nI a - nI a / 4 * 4 = nI (a % 4) := pk_rem (d := 4) h (by decide) (by decide)
/-! fills and block copies -/
def ms_fill (a : Nat → Int32) (o k : Nat) (v : Int32) : Nat → Int32 := fun i => if o ≤ i ∧ i < o + k then v else a i
def ms_blk (a : Nat → Int32) (d s k : Nat) : Nat → Int32 := fun i => if d ≤ i ∧ i < d + k then a (s + (i - d)) else a i
theorem ms_fill0 (a : Nat → Int32) (o : Nat) (v : Int32) : ms_fill a o 0 v = a := by
  funext i
  show (if o ≤ i ∧ i < o + 0 then v else a i) = a i
  rw [if_neg (by omega)]
theorem ms_fillS (a : Nat → Int32) (o k : Nat) (v : Int32) : upd (ms_fill a o k v) (o + k) v = ms_fill a o (k + 1) v := by
  funext i
  show (if i = o + k then v else if o ≤ i ∧ i < o + k then v else a i) = if o ≤ i ∧ i < o + (k + 1) then v else a i
  by_cases h : i = o + k
  · rw [if_pos h, if_pos (by omega)]
  · rw [if_neg h]
    by_cases h2 : o ≤ i ∧ i < o + k
    · rw [if_pos h2, if_pos (by omega)]
    · rw [if_neg h2, if_neg (by omega)]
theorem ms_fill_in {a : Nat → Int32} {o k i : Nat} {v : Int32} (h : i < k) : ms_fill a o k v (o + i) = v := if_pos (by omega)
theorem ms_fill_out {a : Nat → Int32} {o k i : Nat} {v : Int32} (h : i < o ∨ o + k ≤ i) : ms_fill a o k v i = a i := if_neg (by omega)
theorem ms_blk0 (a : Nat → Int32) (d s : Nat) : ms_blk a d s 0 = a := by
  funext i
  show (if d ≤ i ∧ i < d + 0 then a (s + (i - d)) else a i) = a i
  rw [if_neg (by omega)]
theorem ms_blk_in {a : Nat → Int32} {d s k i : Nat} (h : i < k) : ms_blk a d s k (d + i) = a (s + i) := by
  show (if d ≤ d + i ∧ d + i < d + k then a (s + (d + i - d)) else a (d + i)) = _
  rw [if_pos (by omega), Nat.add_sub_cancel_left]
theorem ms_blk_out {a : Nat → Int32} {d s k i : Nat} (h : i < d ∨ d + k ≤ i) : ms_blk a d s k i = a i := if_neg (by omega)
theorem ms_blkS (a : Nat → Int32) (d s k : Nat) (h : s + k < d ∨ d + k ≤ s + k) : upd (ms_blk a d s k) (d + k) (ms_blk a d s k (s + k)) = ms_blk a d s (k + 1) := by
  rw [ms_blk_out h]
  funext i
  show (if i = d + k then a (s + k) else if d ≤ i ∧ i < d + k then a (s + (i - d)) else a i) = if d ≤ i ∧ i < d + (k + 1) then a (s + (i - d)) else a i
  by_cases h1 : i = d + k
  · rw [if_pos h1, if_pos (by omega), show i - d = k by omega]
  · rw [if_neg h1]
    by_cases h2 : d ≤ i ∧ i < d + k
    · rw [if_pos h2, if_pos (by omega)]
    · rw [if_neg h2, if_neg (by omega)]
end
section
/-! lists of items: tokens, tokens ahead of a marker, counts, sums -/
def ms_set {α : Type} (f : Nat → α) (i : Nat) (v : α) : Nat → α := fun j => if j = i then v else f j
theorem ms_set_s {α : Type} {f : Nat → α} {i : Nat} {v : α} : ms_set f i v i = v := if_pos rfl
theorem ms_set_n {α : Type} {f : Nat → α} {i j : Nat} {v : α} (h : j ≠ i) : ms_set f i v j = f j := if_neg h
def ms_nth : List Nat → Nat → Nat
  | [], _ => 0
  | x :: _, 0 => x
  | _ :: l, i + 1 => ms_nth l i
theorem ms_nth_lt (x : Nat) : ∀ (l : List Nat) (i : Nat), i < l.length → ms_nth (l ++ [x]) i = ms_nth l i := by
  intro l
  induction l with
  | nil => intro i hi; exact absurd hi (Nat.not_lt_zero _)
  | cons y l ih =>
    intro i hi
    cases i with
    | zero => rfl
    | succ i => exact ih i (Nat.lt_of_succ_lt_succ hi)
theorem ms_nth_eq (x : Nat) : ∀ (l : List Nat), ms_nth (l ++ [x]) l.length = x := by
  intro l
  induction l with
  | nil => rfl
  | cons y l ih => exact ih
theorem ms_nth_app1 (r : List Nat) : ∀ (l : List Nat) (i : Nat), i < l.length → ms_nth (l ++ r) i = ms_nth l i := by
  intro l
  induction l with
  | nil => intro i hi; exact absurd hi (Nat.not_lt_zero _)
  | cons y l ih =>
    intro i hi
    cases i with
    | zero => rfl
    | succ i => exact ih i (Nat.lt_of_succ_lt_succ hi)
theorem ms_nth_app2 (r : List Nat) : ∀ (l : List Nat) (i : Nat), ms_nth (l ++ r) (l.length + i) = ms_nth r i := by
  intro l
  induction l with
  | nil => intro i; rw [List.nil_append, List.length_nil, Nat.zero_add]
  | cons y l ih =>
    intro i
    rw [List.length_cons, show l.length + 1 + i = l.length + i + 1 by omega]
    exact ih i
theorem ms_nth_mem : ∀ (l : List Nat) (i : Nat), i < l.length → ms_nth l i ∈ l := by
  intro l
  induction l with
  | nil => intro i hi; exact absurd hi (Nat.not_lt_zero _)
  | cons y l ih =>
    intro i hi
    cases i with
    | zero => exact List.mem_cons_self
    | succ i => exact List.mem_cons_of_mem _ (ih i (Nat.lt_of_succ_lt_succ hi))
def ms_tk : List Nat → List Nat
  | [] => []
  | x :: l => if x % 4 = 1 then x / 4 :: ms_tk l else ms_tk l
def ms_bf (m : Nat) : List Nat → List Nat
  | [] => []
  | x :: l => if x = m then [] else if x % 4 = 1 then x / 4 :: ms_bf m l else ms_bf m l
def ms_ct (m : Nat) : List Nat → Nat
  | [] => 0
  | x :: l => if x = m then ms_ct m l + 1 else ms_ct m l
theorem ms_tk_a1 {x : Nat} (hx : x % 4 = 1) : ∀ l, ms_tk (l ++ [x]) = ms_tk l ++ [x / 4] := by
  intro l
  induction l with
  | nil => show (if x % 4 = 1 then x / 4 :: ms_tk [] else ms_tk []) = _; rw [if_pos hx]; rfl
  | cons y l ih =>
    show (if y % 4 = 1 then y / 4 :: ms_tk (l ++ [x]) else ms_tk (l ++ [x])) = (if y % 4 = 1 then y / 4 :: ms_tk l else ms_tk l) ++ [x / 4]
    rw [ih]
    by_cases h : y % 4 = 1
    · rw [if_pos h, if_pos h]; rfl
    · rw [if_neg h, if_neg h]
theorem ms_tk_a0 {x : Nat} (hx : ¬ x % 4 = 1) : ∀ l, ms_tk (l ++ [x]) = ms_tk l := by
  intro l
  induction l with
  | nil => show (if x % 4 = 1 then x / 4 :: ms_tk [] else ms_tk []) = _; rw [if_neg hx]
  | cons y l ih =>
    show (if y % 4 = 1 then y / 4 :: ms_tk (l ++ [x]) else ms_tk (l ++ [x])) = (if y % 4 = 1 then y / 4 :: ms_tk l else ms_tk l)
    rw [ih]
theorem ms_tk_c1 {x : Nat} {l : List Nat} (hx : x % 4 = 1) : ms_tk (x :: l) = x / 4 :: ms_tk l := if_pos hx
theorem ms_tk_c0 {x : Nat} {l : List Nat} (hx : ¬ x % 4 = 1) : ms_tk (x :: l) = ms_tk l := if_neg hx
theorem ms_ct_cs {x : Nat} {l : List Nat} : ms_ct x (x :: l) = ms_ct x l + 1 := if_pos rfl
theorem ms_ct_cn {m x : Nat} {l : List Nat} (h : x ≠ m) : ms_ct m (x :: l) = ms_ct m l := if_neg h
theorem ms_ct_as (m : Nat) : ∀ l, ms_ct m (l ++ [m]) = ms_ct m l + 1 := by
  intro l
  induction l with
  | nil => exact ms_ct_cs
  | cons y l ih =>
    show (if y = m then ms_ct m (l ++ [m]) + 1 else ms_ct m (l ++ [m])) = (if y = m then ms_ct m l + 1 else ms_ct m l) + 1
    rw [ih]
    by_cases h : y = m
    · rw [if_pos h, if_pos h]
    · rw [if_neg h, if_neg h]
theorem ms_ct_an {m x : Nat} (hx : x ≠ m) : ∀ l, ms_ct m (l ++ [x]) = ms_ct m l := by
  intro l
  induction l with
  | nil => exact ms_ct_cn hx
  | cons y l ih =>
    show (if y = m then ms_ct m (l ++ [x]) + 1 else ms_ct m (l ++ [x])) = (if y = m then ms_ct m l + 1 else ms_ct m l)
    rw [ih]
theorem ms_bf_as (m : Nat) : ∀ l, ms_bf m (l ++ [m]) = ms_bf m l := by
  intro l
  induction l with
  | nil => exact if_pos rfl
  | cons y l ih =>
    show (if y = m then [] else if y % 4 = 1 then y / 4 :: ms_bf m (l ++ [m]) else ms_bf m (l ++ [m])) = (if y = m then [] else if y % 4 = 1 then y / 4 :: ms_bf m l else ms_bf m l)
    rw [ih]
theorem ms_bf_an {m x : Nat} (hx : ¬ x % 4 = 1) : ∀ l, ms_bf m (l ++ [x]) = ms_bf m l := by
  intro l
  induction l with
  | nil =>
    show (if x = m then [] else if x % 4 = 1 then x / 4 :: ms_bf m [] else ms_bf m []) = []
    rw [if_neg hx]
    by_cases h : x = m
    · rw [if_pos h]
    · rw [if_neg h]; rfl
  | cons y l ih =>
    show (if y = m then [] else if y % 4 = 1 then y / 4 :: ms_bf m (l ++ [x]) else ms_bf m (l ++ [x])) = (if y = m then [] else if y % 4 = 1 then y / 4 :: ms_bf m l else ms_bf m l)
    rw [ih]
theorem ms_bf_a1 {m : Nat} (x : Nat) : ∀ l, ms_ct m l ≠ 0 → ms_bf m (l ++ [x]) = ms_bf m l := by
  intro l
  induction l with
  | nil => intro h; exact absurd rfl h
  | cons y l ih =>
    intro h
    show (if y = m then [] else if y % 4 = 1 then y / 4 :: ms_bf m (l ++ [x]) else ms_bf m (l ++ [x])) = (if y = m then [] else if y % 4 = 1 then y / 4 :: ms_bf m l else ms_bf m l)
    by_cases e : y = m
    · rw [if_pos e, if_pos e]
    · rw [if_neg e, if_neg e]
      rw [ms_ct_cn e] at h
      rw [ih h]
theorem ms_bf_0 {m : Nat} : ∀ l, ms_ct m l = 0 → ms_bf m l = ms_tk l := by
  intro l
  induction l with
  | nil => intro _; rfl
  | cons y l ih =>
    intro h
    by_cases e : y = m
    · subst e
      rw [ms_ct_cs] at h
      exact absurd h (by omega)
    · rw [ms_ct_cn e] at h
      show (if y = m then [] else if y % 4 = 1 then y / 4 :: ms_bf m l else ms_bf m l) = (if y % 4 = 1 then y / 4 :: ms_tk l else ms_tk l)
      rw [if_neg e, ih h]
theorem ms_bf_cs {m : Nat} {l : List Nat} : ms_bf m (m :: l) = [] := if_pos rfl
theorem ms_bf_c0 {m x : Nat} {l : List Nat} (h : x ≠ m) (hx : ¬ x % 4 = 1) : ms_bf m (x :: l) = ms_bf m l := by
  show (if x = m then [] else if x % 4 = 1 then x / 4 :: ms_bf m l else ms_bf m l) = _
  rw [if_neg h, if_neg hx]
theorem ms_bf_c1 {m x : Nat} {l : List Nat} (h : x ≠ m) (hx : x % 4 = 1) : ms_bf m (x :: l) = x / 4 :: ms_bf m l := by
  show (if x = m then [] else if x % 4 = 1 then x / 4 :: ms_bf m l else ms_bf m l) = _
  rw [if_neg h, if_pos hx]
theorem ms_ct_mem {m : Nat} : ∀ l : List Nat, m ∈ l → ms_ct m l ≠ 0 := by
  intro l
  induction l with
  | nil => intro h; exact absurd h (List.not_mem_nil)
  | cons y l ih =>
    intro h
    by_cases e : y = m
    · subst e; rw [ms_ct_cs]; omega
    · rw [ms_ct_cn e]
      rcases List.mem_cons.mp h with h | h
      · exact absurd h.symm e
      · exact ih h
theorem ms_ct_no {m : Nat} : ∀ l : List Nat, (∀ x, x ∈ l → x ≠ m) → ms_ct m l = 0 := by
  intro l
  induction l with
  | nil => intro _; rfl
  | cons y l ih =>
    intro h
    rw [ms_ct_cn (h y List.mem_cons_self)]
    exact ih (fun x hx => h x (List.mem_cons_of_mem _ hx))
def ms_lsum : List Nat → Nat
  | [] => 0
  | x :: l => x + ms_lsum l
theorem ms_lsum_a (x : Nat) : ∀ l, ms_lsum (l ++ [x]) = ms_lsum l + x := by
  intro l
  induction l with
  | nil => show x + 0 = 0 + x; omega
  | cons y l ih => show y + ms_lsum (l ++ [x]) = y + ms_lsum l + x; rw [ih]; omega
theorem ms_lsum_m : ∀ (l : List Nat) (x : Nat), x ∈ l → x ≤ ms_lsum l := by
  intro l
  induction l with
  | nil => intro x h; exact absurd h (List.not_mem_nil)
  | cons y l ih =>
    intro x h
    show x ≤ y + ms_lsum l
    rcases List.mem_cons.mp h with h | h
    · omega
    · have := ih x h; omega
theorem ms_tk_m : ∀ (l : List Nat) (x : Nat), x ∈ l → x % 4 = 1 → x / 4 ∈ ms_tk l := by
  intro l
  induction l with
  | nil => intro x h; exact absurd h (List.not_mem_nil)
  | cons y l ih =>
    intro x h hx
    rcases List.mem_cons.mp h with h | h
    · subst h; rw [ms_tk_c1 hx]; exact List.mem_cons_self
    · by_cases e : y % 4 = 1
      · rw [ms_tk_c1 e]; exact List.mem_cons_of_mem _ (ih x h hx)
      · rw [ms_tk_c0 e]; exact ih x h hx
def ms_sm (f : Nat → Nat) : Nat → Nat
  | 0 => 0
  | k + 1 => ms_sm f k + f k
theorem ms_sm_c {f g : Nat → Nat} : ∀ k, (∀ i, i < k → f i = g i) → ms_sm f k = ms_sm g k := by
  intro k
  induction k with
  | zero => intro _; rfl
  | succ k ih =>
    intro h
    show ms_sm f k + f k = ms_sm g k + g k
    rw [ih (fun i hi => h i (by omega)), h k (by omega)]
theorem ms_sm_set {f g : Nat → Nat} {i : Nat} (h : ∀ j, j ≠ i → g j = f j) : ∀ k, i < k → ms_sm g k + f i = ms_sm f k + g i := by
  intro k
  induction k with
  | zero => intro hi; exact absurd hi (Nat.not_lt_zero _)
  | succ k ih =>
    intro hi
    show ms_sm g k + g k + f i = ms_sm f k + f k + g i
    by_cases e : i = k
    · subst e
      rw [ms_sm_c (f := g) (g := f) i (fun j hj => h j (by omega))]
      omega
    · have := ih (by omega)
      have := h k (fun z => e z.symm)
      omega
theorem ms_sm_le (f : Nat → Nat) {i : Nat} : ∀ k, i < k → f i ≤ ms_sm f k := by
  intro k
  induction k with
  | zero => intro hi; exact absurd hi (Nat.not_lt_zero _)
  | succ k ih =>
    intro hi
    show f i ≤ ms_sm f k + f k
    by_cases e : i = k
    · subst e; omega
    · have := ih (by omega); omega
def ms_tot (B : Nat → Nat) (L : Nat → List Nat) : Nat := ms_sm B 5 + ms_sm (fun c => ms_lsum (L c)) 25
theorem ms_tot_B {B : Nat → Nat} {L : Nat → List Nat} {p : Nat} (hp : p < 5) : B p ≤ ms_tot B L := by
  have := ms_sm_le B 5 hp
  show _ ≤ ms_sm B 5 + _
  omega
theorem ms_tot_L {B : Nat → Nat} {L : Nat → List Nat} {c x : Nat} (hc : c < 25) (hx : x ∈ L c) : x ≤ ms_tot B L := by
  have h1 := ms_sm_le (fun c => ms_lsum (L c)) 25 hc
  have h2 := ms_lsum_m _ _ hx
  show _ ≤ _ + ms_sm (fun c => ms_lsum (L c)) 25
  have h3 : ms_lsum (L c) ≤ ms_sm (fun c => ms_lsum (L c)) 25 := h1
  omega
theorem ms_tot_up {B B' : Nat → Nat} {L L' : Nat → List Nat} {p c : Nat} (hp : p < 5) (hc : c < 25) (hB : ∀ j, j ≠ p → B' j = B j) (hL : ∀ j, j ≠ c → L' j = L j)
    (he : B' p + ms_lsum (L' c) = B p + ms_lsum (L c)) : ms_tot B' L' = ms_tot B L := by
  have h1 := ms_sm_set hB 5 hp
  have h2 := ms_sm_set (f := fun c => ms_lsum (L c)) (g := fun c => ms_lsum (L' c)) (i := c) (fun j hj => by show ms_lsum (L' j) = ms_lsum (L j); rw [hL j hj]) 25 hc
  have h3 : ms_sm (fun c => ms_lsum (L' c)) 25 + ms_lsum (L c) = ms_sm (fun c => ms_lsum (L c)) 25 + ms_lsum (L' c) := h2
  show ms_sm B' 5 + ms_sm (fun c => ms_lsum (L' c)) 25 = ms_sm B 5 + ms_sm (fun c => ms_lsum (L c)) 25
  omega
theorem ms_tot_c {B B' : Nat → Nat} {L L' : Nat → List Nat} (hB : ∀ j, j < 5 → B' j = B j) (hL : ∀ j, j < 25 → L' j = L j) : ms_tot B' L' = ms_tot B L := by
  show ms_sm B' 5 + ms_sm (fun c => ms_lsum (L' c)) 25 = ms_sm B 5 + ms_sm (fun c => ms_lsum (L c)) 25
  rw [ms_sm_c 5 hB, ms_sm_c (f := fun c => ms_lsum (L' c)) (g := fun c => ms_lsum (L c)) 25 (fun j hj => by show ms_lsum (L' j) = ms_lsum (L j); rw [hL j hj])]
theorem ms_tk_len_bf {m : Nat} : ∀ l : List Nat, (ms_bf m l).length ≤ (ms_tk l).length := by
  intro l
  induction l with
  | nil => exact Nat.le_refl _
  | cons y l ih =>
    show (if y = m then [] else if y % 4 = 1 then y / 4 :: ms_bf m l else ms_bf m l).length ≤ (if y % 4 = 1 then y / 4 :: ms_tk l else ms_tk l).length
    by_cases e : y = m
    · rw [if_pos e]; exact Nat.zero_le _
    · rw [if_neg e]
      by_cases h : y % 4 = 1
      · rw [if_pos h, if_pos h, List.length_cons, List.length_cons]; omega
      · rw [if_neg h, if_neg h]; exact ih
end
section
/-! one running snapshot: its facts, and what each step does to them -/
abbrev ms_gd (n c : Nat) : Prop := c / 5 < n ∧ c % 5 < n ∧ c / 5 ≠ c % 5
def ms_thr (n : Nat) (par : Nat → Nat) (mI rI : Nat → Bool) (q : Nat) : Prop :=
  par q ≠ 0 ∧ ∀ r, r < n → r ≠ q → mI (r * 5 + q) = true ∧ (par r = q + 1 → rI (r * 5 + q) = true)
def ms_T (n root : Nat) (par : Nat → Nat) : Prop :=
  ∃ rk : Nat → Nat, ∀ p, p < n → par p ≠ 0 → p ≠ root → ∃ q, q < n ∧ q ≠ p ∧ par p = q + 1 ∧ par q ≠ 0 ∧ rk q < rk p
def ms_M (n m : Nat) (Q : Nat → List Nat) (par : Nat → Nat) (mI : Nat → Bool) : Prop :=
  ∀ c, ms_gd n c → (par (c / 5) = 0 → ms_ct m (Q c) = 0 ∧ mI c = false) ∧ (par (c / 5) ≠ 0 → ms_ct m (Q c) = if mI c = true then 0 else 1)
def ms_R (n w : Nat) (Q : Nat → List Nat) (par : Nat → Nat) (fin rI : Nat → Bool) : Prop :=
  ∀ c, ms_gd n c → (ms_ct w (Q c) = if fin (c / 5) = true ∧ par (c / 5) = c % 5 + 1 ∧ rI c = false then 1 else 0) ∧ (rI c = true → fin (c / 5) = true ∧ par (c / 5) = c % 5 + 1)
def ms_F (n root : Nat) (par : Nat → Nat) (fin mI rI : Nat → Bool) : Prop :=
  ∀ p, p < n → fin p = true → p ≠ root ∧ ms_thr n par mI rI p
def ms_C (n m : Nat) (Q : Nat → List Nat) (B0 : Nat → Nat) (D0 : Nat → Int32) (par : Nat → Nat) (mI : Nat → Bool) (B : Nat → Nat) (D : Nat → Int32) (L ST : Nat → List Nat) : Prop :=
  (∀ p, p < n → par p = 0 → B p = B0 p ∧ D p = D0 p) ∧ ∀ c, L c = ST c ++ (if mI c = true then [] else ms_bf m (Q c)) ∧ (par (c % 5) = 0 → ST c = [])
def ms_G (n : Nat) (par : Nat → Nat) (mI : Nat → Bool) : Prop := ∀ c, ms_gd n c → mI c = true → par (c % 5) ≠ 0
def ms_SI (n k root : Nat) (Q : Nat → List Nat) (B0 : Nat → Nat) (D0 : Nat → Int32) (par : Nat → Nat) (fin mI rI : Nat → Bool) (B : Nat → Nat) (D : Nat → Int32) (L ST : Nat → List Nat) : Prop :=
  ms_T n root par ∧ ms_M n (k * 4 + 2) Q par mI ∧ ms_R n (k * 4 + 3) Q par fin rI ∧ ms_F n root par fin mI rI ∧ ms_C n (k * 4 + 2) Q B0 D0 par mI B D L ST
def ms_jq (n p m : Nat) (Q : Nat → List Nat) : Nat → List Nat := fun c => if c / 5 = p ∧ c % 5 < n ∧ c % 5 ≠ p then Q c ++ [m] else Q c
theorem ms_jq_y {n p m : Nat} {Q : Nat → List Nat} {c : Nat} (h : c / 5 = p ∧ c % 5 < n ∧ c % 5 ≠ p) : ms_jq n p m Q c = Q c ++ [m] := if_pos h
theorem ms_jq_n {n p m : Nat} {Q : Nat → List Nat} {c : Nat} (h : ¬ (c / 5 = p ∧ c % 5 < n ∧ c % 5 ≠ p)) : ms_jq n p m Q c = Q c := if_neg h
section
variable {n k root : Nat} {Q Q' : Nat → List Nat} {B0 : Nat → Nat} {D0 : Nat → Int32} {par : Nat → Nat} {fin mI rI : Nat → Bool} {B : Nat → Nat} {D : Nat → Int32} {L ST : Nat → List Nat}
/-- foreign items come and go -/
theorem ms_SI_cong (h : ms_SI n k root Q B0 D0 par fin mI rI B D L ST)
    (hc : ∀ c, ms_ct (k * 4 + 2) (Q' c) = ms_ct (k * 4 + 2) (Q c) ∧ ms_ct (k * 4 + 3) (Q' c) = ms_ct (k * 4 + 3) (Q c) ∧ ms_bf (k * 4 + 2) (Q' c) = ms_bf (k * 4 + 2) (Q c)) :
    ms_SI n k root Q' B0 D0 par fin mI rI B D L ST := by
  obtain ⟨hT, hM, hR, hF, hC⟩ := h
  refine ⟨hT, fun c g => ?_, fun c g => ?_, hF, hC.1, fun c => ?_⟩
  · rw [(hc c).1]; exact hM c g
  · rw [(hc c).2.1]; exact hR c g
  · rw [(hc c).2.2]; exact hC.2 c
theorem ms_SI_join {p q : Nat} (h : ms_SI n k root Q B0 D0 par fin mI rI B D L ST) (hp : p < n) (h0 : par p = 0)
    (hq : (q = p ∧ p = root) ∨ (q < n ∧ q ≠ p ∧ par q ≠ 0)) (h5 : n ≤ 5) :
    ms_SI n k root (ms_jq n p (k * 4 + 2) Q) B0 D0 (ms_set par p (q + 1)) fin mI rI B D L ST := by
  obtain ⟨⟨rk, hT⟩, hM, hR, hF, hC⟩ := h
  have hfp : ¬ fin p = true := fun z => (hF p hp z).2.1 h0
  refine ⟨⟨ms_set rk p (rk q + 1), fun r hr hpar hroot => ?_⟩, fun c g => ?_, fun c g => ?_, fun r hr hf => ?_, fun r hr hpar => ?_, fun c => ?_⟩
  · by_cases e : r = p
    · subst e
      rcases hq with ⟨_, z⟩ | ⟨a, b, c⟩
      · exact absurd z hroot
      · exact ⟨q, a, b, ms_set_s, by rw [ms_set_n b]; exact c, by rw [ms_set_n b, ms_set_s]; omega⟩
    · rw [ms_set_n e] at hpar
      obtain ⟨q', a, b, c, d, f⟩ := hT r hr hpar hroot
      have hqp : q' ≠ p := fun z => d (z ▸ h0)
      exact ⟨q', a, b, by rw [ms_set_n e]; exact c, by rw [ms_set_n hqp]; exact d, by rw [ms_set_n hqp, ms_set_n e]; exact f⟩
  · by_cases e : c / 5 = p
    · have hm := (hM c g).1 (by rw [e]; exact h0)
      rw [ms_jq_y ⟨e, g.2.1, by rw [← e]; exact fun z => g.2.2 z.symm⟩, e, ms_set_s, ms_ct_as, hm.1, hm.2]
      exact ⟨fun z => absurd z (Nat.succ_ne_zero _), fun _ => rfl⟩
    · rw [ms_jq_n (fun z => e z.1), ms_set_n e]
      exact hM c g
  · by_cases e : c / 5 = p
    · have hr := hR c g
      rw [ms_jq_y ⟨e, g.2.1, by rw [← e]; exact fun z => g.2.2 z.symm⟩, ms_ct_an (by omega)]
      rw [e] at hr ⊢
      refine ⟨?_, fun z => absurd (hr.2 z).1 hfp⟩
      rw [hr.1, if_neg (fun z => hfp z.1), if_neg (fun z => hfp z.1)]
    · rw [ms_jq_n (fun z => e z.1), ms_set_n e]
      exact hR c g
  · obtain ⟨hne, hpr, ht⟩ := hF r hr hf
    have hrp : r ≠ p := fun z => hpr (z ▸ h0)
    refine ⟨hne, by rw [ms_set_n hrp]; exact hpr, fun r' hr' hn' => ⟨(ht r' hr' hn').1, fun hp' => ?_⟩⟩
    by_cases e : r' = p
    · subst e
      have h1 := (ht r' hr' hn').1
      have h2 := ((hM (r' * 5 + r) ⟨by omega, by omega, by omega⟩).1 (by rw [show (r' * 5 + r) / 5 = r' by omega]; exact h0)).2
      rw [h1] at h2
      exact absurd h2 (by decide)
    · rw [ms_set_n e] at hp'
      exact (ht r' hr' hn').2 hp'
  · have e : r ≠ p := fun z => by rw [z, ms_set_s] at hpar; exact absurd hpar (Nat.succ_ne_zero _)
    rw [ms_set_n e] at hpar
    exact hC.1 r hr hpar
  · refine ⟨?_, fun z => ?_⟩
    · by_cases e : c / 5 = p ∧ c % 5 < n ∧ c % 5 ≠ p
      · rw [ms_jq_y e, ms_bf_as]; exact (hC.2 c).1
      · rw [ms_jq_n e]; exact (hC.2 c).1
    · have e : c % 5 ≠ p := fun y => by rw [y, ms_set_s] at z; exact absurd z (Nat.succ_ne_zero _)
      rw [ms_set_n e] at z
      exact (hC.2 c).2 z
theorem ms_SI_mark {c0 : Nat} {tl : List Nat} (h : ms_SI n k root Q B0 D0 par fin mI rI B D L ST) (g0 : ms_gd n c0) (hQ : Q c0 = (k * 4 + 2) :: tl) :
    par (c0 / 5) ≠ 0 ∧ ms_SI n k root (ms_set Q c0 tl) B0 D0 par fin (ms_set mI c0 true) rI B D L ST := by
  obtain ⟨hT, hM, hR, hF, hC⟩ := h
  have hm := hM c0 g0
  rw [hQ, ms_ct_cs] at hm
  have hp0 : par (c0 / 5) ≠ 0 := fun z => absurd (hm.1 z).1 (Nat.succ_ne_zero _)
  have hm2 := hm.2 hp0
  have hmi : mI c0 = false := by
    cases e : mI c0 with
    | false => rfl
    | true => rw [e, if_pos rfl] at hm2; exact absurd hm2 (Nat.succ_ne_zero _)
  have hct : ms_ct (k * 4 + 2) tl = 0 := by
    rw [hmi, if_neg (by decide)] at hm2; omega
  refine ⟨hp0, hT, fun c g => ?_, fun c g => ?_, fun p hp hf => ?_, hC.1, fun c => ?_⟩
  · by_cases e : c = c0
    · subst e
      rw [ms_set_s, ms_set_s, if_pos rfl]
      exact ⟨fun z => absurd z hp0, fun _ => hct⟩
    · rw [ms_set_n e, ms_set_n e]; exact hM c g
  · by_cases e : c = c0
    · subst e
      have := hR c g
      rw [hQ, ms_ct_cn (by omega)] at this
      rw [ms_set_s]; exact this
    · rw [ms_set_n e]; exact hR c g
  · obtain ⟨a, b, d⟩ := hF p hp hf
    refine ⟨a, b, fun r hr hn => ⟨?_, (d r hr hn).2⟩⟩
    by_cases e : r * 5 + p = c0
    · rw [e, ms_set_s]
    · rw [ms_set_n e]; exact (d r hr hn).1
  · by_cases e : c = c0
    · subst e
      have := hC.2 c
      rw [hQ, hmi, if_neg (by decide), ms_bf_cs] at this
      rw [ms_set_s, ms_set_s, if_pos rfl]
      exact this
    · rw [ms_set_n e, ms_set_n e]; exact hC.2 c
theorem ms_SI_rep {c0 : Nat} {tl : List Nat} (h : ms_SI n k root Q B0 D0 par fin mI rI B D L ST) (g0 : ms_gd n c0) (hQ : Q c0 = (k * 4 + 3) :: tl) :
    ms_SI n k root (ms_set Q c0 tl) B0 D0 par fin mI (ms_set rI c0 true) B D L ST := by
  obtain ⟨hT, hM, hR, hF, hC⟩ := h
  have hr := hR c0 g0
  rw [hQ, ms_ct_cs] at hr
  have hcd : fin (c0 / 5) = true ∧ par (c0 / 5) = c0 % 5 + 1 ∧ rI c0 = false := by
    refine Classical.byContradiction fun z => ?_
    have := hr.1
    rw [if_neg z] at this
    exact absurd this (Nat.succ_ne_zero _)
  have hct : ms_ct (k * 4 + 3) tl = 0 := by
    have := hr.1
    rw [if_pos hcd] at this; omega
  refine ⟨hT, fun c g => ?_, fun c g => ?_, fun p hp hf => ?_, hC.1, fun c => ?_⟩
  · by_cases e : c = c0
    · subst e
      have := hM c g
      rw [hQ, ms_ct_cn (by omega)] at this
      rw [ms_set_s]; exact this
    · rw [ms_set_n e]; exact hM c g
  · by_cases e : c = c0
    · subst e
      rw [ms_set_s, ms_set_s, if_neg (fun z => absurd z.2.2 (by decide))]
      exact ⟨hct, fun _ => ⟨hcd.1, hcd.2.1⟩⟩
    · rw [ms_set_n e, ms_set_n e]; exact hR c g
  · obtain ⟨a, b, d⟩ := hF p hp hf
    refine ⟨a, b, fun r hr hn => ⟨(d r hr hn).1, fun z => ?_⟩⟩
    by_cases e : r * 5 + p = c0
    · rw [e, ms_set_s]
    · rw [ms_set_n e]; exact (d r hr hn).2 z
  · by_cases e : c = c0
    · subst e
      have := hC.2 c
      rw [hQ, ms_bf_c0 (by omega) (by omega)] at this
      rw [ms_set_s]
      exact this
    · rw [ms_set_n e]; exact hC.2 c
theorem ms_SI_fin {p q : Nat} (h : ms_SI n k root Q B0 D0 par fin mI rI B D L ST) (hp : p < n) (hq : q < n) (hqp : q ≠ p) (h5 : n ≤ 5) (hf : fin p = false)
    (ht : ms_thr n par mI rI p) (hr : p ≠ root) (hpar : par p = q + 1) :
    ms_SI n k root (ms_set Q (p * 5 + q) (Q (p * 5 + q) ++ [k * 4 + 3])) B0 D0 par (ms_set fin p true) mI rI B D L ST := by
  obtain ⟨hT, hM, hR, hF, hC⟩ := h
  have hnf : ¬ fin p = true := by rw [hf]; decide
  have d1 : (p * 5 + q) / 5 = p := by omega
  have d2 : (p * 5 + q) % 5 = q := by omega
  refine ⟨hT, fun c g => ?_, fun c g => ?_, fun r hr' hf' => ?_, hC.1, fun c => ?_⟩
  · by_cases e : c = p * 5 + q
    · subst e
      rw [ms_set_s, ms_ct_an (by omega)]; exact hM _ g
    · rw [ms_set_n e]; exact hM c g
  · by_cases e : c = p * 5 + q
    · subst e
      have hc := hR _ g
      rw [d1, d2] at hc ⊢
      have hri : rI (p * 5 + q) = false := by
        cases e : rI (p * 5 + q) with
        | false => rfl
        | true => exact absurd (hc.2 e).1 hnf
      rw [ms_set_s, ms_set_s, ms_ct_as, hc.1, if_neg (fun z => hnf z.1), if_pos ⟨rfl, hpar, hri⟩]
      exact ⟨rfl, fun _ => ⟨rfl, hpar⟩⟩
    · rw [ms_set_n e]
      have hc := hR c g
      by_cases e2 : c / 5 = p
      · have hne : ¬ par p = c % 5 + 1 := fun z => e (by omega)
        rw [e2] at hc ⊢
        rw [if_neg (fun z => hne z.2.1)]
        rw [if_neg (fun z => hne z.2.1)] at hc
        exact ⟨hc.1, fun z => absurd (hc.2 z).2 hne⟩
      · rw [ms_set_n e2]; exact hc
  · by_cases e : r = p
    · subst e; exact ⟨hr, ht⟩
    · rw [ms_set_n e] at hf'; exact hF r hr' hf'
  · by_cases e : c = p * 5 + q
    · subst e
      rw [ms_set_s, ms_bf_an (by omega)]; exact hC.2 _
    · rw [ms_set_n e]; exact hC.2 c
end
end
section
/-! one running snapshot: tokens, completion, the reference's form of 'through' -/
section
variable {n k root : Nat} {Q Q' : Nat → List Nat} {B0 : Nat → Nat} {D0 : Nat → Int32} {par : Nat → Nat} {fin mI rI : Nat → Bool} {B : Nat → Nat} {D : Nat → Int32} {L ST : Nat → List Nat}
/-- a token is sent: the sender has not recorded -/
theorem ms_SI_send0 {c0 a b' : Nat} {d' : Int32} (h : ms_SI n k root Q B0 D0 par fin mI rI B D L ST) (g0 : ms_gd n c0) (h0 : par (c0 / 5) = 0) :
    ms_SI n k root (ms_set Q c0 (Q c0 ++ [a * 4 + 1])) (ms_set B0 (c0 / 5) b') (ms_set D0 (c0 / 5) d') par fin mI rI (ms_set B (c0 / 5) b') (ms_set D (c0 / 5) d') (ms_set L c0 (L c0 ++ [a])) ST := by
  obtain ⟨hT, hM, hR, hF, hC⟩ := h
  refine ⟨hT, fun c g => ?_, fun c g => ?_, hF, fun p hp hpar => ?_, fun c => ?_⟩
  · by_cases e : c = c0
    · subst e
      rw [ms_set_s, ms_ct_an (by omega)]; exact hM c g
    · rw [ms_set_n e]; exact hM c g
  · by_cases e : c = c0
    · subst e
      rw [ms_set_s, ms_ct_an (by omega)]; exact hR c g
    · rw [ms_set_n e]; exact hR c g
  · by_cases e : p = c0 / 5
    · subst e
      rw [ms_set_s, ms_set_s, ms_set_s, ms_set_s]; exact ⟨rfl, rfl⟩
    · rw [ms_set_n e, ms_set_n e, ms_set_n e, ms_set_n e]; exact hC.1 p hp hpar
  · by_cases e : c = c0
    · subst e
      have hm := (hM c g0).1 h0
      have hc := hC.2 c
      have hm2 : ms_ct (k * 4 + 2) (Q c ++ [a * 4 + 1]) = 0 := by rw [ms_ct_an (by omega)]; exact hm.1
      rw [hm.2, if_neg (by decide), ms_bf_0 _ hm.1] at hc
      rw [ms_set_s, ms_set_s, hm.2, if_neg (by decide), ms_bf_0 _ hm2, ms_tk_a1 (by omega), ← List.append_assoc, ← hc.1, show (a * 4 + 1) / 4 = a by omega]
      exact ⟨rfl, hc.2⟩
    · rw [ms_set_n e, ms_set_n e]; exact hC.2 c
/-- a token is sent: the sender has recorded -/
theorem ms_SI_send1 {c0 a b' : Nat} {d' : Int32} (h : ms_SI n k root Q B0 D0 par fin mI rI B D L ST) (g0 : ms_gd n c0) (h0 : par (c0 / 5) ≠ 0) :
    ms_SI n k root (ms_set Q c0 (Q c0 ++ [a * 4 + 1])) (ms_set B0 (c0 / 5) b') (ms_set D0 (c0 / 5) d') par fin mI rI B D L ST := by
  obtain ⟨hT, hM, hR, hF, hC⟩ := h
  refine ⟨hT, fun c g => ?_, fun c g => ?_, hF, fun p hp hpar => ?_, fun c => ?_⟩
  · by_cases e : c = c0
    · subst e
      rw [ms_set_s, ms_ct_an (by omega)]; exact hM c g
    · rw [ms_set_n e]; exact hM c g
  · by_cases e : c = c0
    · subst e
      rw [ms_set_s, ms_ct_an (by omega)]; exact hR c g
    · rw [ms_set_n e]; exact hR c g
  · have e : p ≠ c0 / 5 := fun z => h0 (z ▸ hpar)
    rw [ms_set_n e, ms_set_n e]; exact hC.1 p hp hpar
  · by_cases e : c = c0
    · subst e
      have hm := (hM c g0).2 h0
      rw [ms_set_s]
      have hc := hC.2 c
      cases e : mI c with
      | true => rw [e, if_pos rfl] at hc; rw [if_pos rfl]; exact hc
      | false =>
        rw [e, if_neg (by decide)] at hc hm
        rw [if_neg (by decide), ms_bf_a1 _ _ (by omega)]; exact hc
    · rw [ms_set_n e]; exact hC.2 c
/-- a token is received: the receiver has not recorded -/
theorem ms_SI_recv0 {c0 a b' : Nat} {d' : Int32} {tl : List Nat} (h : ms_SI n k root Q B0 D0 par fin mI rI B D L ST) (hG : ms_G n par mI) (g0 : ms_gd n c0) (hQ : Q c0 = (a * 4 + 1) :: tl) (h0 : par (c0 % 5) = 0) :
    (∃ l, L c0 = a :: l) ∧ ms_SI n k root (ms_set Q c0 tl) (ms_set B0 (c0 % 5) b') (ms_set D0 (c0 % 5) d') par fin mI rI (ms_set B (c0 % 5) b') (ms_set D (c0 % 5) d') (ms_set L c0 (L c0).tail) ST := by
  obtain ⟨hT, hM, hR, hF, hC⟩ := h
  have hmi : mI c0 = false := by
    cases e : mI c0 with
    | false => rfl
    | true => exact absurd h0 (hG c0 g0 e)
  have hL : L c0 = a :: ms_bf (k * 4 + 2) tl := by
    have hc := hC.2 c0
    rw [hmi, if_neg (by decide), hc.2 h0, hQ, ms_bf_c1 (by omega) (by omega), show (a * 4 + 1) / 4 = a by omega] at hc
    exact hc.1
  refine ⟨⟨_, hL⟩, hT, fun c g => ?_, fun c g => ?_, hF, fun p hp hpar => ?_, fun c => ?_⟩
  · by_cases e : c = c0
    · subst e
      have := hM c g
      rw [hQ, ms_ct_cn (by omega)] at this
      rw [ms_set_s]; exact this
    · rw [ms_set_n e]; exact hM c g
  · by_cases e : c = c0
    · subst e
      have := hR c g
      rw [hQ, ms_ct_cn (by omega)] at this
      rw [ms_set_s]; exact this
    · rw [ms_set_n e]; exact hR c g
  · by_cases e : p = c0 % 5
    · subst e
      rw [ms_set_s, ms_set_s, ms_set_s, ms_set_s]; exact ⟨rfl, rfl⟩
    · rw [ms_set_n e, ms_set_n e, ms_set_n e, ms_set_n e]; exact hC.1 p hp hpar
  · by_cases e : c = c0
    · subst e
      have hst := (hC.2 c).2 h0
      rw [ms_set_s, ms_set_s, hmi, if_neg (by decide), hL, hst]
      exact ⟨rfl, fun _ => rfl⟩
    · rw [ms_set_n e, ms_set_n e]; exact hC.2 c
/-- a token is received: the receiver has recorded, the marker is still to come -/
theorem ms_SI_recv1 {c0 a b' : Nat} {d' : Int32} {tl : List Nat} (h : ms_SI n k root Q B0 D0 par fin mI rI B D L ST) (g0 : ms_gd n c0) (hQ : Q c0 = (a * 4 + 1) :: tl) (h0 : par (c0 % 5) ≠ 0) (hm : mI c0 = false) :
    (ST c0).length < (L c0).length ∧ ms_SI n k root (ms_set Q c0 tl) (ms_set B0 (c0 % 5) b') (ms_set D0 (c0 % 5) d') par fin mI rI B D L (ms_set ST c0 (ST c0 ++ [a])) := by
  obtain ⟨hT, hM, hR, hF, hC⟩ := h
  have hL : L c0 = (ST c0 ++ [a]) ++ ms_bf (k * 4 + 2) tl := by
    have hc := (hC.2 c0).1
    rw [hm, if_neg (by decide), hQ, ms_bf_c1 (by omega) (by omega), show (a * 4 + 1) / 4 = a by omega] at hc
    rw [hc, List.append_assoc]
    rfl
  refine ⟨?_, hT, fun c g => ?_, fun c g => ?_, hF, fun p hp hpar => ?_, fun c => ?_⟩
  · rw [hL, List.length_append, List.length_append]
    show _ < (ST c0).length + 1 + _
    omega
  · by_cases e : c = c0
    · subst e
      have := hM c g
      rw [hQ, ms_ct_cn (by omega)] at this
      rw [ms_set_s]; exact this
    · rw [ms_set_n e]; exact hM c g
  · by_cases e : c = c0
    · subst e
      have := hR c g
      rw [hQ, ms_ct_cn (by omega)] at this
      rw [ms_set_s]; exact this
    · rw [ms_set_n e]; exact hR c g
  · have e : p ≠ c0 % 5 := fun z => h0 (z ▸ hpar)
    rw [ms_set_n e, ms_set_n e]; exact hC.1 p hp hpar
  · by_cases e : c = c0
    · subst e
      rw [ms_set_s, ms_set_s, hm, if_neg (by decide)]
      exact ⟨hL, fun z => absurd z h0⟩
    · rw [ms_set_n e, ms_set_n e]; exact hC.2 c
/-- a token is received behind the marker -/
theorem ms_SI_recv2 {c0 a b' : Nat} {d' : Int32} {tl : List Nat} (h : ms_SI n k root Q B0 D0 par fin mI rI B D L ST) (g0 : ms_gd n c0) (hQ : Q c0 = (a * 4 + 1) :: tl) (h0 : par (c0 % 5) ≠ 0) (hm : mI c0 = true) :
    ms_SI n k root (ms_set Q c0 tl) (ms_set B0 (c0 % 5) b') (ms_set D0 (c0 % 5) d') par fin mI rI B D L ST := by
  obtain ⟨hT, hM, hR, hF, hC⟩ := h
  refine ⟨hT, fun c g => ?_, fun c g => ?_, hF, fun p hp hpar => ?_, fun c => ?_⟩
  · by_cases e : c = c0
    · subst e
      have := hM c g
      rw [hQ, ms_ct_cn (by omega)] at this
      rw [ms_set_s]; exact this
    · rw [ms_set_n e]; exact hM c g
  · by_cases e : c = c0
    · subst e
      have := hR c g
      rw [hQ, ms_ct_cn (by omega)] at this
      rw [ms_set_s]; exact this
    · rw [ms_set_n e]; exact hR c g
  · have e : p ≠ c0 % 5 := fun z => h0 (z ▸ hpar)
    rw [ms_set_n e, ms_set_n e]; exact hC.1 p hp hpar
  · by_cases e : c = c0
    · subst e
      have hc := hC.2 c
      rw [hm, if_pos rfl] at hc ⊢
      exact hc
    · rw [ms_set_n e]; exact hC.2 c
/-- the root is through: all have recorded, all markers and reports are in, the cut is what is stored -/
theorem ms_SI_done (h : ms_SI n k root Q B0 D0 par fin mI rI B D L ST) (h5 : n ≤ 5) (hr : root < n) (ht : ms_thr n par mI rI root) :
    (∀ p, p < n → par p ≠ 0) ∧ ∀ c, ms_gd n c → ms_ct (k * 4 + 2) (Q c) = 0 ∧ ms_ct (k * 4 + 3) (Q c) = 0 ∧ L c = ST c := by
  obtain ⟨⟨rk, hT⟩, hM, hR, hF, hC⟩ := h
  have hP : ∀ p, p < n → par p ≠ 0 := by
    intro p hp hz
    by_cases e : p = root
    · subst e; exact ht.1 hz
    · have h1 := (ht.2 p hp e).1
      have h2 := ((hM (p * 5 + root) ⟨by omega, by omega, by omega⟩).1 (by rw [show (p * 5 + root) / 5 = p by omega]; exact hz)).2
      rw [h1] at h2
      exact absurd h2 (by decide)
  have hall : ∀ N p, p < n → rk p < N → ms_thr n par mI rI p := by
    intro N
    induction N with
    | zero => intro p _ hl; exact absurd hl (Nat.not_lt_zero _)
    | succ N ih =>
      intro p hp hl
      by_cases e : p = root
      · subst e; exact ht
      · obtain ⟨q, hq, hqp, hpq, _, hlt⟩ := hT p hp (hP p hp) e
        have h1 := ((ih q hq (by omega)).2 p hp (fun z => hqp z.symm)).2 hpq
        have h2 := ((hR (p * 5 + q) ⟨by omega, by omega, by omega⟩).2 h1).1
        rw [show (p * 5 + q) / 5 = p by omega] at h2
        exact (hF p hp h2).2
  refine ⟨hP, fun c g => ?_⟩
  have hth := (hall _ (c % 5) g.2.1 (Nat.lt_succ_self _)).2 (c / 5) g.1 g.2.2
  rw [show c / 5 * 5 + c % 5 = c by omega] at hth
  have hm := (hM c g).2 (hP _ g.1)
  have hc := (hC.2 c).1
  rw [hth.1, if_pos rfl] at hm hc
  rw [List.append_nil] at hc
  refine ⟨hm, ?_, hc⟩
  rw [(hR c g).1, if_neg]
  intro z
  have := hth.2 z.2.1
  rw [z.2.2] at this
  exact absurd this (by decide)
/-- the reference's form of 'through' -/
def ms_thY (n k : Nat) (Q : Nat → List Nat) (par : Nat → Nat) (fin : Nat → Bool) (q : Nat) : Prop :=
  par q ≠ 0 ∧ ∀ r, r < n → r ≠ q → par r ≠ 0 ∧ ms_ct (k * 4 + 2) (Q (r * 5 + q)) = 0 ∧ (par r = q + 1 → fin r = true ∧ ms_ct (k * 4 + 3) (Q (r * 5 + q)) = 0)
theorem ms_SI_thY {q : Nat} (h : ms_SI n k root Q B0 D0 par fin mI rI B D L ST) (h5 : n ≤ 5) (hq : q < n) : ms_thr n par mI rI q ↔ ms_thY n k Q par fin q := by
  obtain ⟨_, hM, hR, _, _⟩ := h
  have key : ∀ r, r < n → r ≠ q → (mI (r * 5 + q) = true ∧ (par r = q + 1 → rI (r * 5 + q) = true) ↔ par r ≠ 0 ∧ ms_ct (k * 4 + 2) (Q (r * 5 + q)) = 0 ∧ (par r = q + 1 → fin r = true ∧ ms_ct (k * 4 + 3) (Q (r * 5 + q)) = 0)) := by
    intro r hr hn
    have g : ms_gd n (r * 5 + q) := ⟨by omega, by omega, by omega⟩
    have hm := hM _ g
    have hr := hR _ g
    rw [show (r * 5 + q) / 5 = r by omega] at hm hr
    rw [show (r * 5 + q) % 5 = q by omega] at hr
    constructor
    · intro ⟨a, b⟩
      have h1 : par r ≠ 0 := fun z => by
        have := (hm.1 z).2
        rw [a] at this
        exact absurd this (by decide)
      have h2 := hm.2 h1
      rw [a, if_pos rfl] at h2
      refine ⟨h1, h2, fun z => ?_⟩
      have h3 := b z
      refine ⟨(hr.2 h3).1, ?_⟩
      rw [hr.1, if_neg]
      intro y
      rw [h3] at y
      exact absurd y.2.2 (by decide)
    · intro ⟨a, b, c⟩
      have h2 := hm.2 a
      refine ⟨?_, fun z => ?_⟩
      · cases e : mI (r * 5 + q) with
        | true => rfl
        | false => rw [e, if_neg (by decide), b] at h2; exact absurd h2 (by decide)
      · cases e : rI (r * 5 + q) with
        | true => rfl
        | false =>
          have h3 := hr.1
          rw [if_pos ⟨(c z).1, z, e⟩, (c z).2] at h3
          exact absurd h3 (by decide)
  constructor
  · intro ⟨a, b⟩; exact ⟨a, fun r hr hn => (key r hr hn).mp (b r hr hn)⟩
  · intro ⟨a, b⟩; exact ⟨a, fun r hr hn => (key r hr hn).mpr (b r hr hn)⟩
end
end
section
/-! the abstract state, the two pictures, the invariant -/
abbrev ms_S : Type := (Nat) × (Nat) × (Nat) × (Bool) × (Nat) × (Nat) × (Nat → Nat) × (Nat → Int32) × (Nat → List Nat) × (Nat → Nat) × (Nat → Nat) × (Nat → Nat → Nat) × (Nat → Nat → Bool) × (Nat → Nat → Bool) × (Nat → Nat → Bool) × (Nat → Nat → Nat) × (Nat → Nat → Int32) × (Nat → Nat → List Nat) × (Nat → Nat → List Nat)
def ms_ls (l : List Nat) (o : Nat) (a : Nat → Int32) : Prop := ∀ i, i < l.length → a (o + i) = nI (ms_nth l i)
def ms_QX (Q : Nat → List Nat) (ring head count tokens : Nat → Int32) : Prop :=
  ∀ c, c < 25 → (Q c).length ≤ 10 ∧ count c = nI (Q c).length ∧ tokens c = nI (ms_tk (Q c)).length ∧
    ∃ h, h < 16 ∧ head c = nI h ∧ ∀ i, i < (Q c).length → ring (c * 16 + (h + i) % 16) = nI (ms_nth (Q c) i)
def ms_QY (Q : Nat → List Nat) (count queue : Nat → Int32) : Prop :=
  ∀ c, c < 25 → (Q c).length ≤ 10 ∧ count c = nI (Q c).length ∧ ms_ls (Q c) (c * 10) queue
def ms_PL (s : Nat) (B : Nat → Nat) (D : Nat → Int32) (L : Nat → List Nat) (bal dig len amt : Nat → Int32) : Prop :=
  (∀ p, p < 5 → bal (s * 5 + p) = nI (B p) ∧ dig (s * 5 + p) = D p) ∧ (∀ c, c < 25 → (L c).length ≤ 4 ∧ len (s * 25 + c) = nI (L c).length ∧ ms_ls (L c) ((s * 25 + c) * 4) amt)
def ms_RX (A : ms_S) (u : SX) : Prop := match A with
  | (n, room, slots, up, last, kept, B0, D0, Q, J, root, par, fin, mI, rI, B, D, L, ST) => match u with
    | (f_n, f_room, f_slots, f_up, f_last, f_keptCount, a_liveBalance, a_liveDigest, a_ring, a_head, a_count, a_tokens, a_rootOf, a_parentOf, a_finished, a_markerIn, a_reportIn, a_recId, a_recBalance, a_recDigest, a_recLength, a_recAmount) =>
      (f_n = nI n ∧ f_room = nI room ∧ f_slots = nI slots ∧ f_up = ms_b up ∧ f_last = nI last ∧ f_keptCount = nI kept) ∧
      (∀ p, p < n → a_liveBalance p = nI (B0 p) ∧ a_liveDigest p = D0 p) ∧
      ms_QX Q a_ring a_head a_count a_tokens ∧
      (∀ r, r < 6 → a_recId r = ms_enc (J r)) ∧
      (∀ s, s < 3 → J s ≠ 0 → a_rootOf s = nI (root s)) ∧
      (∀ s p, s < 3 → p < 5 → a_parentOf (s * 5 + p) = ms_enc (par s p) ∧ a_finished (s * 5 + p) = ms_b (fin s p)) ∧
      (∀ s c, s < 3 → c < 25 → a_markerIn (s * 25 + c) = ms_b (mI s c) ∧ a_reportIn (s * 25 + c) = ms_b (rI s c)) ∧
      (∀ r p, r < 6 → p < n → J r ≠ 0 → (r < 3 → par r p ≠ 0) → a_recBalance (r * 5 + p) = nI (B r p) ∧ a_recDigest (r * 5 + p) = D r p) ∧
      (∀ r c, r < 6 → c < 25 → J r ≠ 0 → (ST r c).length ≤ 4 ∧ a_recLength (r * 25 + c) = nI (ST r c).length ∧ ms_ls (ST r c) ((r * 25 + c) * 4) a_recAmount)
def ms_RY (A : ms_S) (L0 : Nat → List Nat) (v : SY) : Prop := match A with
  | (n, room, slots, up, last, kept, B0, D0, Q, J, root, par, fin, mI, rI, B, D, L, ST) => match v with
    | (f_n, f_room, f_slots, f_up, f_last, f_kept, a_ids, a_bal, a_dig, a_len, a_amt, a_par, a_reported, a_count, a_queue) =>
      (f_n = nI n ∧ f_room = nI room ∧ f_slots = nI slots ∧ f_up = ms_b up ∧ f_last = nI last ∧ f_kept = nI kept) ∧
      ms_QY Q a_count a_queue ∧
      (∀ r, r < 6 → a_ids (r + 1) = ms_enc (J r)) ∧
      (∀ s p, s < 3 → p < 5 → a_par ((s + 1) * 5 + p) = ms_enc (par s p) ∧ a_reported ((s + 1) * 5 + p) = ms_b (fin s p)) ∧
      ms_PL 0 B0 D0 L0 a_bal a_dig a_len a_amt ∧
      (∀ r, r < 6 → J r ≠ 0 → ms_PL (r + 1) (B r) (D r) (L r) a_bal a_dig a_len a_amt)
def ms_A (n room : Nat) (B : Nat → Nat) (L : Nat → List Nat) : Prop :=
  (∀ p, n ≤ p → p < 5 → B p = 0) ∧ (∀ c, ¬ ms_gd n c → L c = []) ∧ (∀ c, (L c).length ≤ room) ∧ ms_tot B L ≤ 5000
def ms_I0 (n room slots last kept : Nat) : Prop := 2 ≤ n ∧ n ≤ 5 ∧ 1 ≤ room ∧ room ≤ 4 ∧ 1 ≤ slots ∧ slots ≤ 3 ∧ last ≤ 99 ∧ 1 ≤ kept ∧ kept ≤ 3
def ms_IQ (n : Nat) (Q : Nat → List Nat) (J : Nat → Nat) : Prop :=
  (∀ c, ¬ ms_gd n c → Q c = []) ∧ ∀ c x, x ∈ Q c → x % 4 = 1 ∨ ∃ s, s < 3 ∧ J s ≠ 0 ∧ (x = (J s - 1) * 4 + 2 ∨ x = (J s - 1) * 4 + 3)
def ms_IJ (last : Nat) (J : Nat → Nat) : Prop := ∀ s, s < 3 → J s ≠ 0 → J s ≤ last + 1 ∧ ∀ s', s' < 3 → s' ≠ s → J s' ≠ J s
def ms_IP (n : Nat) (par : Nat → Nat → Nat) : Prop := ∀ s p, s < 3 → p < 5 → par s p ≤ 5
def ms_SF (n k root : Nat) (Q : Nat → List Nat) (B0 : Nat → Nat) (D0 : Nat → Int32) (par : Nat → Nat) (fin mI rI : Nat → Bool) (B : Nat → Nat) (D : Nat → Int32) (L ST : Nat → List Nat) : Prop :=
  ms_SI n k root Q B0 D0 par fin mI rI B D L ST ∧ ms_G n par mI ∧ root < n ∧ par root = root + 1
def ms_IK (n room kept : Nat) (J : Nat → Nat) (B : Nat → Nat → Nat) (L ST : Nat → Nat → List Nat) : Prop :=
  ∀ i, i < 3 → (i < kept → J (3 + i) ≠ 0 ∧ J (3 + i) ≤ 100 ∧ ms_A n room (B (3 + i)) (L (3 + i)) ∧ ∀ c, ST (3 + i) c = L (3 + i) c) ∧ (kept ≤ i → J (3 + i) = 0)
def ms_Inv (A : ms_S) : Prop := match A with
  | (n, room, slots, up, last, kept, B0, D0, Q, J, root, par, fin, mI, rI, B, D, L, ST) =>
    ms_I0 n room slots last kept ∧ ms_A n room B0 (fun c => ms_tk (Q c)) ∧ ms_IQ n Q J ∧ ms_IJ last J ∧ ms_IP n par ∧
    (∀ s, s < 3 → J s ≠ 0 → ms_A n room (B s) (L s) ∧ ms_SF n (J s - 1) (root s) Q B0 D0 (par s) (fin s) (mI s) (rI s) (B s) (D s) (L s) (ST s)) ∧
    ms_IK n room kept J B L ST ∧ (up = false → ∀ s, s < 3 → J s = 0)
section
variable {n : Nat} {room : Nat} {slots : Nat} {up : Bool} {last : Nat} {kept : Nat} {B0 : Nat → Nat} {D0 : Nat → Int32} {Q : Nat → List Nat} {J : Nat → Nat} {root : Nat → Nat} {par : Nat → Nat → Nat} {fin : Nat → Nat → Bool} {mI : Nat → Nat → Bool} {rI : Nat → Nat → Bool} {B : Nat → Nat → Nat} {D : Nat → Nat → Int32} {L : Nat → Nat → List Nat} {ST : Nat → Nat → List Nat}
/-- a channel's length: tokens, and a marker and a report for each running snapshot -/
theorem ms_len (J : Nat → Nat) : ∀ l : List Nat, (∀ x, x ∈ l → x % 4 = 1 ∨ ∃ s, s < 3 ∧ J s ≠ 0 ∧ (x = (J s - 1) * 4 + 2 ∨ x = (J s - 1) * 4 + 3)) →
    l.length ≤ (ms_tk l).length + (if J 0 = 0 then 0 else ms_ct ((J 0 - 1) * 4 + 2) l + ms_ct ((J 0 - 1) * 4 + 3) l) + (if J 1 = 0 then 0 else ms_ct ((J 1 - 1) * 4 + 2) l + ms_ct ((J 1 - 1) * 4 + 3) l) + (if J 2 = 0 then 0 else ms_ct ((J 2 - 1) * 4 + 2) l + ms_ct ((J 2 - 1) * 4 + 3) l) := by
  intro l
  induction l with
  | nil => intro _; exact Nat.zero_le _
  | cons x l ih =>
    intro h
    have h1 := ih (fun y hy => h y (List.mem_cons_of_mem _ hy))
    have mono : ∀ m, ms_ct m l ≤ ms_ct m (x :: l) := by
      intro m
      by_cases e : x = m
      · subst e; rw [ms_ct_cs]; omega
      · rw [ms_ct_cn e]; exact Nat.le_refl _
    have f2 : ∀ s, (if J s = 0 then 0 else ms_ct ((J s - 1) * 4 + 2) l + ms_ct ((J s - 1) * 4 + 3) l) ≤ (if J s = 0 then 0 else ms_ct ((J s - 1) * 4 + 2) (x :: l) + ms_ct ((J s - 1) * 4 + 3) (x :: l)) := by
      intro s
      have a1 := mono ((J s - 1) * 4 + 2)
      have a2 := mono ((J s - 1) * 4 + 3)
      by_cases e : J s = 0
      · rw [if_pos e, if_pos e]; exact Nat.le_refl _
      · rw [if_neg e, if_neg e]; omega
    have g0 := f2 0
    have g1 := f2 1
    have g2 := f2 2
    rw [List.length_cons]
    rcases h x List.mem_cons_self with hx | ⟨s, hs, hJ, hx⟩
    · rw [ms_tk_c1 hx, List.length_cons]; omega
    · have hn : ¬ x % 4 = 1 := by rcases hx with hx | hx <;> omega
      rw [ms_tk_c0 hn]
      have f3 : (if J s = 0 then 0 else ms_ct ((J s - 1) * 4 + 2) l + ms_ct ((J s - 1) * 4 + 3) l) + 1 ≤ (if J s = 0 then 0 else ms_ct ((J s - 1) * 4 + 2) (x :: l) + ms_ct ((J s - 1) * 4 + 3) (x :: l)) := by
        have a1 := mono ((J s - 1) * 4 + 2)
        have a2 := mono ((J s - 1) * 4 + 3)
        rw [if_neg hJ, if_neg hJ]
        rcases hx with hx | hx
        · have : ms_ct ((J s - 1) * 4 + 2) (x :: l) = ms_ct ((J s - 1) * 4 + 2) l + 1 := by rw [← hx, ms_ct_cs]
          omega
        · have : ms_ct ((J s - 1) * 4 + 3) (x :: l) = ms_ct ((J s - 1) * 4 + 3) l + 1 := by rw [← hx, ms_ct_cs]
          omega
      have hs3 : s = 0 ∨ s = 1 ∨ s = 2 := by omega
      rcases hs3 with rfl | rfl | rfl
      · omega
      · omega
      · omega
end
end
section
/-! X: arguments, channels -/
section
variable {f_n f_room f_slots f_up f_last f_keptCount : Int32} {a_liveBalance a_liveDigest a_ring a_head a_count a_tokens a_rootOf a_parentOf a_finished a_markerIn a_reportIn a_recId a_recBalance a_recDigest a_recLength a_recAmount : Nat → Int32} {n : Nat} {room : Nat} {slots : Nat} {up : Bool} {last : Nat} {kept : Nat} {B0 : Nat → Nat} {D0 : Nat → Int32} {Q : Nat → List Nat} {J : Nat → Nat} {root : Nat → Nat} {par : Nat → Nat → Nat} {fin : Nat → Nat → Bool} {mI : Nat → Nat → Bool} {rI : Nat → Nat → Bool} {B : Nat → Nat → Nat} {D : Nat → Nat → Int32} {L : Nat → Nat → List Nat} {ST : Nat → Nat → List Nat} {post : Int32 → Prop}
theorem ms_x_gp1 {f t : Nat} (hn : f_n = nI n) (h5 : n ≤ 5) (hf : f < n) (ht : t < n) (hft : f ≠ t) (hp : post 1) : wpX_goodPair post (f_n, f_room, f_slots, f_up, f_last, f_keptCount, a_liveBalance, a_liveDigest, a_ring, a_head, a_count, a_tokens, a_rootOf, a_parentOf, a_finished, a_markerIn, a_reportIn, a_recId, a_recBalance, a_recDigest, a_recLength, a_recAmount) (nI f) (nI t) := by
  subst hn
  exact ⟨fun z => absurd z (nI_pos (by omega)), fun _ => ⟨fun z => absurd z (nI_ge hf (by omega)), fun _ => ⟨fun z => absurd z (nI_pos (by omega)), fun _ => ⟨fun z => absurd z (nI_ge ht (by omega)), fun _ => ⟨fun z => absurd ((nI_eq (by omega) (by omega)).mp z) hft, fun _ => hp⟩⟩⟩⟩⟩
theorem ms_x_gp0 {p0 p1 : Int32} (hn : f_n = nI n) (h5 : n ≤ 5) (hg : ¬ ∃ f t, f < n ∧ t < n ∧ f ≠ t ∧ p0 = nI f ∧ p1 = nI t) (hp : post 0) : wpX_goodPair post (f_n, f_room, f_slots, f_up, f_last, f_keptCount, a_liveBalance, a_liveDigest, a_ring, a_head, a_count, a_tokens, a_rootOf, a_parentOf, a_finished, a_markerIn, a_reportIn, a_recId, a_recBalance, a_recDigest, a_recLength, a_recAmount) p0 p1 := by
  subst hn
  refine ⟨fun _ => hp, fun a => ⟨fun _ => hp, fun b => ⟨fun _ => hp, fun c => ⟨fun _ => hp, fun d => ⟨fun _ => hp, fun e => absurd ?_ hg⟩⟩⟩⟩⟩
  obtain ⟨f, hf, rfl⟩ := nI_of a
  obtain ⟨t, ht, rfl⟩ := nI_of c
  rw [nI_leI (by omega) hf] at b
  rw [nI_leI (by omega) ht] at d
  exact ⟨f, t, by omega, by omega, fun z => e (by rw [z]), rfl, rfl⟩
theorem ms_x_pr1 {p : Nat} (hn : f_n = nI n) (h5 : n ≤ 5) (hf : p < n) (hp : post 1) : wpX_goodProcess post (f_n, f_room, f_slots, f_up, f_last, f_keptCount, a_liveBalance, a_liveDigest, a_ring, a_head, a_count, a_tokens, a_rootOf, a_parentOf, a_finished, a_markerIn, a_reportIn, a_recId, a_recBalance, a_recDigest, a_recLength, a_recAmount) (nI p) := by
  subst hn
  exact ⟨fun z => absurd z (nI_pos (by omega)), fun _ => ⟨fun z => absurd z (nI_ge hf (by omega)), fun _ => hp⟩⟩
theorem ms_x_pr0 {p0 : Int32} (hn : f_n = nI n) (h5 : n ≤ 5) (hg : ¬ ∃ f, f < n ∧ p0 = nI f) (hp : post 0) : wpX_goodProcess post (f_n, f_room, f_slots, f_up, f_last, f_keptCount, a_liveBalance, a_liveDigest, a_ring, a_head, a_count, a_tokens, a_rootOf, a_parentOf, a_finished, a_markerIn, a_reportIn, a_recId, a_recBalance, a_recDigest, a_recLength, a_recAmount) p0 := by
  subst hn
  refine ⟨fun _ => hp, fun a => ⟨fun _ => hp, fun b => absurd ?_ hg⟩⟩
  obtain ⟨f, hf, rfl⟩ := nI_of a
  rw [nI_leI (by omega) hf] at b
  exact ⟨f, by omega, rfl⟩
theorem ms_x_itemAt {c i : Nat} (hQ : ms_QX Q a_ring a_head a_count a_tokens) (hc : c < 25) (hi : i < (Q c).length) (hp : post (nI (ms_nth (Q c) i))) : wpX_itemAt post (f_n, f_room, f_slots, f_up, f_last, f_keptCount, a_liveBalance, a_liveDigest, a_ring, a_head, a_count, a_tokens, a_rootOf, a_parentOf, a_finished, a_markerIn, a_reportIn, a_recId, a_recBalance, a_recDigest, a_recLength, a_recAmount) (nI c) (nI i) := by
  obtain ⟨q1, q2, q3, h, h16, hh, hr⟩ := hQ c hc
  have e : nI c * 16 + ((a_head (nI c).toNatClampNeg + nI i) &&& 15) = nI (c * 16 + (h + i) % 16) := by
    rw [nI_clamp (by omega), hh, nI_add, ms_and15 (by omega), ms_m16, nI_add]
  refine And.intro (vp_in_nI hc (by decide)) (And.intro ?_ ?_)
  · rw [e]; exact vp_in_nI (by omega) (by decide)
  · show post (a_ring (nI c * 16 + ((a_head (nI c).toNatClampNeg + nI i) &&& 15)).toNatClampNeg)
    rw [e, nI_clamp (by omega), hr i hi]; exact hp
end
theorem ms_QX_push {Q : Nat → List Nat} {ring head count tokens tok' : Nat → Int32} {c x h : Nat} (hQ : ms_QX Q ring head count tokens) (hl : (Q c).length < 10) (h16 : h < 16) (hh : head c = nI h)
    (hr : ∀ i, i < (Q c).length → ring (c * 16 + (h + i) % 16) = nI (ms_nth (Q c) i)) (ht : tok' c = nI (ms_tk (Q c ++ [x])).length) (hto : ∀ j, j ≠ c → tok' j = tokens j) :
    ms_QX (ms_set Q c (Q c ++ [x])) (upd ring (c * 16 + (h + (Q c).length) % 16) (nI x)) head (upd count c (nI ((Q c).length + 1))) tok' := by
  intro j hj
  by_cases e : j = c
  · subst e
    rw [ms_set_s, pk_us, List.length_append]
    refine ⟨?_, rfl, ht, h, h16, hh, fun i hi => ?_⟩
    · show (Q j).length + 1 ≤ 10
      omega
    · have hi' : i < (Q j).length + 1 := hi
      by_cases e2 : i = (Q j).length
      · rw [e2, pk_us, ms_nth_eq]
      · rw [pk_un (by omega), hr i (by omega), ms_nth_lt x _ _ (by omega)]
  · obtain ⟨q1, q2, q3, h', h16', hh', hr'⟩ := hQ j hj
    rw [ms_set_n e, pk_un e, hto j e]
    refine ⟨q1, q2, q3, h', h16', hh', fun i hi => ?_⟩
    rw [pk_un (by omega), hr' i hi]
theorem ms_QX_pop {Q : Nat → List Nat} {ring head count tokens tok' : Nat → Int32} {c x h : Nat} {tl : List Nat} (hQ : ms_QX Q ring head count tokens) (e : Q c = x :: tl) (hl : (Q c).length ≤ 10) (h16 : h < 16)
    (hr : ∀ i, i < (Q c).length → ring (c * 16 + (h + i) % 16) = nI (ms_nth (Q c) i)) (ht : tok' c = nI (ms_tk tl).length) (hto : ∀ j, j ≠ c → tok' j = tokens j) :
    ms_QX (ms_set Q c tl) ring (upd head c (nI ((h + 1) % 16))) (upd count c (nI tl.length)) tok' := by
  intro j hj
  rw [e, List.length_cons] at hl
  by_cases e1 : j = c
  · subst e1
    rw [ms_set_s, pk_us, pk_us]
    refine ⟨by omega, rfl, ht, (h + 1) % 16, by omega, rfl, fun i hi => ?_⟩
    have := hr (i + 1) (by rw [e, List.length_cons]; omega)
    rw [e] at this
    rw [show ((h + 1) % 16 + i) % 16 = (h + (i + 1)) % 16 by omega]
    exact this
  · rw [ms_set_n e1, pk_un e1, pk_un e1, hto j e1]
    exact hQ j hj
section
variable {n : Nat} {room : Nat} {slots : Nat} {up : Bool} {last : Nat} {kept : Nat} {B0 : Nat → Nat} {D0 : Nat → Int32} {Q : Nat → List Nat} {J : Nat → Nat} {root : Nat → Nat} {par : Nat → Nat → Nat} {fin : Nat → Nat → Bool} {mI : Nat → Nat → Bool} {rI : Nat → Nat → Bool} {B : Nat → Nat → Nat} {D : Nat → Nat → Int32} {L : Nat → Nat → List Nat} {ST : Nat → Nat → List Nat} {u : SX}
theorem ms_x_append {post : SX → Prop} {c v k : Nat} {p0 p1 p2 : Int32} (H : ms_RX (n, room, slots, up, last, kept, B0, D0, Q, J, root, par, fin, mI, rI, B, D, L, ST) u) (hc : c < 25) (hl : (Q c).length < 10) (hk : k < 4) (hv : v < 1000000) (e0 : p0 = nI c) (e1 : p1 = nI v) (e2 : p2 = nI k)
    (K : ∀ u', ms_RX (n, room, slots, up, last, kept, B0, D0, ms_set Q c (Q c ++ [v * 4 + k]), J, root, par, fin, mI, rI, B, D, L, ST) u' → post u') : wpX_append post u p0 p1 p2 := by
  obtain ⟨f_n, f_room, f_slots, f_up, f_last, f_keptCount, a_liveBalance, a_liveDigest, a_ring, a_head, a_count, a_tokens, a_rootOf, a_parentOf, a_finished, a_markerIn, a_reportIn, a_recId, a_recBalance, a_recDigest, a_recLength, a_recAmount⟩ := u
  obtain ⟨h1, h2, hQ, h4⟩ := H
  obtain ⟨q1, q2, q3, h, h16, hh, hr⟩ := hQ c hc
  subst e0 e1 e2
  have e : nI c * 16 + ((nI h + nI (Q c).length) &&& 15) = nI (c * 16 + (h + (Q c).length) % 16) := by
    rw [nI_add, ms_and15 (by omega), ms_m16, nI_add]
  have ex : nI v * 4 + nI k = nI (v * 4 + k) := by rw [ms_m4, nI_add]
  simp (disch := omega) only [wpX_append, q2, hh, forall_eq, nI_leI, nI_ltI, nI_eq, vp_in_nI, nI_clamp, nI_1, nI_add, ms_m4, ms_m5, ms_m10, ms_m16, ms_m25, ms_m100, ms_l2, ms_l3, ms_l4, ms_l15, ms_l75, ms_r2, ms_r3, ms_r25, ms_r8, ms_ge1, ms_ge3, ms_ge4, ms_ge5, ms_ge6, ms_ge7, ms_ge10, ms_ge25, ms_ge100, ms_gt3, ms_lt1, ms_lt3, ms_lt4, ms_lt16, ms_lt99, ms_le3, ms_eq1, ms_eq2, ms_eq99, ms_le0, ms_eq0, ms_lt0, ms_0le, ms_0lt, ms_vb0, ms_vb1, ms_and15, ms_and3, ms_shr2, true_implies, forall_const, not_true_eq_false, not_false_eq_true, false_implies, and_true, true_and, implies_true, and_self, eq_self]
  have hlt : (Q c).length < 16 := by omega
  have hin : c * 16 + (h + (Q c).length) % 16 < 400 := by omega
  simp (disch := omega) only [hlt, forall_eq, nI_leI, nI_ltI, nI_eq, vp_in_nI, nI_clamp, nI_1, nI_add, ms_m4, ms_m5, ms_m10, ms_m16, ms_m25, ms_m100, ms_l2, ms_l3, ms_l4, ms_l15, ms_l75, ms_r2, ms_r3, ms_r25, ms_r8, ms_ge1, ms_ge3, ms_ge4, ms_ge5, ms_ge6, ms_ge7, ms_ge10, ms_ge25, ms_ge100, ms_gt3, ms_lt1, ms_lt3, ms_lt4, ms_lt16, ms_lt99, ms_le3, ms_eq1, ms_eq2, ms_eq99, ms_le0, ms_eq0, ms_lt0, ms_0le, ms_0lt, ms_vb0, ms_vb1, ms_and15, ms_and3, ms_shr2, true_implies, forall_const, not_true_eq_false, not_false_eq_true, false_implies, and_true, true_and, implies_true, and_self, eq_self]
  by_cases hk1 : k = 1
  · subst hk1
    simp (disch := omega) only [q3, forall_eq, nI_leI, nI_ltI, nI_eq, vp_in_nI, nI_clamp, nI_1, nI_add, ms_m4, ms_m5, ms_m10, ms_m16, ms_m25, ms_m100, ms_l2, ms_l3, ms_l4, ms_l15, ms_l75, ms_r2, ms_r3, ms_r25, ms_r8, ms_ge1, ms_ge3, ms_ge4, ms_ge5, ms_ge6, ms_ge7, ms_ge10, ms_ge25, ms_ge100, ms_gt3, ms_lt1, ms_lt3, ms_lt4, ms_lt16, ms_lt99, ms_le3, ms_eq1, ms_eq2, ms_eq99, ms_le0, ms_eq0, ms_lt0, ms_0le, ms_0lt, ms_vb0, ms_vb1, ms_and15, ms_and3, ms_shr2, true_implies, forall_const, not_true_eq_false, not_false_eq_true, false_implies, and_true, true_and, implies_true, and_self, eq_self]
    refine K _ ?_
    refine ⟨h1, h2, ms_QX_push hQ hl h16 hh hr ?_ (fun j hj => pk_un hj), h4⟩
    rw [pk_us, ms_tk_a1 (by omega), List.length_append]; rfl
  · simp (disch := omega) only [hk1, forall_eq, nI_leI, nI_ltI, nI_eq, vp_in_nI, nI_clamp, nI_1, nI_add, ms_m4, ms_m5, ms_m10, ms_m16, ms_m25, ms_m100, ms_l2, ms_l3, ms_l4, ms_l15, ms_l75, ms_r2, ms_r3, ms_r25, ms_r8, ms_ge1, ms_ge3, ms_ge4, ms_ge5, ms_ge6, ms_ge7, ms_ge10, ms_ge25, ms_ge100, ms_gt3, ms_lt1, ms_lt3, ms_lt4, ms_lt16, ms_lt99, ms_le3, ms_eq1, ms_eq2, ms_eq99, ms_le0, ms_eq0, ms_lt0, ms_0le, ms_0lt, ms_vb0, ms_vb1, ms_and15, ms_and3, ms_shr2, true_implies, forall_const, not_true_eq_false, not_false_eq_true, false_implies, and_true, true_and, implies_true, and_self, eq_self]
    refine K _ ?_
    refine ⟨h1, h2, ms_QX_push hQ hl h16 hh hr ?_ (fun j hj => rfl), h4⟩
    rw [q3, ms_tk_a0 (by omega)]
theorem ms_x_takeHead {post : Int32 → SX → Prop} {c x : Nat} {tl : List Nat} (H : ms_RX (n, room, slots, up, last, kept, B0, D0, Q, J, root, par, fin, mI, rI, B, D, L, ST) u) (hc : c < 25) (hx : x < 4000000) (eQ : Q c = x :: tl)
    (K : ∀ u', ms_RX (n, room, slots, up, last, kept, B0, D0, ms_set Q c tl, J, root, par, fin, mI, rI, B, D, L, ST) u' → post (nI x) u') : wpX_takeHead post u (nI c) := by
  obtain ⟨f_n, f_room, f_slots, f_up, f_last, f_keptCount, a_liveBalance, a_liveDigest, a_ring, a_head, a_count, a_tokens, a_rootOf, a_parentOf, a_finished, a_markerIn, a_reportIn, a_recId, a_recBalance, a_recDigest, a_recLength, a_recAmount⟩ := u
  obtain ⟨h1, h2, hQ, h4⟩ := H
  obtain ⟨q1, q2, q3, h, h16, hh, hr⟩ := hQ c hc
  unfold wpX_takeHead
  refine ms_x_itemAt (i := 0) hQ hc (by rw [eQ]; exact Nat.succ_pos _) ?_
  rw [eQ] at q2 q3
  rw [eQ]
  show vp_in (nI c) 25 ∧ _
  have hnx : ms_nth (x :: tl) 0 = x := rfl
  have hlen : (x :: tl).length = tl.length + 1 := rfl
  have hl : tl.length < 10 := by rw [eQ, hlen] at q1; omega
  simp (disch := omega) only [hnx, q2, hh, hlen, nI_pred, ms_and15, ms_and3, forall_eq, nI_leI, nI_ltI, nI_eq, vp_in_nI, nI_clamp, nI_1, nI_add, ms_m4, ms_m5, ms_m10, ms_m16, ms_m25, ms_m100, ms_l2, ms_l3, ms_l4, ms_l15, ms_l75, ms_r2, ms_r3, ms_r25, ms_r8, ms_ge1, ms_ge3, ms_ge4, ms_ge5, ms_ge6, ms_ge7, ms_ge10, ms_ge25, ms_ge100, ms_gt3, ms_lt1, ms_lt3, ms_lt4, ms_lt16, ms_lt99, ms_le3, ms_eq1, ms_eq2, ms_eq99, ms_le0, ms_eq0, ms_lt0, ms_0le, ms_0lt, ms_vb0, ms_vb1, ms_and15, ms_and3, ms_shr2, true_implies, forall_const, not_true_eq_false, not_false_eq_true, false_implies, and_true, true_and, implies_true, and_self, eq_self]
  by_cases hk1 : x % 4 = 1
  · rw [ms_tk_c1 hk1] at q3
    simp (disch := omega) only [hk1, q3, List.length_cons, nI_pred, forall_eq, nI_leI, nI_ltI, nI_eq, vp_in_nI, nI_clamp, nI_1, nI_add, ms_m4, ms_m5, ms_m10, ms_m16, ms_m25, ms_m100, ms_l2, ms_l3, ms_l4, ms_l15, ms_l75, ms_r2, ms_r3, ms_r25, ms_r8, ms_ge1, ms_ge3, ms_ge4, ms_ge5, ms_ge6, ms_ge7, ms_ge10, ms_ge25, ms_ge100, ms_gt3, ms_lt1, ms_lt3, ms_lt4, ms_lt16, ms_lt99, ms_le3, ms_eq1, ms_eq2, ms_eq99, ms_le0, ms_eq0, ms_lt0, ms_0le, ms_0lt, ms_vb0, ms_vb1, ms_and15, ms_and3, ms_shr2, true_implies, forall_const, not_true_eq_false, not_false_eq_true, false_implies, and_true, true_and, implies_true, and_self, eq_self]
    refine K _ ?_
    exact ⟨h1, h2, ms_QX_pop hQ eQ q1 h16 hr pk_us (fun j hj => pk_un hj), h4⟩
  · rw [ms_tk_c0 hk1] at q3
    simp (disch := omega) only [hk1, forall_eq, nI_leI, nI_ltI, nI_eq, vp_in_nI, nI_clamp, nI_1, nI_add, ms_m4, ms_m5, ms_m10, ms_m16, ms_m25, ms_m100, ms_l2, ms_l3, ms_l4, ms_l15, ms_l75, ms_r2, ms_r3, ms_r25, ms_r8, ms_ge1, ms_ge3, ms_ge4, ms_ge5, ms_ge6, ms_ge7, ms_ge10, ms_ge25, ms_ge100, ms_gt3, ms_lt1, ms_lt3, ms_lt4, ms_lt16, ms_lt99, ms_le3, ms_eq1, ms_eq2, ms_eq99, ms_le0, ms_eq0, ms_lt0, ms_0le, ms_0lt, ms_vb0, ms_vb1, ms_and15, ms_and3, ms_shr2, true_implies, forall_const, not_true_eq_false, not_false_eq_true, false_implies, and_true, true_and, implies_true, and_self, eq_self]
    refine K _ ?_
    exact ⟨h1, h2, ms_QX_pop hQ eQ q1 h16 hr q3 (fun j hj => rfl), h4⟩
end
end
section
/-! X: scans -/
def ms_rcn (J : Nat → Nat) : Nat → Nat
  | 0 => 0
  | s + 1 => ms_rcn J s + if J s = 0 then 0 else 1
theorem ms_rcn_le (J : Nat → Nat) : ∀ s, ms_rcn J s ≤ s := by
  intro s
  induction s with
  | zero => exact Nat.le_refl _
  | succ s ih =>
    show ms_rcn J s + (if J s = 0 then 0 else 1) ≤ s + 1
    by_cases e : J s = 0
    · rw [if_pos e]; omega
    · rw [if_neg e]; omega
theorem ms_first (P : Nat → Prop) : ∀ N, (∃ r, r < N ∧ P r ∧ ∀ r', r' < r → ¬ P r') ∨ ∀ r, r < N → ¬ P r := by
  intro N
  induction N with
  | zero => exact Or.inr (fun r hr => absurd hr (Nat.not_lt_zero _))
  | succ N ih =>
    rcases ih with ⟨r, a, b⟩ | h
    · exact Or.inl ⟨r, by omega, b⟩
    · by_cases e : P N
      · exact Or.inl ⟨N, by omega, e, h⟩
      · refine Or.inr (fun r hr => ?_)
        by_cases e2 : r = N
        · rw [e2]; exact e
        · exact h r (by omega)
section
variable {f_n f_room f_slots f_up f_last f_keptCount : Int32} {a_liveBalance a_liveDigest a_ring a_head a_count a_tokens a_rootOf a_parentOf a_finished a_markerIn a_reportIn a_recId a_recBalance a_recDigest a_recLength a_recAmount : Nat → Int32} {n : Nat} {room : Nat} {slots : Nat} {up : Bool} {last : Nat} {kept : Nat} {B0 : Nat → Nat} {D0 : Nat → Int32} {Q : Nat → List Nat} {J : Nat → Nat} {root : Nat → Nat} {par : Nat → Nat → Nat} {fin : Nat → Nat → Bool} {mI : Nat → Nat → Bool} {rI : Nat → Nat → Bool} {B : Nat → Nat → Nat} {D : Nat → Nat → Int32} {L : Nat → Nat → List Nat} {ST : Nat → Nat → List Nat} {post : Int32 → Prop}
theorem ms_x_len48 {c m : Nat} (hQ : ms_QX Q a_ring a_head a_count a_tokens) (hc : c < 25) (hm : m < 4000000) (hb : ∀ x, x ∈ Q c → x < 4000000) : ∀ (suf : List Nat) (N i len : Nat), suf.length < N → i + suf.length = (Q c).length →
    (∀ j, j < suf.length → ms_nth (Q c) (i + j) = ms_nth suf j) → post (nI (len + (ms_bf m suf).length)) → wX_lengthIn_48 post (nI c) (nI m) f_n f_room f_slots f_up f_last f_keptCount a_liveBalance a_liveDigest a_ring a_head a_count a_tokens a_rootOf a_parentOf a_finished a_markerIn a_reportIn a_recId a_recBalance a_recDigest a_recLength a_recAmount N (nI len) (nI i) := by
  have q2 := (hQ c hc).2.1
  have q1 := (hQ c hc).1
  intro suf
  induction suf with
  | nil =>
    intro N i len hN h1 h2 hp
    obtain ⟨N, rfl⟩ : ∃ M, N = M + 1 := ⟨N - 1, by omega⟩
    have hle : (Q c).length ≤ i := by rw [← h1]; exact Nat.le_refl _
    simp (disch := omega) only [wX_lengthIn_48, q2, hle, forall_eq, nI_leI, nI_ltI, nI_eq, vp_in_nI, nI_clamp, nI_1, nI_add, ms_m4, ms_m5, ms_m10, ms_m16, ms_m25, ms_m100, ms_l2, ms_l3, ms_l4, ms_l15, ms_l75, ms_r2, ms_r3, ms_r25, ms_r8, ms_ge1, ms_ge3, ms_ge4, ms_ge5, ms_ge6, ms_ge7, ms_ge10, ms_ge25, ms_ge100, ms_gt3, ms_lt1, ms_lt3, ms_lt4, ms_lt16, ms_lt99, ms_le3, ms_eq1, ms_eq2, ms_eq99, ms_le0, ms_eq0, ms_lt0, ms_0le, ms_0lt, ms_vb0, ms_vb1, ms_and15, ms_and3, ms_shr2, true_implies, forall_const, not_true_eq_false, not_false_eq_true, false_implies, and_true, true_and, implies_true, and_self, eq_self]
    exact hp
  | cons y suf ih =>
    intro N i len hN h1 h2 hp
    obtain ⟨N, rfl⟩ : ∃ M, N = M + 1 := ⟨N - 1, by omega⟩
    rw [List.length_cons] at h1 hN
    have hle : ¬ (Q c).length ≤ i := by omega
    have hy : ms_nth (Q c) i = y := h2 0 (by rw [List.length_cons]; omega)
    have hyb : y < 4000000 := by
      rw [← hy]; exact hb _ (ms_nth_mem _ _ (by omega))
    have h2' : ∀ j, j < suf.length → ms_nth (Q c) (i + 1 + j) = ms_nth suf j := by
      intro j hj
      have := h2 (j + 1) (by rw [List.length_cons]; omega)
      rw [show i + 1 + j = i + (j + 1) by omega]; exact this
    simp (disch := omega) only [wX_lengthIn_48, q2, hle, forall_eq, nI_leI, nI_ltI, nI_eq, vp_in_nI, nI_clamp, nI_1, nI_add, ms_m4, ms_m5, ms_m10, ms_m16, ms_m25, ms_m100, ms_l2, ms_l3, ms_l4, ms_l15, ms_l75, ms_r2, ms_r3, ms_r25, ms_r8, ms_ge1, ms_ge3, ms_ge4, ms_ge5, ms_ge6, ms_ge7, ms_ge10, ms_ge25, ms_ge100, ms_gt3, ms_lt1, ms_lt3, ms_lt4, ms_lt16, ms_lt99, ms_le3, ms_eq1, ms_eq2, ms_eq99, ms_le0, ms_eq0, ms_lt0, ms_0le, ms_0lt, ms_vb0, ms_vb1, ms_and15, ms_and3, ms_shr2, true_implies, forall_const, not_true_eq_false, not_false_eq_true, false_implies, and_true, true_and, implies_true, and_self, eq_self]
    refine ms_x_itemAt hQ hc (by omega) ?_
    rw [hy]
    by_cases e : y = m
    · subst e
      rw [ms_bf_cs] at hp
      exact br_t rfl hp
    · refine br_f (fun z => e ((nI_eq (by omega) (by omega)).mp z)) ?_
      by_cases e1 : y % 4 = 1
      · rw [ms_bf_c1 e e1, List.length_cons] at hp
        refine br_t (by rw [ms_and3 (by omega), e1]; rfl) (ih N _ _ (by omega) (by omega) h2' ?_)
        rw [show len + 1 + (ms_bf m suf).length = len + ((ms_bf m suf).length + 1) by omega]; exact hp
      · rw [ms_bf_c0 e e1] at hp
        refine br_f (fun z => e1 ?_) (ih N _ _ (by omega) (by omega) h2' hp)
        rw [ms_and3 (by omega), ms_eq1 (by omega)] at z; exact z
theorem ms_x_fs8 {x1 : Int32} {r : Nat} (hI : ∀ r, r < 6 → a_recId r = ms_enc (J r)) (hr : r < 3) (he : ms_enc (J r) = x1) (hl : ∀ r', r' < r → ms_enc (J r') ≠ x1) (hp : post (nI r)) : ∀ d N i, i + d = r → d < N → wX_findSlot_8 post x1 f_n f_room f_slots f_up f_last f_keptCount a_liveBalance a_liveDigest a_ring a_head a_count a_tokens a_rootOf a_parentOf a_finished a_markerIn a_reportIn a_recId a_recBalance a_recDigest a_recLength a_recAmount N (nI i) := by
  intro d
  induction d with
  | zero =>
    intro N i h1 hN
    obtain ⟨N, rfl⟩ : ∃ M, N = M + 1 := ⟨N - 1, by omega⟩
    obtain rfl : i = r := by omega
    refine br_f (nI_ge (b := 3) hr (by decide)) (And.intro (vp_in_nI (by omega) (by decide)) (br_t ?_ hp))
    rw [nI_clamp (by omega), hI i (by omega)]; exact he
  | succ d ih =>
    intro N i h1 hN
    obtain ⟨N, rfl⟩ : ∃ M, N = M + 1 := ⟨N - 1, by omega⟩
    refine br_f (nI_ge (b := 3) (by omega) (by decide)) (And.intro (vp_in_nI (by omega) (by decide)) (br_f ?_ (nm_r (nI_1 i) (ih N _ (by omega) (by omega)))))
    rw [nI_clamp (by omega), hI i (by omega)]; exact hl i (by omega)
theorem ms_x_fs8n {x1 : Int32} (hI : ∀ r, r < 6 → a_recId r = ms_enc (J r)) (hl : ∀ r', r' < 3 → ms_enc (J r') ≠ x1) (hp : post (-1)) : ∀ d N i, i + d = 3 → d < N → wX_findSlot_8 post x1 f_n f_room f_slots f_up f_last f_keptCount a_liveBalance a_liveDigest a_ring a_head a_count a_tokens a_rootOf a_parentOf a_finished a_markerIn a_reportIn a_recId a_recBalance a_recDigest a_recLength a_recAmount N (nI i) := by
  intro d
  induction d with
  | zero =>
    intro N i h1 hN
    obtain ⟨N, rfl⟩ : ∃ M, N = M + 1 := ⟨N - 1, by omega⟩
    exact br_t (nI_le (a := 3) (by omega) (by omega)) hp
  | succ d ih =>
    intro N i h1 hN
    obtain ⟨N, rfl⟩ : ∃ M, N = M + 1 := ⟨N - 1, by omega⟩
    refine br_f (nI_ge (b := 3) (by omega) (by decide)) (And.intro (vp_in_nI (by omega) (by decide)) (br_f ?_ (nm_r (nI_1 i) (ih N _ (by omega) (by omega)))))
    rw [nI_clamp (by omega), hI i (by omega)]; exact hl i (by omega)
theorem ms_x_fe8 {x1 : Int32} {r : Nat} (hI : ∀ r, r < 6 → a_recId r = ms_enc (J r)) (hr : r < 6) (he : ms_enc (J r) = x1) (hl : ∀ r', r' < r → ms_enc (J r') ≠ x1) (hp : post (nI r)) : ∀ d N i, i + d = r → d < N → wX_findEntry_8 post x1 f_n f_room f_slots f_up f_last f_keptCount a_liveBalance a_liveDigest a_ring a_head a_count a_tokens a_rootOf a_parentOf a_finished a_markerIn a_reportIn a_recId a_recBalance a_recDigest a_recLength a_recAmount N (nI i) := by
  intro d
  induction d with
  | zero =>
    intro N i h1 hN
    obtain ⟨N, rfl⟩ : ∃ M, N = M + 1 := ⟨N - 1, by omega⟩
    obtain rfl : i = r := by omega
    refine br_f (nI_ge (b := 6) hr (by decide)) (And.intro (vp_in_nI (by omega) (by decide)) (br_t ?_ hp))
    rw [nI_clamp (by omega), hI i (by omega)]; exact he
  | succ d ih =>
    intro N i h1 hN
    obtain ⟨N, rfl⟩ : ∃ M, N = M + 1 := ⟨N - 1, by omega⟩
    refine br_f (nI_ge (b := 6) (by omega) (by decide)) (And.intro (vp_in_nI (by omega) (by decide)) (br_f ?_ (nm_r (nI_1 i) (ih N _ (by omega) (by omega)))))
    rw [nI_clamp (by omega), hI i (by omega)]; exact hl i (by omega)
theorem ms_x_fe8n {x1 : Int32} (hI : ∀ r, r < 6 → a_recId r = ms_enc (J r)) (hl : ∀ r', r' < 6 → ms_enc (J r') ≠ x1) (hp : post (-1)) : ∀ d N i, i + d = 6 → d < N → wX_findEntry_8 post x1 f_n f_room f_slots f_up f_last f_keptCount a_liveBalance a_liveDigest a_ring a_head a_count a_tokens a_rootOf a_parentOf a_finished a_markerIn a_reportIn a_recId a_recBalance a_recDigest a_recLength a_recAmount N (nI i) := by
  intro d
  induction d with
  | zero =>
    intro N i h1 hN
    obtain ⟨N, rfl⟩ : ∃ M, N = M + 1 := ⟨N - 1, by omega⟩
    exact br_t (nI_le (a := 6) (by omega) (by omega)) hp
  | succ d ih =>
    intro N i h1 hN
    obtain ⟨N, rfl⟩ : ∃ M, N = M + 1 := ⟨N - 1, by omega⟩
    refine br_f (nI_ge (b := 6) (by omega) (by decide)) (And.intro (vp_in_nI (by omega) (by decide)) (br_f ?_ (nm_r (nI_1 i) (ih N _ (by omega) (by omega)))))
    rw [nI_clamp (by omega), hI i (by omega)]; exact hl i (by omega)
theorem ms_x_findSlot {p0 : Int32} {r : Nat} (hI : ∀ r, r < 6 → a_recId r = ms_enc (J r)) (h0 : 0 ≤ p0) (hr : r < 3) (he : ms_enc (J r) = p0) (hl : ∀ r', r' < r → ms_enc (J r') ≠ p0) (hp : post (nI r)) : wpX_findSlot post (f_n, f_room, f_slots, f_up, f_last, f_keptCount, a_liveBalance, a_liveDigest, a_ring, a_head, a_count, a_tokens, a_rootOf, a_parentOf, a_finished, a_markerIn, a_reportIn, a_recId, a_recBalance, a_recDigest, a_recLength, a_recAmount) p0 :=
  br_t h0 ⟨r + 1, ms_x_fs8 hI hr he hl hp r (r + 1) 0 (by omega) (by omega)⟩
theorem ms_x_findSlot_n {p0 : Int32} (hI : ∀ r, r < 6 → a_recId r = ms_enc (J r)) (hl : 0 ≤ p0 → ∀ r', r' < 3 → ms_enc (J r') ≠ p0) (hp : post (-1)) : wpX_findSlot post (f_n, f_room, f_slots, f_up, f_last, f_keptCount, a_liveBalance, a_liveDigest, a_ring, a_head, a_count, a_tokens, a_rootOf, a_parentOf, a_finished, a_markerIn, a_reportIn, a_recId, a_recBalance, a_recDigest, a_recLength, a_recAmount) p0 :=
  br_c (fun h0 => ⟨4, ms_x_fs8n hI (hl h0) hp 3 4 0 (by omega) (by omega)⟩) (fun _ => hp)
theorem ms_x_findEntry {p0 : Int32} {r : Nat} (hI : ∀ r, r < 6 → a_recId r = ms_enc (J r)) (h0 : 0 ≤ p0) (hr : r < 6) (he : ms_enc (J r) = p0) (hl : ∀ r', r' < r → ms_enc (J r') ≠ p0) (hp : post (nI r)) : wpX_findEntry post (f_n, f_room, f_slots, f_up, f_last, f_keptCount, a_liveBalance, a_liveDigest, a_ring, a_head, a_count, a_tokens, a_rootOf, a_parentOf, a_finished, a_markerIn, a_reportIn, a_recId, a_recBalance, a_recDigest, a_recLength, a_recAmount) p0 :=
  br_t h0 ⟨r + 1, ms_x_fe8 hI hr he hl hp r (r + 1) 0 (by omega) (by omega)⟩
theorem ms_x_findEntry_n {p0 : Int32} (hI : ∀ r, r < 6 → a_recId r = ms_enc (J r)) (hl : 0 ≤ p0 → ∀ r', r' < 6 → ms_enc (J r') ≠ p0) (hp : post (-1)) : wpX_findEntry post (f_n, f_room, f_slots, f_up, f_last, f_keptCount, a_liveBalance, a_liveDigest, a_ring, a_head, a_count, a_tokens, a_rootOf, a_parentOf, a_finished, a_markerIn, a_reportIn, a_recId, a_recBalance, a_recDigest, a_recLength, a_recAmount) p0 :=
  br_c (fun h0 => ⟨7, ms_x_fe8n hI (hl h0) hp 6 7 0 (by omega) (by omega)⟩) (fun _ => hp)
theorem ms_x_freeSlot_2 {r : Nat} (hI : ∀ r, r < 6 → a_recId r = ms_enc (J r)) (hJ : ∀ r, r < 6 → J r ≤ 100) (hr : r < 3) (he : J r = 0) (hl : ∀ r', r' < r → J r' ≠ 0) (hp : post (nI r)) : ∀ d N i, i + d = r → d < N → wX_freeSlot_2 post f_n f_room f_slots f_up f_last f_keptCount a_liveBalance a_liveDigest a_ring a_head a_count a_tokens a_rootOf a_parentOf a_finished a_markerIn a_reportIn a_recId a_recBalance a_recDigest a_recLength a_recAmount N (nI i) := by
  intro d
  induction d with
  | zero =>
    intro N i h1 hN
    obtain ⟨N, rfl⟩ : ∃ M, N = M + 1 := ⟨N - 1, by omega⟩
    obtain rfl : i = r := by omega
    refine br_f (nI_ge (b := 3) hr (by decide)) (And.intro (vp_in_nI (by omega) (by decide)) (br_f ?_ hp))
    rw [nI_clamp (by omega), hI i (by omega), he]; exact ms_n1le
  | succ d ih =>
    intro N i h1 hN
    obtain ⟨N, rfl⟩ : ∃ M, N = M + 1 := ⟨N - 1, by omega⟩
    refine br_f (nI_ge (b := 3) (by omega) (by decide)) (And.intro (vp_in_nI (by omega) (by decide)) (br_t ?_ (nm_r (nI_1 i) (ih N _ (by omega) (by omega)))))
    have := hJ i (by omega)
    rw [nI_clamp (by omega), hI i (by omega), ms_e_ge (by omega)]; exact hl i (by omega)
theorem ms_x_freeSlot {r : Nat} (hI : ∀ r, r < 6 → a_recId r = ms_enc (J r)) (hJ : ∀ r, r < 6 → J r ≤ 100) (hr : r < 3) (he : J r = 0) (hl : ∀ r', r' < r → J r' ≠ 0) (hp : post (nI r)) : wpX_freeSlot post (f_n, f_room, f_slots, f_up, f_last, f_keptCount, a_liveBalance, a_liveDigest, a_ring, a_head, a_count, a_tokens, a_rootOf, a_parentOf, a_finished, a_markerIn, a_reportIn, a_recId, a_recBalance, a_recDigest, a_recLength, a_recAmount) :=
  ⟨r + 1, ms_x_freeSlot_2 hI hJ hr he hl hp r (r + 1) 0 (by omega) (by omega)⟩
theorem ms_x_freeSlot_2n (hI : ∀ r, r < 6 → a_recId r = ms_enc (J r)) (hJ : ∀ r, r < 6 → J r ≤ 100) (hl : ∀ r', r' < 3 → J r' ≠ 0) (hp : post (-1)) : ∀ d N i, i + d = 3 → d < N → wX_freeSlot_2 post f_n f_room f_slots f_up f_last f_keptCount a_liveBalance a_liveDigest a_ring a_head a_count a_tokens a_rootOf a_parentOf a_finished a_markerIn a_reportIn a_recId a_recBalance a_recDigest a_recLength a_recAmount N (nI i) := by
  intro d
  induction d with
  | zero =>
    intro N i h1 hN
    obtain ⟨N, rfl⟩ : ∃ M, N = M + 1 := ⟨N - 1, by omega⟩
    exact br_t (nI_le (a := 3) (by omega) (by omega)) hp
  | succ d ih =>
    intro N i h1 hN
    obtain ⟨N, rfl⟩ : ∃ M, N = M + 1 := ⟨N - 1, by omega⟩
    refine br_f (nI_ge (b := 3) (by omega) (by decide)) (And.intro (vp_in_nI (by omega) (by decide)) (br_t ?_ (nm_r (nI_1 i) (ih N _ (by omega) (by omega)))))
    have := hJ i (by omega)
    rw [nI_clamp (by omega), hI i (by omega), ms_e_ge (by omega)]; exact hl i (by omega)
theorem ms_x_freeSlot_n (hI : ∀ r, r < 6 → a_recId r = ms_enc (J r)) (hJ : ∀ r, r < 6 → J r ≤ 100) (hl : ∀ r', r' < 3 → J r' ≠ 0) (hp : post (-1)) : wpX_freeSlot post (f_n, f_room, f_slots, f_up, f_last, f_keptCount, a_liveBalance, a_liveDigest, a_ring, a_head, a_count, a_tokens, a_rootOf, a_parentOf, a_finished, a_markerIn, a_reportIn, a_recId, a_recBalance, a_recDigest, a_recLength, a_recAmount) :=
  ⟨4, ms_x_freeSlot_2n hI hJ hl hp 3 4 0 (by omega) (by omega)⟩
theorem ms_x_rc4 (hI : ∀ r, r < 6 → a_recId r = ms_enc (J r)) (hJ : ∀ r, r < 6 → J r ≤ 100) (hp : post (nI (ms_rcn J 3))) : ∀ d N i, i + d = 3 → d < N → wX_runningCount_4 post f_n f_room f_slots f_up f_last f_keptCount a_liveBalance a_liveDigest a_ring a_head a_count a_tokens a_rootOf a_parentOf a_finished a_markerIn a_reportIn a_recId a_recBalance a_recDigest a_recLength a_recAmount N (nI (ms_rcn J i)) (nI i) := by
  intro d
  induction d with
  | zero =>
    intro N i h1 hN
    obtain ⟨N, rfl⟩ : ∃ M, N = M + 1 := ⟨N - 1, by omega⟩
    obtain rfl : i = 3 := by omega
    exact br_t (nI_le (a := 3) (by omega) (by omega)) hp
  | succ d ih =>
    intro N i h1 hN
    obtain ⟨N, rfl⟩ : ∃ M, N = M + 1 := ⟨N - 1, by omega⟩
    have hj := hJ i (by omega)
    have := ih N (i + 1) (by omega) (by omega)
    refine br_f (nI_ge (b := 3) (by omega) (by decide)) (And.intro (vp_in_nI (by omega) (by decide)) (br_c (fun z => nm_r (nI_1 i) ?_) (fun z => nm_r (nI_1 _) (nm_r (nI_1 i) ?_))))
    · rw [nI_clamp (by omega), hI i (by omega), ms_e_lt (by omega)] at z
      have e : ms_rcn J (i + 1) = ms_rcn J i := by
        show ms_rcn J i + (if J i = 0 then 0 else 1) = _
        rw [if_pos z]; rfl
      rw [e] at this; exact this
    · rw [nI_clamp (by omega), hI i (by omega), ms_e_lt (by omega)] at z
      have e : ms_rcn J (i + 1) = ms_rcn J i + 1 := by
        show ms_rcn J i + (if J i = 0 then 0 else 1) = _
        rw [if_neg z]
      rw [e] at this; exact this
theorem ms_x_runningCount (hI : ∀ r, r < 6 → a_recId r = ms_enc (J r)) (hJ : ∀ r, r < 6 → J r ≤ 100) (hp : post (nI (ms_rcn J 3))) : wpX_runningCount post (f_n, f_room, f_slots, f_up, f_last, f_keptCount, a_liveBalance, a_liveDigest, a_ring, a_head, a_count, a_tokens, a_rootOf, a_parentOf, a_finished, a_markerIn, a_reportIn, a_recId, a_recBalance, a_recDigest, a_recLength, a_recAmount) :=
  ⟨4, ms_x_rc4 hI hJ hp 3 4 0 (by omega) (by omega)⟩
end
end
section
/-! X: the length of a cut's channel; blocked -/
section
variable {f_n f_room f_slots f_up f_last f_keptCount : Int32} {a_liveBalance a_liveDigest a_ring a_head a_count a_tokens a_rootOf a_parentOf a_finished a_markerIn a_reportIn a_recId a_recBalance a_recDigest a_recLength a_recAmount : Nat → Int32} {n : Nat} {room : Nat} {slots : Nat} {up : Bool} {last : Nat} {kept : Nat} {B0 : Nat → Nat} {D0 : Nat → Int32} {Q : Nat → List Nat} {J : Nat → Nat} {root : Nat → Nat} {par : Nat → Nat → Nat} {fin : Nat → Nat → Bool} {mI : Nat → Nat → Bool} {rI : Nat → Nat → Bool} {B : Nat → Nat → Nat} {D : Nat → Nat → Int32} {L : Nat → Nat → List Nat} {ST : Nat → Nat → List Nat}
theorem ms_x_lengthIn {post : Int32 → Prop} {u : SX} {r c : Nat} {p0 p1 : Int32} (H : ms_RX (n, room, slots, up, last, kept, B0, D0, Q, J, root, par, fin, mI, rI, B, D, L, ST) u) (hr : r < 6) (hc : c < 25) (hJ : J r ≠ 0) (hJb : J r ≤ 100) (hb : ∀ x, x ∈ Q c → x < 4000000)
    (hL : L r c = ST r c ++ (if r < 3 then (if mI r c = true then [] else ms_bf ((J r - 1) * 4 + 2) (Q c)) else [])) (e0 : p0 = nI r) (e1 : p1 = nI c) (hp : post (nI (L r c).length)) : wpX_lengthIn post u p0 p1 := by
  obtain ⟨f_n, f_room, f_slots, f_up, f_last, f_keptCount, a_liveBalance, a_liveDigest, a_ring, a_head, a_count, a_tokens, a_rootOf, a_parentOf, a_finished, a_markerIn, a_reportIn, a_recId, a_recBalance, a_recDigest, a_recLength, a_recAmount⟩ := u
  obtain ⟨h1, h2, hQ, hI, hr0, hp0, hm, hE, hS⟩ := H
  subst e0 e1
  have ei : nI r * 25 + nI c = nI (r * 25 + c) := by rw [ms_m25, nI_add]
  have hs := (hS r c hr hc hJ).2.1
  refine And.intro (by rw [ei]; exact vp_in_nI (by omega) (by decide)) (nm_r (e' := nI (ST r c).length) (by rw [ei, nI_clamp (by omega), hs]) ?_)
  by_cases h3 : r < 3
  · rw [if_pos h3] at hL
    have hmi := (hm r c h3 hc).1
    refine br_f (nI_ge (b := 3) h3 (by decide)) (And.intro (by rw [ei]; exact vp_in_nI (by omega) (by decide)) ?_)
    cases e : mI r c with
    | false =>
      rw [e, if_neg (by decide)] at hL
      refine br_t (by rw [ei, nI_clamp (by omega), hmi, e]; rfl) (And.intro (vp_in_nI hr (by decide)) (nm_r (e' := nI ((J r - 1) * 4 + 2)) ?_ ⟨(Q c).length + 1, ?_⟩))
      · rw [nI_clamp (by omega), hI r hr, ms_e_pos hJ, ms_m4, ms_r2]
      · refine ms_x_len48 hQ hc (by omega) hb (Q c) _ 0 _ (Nat.lt_succ_self _) (Nat.zero_add _) (fun j _ => by rw [Nat.zero_add]) ?_
        rw [hL, List.length_append] at hp; exact hp
    | true =>
      rw [e, if_pos rfl, List.append_nil] at hL
      refine br_f (by rw [ei, nI_clamp (by omega), hmi, e]; decide) ?_
      rw [hL] at hp; exact hp
  · rw [if_neg h3, List.append_nil] at hL
    refine br_t (nI_le (a := 3) (by omega) (by omega)) ?_
    rw [hL] at hp; exact hp
theorem ms_x_bl2 {post : Int32 → Prop} {f c : Nat} (H : ms_RX (n, room, slots, up, last, kept, B0, D0, Q, J, root, par, fin, mI, rI, B, D, L, ST) (f_n, f_room, f_slots, f_up, f_last, f_keptCount, a_liveBalance, a_liveDigest, a_ring, a_head, a_count, a_tokens, a_rootOf, a_parentOf, a_finished, a_markerIn, a_reportIn, a_recId, a_recBalance, a_recDigest, a_recLength, a_recAmount)) (hf : f < 5) (hc : c < 25) (hJb : ∀ r, r < 6 → J r ≤ 100) (hb : ∀ x, x ∈ Q c → x < 4000000) (hP : ms_IP n par) (hroom : room ≤ 4) (hll : ∀ s, s < 3 → J s ≠ 0 → (L s c).length ≤ 4)
    (hL : ∀ s, s < 3 → J s ≠ 0 → L s c = ST s c ++ (if mI s c = true then [] else ms_bf ((J s - 1) * 4 + 2) (Q c)))
    (p1 : (∃ s, s < 3 ∧ J s ≠ 0 ∧ par s f = 0 ∧ room ≤ (L s c).length) → post 1) (p0 : (∀ s, s < 3 → ¬ (J s ≠ 0 ∧ par s f = 0 ∧ room ≤ (L s c).length)) → post 0) :
    ∀ d N i, i + d = 3 → d < N → (∀ s, s < i → ¬ (J s ≠ 0 ∧ par s f = 0 ∧ room ≤ (L s c).length)) → wX_blocked_2 post (nI f) (nI c) f_n f_room f_slots f_up f_last f_keptCount a_liveBalance a_liveDigest a_ring a_head a_count a_tokens a_rootOf a_parentOf a_finished a_markerIn a_reportIn a_recId a_recBalance a_recDigest a_recLength a_recAmount N (nI i) := by
  obtain ⟨⟨_, hfr, _⟩, h2, hQ, hI, hr0, hp0, hm, hE, hS⟩ := id H
  intro d
  induction d with
  | zero =>
    intro N i h1 hN hb'
    obtain ⟨N, rfl⟩ : ∃ M, N = M + 1 := ⟨N - 1, by omega⟩
    obtain rfl : i = 3 := by omega
    exact br_t (nI_le (a := 3) (by omega) (by omega)) (p0 hb')
  | succ d ih =>
    intro N i h1 hN hb'
    obtain ⟨N, rfl⟩ : ∃ M, N = M + 1 := ⟨N - 1, by omega⟩
    have hj := hJb i (by omega)
    have hpi := hP i f (by omega) hf
    have next : ¬ (J i ≠ 0 ∧ par i f = 0 ∧ room ≤ (L i c).length) → wX_blocked_2 post (nI f) (nI c) f_n f_room f_slots f_up f_last f_keptCount a_liveBalance a_liveDigest a_ring a_head a_count a_tokens a_rootOf a_parentOf a_finished a_markerIn a_reportIn a_recId a_recBalance a_recDigest a_recLength a_recAmount N (nI (i + 1)) := fun hn =>
      ih N (i + 1) (by omega) (by omega) (fun s hs => by
        by_cases e : s = i
        · rw [e]; exact hn
        · exact hb' s (by omega))
    have ei : nI i * 5 + nI f = nI (i * 5 + f) := by rw [ms_m5, nI_add]
    refine br_f (nI_ge (b := 3) (by omega) (by decide)) (And.intro (vp_in_nI (by omega) (by decide)) (br_c (fun z => nm_r (nI_1 i) (next ?_)) (fun z => And.intro ?_ (br_c (fun y => nm_r (nI_1 i) (next ?_)) (fun y => ?_)))))
    · rw [nI_clamp (by omega), hI i (by omega), ms_e_lt (by omega)] at z
      exact fun w => w.1 z
    · rw [ei]; exact vp_in_nI (by omega) (by decide)
    · rw [ei, nI_clamp (by omega), (hp0 i f (by omega) hf).1, ms_e_ge (by omega)] at y
      exact fun w => y w.2.1
    · rw [ei, nI_clamp (by omega), (hp0 i f (by omega) hf).1, ms_e_ge (by omega)] at y
      rw [nI_clamp (by omega), hI i (by omega), ms_e_lt (by omega)] at z
      have hlen := hll i (by omega) z
      refine ms_x_lengthIn H (by omega) hc z hj hb (by rw [if_pos (by omega)]; exact hL i (by omega) z) rfl rfl ?_
      refine br_c (fun w => nm_r (nI_1 i) (next ?_)) (fun w => ?_)
      · rw [hfr, nI_ltI (by omega) (by omega)] at w
        exact fun t => by omega
      · rw [hfr, nI_ltI (by omega) (by omega)] at w
        exact p1 ⟨i, by omega, z, by omega, by omega⟩
theorem ms_x_blocked {post : Int32 → Prop} {f c : Nat} {q0 q1 : Int32} (H : ms_RX (n, room, slots, up, last, kept, B0, D0, Q, J, root, par, fin, mI, rI, B, D, L, ST) (f_n, f_room, f_slots, f_up, f_last, f_keptCount, a_liveBalance, a_liveDigest, a_ring, a_head, a_count, a_tokens, a_rootOf, a_parentOf, a_finished, a_markerIn, a_reportIn, a_recId, a_recBalance, a_recDigest, a_recLength, a_recAmount)) (hf : f < 5) (hc : c < 25) (hJb : ∀ r, r < 6 → J r ≤ 100) (hb : ∀ x, x ∈ Q c → x < 4000000) (hP : ms_IP n par) (hroom : room ≤ 4) (hll : ∀ s, s < 3 → J s ≠ 0 → (L s c).length ≤ 4)
    (hL : ∀ s, s < 3 → J s ≠ 0 → L s c = ST s c ++ (if mI s c = true then [] else ms_bf ((J s - 1) * 4 + 2) (Q c))) (e0 : q0 = nI f) (e1 : q1 = nI c)
    (p1 : (∃ s, s < 3 ∧ J s ≠ 0 ∧ par s f = 0 ∧ room ≤ (L s c).length) → post 1) (p0 : (∀ s, s < 3 → ¬ (J s ≠ 0 ∧ par s f = 0 ∧ room ≤ (L s c).length)) → post 0) : wpX_blocked post (f_n, f_room, f_slots, f_up, f_last, f_keptCount, a_liveBalance, a_liveDigest, a_ring, a_head, a_count, a_tokens, a_rootOf, a_parentOf, a_finished, a_markerIn, a_reportIn, a_recId, a_recBalance, a_recDigest, a_recLength, a_recAmount) q0 q1 := by
  subst e0 e1
  exact ⟨4, ms_x_bl2 H hf hc hJb hb hP hroom hll hL p1 p0 3 4 0 (by omega) (by omega) (fun s hs => absurd hs (Nat.not_lt_zero _))⟩
theorem ms_RX_live {f b : Nat} {d w w' : Int32} (H : ms_RX (n, room, slots, up, last, kept, B0, D0, Q, J, root, par, fin, mI, rI, B, D, L, ST) (f_n, f_room, f_slots, f_up, f_last, f_keptCount, a_liveBalance, a_liveDigest, a_ring, a_head, a_count, a_tokens, a_rootOf, a_parentOf, a_finished, a_markerIn, a_reportIn, a_recId, a_recBalance, a_recDigest, a_recLength, a_recAmount)) (hb : w = nI b) (hd : w' = d) : ms_RX (n, room, slots, up, last, kept, ms_set B0 f b, ms_set D0 f d, Q, J, root, par, fin, mI, rI, B, D, L, ST) (f_n, f_room, f_slots, f_up, f_last, f_keptCount, upd a_liveBalance f w, upd a_liveDigest f w', a_ring, a_head, a_count, a_tokens, a_rootOf, a_parentOf, a_finished, a_markerIn, a_reportIn, a_recId, a_recBalance, a_recDigest, a_recLength, a_recAmount) := by
  obtain ⟨h1, h2, h3⟩ := H
  subst hb hd
  refine ⟨h1, fun p hp => ?_, h3⟩
  by_cases e : p = f
  · subst e; rw [pk_us, pk_us, ms_set_s, ms_set_s]; exact ⟨rfl, rfl⟩
  · rw [pk_un e, pk_un e, ms_set_n e, ms_set_n e]; exact h2 p hp
end
end
section
/-! passes over some of the slots; shifted arrays -/
def ms_pt {α : Type} (k : Nat) (P : Nat → Bool) (F G : Nat → α) : Nat → α := fun s => if s < k ∧ P s = true then F s else G s
theorem ms_pt0 {α : Type} {P : Nat → Bool} {F G : Nat → α} : ms_pt 0 P F G = G := by
  funext s
  exact if_neg (fun z => absurd z.1 (Nat.not_lt_zero _))
theorem ms_pt_y {α : Type} {k s : Nat} {P : Nat → Bool} {F G : Nat → α} (h : s < k) (hP : P s = true) : ms_pt k P F G s = F s := if_pos ⟨h, hP⟩
theorem ms_pt_n {α : Type} {k s : Nat} {P : Nat → Bool} {F G : Nat → α} (hP : P s = false) : ms_pt k P F G s = G s := if_neg (fun z => by rw [hP] at z; exact absurd z.2 (by decide))
theorem ms_pt_g {α : Type} {k s : Nat} {P : Nat → Bool} {F G : Nat → α} (h : k ≤ s) : ms_pt k P F G s = G s := if_neg (fun z => by omega)
theorem ms_ptS_y {α : Type} {k : Nat} {P : Nat → Bool} {F G : Nat → α} (hP : P k = true) : ms_pt (k + 1) P F G = ms_set (ms_pt k P F G) k (F k) := by
  funext s
  by_cases e : s = k
  · subst e; rw [ms_set_s, ms_pt_y (by omega) hP]
  · rw [ms_set_n e]
    show (if s < k + 1 ∧ P s = true then F s else G s) = if s < k ∧ P s = true then F s else G s
    by_cases h : s < k ∧ P s = true
    · rw [if_pos h, if_pos ⟨by omega, h.2⟩]
    · rw [if_neg h, if_neg (fun z => h ⟨by omega, z.2⟩)]
theorem ms_ptS_n {α : Type} {k : Nat} {P : Nat → Bool} {F G : Nat → α} (hP : P k = false) : ms_pt (k + 1) P F G = ms_pt k P F G := by
  funext s
  by_cases e : s = k
  · subst e; rw [ms_pt_n hP, ms_pt_n hP]
  · show (if s < k + 1 ∧ P s = true then F s else G s) = if s < k ∧ P s = true then F s else G s
    by_cases h : s < k ∧ P s = true
    · rw [if_pos h, if_pos ⟨by omega, h.2⟩]
    · rw [if_neg h, if_neg (fun z => h ⟨by omega, z.2⟩)]
def ms_shf (a : Nat → Int32) (o k : Nat) : Nat → Int32 := fun i => if o ≤ i ∧ i < o + k then a (i + 1) else a i
theorem ms_shf0 (a : Nat → Int32) (o : Nat) : ms_shf a o 0 = a := by
  funext i
  exact if_neg (by omega)
theorem ms_shfS (a : Nat → Int32) (o k : Nat) : upd (ms_shf a o k) (o + k) (ms_shf a o k (o + k + 1)) = ms_shf a o (k + 1) := by
  funext i
  show (if i = o + k then (if o ≤ o + k + 1 ∧ o + k + 1 < o + k then a (o + k + 1 + 1) else a (o + k + 1)) else if o ≤ i ∧ i < o + k then a (i + 1) else a i) = if o ≤ i ∧ i < o + (k + 1) then a (i + 1) else a i
  by_cases h : i = o + k
  · rw [if_pos h, if_neg (by omega), if_pos (by omega), h]
  · rw [if_neg h]
    by_cases h2 : o ≤ i ∧ i < o + k
    · rw [if_pos h2, if_pos (by omega)]
    · rw [if_neg h2, if_neg (by omega)]
theorem ms_shf_in {a : Nat → Int32} {o k i : Nat} (h : i < k) : ms_shf a o k (o + i) = a (o + (i + 1)) := if_pos (by omega)
theorem ms_shf_out {a : Nat → Int32} {o k i : Nat} (h : i < o ∨ o + k ≤ i) : ms_shf a o k i = a i := if_neg (by omega)
theorem ms_ls_shf {x o : Nat} {l : List Nat} {a : Nat → Int32} (h : ms_ls (x :: l) o a) : ms_ls l o (ms_shf a o l.length) := by
  intro i hi
  rw [ms_shf_in hi]
  exact h (i + 1) (by rw [List.length_cons]; omega)
theorem ms_ls_push {x o : Nat} {l : List Nat} {a : Nat → Int32} (h : ms_ls l o a) : ms_ls (l ++ [x]) o (upd a (o + l.length) (nI x)) := by
  intro i hi
  rw [List.length_append] at hi
  have hi' : i < l.length + 1 := hi
  by_cases e : i = l.length
  · rw [e, pk_us, ms_nth_eq]
  · rw [pk_un (by omega), ms_nth_lt x l i (by omega)]; exact h i (by omega)
theorem ms_ls_keep {o : Nat} {l : List Nat} {a b : Nat → Int32} (h : ms_ls l o a) (hk : ∀ i, i < l.length → b (o + i) = a (o + i)) : ms_ls l o b := by
  intro i hi
  rw [hk i hi]; exact h i hi
/-! Y: arguments, scans, channels -/
section
variable {f_n f_room f_slots f_up f_last f_kept : Int32} {a_ids a_bal a_dig a_len a_amt a_par a_reported a_count a_queue : Nat → Int32} {n : Nat} {room : Nat} {slots : Nat} {up : Bool} {last : Nat} {kept : Nat} {B0 : Nat → Nat} {D0 : Nat → Int32} {Q : Nat → List Nat} {J : Nat → Nat} {root : Nat → Nat} {par : Nat → Nat → Nat} {fin : Nat → Nat → Bool} {mI : Nat → Nat → Bool} {rI : Nat → Nat → Bool} {B : Nat → Nat → Nat} {D : Nat → Nat → Int32} {L : Nat → Nat → List Nat} {ST : Nat → Nat → List Nat} {post : Int32 → Prop}
theorem ms_y_gp1 {f t : Nat} (hn : f_n = nI n) (h5 : n ≤ 5) (hf : f < n) (ht : t < n) (hft : f ≠ t) (hp : post 1) : wpY_good post (f_n, f_room, f_slots, f_up, f_last, f_kept, a_ids, a_bal, a_dig, a_len, a_amt, a_par, a_reported, a_count, a_queue) (nI f) (nI t) := by
  subst hn
  exact ⟨fun z => absurd z (nI_pos (by omega)), fun _ => ⟨fun z => absurd z (nI_ge hf (by omega)), fun _ => ⟨fun z => absurd z (nI_pos (by omega)), fun _ => ⟨fun z => absurd z (nI_ge ht (by omega)), fun _ => ⟨fun z => absurd ((nI_eq (by omega) (by omega)).mp z) hft, fun _ => hp⟩⟩⟩⟩⟩
theorem ms_y_gp0 {p0 p1 : Int32} (hn : f_n = nI n) (h5 : n ≤ 5) (hg : ¬ ∃ f t, f < n ∧ t < n ∧ f ≠ t ∧ p0 = nI f ∧ p1 = nI t) (hp : post 0) : wpY_good post (f_n, f_room, f_slots, f_up, f_last, f_kept, a_ids, a_bal, a_dig, a_len, a_amt, a_par, a_reported, a_count, a_queue) p0 p1 := by
  subst hn
  refine ⟨fun _ => hp, fun a => ⟨fun _ => hp, fun b => ⟨fun _ => hp, fun c => ⟨fun _ => hp, fun d => ⟨fun _ => hp, fun e => absurd ?_ hg⟩⟩⟩⟩⟩
  obtain ⟨f, hf, rfl⟩ := nI_of a
  obtain ⟨t, ht, rfl⟩ := nI_of c
  rw [nI_leI (by omega) hf] at b
  rw [nI_leI (by omega) ht] at d
  exact ⟨f, t, by omega, by omega, fun z => e (by rw [z]), rfl, rfl⟩
theorem ms_y_pr1 {p : Nat} (hn : f_n = nI n) (h5 : n ≤ 5) (hf : p < n) (hp : post 1) : wpY_isProcess post (f_n, f_room, f_slots, f_up, f_last, f_kept, a_ids, a_bal, a_dig, a_len, a_amt, a_par, a_reported, a_count, a_queue) (nI p) := by
  subst hn
  exact ⟨fun z => absurd z (nI_pos (by omega)), fun _ => ⟨fun z => absurd z (nI_ge hf (by omega)), fun _ => hp⟩⟩
theorem ms_y_pr0 {p0 : Int32} (hn : f_n = nI n) (h5 : n ≤ 5) (hg : ¬ ∃ f, f < n ∧ p0 = nI f) (hp : post 0) : wpY_isProcess post (f_n, f_room, f_slots, f_up, f_last, f_kept, a_ids, a_bal, a_dig, a_len, a_amt, a_par, a_reported, a_count, a_queue) p0 := by
  subst hn
  refine ⟨fun _ => hp, fun a => ⟨fun _ => hp, fun b => absurd ?_ hg⟩⟩
  obtain ⟨f, hf, rfl⟩ := nI_of a
  rw [nI_leI (by omega) hf] at b
  exact ⟨f, by omega, rfl⟩
theorem ms_y_fd8 {x1 : Int32} {r : Nat} (hI : ∀ r, r < 6 → a_ids (r + 1) = ms_enc (J r)) (hr : r < 6) (he : ms_enc (J r) = x1) (hl : ∀ r', r' < r → ms_enc (J r') ≠ x1) (hp : post (nI (r + 1))) : ∀ d N i, i + d = r → d < N → wY_find_8 post x1 f_n f_room f_slots f_up f_last f_kept a_ids a_bal a_dig a_len a_amt a_par a_reported a_count a_queue N (nI (i + 1)) := by
  intro d
  induction d with
  | zero =>
    intro N i h1 hN
    obtain ⟨N, rfl⟩ : ∃ M, N = M + 1 := ⟨N - 1, by omega⟩
    obtain rfl : i = r := by omega
    refine br_f (nI_ge (b := 7) (by omega) (by decide)) (And.intro (vp_in_nI (by omega) (by decide)) (br_t ?_ hp))
    rw [nI_clamp (by omega), hI i (by omega)]; exact he
  | succ d ih =>
    intro N i h1 hN
    obtain ⟨N, rfl⟩ : ∃ M, N = M + 1 := ⟨N - 1, by omega⟩
    refine br_f (nI_ge (b := 7) (by omega) (by decide)) (And.intro (vp_in_nI (by omega) (by decide)) (br_f ?_ (nm_r (nI_1 (i + 1)) (ih N _ (by omega) (by omega)))))
    rw [nI_clamp (by omega), hI i (by omega)]; exact hl i (by omega)
theorem ms_y_fd8n {x1 : Int32} (hI : ∀ r, r < 6 → a_ids (r + 1) = ms_enc (J r)) (hl : ∀ r', r' < 6 → ms_enc (J r') ≠ x1) (hp : post (-1)) : ∀ d N i, i + d = 6 → d < N → wY_find_8 post x1 f_n f_room f_slots f_up f_last f_kept a_ids a_bal a_dig a_len a_amt a_par a_reported a_count a_queue N (nI (i + 1)) := by
  intro d
  induction d with
  | zero =>
    intro N i h1 hN
    obtain ⟨N, rfl⟩ : ∃ M, N = M + 1 := ⟨N - 1, by omega⟩
    exact br_t (nI_le (a := 7) (by omega) (by omega)) hp
  | succ d ih =>
    intro N i h1 hN
    obtain ⟨N, rfl⟩ : ∃ M, N = M + 1 := ⟨N - 1, by omega⟩
    refine br_f (nI_ge (b := 7) (by omega) (by decide)) (And.intro (vp_in_nI (by omega) (by decide)) (br_f ?_ (nm_r (nI_1 (i + 1)) (ih N _ (by omega) (by omega)))))
    rw [nI_clamp (by omega), hI i (by omega)]; exact hl i (by omega)
theorem ms_y_find {p0 : Int32} {r : Nat} (hI : ∀ r, r < 6 → a_ids (r + 1) = ms_enc (J r)) (h0 : 0 ≤ p0) (hr : r < 6) (he : ms_enc (J r) = p0) (hl : ∀ r', r' < r → ms_enc (J r') ≠ p0) (hp : post (nI (r + 1))) : wpY_find post (f_n, f_room, f_slots, f_up, f_last, f_kept, a_ids, a_bal, a_dig, a_len, a_amt, a_par, a_reported, a_count, a_queue) p0 :=
  br_t h0 ⟨r + 1, ms_y_fd8 hI hr he hl hp r (r + 1) 0 (by omega) (by omega)⟩
theorem ms_y_find_n {p0 : Int32} (hI : ∀ r, r < 6 → a_ids (r + 1) = ms_enc (J r)) (hl : 0 ≤ p0 → ∀ r', r' < 6 → ms_enc (J r') ≠ p0) (hp : post (-1)) : wpY_find post (f_n, f_room, f_slots, f_up, f_last, f_kept, a_ids, a_bal, a_dig, a_len, a_amt, a_par, a_reported, a_count, a_queue) p0 :=
  br_c (fun h0 => ⟨7, ms_y_fd8n hI (hl h0) hp 6 7 0 (by omega) (by omega)⟩) (fun _ => hp)
theorem ms_y_rc4 (hI : ∀ r, r < 6 → a_ids (r + 1) = ms_enc (J r)) (hJ : ∀ r, r < 6 → J r ≤ 100) (hp : post (nI (ms_rcn J 3))) : ∀ d N i, i + d = 3 → d < N → wY_running_4 post f_n f_room f_slots f_up f_last f_kept a_ids a_bal a_dig a_len a_amt a_par a_reported a_count a_queue N (nI (ms_rcn J i)) (nI (i + 1)) := by
  intro d
  induction d with
  | zero =>
    intro N i h1 hN
    obtain ⟨N, rfl⟩ : ∃ M, N = M + 1 := ⟨N - 1, by omega⟩
    obtain rfl : i = 3 := by omega
    exact br_t (nI_lt (a := 3) (by omega) (by omega)) hp
  | succ d ih =>
    intro N i h1 hN
    obtain ⟨N, rfl⟩ : ∃ M, N = M + 1 := ⟨N - 1, by omega⟩
    have hj := hJ i (by omega)
    have := ih N (i + 1) (by omega) (by omega)
    refine br_f (nI_nlt (a := 3) (by omega) (by decide)) (And.intro (vp_in_nI (by omega) (by decide)) (br_c (fun z => nm_r (nI_1 (i + 1)) ?_) (fun z => nm_r (nI_1 _) (nm_r (nI_1 (i + 1)) ?_))))
    · rw [nI_clamp (by omega), hI i (by omega), ms_e_lt (by omega)] at z
      have e : ms_rcn J (i + 1) = ms_rcn J i := by
        show ms_rcn J i + (if J i = 0 then 0 else 1) = _
        rw [if_pos z]; rfl
      rw [e] at this; exact this
    · rw [nI_clamp (by omega), hI i (by omega), ms_e_lt (by omega)] at z
      have e : ms_rcn J (i + 1) = ms_rcn J i + 1 := by
        show ms_rcn J i + (if J i = 0 then 0 else 1) = _
        rw [if_neg z]
      rw [e] at this; exact this
theorem ms_y_running (hI : ∀ r, r < 6 → a_ids (r + 1) = ms_enc (J r)) (hJ : ∀ r, r < 6 → J r ≤ 100) (hp : post (nI (ms_rcn J 3))) : wpY_running post (f_n, f_room, f_slots, f_up, f_last, f_kept, a_ids, a_bal, a_dig, a_len, a_amt, a_par, a_reported, a_count, a_queue) :=
  ⟨4, ms_y_rc4 hI hJ hp 3 4 0 (by omega) (by omega)⟩
theorem ms_y_tp {s p : Nat} {p0 p1 : Int32} (hI : ∀ r, r < 6 → a_ids (r + 1) = ms_enc (J r)) (hJ : ∀ r, r < 6 → J r ≤ 100) (hP : ms_IP n par) (hp : ∀ s p, s < 3 → p < 5 → a_par ((s + 1) * 5 + p) = ms_enc (par s p) ∧ a_reported ((s + 1) * 5 + p) = ms_b (fin s p))
    (hs : s < 3) (h5 : p < 5) (e0 : p0 = nI (s + 1)) (e1 : p1 = nI p) (k1 : J s ≠ 0 ∧ par s p = 0 → post 1) (k0 : ¬ (J s ≠ 0 ∧ par s p = 0) → post 0) : wpY_takesPart post (f_n, f_room, f_slots, f_up, f_last, f_kept, a_ids, a_bal, a_dig, a_len, a_amt, a_par, a_reported, a_count, a_queue) p0 p1 := by
  subst e0 e1
  have hj := hJ s (by omega)
  have hpi := hP s p hs h5
  have ei : nI (s + 1) * 5 + nI p = nI ((s + 1) * 5 + p) := by rw [ms_m5, nI_add]
  refine br_f (nI_ne0 (by omega) (by omega)) (And.intro (vp_in_nI (by omega) (by decide)) (br_c (fun z => k0 ?_) (fun z => And.intro ?_ (br_c (fun y => k0 ?_) (fun y => k1 ?_)))))
  · rw [nI_clamp (by omega), hI s (by omega), ms_e_lt (by omega)] at z
    exact fun w => w.1 z
  · rw [ei]; exact vp_in_nI (by omega) (by decide)
  · rw [ei, nI_clamp (by omega), (hp s p hs h5).1, ms_e_ge (by omega)] at y
    exact fun w => y w.2
  · rw [ei, nI_clamp (by omega), (hp s p hs h5).1, ms_e_ge (by omega)] at y
    rw [nI_clamp (by omega), hI s (by omega), ms_e_lt (by omega)] at z
    exact ⟨z, by omega⟩
theorem ms_y_hd10 {c m : Nat} (hQ : ms_QY Q a_count a_queue) (hc : c < 25) (hm : m < 4000000) (hb : ∀ x, x ∈ Q c → x < 4000000) : ∀ (suf : List Nat) (N i : Nat), suf.length < N → i + suf.length = (Q c).length →
    (∀ j, j < suf.length → ms_nth (Q c) (i + j) = ms_nth suf j) → (ms_ct m suf ≠ 0 → post 1) → (ms_ct m suf = 0 → post 0) → wY_holds_10 post (nI m) (nI c) f_n f_room f_slots f_up f_last f_kept a_ids a_bal a_dig a_len a_amt a_par a_reported a_count a_queue N (nI i) := by
  obtain ⟨q1, q2, q3⟩ := hQ c hc
  intro suf
  induction suf with
  | nil =>
    intro N i hN h1 h2 p1 p0
    obtain ⟨N, rfl⟩ : ∃ M, N = M + 1 := ⟨N - 1, by omega⟩
    have hle : (Q c).length ≤ i := by rw [← h1]; exact Nat.le_refl _
    refine And.intro (vp_in_nI hc (by decide)) (br_t ?_ (p0 rfl))
    rw [nI_clamp (by omega), q2]; exact nI_le hle (by omega)
  | cons y suf ih =>
    intro N i hN h1 h2 p1 p0
    obtain ⟨N, rfl⟩ : ∃ M, N = M + 1 := ⟨N - 1, by omega⟩
    rw [List.length_cons] at h1 hN
    have hy : ms_nth (Q c) i = y := h2 0 (by rw [List.length_cons]; omega)
    have hyb : y < 4000000 := by
      rw [← hy]; exact hb _ (ms_nth_mem _ _ (by omega))
    have h2' : ∀ j, j < suf.length → ms_nth (Q c) (i + 1 + j) = ms_nth suf j := by
      intro j hj
      have := h2 (j + 1) (by rw [List.length_cons]; omega)
      rw [show i + 1 + j = i + (j + 1) by omega]; exact this
    have ei : nI c * 10 + nI i = nI (c * 10 + i) := by rw [ms_m10, nI_add]
    refine And.intro (vp_in_nI hc (by decide)) (br_f ?_ (br_f (nI_ge (b := 10) (by omega) (by decide)) (And.intro ?_ (br_c (fun z => p1 ?_) (fun z => nm_r (nI_1 i) (ih N _ (by omega) (by omega) h2' (fun w => p1 ?_) (fun w => p0 ?_)))))))
    · rw [nI_clamp (by omega), q2]; exact nI_ge (by omega) (by omega)
    · rw [ei]; exact vp_in_nI (by omega) (by decide)
    · rw [ei, nI_clamp (by omega), q3 i (by omega), hy, nI_eq (by omega) (by omega)] at z
      rw [z, ms_ct_cs]; omega
    · rw [ei, nI_clamp (by omega), q3 i (by omega), hy, nI_eq (by omega) (by omega)] at z
      rw [ms_ct_cn z]; exact w
    · rw [ei, nI_clamp (by omega), q3 i (by omega), hy, nI_eq (by omega) (by omega)] at z
      rw [ms_ct_cn z]; exact w
theorem ms_y_holds {f t m : Nat} {p0 p1 p2 : Int32} (hQ : ms_QY Q a_count a_queue) (hf : f < 5) (ht : t < 5) (hm : m < 4000000) (hb : ∀ c x, x ∈ Q c → x < 4000000) (e0 : p0 = nI f) (e1 : p1 = nI t) (e2 : p2 = nI m)
    (k1 : ms_ct m (Q (f * 5 + t)) ≠ 0 → post 1) (k0 : ms_ct m (Q (f * 5 + t)) = 0 → post 0) : wpY_holds post (f_n, f_room, f_slots, f_up, f_last, f_kept, a_ids, a_bal, a_dig, a_len, a_amt, a_par, a_reported, a_count, a_queue) p0 p1 p2 := by
  subst e0 e1 e2
  refine nm_r (e' := nI (f * 5 + t)) (by rw [ms_m5, nI_add]) ⟨(Q (f * 5 + t)).length + 1, ?_⟩
  exact ms_y_hd10 hQ (by omega) hm (hb _) (Q (f * 5 + t)) _ 0 (Nat.lt_succ_self _) (Nat.zero_add _) (fun j _ => by rw [Nat.zero_add]) k1 k0
end
section
variable {n : Nat} {room : Nat} {slots : Nat} {up : Bool} {last : Nat} {kept : Nat} {B0 : Nat → Nat} {D0 : Nat → Int32} {Q : Nat → List Nat} {J : Nat → Nat} {root : Nat → Nat} {par : Nat → Nat → Nat} {fin : Nat → Nat → Bool} {mI : Nat → Nat → Bool} {rI : Nat → Nat → Bool} {B : Nat → Nat → Nat} {D : Nat → Nat → Int32} {L : Nat → Nat → List Nat} {ST : Nat → Nat → List Nat} {v : SY} {L0 : Nat → List Nat}
theorem ms_QY_push {Q : Nat → List Nat} {count queue : Nat → Int32} {c x : Nat} (hQ : ms_QY Q count queue) (hl : (Q c).length < 10) :
    ms_QY (ms_set Q c (Q c ++ [x])) (upd count c (nI ((Q c).length + 1))) (upd queue (c * 10 + (Q c).length) (nI x)) := by
  intro j hj
  by_cases e : j = c
  · subst e
    obtain ⟨q1, q2, q3⟩ := hQ j hj
    rw [ms_set_s, pk_us]
    refine ⟨?_, by rw [List.length_append]; rfl, ms_ls_push q3⟩
    rw [List.length_append]
    show (Q j).length + 1 ≤ 10
    omega
  · obtain ⟨q1, q2, q3⟩ := hQ j hj
    rw [ms_set_n e, pk_un e]
    refine ⟨q1, q2, ms_ls_keep q3 (fun i hi => pk_un (by omega))⟩
theorem ms_y_append {post : SY → Prop} {f t x : Nat} {p0 p1 p2 : Int32} (H : ms_RY (n, room, slots, up, last, kept, B0, D0, Q, J, root, par, fin, mI, rI, B, D, L, ST) L0 v) (hf : f < 5) (ht : t < 5) (hl : (Q (f * 5 + t)).length < 10) (e0 : p0 = nI f) (e1 : p1 = nI t) (e2 : p2 = nI x)
    (K : ∀ v', ms_RY (n, room, slots, up, last, kept, B0, D0, ms_set Q (f * 5 + t) (Q (f * 5 + t) ++ [x]), J, root, par, fin, mI, rI, B, D, L, ST) L0 v' → post v') : wpY_append post v p0 p1 p2 := by
  obtain ⟨f_n, f_room, f_slots, f_up, f_last, f_kept, a_ids, a_bal, a_dig, a_len, a_amt, a_par, a_reported, a_count, a_queue⟩ := v
  obtain ⟨h1, hQ, h4⟩ := H
  obtain ⟨q1, q2, q3⟩ := hQ (f * 5 + t) (by omega)
  subst e0 e1 e2
  have hlt : ¬ 10 ≤ (Q (f * 5 + t)).length := by omega
  simp (disch := omega) only [wpY_append, q2, hlt, forall_eq, nI_leI, nI_ltI, nI_eq, vp_in_nI, nI_clamp, nI_1, nI_add, ms_m4, ms_m5, ms_m10, ms_m16, ms_m25, ms_m100, ms_l2, ms_l3, ms_l4, ms_l15, ms_l75, ms_r2, ms_r3, ms_r25, ms_r8, ms_ge1, ms_ge3, ms_ge4, ms_ge5, ms_ge6, ms_ge7, ms_ge10, ms_ge25, ms_ge100, ms_gt3, ms_lt1, ms_lt3, ms_lt4, ms_lt16, ms_lt99, ms_le3, ms_eq1, ms_eq2, ms_eq99, ms_le0, ms_eq0, ms_lt0, ms_0le, ms_0lt, ms_vb0, ms_vb1, ms_and15, ms_and3, ms_shr2, true_implies, forall_const, not_true_eq_false, not_false_eq_true, false_implies, and_true, true_and, implies_true, and_self, eq_self]
  refine K _ ?_
  exact ⟨h1, ms_QY_push hQ hl, h4⟩
end
end
section
/-! Y: places: sending, receiving, copying -/
theorem ms_PL_send {s f c a b' : Nat} {d' : Int32} {B : Nat → Nat} {D : Nat → Int32} {L : Nat → List Nat} {bal dig len amt : Nat → Int32} (h : ms_PL s B D L bal dig len amt) (hl : (L c).length < 4) :
    ms_PL s (ms_set B f b') (ms_set D f d') (ms_set L c (L c ++ [a])) (upd bal (s * 5 + f) (nI b')) (upd dig (s * 5 + f) d') (upd len (s * 25 + c) (nI ((L c).length + 1))) (upd amt ((s * 25 + c) * 4 + (L c).length) (nI a)) := by
  refine ⟨fun p hp => ?_, fun j hj => ?_⟩
  · by_cases e : p = f
    · subst e; rw [pk_us, pk_us, ms_set_s, ms_set_s]; exact ⟨rfl, rfl⟩
    · rw [pk_un (by omega), pk_un (by omega), ms_set_n e, ms_set_n e]; exact h.1 p hp
  · obtain ⟨q1, q2, q3⟩ := h.2 j hj
    by_cases e : j = c
    · subst e
      rw [ms_set_s, pk_us, List.length_append]
      exact ⟨by show (L j).length + 1 ≤ 4; omega, rfl, ms_ls_push q3⟩
    · rw [ms_set_n e, pk_un (by omega)]
      exact ⟨q1, q2, ms_ls_keep q3 (fun i hi => pk_un (by omega))⟩
theorem ms_PL_send_o {s r f c k : Nat} {w1 w2 w3 w4 : Int32} {B : Nat → Nat} {D : Nat → Int32} {L : Nat → List Nat} {bal dig len amt : Nat → Int32} (h : ms_PL r B D L bal dig len amt) (hr : r ≠ s) (hf : f < 5) (hc : c < 25) (hk : k < 4) :
    ms_PL r B D L (upd bal (s * 5 + f) w1) (upd dig (s * 5 + f) w2) (upd len (s * 25 + c) w3) (upd amt ((s * 25 + c) * 4 + k) w4) := by
  refine ⟨fun p hp => ?_, fun j hj => ?_⟩
  · rw [pk_un (by omega), pk_un (by omega)]; exact h.1 p hp
  · obtain ⟨q1, q2, q3⟩ := h.2 j hj
    rw [pk_un (by omega)]
    exact ⟨q1, q2, ms_ls_keep q3 (fun i hi => pk_un (by omega))⟩
theorem ms_PL_recv {s f c a b' : Nat} {d' : Int32} {l : List Nat} {B : Nat → Nat} {D : Nat → Int32} {L : Nat → List Nat} {bal dig len amt : Nat → Int32} (h : ms_PL s B D L bal dig len amt) (hl : L c = a :: l) (hl4 : (L c).length ≤ 4) :
    ms_PL s (ms_set B f b') (ms_set D f d') (ms_set L c (L c).tail) (upd bal (s * 5 + f) (nI b')) (upd dig (s * 5 + f) d') (upd len (s * 25 + c) (nI l.length)) (ms_shf amt ((s * 25 + c) * 4) l.length) := by
  rw [hl, List.length_cons] at hl4
  refine ⟨fun p hp => ?_, fun j hj => ?_⟩
  · by_cases e : p = f
    · subst e; rw [pk_us, pk_us, ms_set_s, ms_set_s]; exact ⟨rfl, rfl⟩
    · rw [pk_un (by omega), pk_un (by omega), ms_set_n e, ms_set_n e]; exact h.1 p hp
  · obtain ⟨q1, q2, q3⟩ := h.2 j hj
    by_cases e : j = c
    · subst e
      rw [ms_set_s, pk_us, hl]
      rw [hl] at q3
      exact ⟨by show l.length ≤ 4; omega, rfl, ms_ls_shf q3⟩
    · rw [ms_set_n e, pk_un (by omega)]
      exact ⟨q1, q2, ms_ls_keep q3 (fun i hi => ms_shf_out (by omega))⟩
theorem ms_PL_recv_o {s r f c k : Nat} {w1 w2 w3 : Int32} {B : Nat → Nat} {D : Nat → Int32} {L : Nat → List Nat} {bal dig len amt : Nat → Int32} (h : ms_PL r B D L bal dig len amt) (hr : r ≠ s) (hf : f < 5) (hc : c < 25) (hk : k < 4) :
    ms_PL r B D L (upd bal (s * 5 + f) w1) (upd dig (s * 5 + f) w2) (upd len (s * 25 + c) w3) (ms_shf amt ((s * 25 + c) * 4) k) := by
  refine ⟨fun p hp => ?_, fun j hj => ?_⟩
  · rw [pk_un (by omega), pk_un (by omega)]; exact h.1 p hp
  · obtain ⟨q1, q2, q3⟩ := h.2 j hj
    rw [pk_un (by omega)]
    exact ⟨q1, q2, ms_ls_keep q3 (fun i hi => ms_shf_out (by omega))⟩
theorem ms_PL_copy {s d : Nat} {B : Nat → Nat} {D : Nat → Int32} {L : Nat → List Nat} {bal dig len amt : Nat → Int32} (h : ms_PL s B D L bal dig len amt) :
    ms_PL d B D L (ms_blk bal (d * 5) (s * 5) 5) (ms_blk dig (d * 5) (s * 5) 5) (ms_blk len (d * 25) (s * 25) 25) (ms_blk amt (d * 100) (s * 100) 100) := by
  refine ⟨fun p hp => ?_, fun j hj => ?_⟩
  · rw [ms_blk_in hp, ms_blk_in hp]; exact h.1 p hp
  · obtain ⟨q1, q2, q3⟩ := h.2 j hj
    rw [ms_blk_in hj]
    refine ⟨q1, q2, fun i hi => ?_⟩
    rw [show (d * 25 + j) * 4 + i = d * 100 + (j * 4 + i) by omega, ms_blk_in (by omega), show s * 100 + (j * 4 + i) = (s * 25 + j) * 4 + i by omega]
    exact q3 i hi
theorem ms_PL_copy_o {s d r : Nat} {B : Nat → Nat} {D : Nat → Int32} {L : Nat → List Nat} {bal dig len amt : Nat → Int32} (h : ms_PL r B D L bal dig len amt) (hr : r ≠ d) :
    ms_PL r B D L (ms_blk bal (d * 5) (s * 5) 5) (ms_blk dig (d * 5) (s * 5) 5) (ms_blk len (d * 25) (s * 25) 25) (ms_blk amt (d * 100) (s * 100) 100) := by
  refine ⟨fun p hp => ?_, fun j hj => ?_⟩
  · rw [ms_blk_out (by omega), ms_blk_out (by omega)]; exact h.1 p hp
  · obtain ⟨q1, q2, q3⟩ := h.2 j hj
    rw [ms_blk_out (by omega)]
    exact ⟨q1, q2, ms_ls_keep q3 (fun i hi => ms_blk_out (by omega))⟩
section
variable {f_n f_room f_slots f_up f_last f_kept : Int32} {a_ids a_bal a_dig a_len a_amt a_par a_reported a_count a_queue : Nat → Int32} {post : SY → Prop}
theorem ms_y_cp103 {s d : Nat} (hs : s < 7) (hd : d < 7) (hsd : s ≠ d) (hp : post (f_n, f_room, f_slots, f_up, f_last, f_kept, a_ids, a_bal, a_dig, a_len, ms_blk a_amt (d * 100) (s * 100) 100, a_par, a_reported, a_count, a_queue)) : ∀ e N k, k + e = 100 → e < N → wY_copy_103 post (nI s) (nI d) f_n f_room f_slots f_up f_last f_kept N (nI k) a_ids a_bal a_dig a_len (ms_blk a_amt (d * 100) (s * 100) k) a_par a_reported a_count a_queue := by
  intro e
  induction e with
  | zero =>
    intro N k h1 hN
    obtain ⟨N, rfl⟩ : ∃ M, N = M + 1 := ⟨N - 1, by omega⟩
    obtain rfl : k = 100 := by omega
    exact br_t (nI_le (a := 100) (by omega) (by omega)) hp
  | succ e ih =>
    intro N k h1 hN
    obtain ⟨N, rfl⟩ : ∃ M, N = M + 1 := ⟨N - 1, by omega⟩
    have e1 : nI s * 100 + nI k = nI (s * 100 + k) := by rw [ms_m100, nI_add]
    have e2 : nI d * 100 + nI k = nI (d * 100 + k) := by rw [ms_m100, nI_add]
    refine br_f (nI_ge (b := 100) (by omega) (by decide)) (And.intro ?_ (And.intro ?_ (nm_r (e' := ms_blk a_amt (d * 100) (s * 100) (k + 1)) ?_ (nm_r (nI_1 k) (ih N _ (by omega) (by omega))))))
    · rw [e1]; exact vp_in_nI (by omega) (by decide)
    · rw [e2]; exact vp_in_nI (by omega) (by decide)
    · rw [e1, e2, nI_clamp (by omega), nI_clamp (by omega), ms_blkS _ _ _ _ (by omega)]
theorem ms_y_cp67 {s d : Nat} (hs : s < 7) (hd : d < 7) (hsd : s ≠ d) (hp : post (f_n, f_room, f_slots, f_up, f_last, f_kept, a_ids, a_bal, a_dig, ms_blk a_len (d * 25) (s * 25) 25, ms_blk a_amt (d * 100) (s * 100) 100, a_par, a_reported, a_count, a_queue)) : ∀ e N k, k + e = 25 → e < N → wY_copy_67 post (nI s) (nI d) f_n f_room f_slots f_up f_last f_kept N (nI k) a_ids a_bal a_dig (ms_blk a_len (d * 25) (s * 25) k) a_amt a_par a_reported a_count a_queue := by
  intro e
  induction e with
  | zero =>
    intro N k h1 hN
    obtain ⟨N, rfl⟩ : ∃ M, N = M + 1 := ⟨N - 1, by omega⟩
    obtain rfl : k = 25 := by omega
    refine br_t (nI_le (a := 25) (by omega) (by omega)) ⟨101, ?_⟩
    have := ms_y_cp103 (a_len := ms_blk a_len (d * 25) (s * 25) 25) hs hd hsd hp 100 101 0 (by omega) (by omega)
    rw [ms_blk0] at this; exact this
  | succ e ih =>
    intro N k h1 hN
    obtain ⟨N, rfl⟩ : ∃ M, N = M + 1 := ⟨N - 1, by omega⟩
    have e1 : nI s * 25 + nI k = nI (s * 25 + k) := by rw [ms_m25, nI_add]
    have e2 : nI d * 25 + nI k = nI (d * 25 + k) := by rw [ms_m25, nI_add]
    refine br_f (nI_ge (b := 25) (by omega) (by decide)) (And.intro ?_ (And.intro ?_ (nm_r (e' := ms_blk a_len (d * 25) (s * 25) (k + 1)) ?_ (nm_r (nI_1 k) (ih N _ (by omega) (by omega))))))
    · rw [e1]; exact vp_in_nI (by omega) (by decide)
    · rw [e2]; exact vp_in_nI (by omega) (by decide)
    · rw [e1, e2, nI_clamp (by omega), nI_clamp (by omega), ms_blkS _ _ _ _ (by omega)]
theorem ms_y_cp14 {s d : Nat} (hs : s < 7) (hd : d < 7) (hsd : s ≠ d) (hp : post (f_n, f_room, f_slots, f_up, f_last, f_kept, a_ids, ms_blk a_bal (d * 5) (s * 5) 5, ms_blk a_dig (d * 5) (s * 5) 5, ms_blk a_len (d * 25) (s * 25) 25, ms_blk a_amt (d * 100) (s * 100) 100, a_par, a_reported, a_count, a_queue)) : ∀ e N k, k + e = 5 → e < N → wY_copy_14 post (nI s) (nI d) f_n f_room f_slots f_up f_last f_kept N (nI k) a_ids (ms_blk a_bal (d * 5) (s * 5) k) (ms_blk a_dig (d * 5) (s * 5) k) a_len a_amt a_par a_reported a_count a_queue := by
  intro e
  induction e with
  | zero =>
    intro N k h1 hN
    obtain ⟨N, rfl⟩ : ∃ M, N = M + 1 := ⟨N - 1, by omega⟩
    obtain rfl : k = 5 := by omega
    refine br_t (nI_le (a := 5) (by omega) (by omega)) ⟨26, ?_⟩
    have := ms_y_cp67 (a_bal := ms_blk a_bal (d * 5) (s * 5) 5) (a_dig := ms_blk a_dig (d * 5) (s * 5) 5) hs hd hsd hp 25 26 0 (by omega) (by omega)
    rw [ms_blk0] at this; exact this
  | succ e ih =>
    intro N k h1 hN
    obtain ⟨N, rfl⟩ : ∃ M, N = M + 1 := ⟨N - 1, by omega⟩
    have e1 : nI s * 5 + nI k = nI (s * 5 + k) := by rw [ms_m5, nI_add]
    have e2 : nI d * 5 + nI k = nI (d * 5 + k) := by rw [ms_m5, nI_add]
    refine br_f (nI_ge (b := 5) (by omega) (by decide)) (And.intro ?_ (And.intro ?_ (nm_r (e' := ms_blk a_bal (d * 5) (s * 5) (k + 1)) ?_ (And.intro ?_ (And.intro ?_ (nm_r (e' := ms_blk a_dig (d * 5) (s * 5) (k + 1)) ?_ (nm_r (nI_1 k) (ih N _ (by omega) (by omega)))))))))
    · rw [e1]; exact vp_in_nI (by omega) (by decide)
    · rw [e2]; exact vp_in_nI (by omega) (by decide)
    · rw [e1, e2, nI_clamp (by omega), nI_clamp (by omega), ms_blkS _ _ _ _ (by omega)]
    · rw [e1]; exact vp_in_nI (by omega) (by decide)
    · rw [e2]; exact vp_in_nI (by omega) (by decide)
    · rw [e1, e2, nI_clamp (by omega), nI_clamp (by omega), ms_blkS _ _ _ _ (by omega)]
theorem ms_y_copy {s d : Nat} {p0 p1 : Int32} (hs : s < 7) (hd : d < 7) (hsd : s ≠ d) (e0 : p0 = nI s) (e1 : p1 = nI d) (hp : post (f_n, f_room, f_slots, f_up, f_last, f_kept, upd a_ids d (a_ids s), ms_blk a_bal (d * 5) (s * 5) 5, ms_blk a_dig (d * 5) (s * 5) 5, ms_blk a_len (d * 25) (s * 25) 25, ms_blk a_amt (d * 100) (s * 100) 100, a_par, a_reported, a_count, a_queue)) : wpY_copy post (f_n, f_room, f_slots, f_up, f_last, f_kept, a_ids, a_bal, a_dig, a_len, a_amt, a_par, a_reported, a_count, a_queue) p0 p1 := by
  subst e0 e1
  refine And.intro (vp_in_nI hs (by decide)) (And.intro (vp_in_nI hd (by decide)) (nm_r (e' := upd a_ids d (a_ids s)) (by rw [nI_clamp (by omega), nI_clamp (by omega)]) ⟨6, ?_⟩))
  have := ms_y_cp14 (a_ids := upd a_ids d (a_ids s)) hs hd hsd hp 5 6 0 (by omega) (by omega)
  rw [ms_blk0, ms_blk0] at this; exact this
theorem ms_y_send {s f t a b b' : Nat} {p0 p1 p2 p3 w : Int32} {Lc : List Nat} (hs : s < 7) (hf : f < 5) (ht : t < 5) (hb : a_bal (s * 5 + f) = nI b) (hba : a ≤ b) (hl : Lc.length < 4) (hlen : a_len (s * 25 + (f * 5 + t)) = nI Lc.length) (e0 : p0 = nI s) (e1 : p1 = nI f) (e2 : p2 = nI t) (e3 : p3 = nI a)
    (hb' : b' = b - a) (hw : w = a_dig (s * 5 + f) * 31 + (nI a * 16 + nI t))
    (hp : post (f_n, f_room, f_slots, f_up, f_last, f_kept, a_ids, upd a_bal (s * 5 + f) (nI b'), upd a_dig (s * 5 + f) w, upd a_len (s * 25 + (f * 5 + t)) (nI (Lc.length + 1)), upd a_amt ((s * 25 + (f * 5 + t)) * 4 + Lc.length) (nI a), a_par, a_reported, a_count, a_queue)) : wpY_send post (f_n, f_room, f_slots, f_up, f_last, f_kept, a_ids, a_bal, a_dig, a_len, a_amt, a_par, a_reported, a_count, a_queue) p0 p1 p2 p3 := by
  subst e0 e1 e2 e3 hb' hw
  have ei : nI s * 5 + nI f = nI (s * 5 + f) := by rw [ms_m5, nI_add]
  have ei2 : nI s * 25 + nI f * 5 + nI t = nI (s * 25 + (f * 5 + t)) := by rw [ms_m25, ms_m5, nI_add, nI_add, Nat.add_assoc]
  have hin : vp_in (nI s * 5 + nI f) 35 := by rw [ei]; exact vp_in_nI (by omega) (by decide)
  refine nm_r ei2 (And.intro hin (And.intro hin (nm_r (e' := upd a_bal (s * 5 + f) (nI (b - a))) ?_ (And.intro hin (And.intro hin (nm_r (e' := upd a_dig (s * 5 + f) (a_dig (s * 5 + f) * 31 + (nI a * 16 + nI t))) ?_ (And.intro (vp_in_nI (by omega) (by decide)) (br_f ?_ (And.intro (vp_in_nI (by omega) (by decide)) (And.intro ?_ (nm_r (e' := upd a_amt ((s * 25 + (f * 5 + t)) * 4 + Lc.length) (nI a)) ?_ (And.intro (vp_in_nI (by omega) (by decide)) (And.intro (vp_in_nI (by omega) (by decide)) (nm_r (e' := upd a_len (s * 25 + (f * 5 + t)) (nI (Lc.length + 1))) ?_ hp))))))))))))))
  · rw [ei, nI_clamp (by omega), hb, pk_sub hba]
  · rw [ei, nI_clamp (by omega)]
  · rw [nI_clamp (by omega), hlen]; exact nI_ge (b := 4) hl (by decide)
  · rw [nI_clamp (by omega), hlen, ms_m4, nI_add]; exact vp_in_nI (by omega) (by decide)
  · rw [nI_clamp (n := s * 25 + (f * 5 + t)) (by omega), hlen, ms_m4, nI_add, nI_clamp (by omega)]
  · rw [nI_clamp (by omega), hlen, nI_1]
theorem ms_y_rv86 {s f t a b b' : Nat} {w : Int32} (hs : s < 7) (hf : f < 5) (ht : t < 5) (hb : a_bal (s * 5 + t) = nI b) (hb' : b' = b + a) (hw : w = a_dig (s * 5 + t) * 31 + (nI a * 16 + 8 + nI f))
    (hp : post (f_n, f_room, f_slots, f_up, f_last, f_kept, a_ids, upd a_bal (s * 5 + t) (nI b'), upd a_dig (s * 5 + t) w, a_len, a_amt, a_par, a_reported, a_count, a_queue)) : wY_receive_86 post (nI s) (nI f) (nI t) (nI a) f_n f_room f_slots f_up f_last f_kept a_ids a_bal a_dig a_len a_amt a_par a_reported a_count a_queue := by
  subst hb' hw
  have ei : nI s * 5 + nI t = nI (s * 5 + t) := by rw [ms_m5, nI_add]
  have hin : vp_in (nI s * 5 + nI t) 35 := by rw [ei]; exact vp_in_nI (by omega) (by decide)
  refine And.intro hin (And.intro hin (nm_r (e' := upd a_bal (s * 5 + t) (nI (b + a))) ?_ (And.intro hin (And.intro hin (nm_r (e' := upd a_dig (s * 5 + t) (a_dig (s * 5 + t) * 31 + (nI a * 16 + 8 + nI f))) ?_ hp)))))
  · rw [ei, nI_clamp (by omega), hb, nI_add]
  · rw [ei, nI_clamp (by omega)]
theorem ms_y_rv15 {s f t a b b' x5 m : Nat} {w : Int32} (hs : s < 7) (hf : f < 5) (ht : t < 5) (hx5 : x5 < 175) (hb : a_bal (s * 5 + t) = nI b) (hb' : b' = b + a) (hw : w = a_dig (s * 5 + t) * 31 + (nI a * 16 + 8 + nI f)) (hm : m < 4) (hlen : a_len x5 = nI (m + 1))
    (hp : post (f_n, f_room, f_slots, f_up, f_last, f_kept, a_ids, upd a_bal (s * 5 + t) (nI b'), upd a_dig (s * 5 + t) w, upd a_len x5 (nI m), ms_shf a_amt (x5 * 4) m, a_par, a_reported, a_count, a_queue)) : ∀ e N k, k + e = m → e < N → wY_receive_15 post (nI s) (nI f) (nI t) (nI a) (nI x5) f_n f_room f_slots f_up f_last f_kept N (nI (k + 1)) a_ids a_bal a_dig a_len (ms_shf a_amt (x5 * 4) k) a_par a_reported a_count a_queue := by
  have h65 : wY_receive_65 post (nI s) (nI f) (nI t) (nI a) (nI x5) f_n f_room f_slots f_up f_last f_kept a_ids a_bal a_dig a_len (ms_shf a_amt (x5 * 4) m) a_par a_reported a_count a_queue := by
    refine And.intro (vp_in_nI hx5 (by decide)) (br_f ?_ (And.intro (vp_in_nI hx5 (by decide)) (And.intro (vp_in_nI hx5 (by decide)) (nm_r (e' := upd a_len x5 (nI m)) ?_ ?_))))
    · rw [nI_clamp (by omega), hlen]; exact nI_nle (by omega) (by omega)
    · rw [nI_clamp (by omega), hlen, nI_pred]
    · exact ms_y_rv86 hs hf ht hb hb' hw hp
  intro e
  induction e with
  | zero =>
    intro N k h1 hN
    obtain ⟨N, rfl⟩ : ∃ M, N = M + 1 := ⟨N - 1, by omega⟩
    obtain rfl : k = m := by omega
    refine And.intro (vp_in_nI hx5 (by decide)) (br_t ?_ h65)
    rw [nI_clamp (by omega), hlen]; exact nI_le (by omega) (by omega)
  | succ e ih =>
    intro N k h1 hN
    obtain ⟨N, rfl⟩ : ∃ M, N = M + 1 := ⟨N - 1, by omega⟩
    have e1 : nI x5 * 4 + nI (k + 1) = nI (x5 * 4 + k + 1) := by rw [ms_m4, nI_add]; rfl
    have e2 : nI x5 * 4 + nI (k + 1) - 1 = nI (x5 * 4 + k) := by rw [e1, nI_pred]
    refine And.intro (vp_in_nI hx5 (by decide)) (br_f ?_ (br_f (nI_ge (b := 4) (by omega) (by decide)) (And.intro ?_ (And.intro ?_ (nm_r (e' := ms_shf a_amt (x5 * 4) (k + 1)) ?_ (nm_r (nI_1 (k + 1)) (ih N _ (by omega) (by omega))))))))
    · rw [nI_clamp (by omega), hlen]; exact nI_ge (by omega) (by omega)
    · rw [e1]; exact vp_in_nI (by omega) (by decide)
    · rw [e2]; exact vp_in_nI (by omega) (by decide)
    · rw [e2, e1, nI_clamp (by omega), nI_clamp (by omega), ms_shfS]
theorem ms_y_receive {s f t a b b' m : Nat} {p0 p1 p2 p3 w : Int32} (hs : s < 7) (hf : f < 5) (ht : t < 5) (hb : a_bal (s * 5 + t) = nI b) (hb' : b' = b + a) (hw : w = a_dig (s * 5 + t) * 31 + (nI a * 16 + 8 + nI f)) (hm : m < 4) (hlen : a_len (s * 25 + (f * 5 + t)) = nI (m + 1))
    (e0 : p0 = nI s) (e1 : p1 = nI f) (e2 : p2 = nI t) (e3 : p3 = nI a)
    (hp : post (f_n, f_room, f_slots, f_up, f_last, f_kept, a_ids, upd a_bal (s * 5 + t) (nI b'), upd a_dig (s * 5 + t) w, upd a_len (s * 25 + (f * 5 + t)) (nI m), ms_shf a_amt ((s * 25 + (f * 5 + t)) * 4) m, a_par, a_reported, a_count, a_queue)) : wpY_receive post (f_n, f_room, f_slots, f_up, f_last, f_kept, a_ids, a_bal, a_dig, a_len, a_amt, a_par, a_reported, a_count, a_queue) p0 p1 p2 p3 := by
  subst e0 e1 e2 e3
  have ei2 : nI s * 25 + nI f * 5 + nI t = nI (s * 25 + (f * 5 + t)) := by rw [ms_m25, ms_m5, nI_add, nI_add, Nat.add_assoc]
  refine nm_r ei2 ⟨m + 1, ?_⟩
  have := ms_y_rv15 hs hf ht (x5 := s * 25 + (f * 5 + t)) (by omega) hb hb' hw hm hlen hp m (m + 1) 0 (by omega) (by omega)
  rw [ms_shf0] at this; exact this
end
end
section
/-! Y: tokens are sent and received in all states that take part; joining; through -/
theorem ms_jq0 {p m : Nat} {Q : Nat → List Nat} : ms_jq 0 p m Q = Q := by
  funext c
  exact if_neg (fun z => absurd z.2.1 (Nat.not_lt_zero _))
theorem ms_jqS {k p m : Nat} {Q : Nat → List Nat} (hk : k < 5) (hp : k ≠ p) : ms_set (ms_jq k p m Q) (p * 5 + k) (Q (p * 5 + k) ++ [m]) = ms_jq (k + 1) p m Q := by
  funext c
  by_cases e : c = p * 5 + k
  · subst e
    rw [ms_set_s, ms_jq_y ⟨by omega, by omega, by omega⟩]
  · rw [ms_set_n e]
    by_cases h : c / 5 = p ∧ c % 5 < k ∧ c % 5 ≠ p
    · rw [ms_jq_y h, ms_jq_y ⟨h.1, by omega, h.2.2⟩]
    · rw [ms_jq_n h, ms_jq_n (fun z => h ⟨z.1, by omega, z.2.2⟩)]
theorem ms_jqS' {k m : Nat} {Q : Nat → List Nat} : ms_jq (k + 1) k m Q = ms_jq k k m Q := by
  funext c
  by_cases h : c / 5 = k ∧ c % 5 < k ∧ c % 5 ≠ k
  · rw [ms_jq_y h, ms_jq_y ⟨h.1, by omega, h.2.2⟩]
  · rw [ms_jq_n h, ms_jq_n (fun z => h ⟨z.1, by omega, z.2.2⟩)]
section
variable {n : Nat} {room : Nat} {slots : Nat} {up : Bool} {last : Nat} {kept : Nat} {B0 : Nat → Nat} {D0 : Nat → Int32} {Q : Nat → List Nat} {J : Nat → Nat} {root : Nat → Nat} {par : Nat → Nat → Nat} {fin : Nat → Nat → Bool} {mI : Nat → Nat → Bool} {rI : Nat → Nat → Bool} {B : Nat → Nat → Nat} {D : Nat → Nat → Int32} {L : Nat → Nat → List Nat} {ST : Nat → Nat → List Nat} {v : SY} {L0 : Nat → List Nat}
theorem ms_y_send0 {post : SY → Prop} {f t a : Nat} {p0 p1 p2 p3 : Int32} (H : ms_RY (n, room, slots, up, last, kept, B0, D0, Q, J, root, par, fin, mI, rI, B, D, L, ST) L0 v) (hf : f < 5) (ht : t < 5) (hba : a ≤ B0 f) (hl : (L0 (f * 5 + t)).length < 4) (e0 : p0 = nI 0) (e1 : p1 = nI f) (e2 : p2 = nI t) (e3 : p3 = nI a)
    (K : ∀ v', ms_RY (n, room, slots, up, last, kept, ms_set B0 f (B0 f - a), ms_set D0 f (D0 f * 31 + (nI a * 16 + nI t)), Q, J, root, par, fin, mI, rI, B, D, L, ST) (ms_set L0 (f * 5 + t) (L0 (f * 5 + t) ++ [a])) v' → post v') : wpY_send post v p0 p1 p2 p3 := by
  obtain ⟨f_n, f_room, f_slots, f_up, f_last, f_kept, a_ids, a_bal, a_dig, a_len, a_amt, a_par, a_reported, a_count, a_queue⟩ := v
  obtain ⟨h1, hQ, hI, hp, hP0, hPr⟩ := H
  refine ms_y_send (s := 0) (b := B0 f) (Lc := L0 (f * 5 + t)) (w := D0 f * 31 + (nI a * 16 + nI t)) (by omega) hf ht (hP0.1 f hf).1 hba hl (hP0.2 (f * 5 + t) (by omega)).2.1 e0 e1 e2 e3 rfl (by rw [(hP0.1 f hf).2]) ?_
  refine K _ ?_
  exact ⟨h1, hQ, hI, hp, ms_PL_send hP0 hl, fun r hr hJr => ms_PL_send_o (hPr r hr hJr) (by omega) hf (by omega) hl⟩
theorem ms_y_sendR {post : SY → Prop} {s f t a : Nat} {p0 p1 p2 p3 : Int32} (H : ms_RY (n, room, slots, up, last, kept, B0, D0, Q, J, root, par, fin, mI, rI, B, D, L, ST) L0 v) (hs : s < 3) (hJ : J s ≠ 0) (hf : f < 5) (ht : t < 5) (hba : a ≤ B s f) (hl : (L s (f * 5 + t)).length < 4) (e0 : p0 = nI (s + 1)) (e1 : p1 = nI f) (e2 : p2 = nI t) (e3 : p3 = nI a)
    (K : ∀ v', ms_RY (n, room, slots, up, last, kept, B0, D0, Q, J, root, par, fin, mI, rI, ms_set B s (ms_set (B s) f (B s f - a)), ms_set D s (ms_set (D s) f (D s f * 31 + (nI a * 16 + nI t))), ms_set L s (ms_set (L s) (f * 5 + t) (L s (f * 5 + t) ++ [a])), ST) L0 v' → post v') : wpY_send post v p0 p1 p2 p3 := by
  obtain ⟨f_n, f_room, f_slots, f_up, f_last, f_kept, a_ids, a_bal, a_dig, a_len, a_amt, a_par, a_reported, a_count, a_queue⟩ := v
  obtain ⟨h1, hQ, hI, hp, hP0, hPr⟩ := H
  have hpl := hPr s (by omega) hJ
  refine ms_y_send (s := s + 1) (b := B s f) (Lc := L s (f * 5 + t)) (w := D s f * 31 + (nI a * 16 + nI t)) (by omega) hf ht (hpl.1 f hf).1 hba hl (hpl.2 (f * 5 + t) (by omega)).2.1 e0 e1 e2 e3 rfl (by rw [(hpl.1 f hf).2]) ?_
  refine K _ ?_
  refine ⟨h1, hQ, hI, hp, ms_PL_send_o hP0 (by omega) hf (by omega) hl, fun r hr hJr => ?_⟩
  by_cases e : r = s
  · subst e
    rw [ms_set_s, ms_set_s, ms_set_s]; exact ms_PL_send hpl hl
  · rw [ms_set_n e, ms_set_n e, ms_set_n e]; exact ms_PL_send_o (hPr r hr hJr) (by omega) hf (by omega) hl
theorem ms_y_recv0 {post : SY → Prop} {f t a : Nat} {l : List Nat} {p0 p1 p2 p3 : Int32} (H : ms_RY (n, room, slots, up, last, kept, B0, D0, Q, J, root, par, fin, mI, rI, B, D, L, ST) L0 v) (hf : f < 5) (ht : t < 5) (hl : L0 (f * 5 + t) = a :: l) (e0 : p0 = nI 0) (e1 : p1 = nI f) (e2 : p2 = nI t) (e3 : p3 = nI a)
    (K : ∀ v', ms_RY (n, room, slots, up, last, kept, ms_set B0 t (B0 t + a), ms_set D0 t (D0 t * 31 + (nI a * 16 + 8 + nI f)), Q, J, root, par, fin, mI, rI, B, D, L, ST) (ms_set L0 (f * 5 + t) (L0 (f * 5 + t)).tail) v' → post v') : wpY_receive post v p0 p1 p2 p3 := by
  obtain ⟨f_n, f_room, f_slots, f_up, f_last, f_kept, a_ids, a_bal, a_dig, a_len, a_amt, a_par, a_reported, a_count, a_queue⟩ := v
  obtain ⟨h1, hQ, hI, hp, hP0, hPr⟩ := H
  have hq := hP0.2 (f * 5 + t) (by omega)
  have hq1 := hq.1
  have hq2 := hq.2.1
  rw [hl, List.length_cons] at hq1 hq2
  refine ms_y_receive (s := 0) (b := B0 t) (m := l.length) (w := D0 t * 31 + (nI a * 16 + 8 + nI f)) (by omega) hf ht (hP0.1 t ht).1 rfl (by rw [(hP0.1 t ht).2]) (by omega) hq2 e0 e1 e2 e3 ?_
  refine K _ ?_
  exact ⟨h1, hQ, hI, hp, ms_PL_recv hP0 hl hq.1, fun r hr hJr => ms_PL_recv_o (hPr r hr hJr) (by omega) ht (by omega) (by omega)⟩
theorem ms_y_recvR {post : SY → Prop} {s f t a : Nat} {l : List Nat} {p0 p1 p2 p3 : Int32} (H : ms_RY (n, room, slots, up, last, kept, B0, D0, Q, J, root, par, fin, mI, rI, B, D, L, ST) L0 v) (hs : s < 3) (hJ : J s ≠ 0) (hf : f < 5) (ht : t < 5) (hl : L s (f * 5 + t) = a :: l) (e0 : p0 = nI (s + 1)) (e1 : p1 = nI f) (e2 : p2 = nI t) (e3 : p3 = nI a)
    (K : ∀ v', ms_RY (n, room, slots, up, last, kept, B0, D0, Q, J, root, par, fin, mI, rI, ms_set B s (ms_set (B s) t (B s t + a)), ms_set D s (ms_set (D s) t (D s t * 31 + (nI a * 16 + 8 + nI f))), ms_set L s (ms_set (L s) (f * 5 + t) (L s (f * 5 + t)).tail), ST) L0 v' → post v') : wpY_receive post v p0 p1 p2 p3 := by
  obtain ⟨f_n, f_room, f_slots, f_up, f_last, f_kept, a_ids, a_bal, a_dig, a_len, a_amt, a_par, a_reported, a_count, a_queue⟩ := v
  obtain ⟨h1, hQ, hI, hp, hP0, hPr⟩ := H
  have hpl := hPr s (by omega) hJ
  have hq := hpl.2 (f * 5 + t) (by omega)
  have hq1 := hq.1
  have hq2 := hq.2.1
  rw [hl, List.length_cons] at hq1 hq2
  refine ms_y_receive (s := s + 1) (b := B s t) (m := l.length) (w := D s t * 31 + (nI a * 16 + 8 + nI f)) (by omega) hf ht (hpl.1 t ht).1 rfl (by rw [(hpl.1 t ht).2]) (by omega) hq2 e0 e1 e2 e3 ?_
  refine K _ ?_
  refine ⟨h1, hQ, hI, hp, ms_PL_recv_o hP0 (by omega) ht (by omega) (by omega), fun r hr hJr => ?_⟩
  by_cases e : r = s
  · subst e
    rw [ms_set_s, ms_set_s, ms_set_s]; exact ms_PL_recv hpl hl hq.1
  · rw [ms_set_n e, ms_set_n e, ms_set_n e]; exact ms_PL_recv_o (hPr r hr hJr) (by omega) ht (by omega) (by omega)
/-- the sending loop of the reference over the running places -/
theorem ms_y_tr113 {post : Int32 → SY → Prop} {f t a : Nat} (hf : f < 5) (ht : t < 5) (hJ : ∀ r, r < 6 → J r ≤ 100) (hP : ms_IP n par) (hl10 : (Q (f * 5 + t)).length < 10)
    (hpart : ∀ s, s < 3 → J s ≠ 0 → par s f = 0 → a ≤ B s f ∧ (L s (f * 5 + t)).length < 4)
    (K : ∀ v', ms_RY (n, room, slots, up, last, kept, B0, D0, ms_set Q (f * 5 + t) (Q (f * 5 + t) ++ [a * 4 + 1]), J, root, par, fin, mI, rI, ms_pt 3 (fun s => decide (J s ≠ 0 ∧ par s f = 0)) (fun s => ms_set (B s) f (B s f - a)) B, ms_pt 3 (fun s => decide (J s ≠ 0 ∧ par s f = 0)) (fun s => ms_set (D s) f (D s f * 31 + (nI a * 16 + nI t))) D, ms_pt 3 (fun s => decide (J s ≠ 0 ∧ par s f = 0)) (fun s => ms_set (L s) (f * 5 + t) (L s (f * 5 + t) ++ [a])) L, ST) L0 v' → post 0 v') :
    ∀ d N k, ∀ (f_n f_room f_slots f_up f_last f_kept : Int32) (a_ids a_bal a_dig a_len a_amt a_par a_reported a_count a_queue : Nat → Int32), k + d = 3 → d < N → ms_RY (n, room, slots, up, last, kept, B0, D0, Q, J, root, par, fin, mI, rI, ms_pt k (fun s => decide (J s ≠ 0 ∧ par s f = 0)) (fun s => ms_set (B s) f (B s f - a)) B, ms_pt k (fun s => decide (J s ≠ 0 ∧ par s f = 0)) (fun s => ms_set (D s) f (D s f * 31 + (nI a * 16 + nI t))) D, ms_pt k (fun s => decide (J s ≠ 0 ∧ par s f = 0)) (fun s => ms_set (L s) (f * 5 + t) (L s (f * 5 + t) ++ [a])) L, ST) L0 (f_n, f_room, f_slots, f_up, f_last, f_kept, a_ids, a_bal, a_dig, a_len, a_amt, a_par, a_reported, a_count, a_queue) → wY_transfer_113 post (nI f) (nI t) (nI a) N (nI (k + 1)) f_n f_room f_slots f_up f_last f_kept a_ids a_bal a_dig a_len a_amt a_par a_reported a_count a_queue := by
  intro d
  induction d with
  | zero =>
    intro N k f_n f_room f_slots f_up f_last f_kept a_ids a_bal a_dig a_len a_amt a_par a_reported a_count a_queue h1 hN H
    obtain ⟨N, rfl⟩ : ∃ M, N = M + 1 := ⟨N - 1, by omega⟩
    obtain rfl : k = 3 := by omega
    refine br_t (nI_lt (a := 3) (by omega) (by omega)) ?_
    refine ms_y_append H hf ht hl10 rfl rfl (by rw [ms_m4]; exact nI_1 _) (fun v' H' => ?_)
    obtain ⟨z0, z1, z2, z3, z4, z5, z6, z7, z8, z9, z10, z11, z12, z13, z14⟩ := v'
    exact K _ H'
  | succ d ih =>
    intro N k f_n f_room f_slots f_up f_last f_kept a_ids a_bal a_dig a_len a_amt a_par a_reported a_count a_queue h1 hN H
    obtain ⟨N, rfl⟩ : ∃ M, N = M + 1 := ⟨N - 1, by omega⟩
    obtain ⟨c1, cQ, cI, cp, c0, cr⟩ := id H
    refine br_f (nI_nlt (a := 3) (by omega) (by decide)) (ms_y_tp cI hJ hP cp (s := k) (by omega) hf rfl rfl (fun z => br_f (by decide) ?_) (fun z => br_t rfl (nm_r (nI_1 (k + 1)) (ih N (k + 1) _ _ _ _ _ _ _ _ _ _ _ _ _ _ _ (by omega) (by omega) ?_))))
    · have hP : (fun s => decide (J s ≠ 0 ∧ par s f = 0)) k = true := decide_eq_true z
      have hh := hpart k (by omega) z.1 z.2
      refine ms_y_sendR H (s := k) (by omega) z.1 hf ht (by rw [ms_pt_g (Nat.le_refl k)]; exact hh.1) (by rw [ms_pt_g (Nat.le_refl k)]; exact hh.2) rfl rfl rfl rfl (fun v' H' => ?_)
      obtain ⟨z0, z1, z2, z3, z4, z5, z6, z7, z8, z9, z10, z11, z12, z13, z14⟩ := v'
      refine nm_r (nI_1 (k + 1)) (ih N (k + 1) _ _ _ _ _ _ _ _ _ _ _ _ _ _ _ (by omega) (by omega) ?_)
      rw [ms_pt_g (Nat.le_refl k), ms_pt_g (Nat.le_refl k), ms_pt_g (Nat.le_refl k)] at H'
      rw [ms_ptS_y hP, ms_ptS_y hP, ms_ptS_y hP]
      exact H'
    · have hP : (fun s => decide (J s ≠ 0 ∧ par s f = 0)) k = false := decide_eq_false z
      rw [ms_ptS_n hP, ms_ptS_n hP, ms_ptS_n hP]
      exact H
theorem ms_y_tr0 {post : Int32 → SY → Prop} {f t a : Nat} {f_n f_room f_slots f_up f_last f_kept : Int32} {a_ids a_bal a_dig a_len a_amt a_par a_reported a_count a_queue : Nat → Int32} (H : ms_RY (n, room, slots, up, last, kept, B0, D0, Q, J, root, par, fin, mI, rI, B, D, L, ST) L0 (f_n, f_room, f_slots, f_up, f_last, f_kept, a_ids, a_bal, a_dig, a_len, a_amt, a_par, a_reported, a_count, a_queue)) (hf : f < 5) (ht : t < 5) (hJ : ∀ r, r < 6 → J r ≤ 100) (hP : ms_IP n par) (hl10 : (Q (f * 5 + t)).length < 10) (hba : a ≤ B0 f) (hl : (L0 (f * 5 + t)).length < 4)
    (hpart : ∀ s, s < 3 → J s ≠ 0 → par s f = 0 → a ≤ B s f ∧ (L s (f * 5 + t)).length < 4)
    (K : ∀ v', ms_RY (n, room, slots, up, last, kept, ms_set B0 f (B0 f - a), ms_set D0 f (D0 f * 31 + (nI a * 16 + nI t)), ms_set Q (f * 5 + t) (Q (f * 5 + t) ++ [a * 4 + 1]), J, root, par, fin, mI, rI, ms_pt 3 (fun s => decide (J s ≠ 0 ∧ par s f = 0)) (fun s => ms_set (B s) f (B s f - a)) B, ms_pt 3 (fun s => decide (J s ≠ 0 ∧ par s f = 0)) (fun s => ms_set (D s) f (D s f * 31 + (nI a * 16 + nI t))) D, ms_pt 3 (fun s => decide (J s ≠ 0 ∧ par s f = 0)) (fun s => ms_set (L s) (f * 5 + t) (L s (f * 5 + t) ++ [a])) L, ST) (ms_set L0 (f * 5 + t) (L0 (f * 5 + t) ++ [a])) v' → post 0 v') :
    ∃ N, wY_transfer_113 post (nI f) (nI t) (nI a) N 0 f_n f_room f_slots f_up f_last f_kept a_ids a_bal a_dig a_len a_amt a_par a_reported a_count a_queue := by
  refine ⟨5, br_f (nI_nlt (a := 3) (b := 0) (by omega) (by decide)) (br_t rfl (br_f (by decide) ?_))⟩
  refine ms_y_send0 H hf ht hba hl rfl rfl rfl rfl (fun v' H' => ?_)
  obtain ⟨z0, z1, z2, z3, z4, z5, z6, z7, z8, z9, z10, z11, z12, z13, z14⟩ := v'
  refine nm_r (nI_1 0) (ms_y_tr113 hf ht hJ hP hl10 hpart K 3 4 0 _ _ _ _ _ _ _ _ _ _ _ _ _ _ _ (by omega) (by omega) ?_)
  rw [ms_pt0, ms_pt0, ms_pt0]
  exact H'
/-- the receiving loop of the reference -/
theorem ms_y_dl134 {post : Int32 → SY → Prop} {f t a : Nat} (hf : f < 5) (ht : t < 5) (hJ : ∀ r, r < 6 → J r ≤ 100) (hP : ms_IP n par)
    (hpart : ∀ s, s < 3 → J s ≠ 0 → par s t = 0 → ∃ l, L s (f * 5 + t) = a :: l)
    (K : ∀ v', ms_RY (n, room, slots, up, last, kept, B0, D0, Q, J, root, par, fin, mI, rI, ms_pt 3 (fun s => decide (J s ≠ 0 ∧ par s t = 0)) (fun s => ms_set (B s) t (B s t + a)) B, ms_pt 3 (fun s => decide (J s ≠ 0 ∧ par s t = 0)) (fun s => ms_set (D s) t (D s t * 31 + (nI a * 16 + 8 + nI f))) D, ms_pt 3 (fun s => decide (J s ≠ 0 ∧ par s t = 0)) (fun s => ms_set (L s) (f * 5 + t) (L s (f * 5 + t)).tail) L, ST) L0 v' → post 1 v') :
    ∀ d N k, ∀ (f_n f_room f_slots f_up f_last f_kept : Int32) (a_ids a_bal a_dig a_len a_amt a_par a_reported a_count a_queue : Nat → Int32), k + d = 3 → d < N → ms_RY (n, room, slots, up, last, kept, B0, D0, Q, J, root, par, fin, mI, rI, ms_pt k (fun s => decide (J s ≠ 0 ∧ par s t = 0)) (fun s => ms_set (B s) t (B s t + a)) B, ms_pt k (fun s => decide (J s ≠ 0 ∧ par s t = 0)) (fun s => ms_set (D s) t (D s t * 31 + (nI a * 16 + 8 + nI f))) D, ms_pt k (fun s => decide (J s ≠ 0 ∧ par s t = 0)) (fun s => ms_set (L s) (f * 5 + t) (L s (f * 5 + t)).tail) L, ST) L0 (f_n, f_room, f_slots, f_up, f_last, f_kept, a_ids, a_bal, a_dig, a_len, a_amt, a_par, a_reported, a_count, a_queue) → wY_deliver_134 post (nI f) (nI t) (nI a) N (nI (k + 1)) f_n f_room f_slots f_up f_last f_kept a_ids a_bal a_dig a_len a_amt a_par a_reported a_count a_queue := by
  intro d
  induction d with
  | zero =>
    intro N k f_n f_room f_slots f_up f_last f_kept a_ids a_bal a_dig a_len a_amt a_par a_reported a_count a_queue h1 hN H
    obtain ⟨N, rfl⟩ : ∃ M, N = M + 1 := ⟨N - 1, by omega⟩
    obtain rfl : k = 3 := by omega
    exact br_t (nI_lt (a := 3) (by omega) (by omega)) (K _ H)
  | succ d ih =>
    intro N k f_n f_room f_slots f_up f_last f_kept a_ids a_bal a_dig a_len a_amt a_par a_reported a_count a_queue h1 hN H
    obtain ⟨N, rfl⟩ : ∃ M, N = M + 1 := ⟨N - 1, by omega⟩
    obtain ⟨c1, cQ, cI, cp, c0, cr⟩ := id H
    refine br_f (nI_nlt (a := 3) (by omega) (by decide)) (ms_y_tp cI hJ hP cp (s := k) (by omega) ht rfl rfl (fun z => br_f (by decide) ?_) (fun z => br_t rfl (nm_r (nI_1 (k + 1)) (ih N (k + 1) _ _ _ _ _ _ _ _ _ _ _ _ _ _ _ (by omega) (by omega) ?_))))
    · have hP : (fun s => decide (J s ≠ 0 ∧ par s t = 0)) k = true := decide_eq_true z
      obtain ⟨l, hh⟩ := hpart k (by omega) z.1 z.2
      refine ms_y_recvR H (s := k) (l := l) (by omega) z.1 hf ht (by rw [ms_pt_g (Nat.le_refl k)]; exact hh) rfl rfl rfl rfl (fun v' H' => ?_)
      obtain ⟨z0, z1, z2, z3, z4, z5, z6, z7, z8, z9, z10, z11, z12, z13, z14⟩ := v'
      refine nm_r (nI_1 (k + 1)) (ih N (k + 1) _ _ _ _ _ _ _ _ _ _ _ _ _ _ _ (by omega) (by omega) ?_)
      rw [ms_pt_g (Nat.le_refl k), ms_pt_g (Nat.le_refl k), ms_pt_g (Nat.le_refl k)] at H'
      rw [ms_ptS_y hP, ms_ptS_y hP, ms_ptS_y hP]
      exact H'
    · have hP : (fun s => decide (J s ≠ 0 ∧ par s t = 0)) k = false := decide_eq_false z
      rw [ms_ptS_n hP, ms_ptS_n hP, ms_ptS_n hP]
      exact H
theorem ms_y_dl0 {post : Int32 → SY → Prop} {f t a : Nat} {l0 : List Nat} {f_n f_room f_slots f_up f_last f_kept : Int32} {a_ids a_bal a_dig a_len a_amt a_par a_reported a_count a_queue : Nat → Int32} (H : ms_RY (n, room, slots, up, last, kept, B0, D0, Q, J, root, par, fin, mI, rI, B, D, L, ST) L0 (f_n, f_room, f_slots, f_up, f_last, f_kept, a_ids, a_bal, a_dig, a_len, a_amt, a_par, a_reported, a_count, a_queue)) (hf : f < 5) (ht : t < 5) (hJ : ∀ r, r < 6 → J r ≤ 100) (hP : ms_IP n par) (hl : L0 (f * 5 + t) = a :: l0)
    (hpart : ∀ s, s < 3 → J s ≠ 0 → par s t = 0 → ∃ l, L s (f * 5 + t) = a :: l)
    (K : ∀ v', ms_RY (n, room, slots, up, last, kept, ms_set B0 t (B0 t + a), ms_set D0 t (D0 t * 31 + (nI a * 16 + 8 + nI f)), Q, J, root, par, fin, mI, rI, ms_pt 3 (fun s => decide (J s ≠ 0 ∧ par s t = 0)) (fun s => ms_set (B s) t (B s t + a)) B, ms_pt 3 (fun s => decide (J s ≠ 0 ∧ par s t = 0)) (fun s => ms_set (D s) t (D s t * 31 + (nI a * 16 + 8 + nI f))) D, ms_pt 3 (fun s => decide (J s ≠ 0 ∧ par s t = 0)) (fun s => ms_set (L s) (f * 5 + t) (L s (f * 5 + t)).tail) L, ST) (ms_set L0 (f * 5 + t) (L0 (f * 5 + t)).tail) v' → post 1 v') :
    ∃ N, wY_deliver_134 post (nI f) (nI t) (nI a) N 0 f_n f_room f_slots f_up f_last f_kept a_ids a_bal a_dig a_len a_amt a_par a_reported a_count a_queue := by
  refine ⟨5, br_f (nI_nlt (a := 3) (b := 0) (by omega) (by decide)) (br_t rfl (br_f (by decide) ?_))⟩
  refine ms_y_recv0 H hf ht hl rfl rfl rfl rfl (fun v' H' => ?_)
  obtain ⟨z0, z1, z2, z3, z4, z5, z6, z7, z8, z9, z10, z11, z12, z13, z14⟩ := v'
  refine nm_r (nI_1 0) (ms_y_dl134 hf ht hJ hP hpart K 3 4 0 _ _ _ _ _ _ _ _ _ _ _ _ _ _ _ (by omega) (by omega) ?_)
  rw [ms_pt0, ms_pt0, ms_pt0]
  exact H'
end
end
section
/-! Y: joining, through, copies of places, the steps of deliver -/
def ms_sh3 {α : Type} (F : Nat → α) (s : Nat) : Nat → α := fun r => if r = 3 then F s else if r = 4 then F 3 else if r = 5 then F 4 else F r
theorem ms_sh3_e {α : Type} (F : Nat → α) {s : Nat} (hs : s < 3) : ms_set (ms_set (ms_set F 5 (F 4)) 4 (F 3)) 3 (F s) = ms_sh3 F s := by
  funext r
  show (if r = 3 then F s else if r = 4 then F 3 else if r = 5 then F 4 else F r) = _
  rfl
theorem ms_sh3_3 {α : Type} {F : Nat → α} {s : Nat} : ms_sh3 F s 3 = F s := rfl
theorem ms_sh3_4 {α : Type} {F : Nat → α} {s : Nat} : ms_sh3 F s 4 = F 3 := rfl
theorem ms_sh3_5 {α : Type} {F : Nat → α} {s : Nat} : ms_sh3 F s 5 = F 4 := rfl
theorem ms_sh3_o {α : Type} {F : Nat → α} {s r : Nat} (h : r < 3) : ms_sh3 F s r = F r := by
  show (if r = 3 then F s else if r = 4 then F 3 else if r = 5 then F 4 else F r) = _
  rw [if_neg (by omega), if_neg (by omega), if_neg (by omega)]
section
variable {n : Nat} {room : Nat} {slots : Nat} {up : Bool} {last : Nat} {kept : Nat} {B0 : Nat → Nat} {D0 : Nat → Int32} {Q : Nat → List Nat} {J : Nat → Nat} {root : Nat → Nat} {par : Nat → Nat → Nat} {fin : Nat → Nat → Bool} {mI : Nat → Nat → Bool} {rI : Nat → Nat → Bool} {B : Nat → Nat → Nat} {D : Nat → Nat → Int32} {L : Nat → Nat → List Nat} {ST : Nat → Nat → List Nat} {v : SY} {L0 : Nat → List Nat}
theorem ms_RY_par {f_n f_room f_slots f_up f_last f_kept : Int32} {a_ids a_bal a_dig a_len a_amt a_par a_reported a_count a_queue : Nat → Int32} {s p q : Nat} (H : ms_RY (n, room, slots, up, last, kept, B0, D0, Q, J, root, par, fin, mI, rI, B, D, L, ST) L0 (f_n, f_room, f_slots, f_up, f_last, f_kept, a_ids, a_bal, a_dig, a_len, a_amt, a_par, a_reported, a_count, a_queue)) (hs : s < 3) (hp : p < 5) : ms_RY (n, room, slots, up, last, kept, B0, D0, Q, J, root, ms_set par s (ms_set (par s) p (q + 1)), fin, mI, rI, B, D, L, ST) L0 (f_n, f_room, f_slots, f_up, f_last, f_kept, a_ids, a_bal, a_dig, a_len, a_amt, upd a_par ((s + 1) * 5 + p) (nI q), a_reported, a_count, a_queue) := by
  obtain ⟨h1, hQ, hI, hpp, hP0, hPr⟩ := H
  refine ⟨h1, hQ, hI, fun s' p' hs' hp' => ?_, hP0, hPr⟩
  have hh := hpp s' p' hs' hp'
  by_cases e : s' = s
  · subst e
    rw [ms_set_s]
    by_cases e2 : p' = p
    · subst e2; rw [pk_us, ms_set_s]; exact ⟨rfl, hh.2⟩
    · rw [pk_un (by omega), ms_set_n e2]; exact hh
  · rw [pk_un (by omega), ms_set_n e]; exact hh
theorem ms_RY_fin {f_n f_room f_slots f_up f_last f_kept : Int32} {a_ids a_bal a_dig a_len a_amt a_par a_reported a_count a_queue : Nat → Int32} {s p : Nat} (H : ms_RY (n, room, slots, up, last, kept, B0, D0, Q, J, root, par, fin, mI, rI, B, D, L, ST) L0 (f_n, f_room, f_slots, f_up, f_last, f_kept, a_ids, a_bal, a_dig, a_len, a_amt, a_par, a_reported, a_count, a_queue)) (hs : s < 3) (hp : p < 5) : ms_RY (n, room, slots, up, last, kept, B0, D0, Q, J, root, par, ms_set fin s (ms_set (fin s) p true), mI, rI, B, D, L, ST) L0 (f_n, f_room, f_slots, f_up, f_last, f_kept, a_ids, a_bal, a_dig, a_len, a_amt, a_par, upd a_reported ((s + 1) * 5 + p) 1, a_count, a_queue) := by
  obtain ⟨h1, hQ, hI, hpp, hP0, hPr⟩ := H
  refine ⟨h1, hQ, hI, fun s' p' hs' hp' => ?_, hP0, hPr⟩
  have hh := hpp s' p' hs' hp'
  by_cases e : s' = s
  · subst e
    rw [ms_set_s]
    by_cases e2 : p' = p
    · subst e2; rw [pk_us, ms_set_s]; exact ⟨hh.1, rfl⟩
    · rw [pk_un (by omega), ms_set_n e2]; exact hh
  · rw [pk_un (by omega), ms_set_n e]; exact hh
theorem ms_y_jn14 {post : SY → Prop} {s p : Nat} (hs : s < 3) (hp : p < n) (h5 : n ≤ 5) (hJ : J s ≠ 0) (hJb : J s ≤ 100) (hl : ∀ r, r < n → r ≠ p → (Q (p * 5 + r)).length < 10)
    (K : ∀ v', ms_RY (n, room, slots, up, last, kept, B0, D0, ms_jq n p ((J s - 1) * 4 + 2) Q, J, root, par, fin, mI, rI, B, D, L, ST) L0 v' → post v') :
    ∀ d N k, ∀ (f_n f_room f_slots f_up f_last f_kept : Int32) (a_ids a_bal a_dig a_len a_amt a_par a_reported a_count a_queue : Nat → Int32), k + d = n → d < N → ms_RY (n, room, slots, up, last, kept, B0, D0, ms_jq k p ((J s - 1) * 4 + 2) Q, J, root, par, fin, mI, rI, B, D, L, ST) L0 (f_n, f_room, f_slots, f_up, f_last, f_kept, a_ids, a_bal, a_dig, a_len, a_amt, a_par, a_reported, a_count, a_queue) → wY_join_14 post (nI (s + 1)) (nI p) N (nI k) f_n f_room f_slots f_up f_last f_kept a_ids a_bal a_dig a_len a_amt a_par a_reported a_count a_queue := by
  intro d
  induction d with
  | zero =>
    intro N k f_n f_room f_slots f_up f_last f_kept a_ids a_bal a_dig a_len a_amt a_par a_reported a_count a_queue h1 hN H
    obtain ⟨N, rfl⟩ : ∃ M, N = M + 1 := ⟨N - 1, by omega⟩
    obtain rfl : k = n := by omega
    refine br_t ?_ (K _ H)
    rw [H.1.1]; exact nI_le (by omega) (by omega)
  | succ d ih =>
    intro N k f_n f_room f_slots f_up f_last f_kept a_ids a_bal a_dig a_len a_amt a_par a_reported a_count a_queue h1 hN H
    obtain ⟨N, rfl⟩ : ∃ M, N = M + 1 := ⟨N - 1, by omega⟩
    have hI := H.2.2.1 s (by omega)
    refine br_f (by rw [H.1.1]; exact nI_ge (by omega) (by omega)) (br_c (fun z => nm_r (nI_1 k) (ih N (k + 1) _ _ _ _ _ _ _ _ _ _ _ _ _ _ _ (by omega) (by omega) ?_)) (fun z => And.intro (vp_in_nI (by omega) (by decide)) ?_))
    · rw [nI_eq (by omega) (by omega)] at z
      subst z
      rw [ms_jqS']; exact H
    · rw [nI_eq (by omega) (by omega)] at z
      have hjn : ms_jq k p ((J s - 1) * 4 + 2) Q (p * 5 + k) = Q (p * 5 + k) := ms_jq_n (fun w => by omega)
      refine ms_y_append H (by omega) (by omega) (by rw [hjn]; exact hl k (by omega) z) rfl rfl (x := (J s - 1) * 4 + 2) (by rw [nI_clamp (by omega), hI, ms_e_pos hJ, ms_m4, ms_r2]) (fun v' H' => ?_)
      obtain ⟨z0, z1, z2, z3, z4, z5, z6, z7, z8, z9, z10, z11, z12, z13, z14⟩ := v'
      refine nm_r (nI_1 k) (ih N (k + 1) _ _ _ _ _ _ _ _ _ _ _ _ _ _ _ (by omega) (by omega) ?_)
      rw [hjn, ms_jqS (by omega) z] at H'
      exact H'
theorem ms_y_join {post : SY → Prop} {s p q : Nat} {p0 p1 p2 : Int32} (H : ms_RY (n, room, slots, up, last, kept, B0, D0, Q, J, root, par, fin, mI, rI, B, D, L, ST) L0 v) (hs : s < 3) (hp : p < n) (h5 : n ≤ 5) (hJ : J s ≠ 0) (hJb : J s ≤ 100) (hl : ∀ r, r < n → r ≠ p → (Q (p * 5 + r)).length < 10) (e0 : p0 = nI (s + 1)) (e1 : p1 = nI p) (e2 : p2 = nI q)
    (K : ∀ v', ms_RY (n, room, slots, up, last, kept, B0, D0, ms_jq n p ((J s - 1) * 4 + 2) Q, J, root, ms_set par s (ms_set (par s) p (q + 1)), fin, mI, rI, B, D, L, ST) L0 v' → post v') : wpY_join post v p0 p1 p2 := by
  obtain ⟨f_n, f_room, f_slots, f_up, f_last, f_kept, a_ids, a_bal, a_dig, a_len, a_amt, a_par, a_reported, a_count, a_queue⟩ := v
  subst e0 e1 e2
  have ei : nI (s + 1) * 5 + nI p = nI ((s + 1) * 5 + p) := by rw [ms_m5, nI_add]
  refine And.intro (by rw [ei]; exact vp_in_nI (by omega) (by decide)) (nm_r (e' := upd a_par ((s + 1) * 5 + p) (nI q)) (by rw [ei, nI_clamp (by omega)]) ⟨n + 1, ?_⟩)
  refine ms_y_jn14 (par := ms_set par s (ms_set (par s) p (q + 1))) (L0 := L0) hs hp h5 hJ hJb hl K n (n + 1) 0 _ _ _ _ _ _ _ _ _ _ _ _ _ _ _ (by omega) (by omega) ?_
  rw [ms_jq0]
  exact ms_RY_par H hs (by omega)
theorem ms_y_th17 {post : Int32 → Prop} {f_n f_room f_slots f_up f_last f_kept : Int32} {a_ids a_bal a_dig a_len a_amt a_par a_reported a_count a_queue : Nat → Int32} {s q : Nat} (H : ms_RY (n, room, slots, up, last, kept, B0, D0, Q, J, root, par, fin, mI, rI, B, D, L, ST) L0 (f_n, f_room, f_slots, f_up, f_last, f_kept, a_ids, a_bal, a_dig, a_len, a_amt, a_par, a_reported, a_count, a_queue)) (hs : s < 3) (hq : q < n) (h5 : n ≤ 5) (hJ : J s ≠ 0) (hJb : J s ≤ 100) (hb : ∀ c x, x ∈ Q c → x < 4000000) (hP : ms_IP n par) (hq0 : par s q ≠ 0)
    (k1 : ms_thY n (J s - 1) Q (par s) (fin s) q → post 1) (k0 : ¬ ms_thY n (J s - 1) Q (par s) (fin s) q → post 0) :
    ∀ d N i, i + d = n → d < N → (∀ r, r < i → r ≠ q → par s r ≠ 0 ∧ ms_ct ((J s - 1) * 4 + 2) (Q (r * 5 + q)) = 0 ∧ (par s r = q + 1 → fin s r = true ∧ ms_ct ((J s - 1) * 4 + 3) (Q (r * 5 + q)) = 0)) → wY_through_17 post (nI (s + 1)) (nI q) f_n f_room f_slots f_up f_last f_kept a_ids a_bal a_dig a_len a_amt a_par a_reported a_count a_queue N (nI i) := by
  obtain ⟨⟨hn, _⟩, hQ, hI, hpp, _, _⟩ := H
  intro d
  induction d with
  | zero =>
    intro N i h1 hN hok
    obtain ⟨N, rfl⟩ : ∃ M, N = M + 1 := ⟨N - 1, by omega⟩
    obtain rfl : i = n := by omega
    refine br_t ?_ (k1 ⟨hq0, hok⟩)
    rw [hn]; exact nI_le (by omega) (by omega)
  | succ d ih =>
    intro N i h1 hN hok
    obtain ⟨N, rfl⟩ : ∃ M, N = M + 1 := ⟨N - 1, by omega⟩
    have next : (i ≠ q → par s i ≠ 0 ∧ ms_ct ((J s - 1) * 4 + 2) (Q (i * 5 + q)) = 0 ∧ (par s i = q + 1 → fin s i = true ∧ ms_ct ((J s - 1) * 4 + 3) (Q (i * 5 + q)) = 0)) → wY_through_17 post (nI (s + 1)) (nI q) f_n f_room f_slots f_up f_last f_kept a_ids a_bal a_dig a_len a_amt a_par a_reported a_count a_queue N (nI (i + 1)) := fun hn =>
      ih N (i + 1) (by omega) (by omega) (fun r hr hrq => by
        by_cases e : r = i
        · rw [e] at hrq ⊢; exact hn hrq
        · exact hok r (by omega) hrq)
    have ei : nI (s + 1) * 5 + nI i = nI ((s + 1) * 5 + i) := by rw [ms_m5, nI_add]
    have hin : vp_in (nI (s + 1) * 5 + nI i) 35 := by rw [ei]; exact vp_in_nI (by omega) (by decide)
    have hpi := hP s i hs (by omega)
    obtain ⟨hpa, hfi⟩ := hpp s i hs (by omega)
    refine br_f (by rw [hn]; exact nI_ge (by omega) (by omega)) (br_c (fun z => nm_r (nI_1 i) (next (fun w => absurd ((nI_eq (by omega) (by omega)).mp z) w))) (fun z => And.intro hin (br_c (fun y => And.intro (vp_in_nI (by omega) (by decide)) ?_) (fun y => k0 ?_))))
    · rw [nI_eq (by omega) (by omega)] at z
      rw [ei, nI_clamp (by omega), hpa, ms_e_ge (by omega)] at y
      refine ms_y_holds hQ (f := i) (t := q) (m := (J s - 1) * 4 + 2) (by omega) (by omega) (by omega) hb rfl rfl (by rw [nI_clamp (by omega), hI s (by omega), ms_e_pos hJ, ms_m4, ms_r2]) (fun w => br_f (by decide) (k0 (fun th => w (th.2 i (by omega) z).2.1))) (fun w => br_t rfl (And.intro hin (br_c (fun x => And.intro hin (br_c (fun x2 => k0 ?_) (fun x2 => And.intro (vp_in_nI (by omega) (by decide)) ?_))) (fun x => nm_r (nI_1 i) (next (fun _ => ⟨y, w, fun x2 => ?_⟩))))))
      · rw [ei, nI_clamp (by omega), hpa, ms_e_eq (by omega) (by omega)] at x
        rw [ei, nI_clamp (by omega), hfi, ms_b0] at x2
        intro th
        have := ((th.2 i (by omega) z).2.2 x).1
        rw [x2] at this
        exact absurd this (by decide)
      · rw [ei, nI_clamp (by omega), hpa, ms_e_eq (by omega) (by omega)] at x
        rw [ei, nI_clamp (by omega), hfi, ms_b0] at x2
        refine ms_y_holds hQ (f := i) (t := q) (m := (J s - 1) * 4 + 3) (by omega) (by omega) (by omega) hb rfl rfl (by rw [nI_clamp (by omega), hI s (by omega), ms_e_pos hJ, ms_m4, ms_r3]) (fun w2 => br_f (by decide) (k0 (fun th => w2 ((th.2 i (by omega) z).2.2 x).2))) (fun w2 => br_t rfl (nm_r (nI_1 i) (next (fun _ => ⟨y, w, fun _ => ⟨?_, w2⟩⟩))))
        cases e : fin s i with
        | true => rfl
        | false => exact absurd e x2
      · rw [ei, nI_clamp (by omega), hpa, ms_e_eq (by omega) (by omega)] at x
        exact absurd x2 x
    · rw [nI_eq (by omega) (by omega)] at z
      rw [ei, nI_clamp (by omega), hpa, ms_e_ge (by omega)] at y
      exact fun th => y (th.2 i (by omega) z).1
theorem ms_y_through {post : Int32 → Prop} {f_n f_room f_slots f_up f_last f_kept : Int32} {a_ids a_bal a_dig a_len a_amt a_par a_reported a_count a_queue : Nat → Int32} {s q : Nat} {p0 p1 : Int32} (H : ms_RY (n, room, slots, up, last, kept, B0, D0, Q, J, root, par, fin, mI, rI, B, D, L, ST) L0 (f_n, f_room, f_slots, f_up, f_last, f_kept, a_ids, a_bal, a_dig, a_len, a_amt, a_par, a_reported, a_count, a_queue)) (hs : s < 3) (hq : q < n) (h5 : n ≤ 5) (hJ : J s ≠ 0) (hJb : J s ≤ 100) (hb : ∀ c x, x ∈ Q c → x < 4000000) (hP : ms_IP n par) (e0 : p0 = nI (s + 1)) (e1 : p1 = nI q)
    (k1 : ms_thY n (J s - 1) Q (par s) (fin s) q → post 1) (k0 : ¬ ms_thY n (J s - 1) Q (par s) (fin s) q → post 0) : wpY_through post (f_n, f_room, f_slots, f_up, f_last, f_kept, a_ids, a_bal, a_dig, a_len, a_amt, a_par, a_reported, a_count, a_queue) p0 p1 := by
  subst e0 e1
  have ei : nI (s + 1) * 5 + nI q = nI ((s + 1) * 5 + q) := by rw [ms_m5, nI_add]
  have hpi := hP s q hs (by omega)
  obtain ⟨hpa, hfi⟩ := H.2.2.2.1 s q hs (by omega)
  refine And.intro (by rw [ei]; exact vp_in_nI (by omega) (by decide)) (br_c (fun y => ⟨n + 1, ?_⟩) (fun y => k0 (fun th => y ?_)))
  · rw [ei, nI_clamp (by omega), hpa, ms_e_ge (by omega)] at y
    exact ms_y_th17 H hs hq h5 hJ hJb hb hP y k1 k0 n (n + 1) 0 (by omega) (by omega) (fun r hr => absurd hr (Nat.not_lt_zero _))
  · rw [ei, nI_clamp (by omega), hpa, ms_e_ge (by omega)]
    exact th.1
theorem ms_y_copyE {post : SY → Prop} {a b : Nat} {p0 p1 : Int32} (H : ms_RY (n, room, slots, up, last, kept, B0, D0, Q, J, root, par, fin, mI, rI, B, D, L, ST) L0 v) (ha : a < 6) (hb : b < 6) (hab : a ≠ b) (e0 : p0 = nI (a + 1)) (e1 : p1 = nI (b + 1))
    (K : ∀ v', ms_RY (n, room, slots, up, last, kept, B0, D0, Q, ms_set J b (J a), root, par, fin, mI, rI, ms_set B b (B a), ms_set D b (D a), ms_set L b (L a), ST) L0 v' → post v') : wpY_copy post v p0 p1 := by
  obtain ⟨f_n, f_room, f_slots, f_up, f_last, f_kept, a_ids, a_bal, a_dig, a_len, a_amt, a_par, a_reported, a_count, a_queue⟩ := v
  obtain ⟨h1, hQ, hI, hpp, hP0, hPr⟩ := H
  refine ms_y_copy (s := a + 1) (d := b + 1) (by omega) (by omega) (by omega) e0 e1 ?_
  refine K _ ?_
  refine ⟨h1, hQ, fun r hr => ?_, hpp, ms_PL_copy_o hP0 (by omega), fun r hr hJr => ?_⟩
  · by_cases e : r = b
    · subst e; rw [pk_us, ms_set_s]; exact hI a ha
    · rw [pk_un (by omega), ms_set_n e]; exact hI r hr
  · by_cases e : r = b
    · subst e
      rw [ms_set_s] at hJr
      rw [ms_set_s, ms_set_s, ms_set_s]; exact ms_PL_copy (hPr a ha hJr)
    · rw [ms_set_n e] at hJr
      rw [ms_set_n e, ms_set_n e, ms_set_n e]; exact ms_PL_copy_o (hPr r hr hJr) (by omega)
theorem ms_RY_kill {f_n f_room f_slots f_up f_last f_kept : Int32} {a_ids a_bal a_dig a_len a_amt a_par a_reported a_count a_queue : Nat → Int32} {s : Nat} {w : Int32} (H : ms_RY (n, room, slots, up, last, kept, B0, D0, Q, J, root, par, fin, mI, rI, B, D, L, ST) L0 (f_n, f_room, f_slots, f_up, f_last, f_kept, a_ids, a_bal, a_dig, a_len, a_amt, a_par, a_reported, a_count, a_queue)) (hw : w = -1) : ms_RY (n, room, slots, up, last, kept, B0, D0, Q, ms_set J s 0, root, par, fin, mI, rI, B, D, L, ST) L0 (f_n, f_room, f_slots, f_up, f_last, f_kept, upd a_ids (s + 1) w, a_bal, a_dig, a_len, a_amt, a_par, a_reported, a_count, a_queue) := by
  obtain ⟨h1, hQ, hI, hpp, hP0, hPr⟩ := H
  subst hw
  refine ⟨h1, hQ, fun r hr => ?_, hpp, hP0, fun r hr hJr => ?_⟩
  · by_cases e : r = s
    · subst e; rw [pk_us, ms_set_s]; rfl
    · rw [pk_un (by omega), ms_set_n e]; exact hI r hr
  · by_cases e : r = s
    · subst e; rw [ms_set_s] at hJr; exact absurd rfl hJr
    · rw [ms_set_n e] at hJr; exact hPr r hr hJr
theorem ms_QY_pop {Q : Nat → List Nat} {count queue : Nat → Int32} {c x : Nat} {tl : List Nat} (hQ : ms_QY Q count queue) (hc : c < 25) (e : Q c = x :: tl) :
    ms_QY (ms_set Q c tl) (upd count c (nI tl.length)) (ms_shf queue (c * 10) tl.length) := by
  have hl := (hQ c hc).1
  rw [e, List.length_cons] at hl
  intro j hj
  obtain ⟨q1, q2, q3⟩ := hQ j hj
  by_cases e1 : j = c
  · subst e1
    rw [e] at q3
    rw [ms_set_s, pk_us]
    exact ⟨by omega, rfl, ms_ls_shf q3⟩
  · rw [ms_set_n e1, pk_un e1]
    exact ⟨q1, q2, ms_ls_keep q3 (fun i hi => ms_shf_out (by omega))⟩
theorem ms_y_53 {post : Int32 → SY → Prop} {f_n f_room f_slots f_up f_last f_kept : Int32} {a_ids a_bal a_dig a_len a_amt a_par a_reported a_count a_queue : Nat → Int32} {x1 x2 x4 : Int32} {c m : Nat} (hc : c < 25) (hm : m < 10) (hcn : a_count c = nI (m + 1)) (hp : wY_deliver_103 post x1 x2 (nI c) x4 f_n f_room f_slots f_up f_last f_kept a_ids a_bal a_dig a_len a_amt a_par a_reported a_count (ms_shf a_queue (c * 10) m)) :
    ∀ e N k, k + e = m → e < N → wY_deliver_53 post x1 x2 (nI c) x4 f_n f_room f_slots f_up f_last f_kept N (nI (k + 1)) a_ids a_bal a_dig a_len a_amt a_par a_reported a_count (ms_shf a_queue (c * 10) k) := by
  intro e
  induction e with
  | zero =>
    intro N k h1 hN
    obtain ⟨N, rfl⟩ : ∃ M, N = M + 1 := ⟨N - 1, by omega⟩
    obtain rfl : k = m := by omega
    refine And.intro (vp_in_nI hc (by decide)) (br_t ?_ hp)
    rw [nI_clamp (by omega), hcn]; exact nI_le (by omega) (by omega)
  | succ e ih =>
    intro N k h1 hN
    obtain ⟨N, rfl⟩ : ∃ M, N = M + 1 := ⟨N - 1, by omega⟩
    have e1 : nI c * 10 + nI (k + 1) = nI (c * 10 + k + 1) := by rw [ms_m10, nI_add]; rfl
    have e2 : nI c * 10 + nI (k + 1) - 1 = nI (c * 10 + k) := by rw [e1, nI_pred]
    refine And.intro (vp_in_nI hc (by decide)) (br_f ?_ (br_f (nI_ge (b := 10) (by omega) (by decide)) (And.intro ?_ (And.intro ?_ (nm_r (e' := ms_shf a_queue (c * 10) (k + 1)) ?_ (nm_r (nI_1 (k + 1)) (ih N _ (by omega) (by omega))))))))
    · rw [nI_clamp (by omega), hcn]; exact nI_ge (by omega) (by omega)
    · rw [e1]; exact vp_in_nI (by omega) (by decide)
    · rw [e2]; exact vp_in_nI (by omega) (by decide)
    · rw [e2, e1, nI_clamp (by omega), nI_clamp (by omega), ms_shfS]
end
end
section
/-! Y: the cases of deliver -/
theorem ms_sh3_f {α : Type} (F : Nat → α) {s : Nat} (hs : s < 3) : ms_set (ms_set (ms_set F 5 (F 4)) 4 (ms_set F 5 (F 4) 3)) 3 (ms_set (ms_set F 5 (F 4)) 4 (ms_set F 5 (F 4) 3) s) = ms_sh3 F s := by
  rw [ms_set_n (show s ≠ 4 by omega), ms_set_n (show s ≠ 5 by omega), ms_set_n (show (3 : Nat) ≠ 5 by decide)]
  exact ms_sh3_e F hs
def ms_y219 (post : Int32 → SY → Prop) (t s k : Nat) (x5 : Int32) (v : SY) : Prop := match v with | (f_n, f_room, f_slots, f_up, f_last, f_kept, a_ids, a_bal, a_dig, a_len, a_amt, a_par, a_reported, a_count, a_queue) => wY_deliver_219 post (nI t) x5 (nI k) (nI (s + 1)) f_n f_room f_slots f_up f_last f_kept a_ids a_bal a_dig a_len a_amt a_par a_reported a_count a_queue
section
variable {n : Nat} {room : Nat} {slots : Nat} {up : Bool} {last : Nat} {kept : Nat} {B0 : Nat → Nat} {D0 : Nat → Int32} {Q : Nat → List Nat} {J : Nat → Nat} {root : Nat → Nat} {par : Nat → Nat → Nat} {fin : Nat → Nat → Bool} {mI : Nat → Nat → Bool} {rI : Nat → Nat → Bool} {B : Nat → Nat → Nat} {D : Nat → Nat → Int32} {L : Nat → Nat → List Nat} {ST : Nat → Nat → List Nat} {f_n f_room f_slots f_up f_last f_kept : Int32} {a_ids a_bal a_dig a_len a_amt a_par a_reported a_count a_queue : Nat → Int32} {L0 : Nat → List Nat} {post : Int32 → SY → Prop}
theorem ms_y_dpop {f t x : Nat} {tl : List Nat} (H : ms_RY (n, room, slots, up, last, kept, B0, D0, Q, J, root, par, fin, mI, rI, B, D, L, ST) L0 (f_n, f_room, f_slots, f_up, f_last, f_kept, a_ids, a_bal, a_dig, a_len, a_amt, a_par, a_reported, a_count, a_queue)) (hu : up = true) (h5 : n ≤ 5) (hf : f < n) (ht : t < n) (hft : f ≠ t) (eQ : Q (f * 5 + t) = x :: tl)
    (hp : wY_deliver_103 post (nI f) (nI t) (nI (f * 5 + t)) (nI x) f_n f_room f_slots f_up f_last f_kept a_ids a_bal a_dig a_len a_amt a_par a_reported a_count (ms_shf a_queue ((f * 5 + t) * 10) tl.length)) : wpY_deliver post (f_n, f_room, f_slots, f_up, f_last, f_kept, a_ids, a_bal, a_dig, a_len, a_amt, a_par, a_reported, a_count, a_queue) (nI f) (nI t) := by
  obtain ⟨⟨hn, _, _, hup, _, _⟩, hQ, _⟩ := H
  obtain ⟨q1, q2, q3⟩ := hQ (f * 5 + t) (by omega)
  rw [eQ, List.length_cons] at q1 q2
  have e1 : nI (f * 5 + t) * 10 = nI ((f * 5 + t) * 10) := ms_m10 _
  refine br_f (by rw [hup, hu]; decide) (ms_y_gp1 hn h5 hf ht hft (br_f (by decide) (nm_r (e' := nI (f * 5 + t)) (by rw [ms_m5, nI_add]) (And.intro (vp_in_nI (by omega) (by decide)) (br_t ?_ (And.intro ?_ (nm_r (e' := nI x) ?_ ⟨tl.length + 1, ?_⟩)))))))
  · rw [nI_clamp (by omega), q2, ms_0lt (by omega)]; omega
  · rw [e1]; exact vp_in_nI (by omega) (by decide)
  · rw [e1, nI_clamp (by omega)]
    have := q3 0 (by rw [eQ]; exact Nat.succ_pos _)
    rw [eQ] at this
    exact this
  · have := ms_y_53 (by omega) (by omega) q2 hp tl.length (tl.length + 1) 0 (by omega) (by omega)
    rw [ms_shf0] at this; exact this
theorem ms_y_103t {c x m : Nat} {x1 x2 : Int32} (hc : c < 25) (hcn : a_count c = nI (m + 1)) (hx : x < 4000000) (h1 : x % 4 = 1) (hp : ∃ N, wY_deliver_134 post x1 x2 (nI (x / 4)) N 0 f_n f_room f_slots f_up f_last f_kept a_ids a_bal a_dig a_len a_amt a_par a_reported (upd a_count c (nI m)) a_queue) : wY_deliver_103 post x1 x2 (nI c) (nI x) f_n f_room f_slots f_up f_last f_kept a_ids a_bal a_dig a_len a_amt a_par a_reported a_count a_queue := by
  refine And.intro (vp_in_nI hc (by decide)) (And.intro (vp_in_nI hc (by decide)) (nm_r (e' := upd a_count c (nI m)) (by rw [nI_clamp (by omega), hcn, nI_pred]) (And.intro (by decide) (nm_r (e' := (1 : Int32)) ?_ (And.intro (by decide) (nm_r (ms_div4 (by omega)) (br_t rfl hp)))))))
  rw [ms_rem4 (by omega), h1]; rfl
theorem ms_IJ_first {s : Nat} (hJ : ms_IJ last J) (hl : last ≤ 99) (hs : s < 3) (h0 : J s ≠ 0) : ∀ r, r < s → ms_enc (J r) ≠ nI (J s - 1) := by
  intro r hr z
  have h1 := (hJ s hs h0).1
  have h2 := (hJ s hs h0).2 r (by omega) (by omega)
  by_cases e : J r = 0
  · rw [e] at z; exact ms_ne1 (a := J s - 1) (by omega) z.symm
  · have h3 := (hJ r (by omega) e).1
    rw [ms_e_eq (by omega) (by omega)] at z
    omega
theorem ms_y_103m0 {c x m s f t : Nat} (hc : c < 25) (hcn : a_count c = nI (m + 1)) (hs : s < 3) (h0 : J s ≠ 0) (hJ : ms_IJ last J) (hl : last ≤ 99) (hx : x = (J s - 1) * 4 + 2) (ht : t < 5) (hpt : par s t ≠ 0) (hP : ms_IP n par)
    (H : ms_RY (n, room, slots, up, last, kept, B0, D0, Q, J, root, par, fin, mI, rI, B, D, L, ST) L0 (f_n, f_room, f_slots, f_up, f_last, f_kept, a_ids, a_bal, a_dig, a_len, a_amt, a_par, a_reported, upd a_count c (nI m), a_queue))
    (hp : wY_deliver_219 post (nI t) 2 (nI (J s - 1)) (nI (s + 1)) f_n f_room f_slots f_up f_last f_kept a_ids a_bal a_dig a_len a_amt a_par a_reported (upd a_count c (nI m)) a_queue) : wY_deliver_103 post (nI f) (nI t) (nI c) (nI x) f_n f_room f_slots f_up f_last f_kept a_ids a_bal a_dig a_len a_amt a_par a_reported a_count a_queue := by
  have hjs := (hJ s hs h0).1
  have hpi := hP s t hs ht
  have ei : nI (s + 1) * 5 + nI t = nI ((s + 1) * 5 + t) := by rw [ms_m5, nI_add]
  refine And.intro (vp_in_nI hc (by decide)) (And.intro (vp_in_nI hc (by decide)) (nm_r (e' := upd a_count c (nI m)) (by rw [nI_clamp (by omega), hcn, nI_pred]) (And.intro (by decide) (nm_r (e' := (2 : Int32)) ?_ (And.intro (by decide) (nm_r (e' := nI (J s - 1)) ?_ (br_f (by decide) ?_)))))))
  · rw [ms_rem4 (by omega), show x % 4 = 2 by omega]; rfl
  · rw [ms_div4 (by omega), show x / 4 = J s - 1 by omega]
  · refine ms_y_find H.2.2.1 (nI_pos' (by omega)) (r := s) (by omega) (ms_e_pos h0) (ms_IJ_first hJ hl hs h0) ?_
    refine br_f (nI_nlt (b := 1) (by omega) (by omega)) (br_t (nI_le (b := 3) (by omega) (by decide)) (br_t rfl (And.intro ?_ (br_t ?_ hp))))
    · rw [ei]; exact vp_in_nI (by omega) (by decide)
    · rw [ei, nI_clamp (by omega), (H.2.2.2.1 s t hs ht).1, ms_e_ge (by omega)]; exact hpt
theorem ms_y_103m1 {c x m s f t : Nat} (hc : c < 25) (hcn : a_count c = nI (m + 1)) (hs : s < 3) (h0 : J s ≠ 0) (hJ : ms_IJ last J) (hl : last ≤ 99) (hx : x = (J s - 1) * 4 + 2) (h5 : n ≤ 5) (ht : t < n) (hpt : par s t = 0) (hq10 : ∀ r, r < n → r ≠ t → (Q (t * 5 + r)).length < 10)
    (H : ms_RY (n, room, slots, up, last, kept, B0, D0, Q, J, root, par, fin, mI, rI, B, D, L, ST) L0 (f_n, f_room, f_slots, f_up, f_last, f_kept, a_ids, a_bal, a_dig, a_len, a_amt, a_par, a_reported, upd a_count c (nI m), a_queue))
    (hp : ∀ v', ms_RY (n, room, slots, up, last, kept, B0, D0, ms_jq n t ((J s - 1) * 4 + 2) Q, J, root, ms_set par s (ms_set (par s) t (f + 1)), fin, mI, rI, B, D, L, ST) L0 v' → ms_y219 post t s (J s - 1) 2 v') : wY_deliver_103 post (nI f) (nI t) (nI c) (nI x) f_n f_room f_slots f_up f_last f_kept a_ids a_bal a_dig a_len a_amt a_par a_reported a_count a_queue := by
  have hjs := (hJ s hs h0).1
  have ei : nI (s + 1) * 5 + nI t = nI ((s + 1) * 5 + t) := by rw [ms_m5, nI_add]
  refine And.intro (vp_in_nI hc (by decide)) (And.intro (vp_in_nI hc (by decide)) (nm_r (e' := upd a_count c (nI m)) (by rw [nI_clamp (by omega), hcn, nI_pred]) (And.intro (by decide) (nm_r (e' := (2 : Int32)) ?_ (And.intro (by decide) (nm_r (e' := nI (J s - 1)) ?_ (br_f (by decide) ?_)))))))
  · rw [ms_rem4 (by omega), show x % 4 = 2 by omega]; rfl
  · rw [ms_div4 (by omega), show x / 4 = J s - 1 by omega]
  · refine ms_y_find H.2.2.1 (nI_pos' (by omega)) (r := s) (by omega) (ms_e_pos h0) (ms_IJ_first hJ hl hs h0) ?_
    refine br_f (nI_nlt (b := 1) (by omega) (by omega)) (br_t (nI_le (b := 3) (by omega) (by decide)) (br_t rfl (And.intro ?_ (br_f ?_ ?_))))
    · rw [ei]; exact vp_in_nI (by omega) (by decide)
    · rw [ei, nI_clamp (by omega), (H.2.2.2.1 s t hs (by omega)).1, hpt]; exact ms_n1le
    · exact ms_y_join H hs ht h5 h0 (by omega) hq10 rfl rfl rfl hp
theorem ms_y_103r {c x m s f t : Nat} (hc : c < 25) (hcn : a_count c = nI (m + 1)) (hs : s < 3) (h0 : J s ≠ 0) (hJ : ms_IJ last J) (hl : last ≤ 99) (hx : x = (J s - 1) * 4 + 3)
    (H : ms_RY (n, room, slots, up, last, kept, B0, D0, Q, J, root, par, fin, mI, rI, B, D, L, ST) L0 (f_n, f_room, f_slots, f_up, f_last, f_kept, a_ids, a_bal, a_dig, a_len, a_amt, a_par, a_reported, upd a_count c (nI m), a_queue))
    (hp : wY_deliver_219 post (nI t) 3 (nI (J s - 1)) (nI (s + 1)) f_n f_room f_slots f_up f_last f_kept a_ids a_bal a_dig a_len a_amt a_par a_reported (upd a_count c (nI m)) a_queue) : wY_deliver_103 post (nI f) (nI t) (nI c) (nI x) f_n f_room f_slots f_up f_last f_kept a_ids a_bal a_dig a_len a_amt a_par a_reported a_count a_queue := by
  have hjs := (hJ s hs h0).1
  refine And.intro (vp_in_nI hc (by decide)) (And.intro (vp_in_nI hc (by decide)) (nm_r (e' := upd a_count c (nI m)) (by rw [nI_clamp (by omega), hcn, nI_pred]) (And.intro (by decide) (nm_r (e' := (3 : Int32)) ?_ (And.intro (by decide) (nm_r (e' := nI (J s - 1)) ?_ (br_f (by decide) ?_)))))))
  · rw [ms_rem4 (by omega), show x % 4 = 3 by omega]; rfl
  · rw [ms_div4 (by omega), show x / 4 = J s - 1 by omega]
  · refine ms_y_find H.2.2.1 (nI_pos' (by omega)) (r := s) (by omega) (ms_e_pos h0) (ms_IJ_first hJ hl hs h0) ?_
    exact br_f (nI_nlt (b := 1) (by omega) (by omega)) (br_t (nI_le (b := 3) (by omega) (by decide)) (br_f (by decide) hp))
section
variable {s t q : Nat} {x5 : Int32}
theorem ms_y_219n (H : ms_RY (n, room, slots, up, last, kept, B0, D0, Q, J, root, par, fin, mI, rI, B, D, L, ST) L0 (f_n, f_room, f_slots, f_up, f_last, f_kept, a_ids, a_bal, a_dig, a_len, a_amt, a_par, a_reported, a_count, a_queue)) (hs : s < 3) (ht : t < n) (h5 : n ≤ 5) (h0 : J s ≠ 0) (hJb : J s ≤ 100) (hb : ∀ c x, x ∈ Q c → x < 4000000) (hP : ms_IP n par) (hth : ¬ ms_thY n (J s - 1) Q (par s) (fin s) t) (hp : post x5 (f_n, f_room, f_slots, f_up, f_last, f_kept, a_ids, a_bal, a_dig, a_len, a_amt, a_par, a_reported, a_count, a_queue)) : wY_deliver_219 post (nI t) x5 (nI (J s - 1)) (nI (s + 1)) f_n f_room f_slots f_up f_last f_kept a_ids a_bal a_dig a_len a_amt a_par a_reported a_count a_queue :=
  ms_y_through H hs ht h5 h0 hJb hb hP rfl rfl (fun z => absurd z hth) (fun _ => br_t rfl hp)
theorem ms_y_219f (H : ms_RY (n, room, slots, up, last, kept, B0, D0, Q, J, root, par, fin, mI, rI, B, D, L, ST) L0 (f_n, f_room, f_slots, f_up, f_last, f_kept, a_ids, a_bal, a_dig, a_len, a_amt, a_par, a_reported, a_count, a_queue)) (hs : s < 3) (ht : t < n) (h5 : n ≤ 5) (h0 : J s ≠ 0) (hJb : J s ≤ 100) (hb : ∀ c x, x ∈ Q c → x < 4000000) (hP : ms_IP n par) (hpar : par s t = q + 1) (hqt : q ≠ t) (hf : fin s t = true) (hp : post x5 (f_n, f_room, f_slots, f_up, f_last, f_kept, a_ids, a_bal, a_dig, a_len, a_amt, a_par, a_reported, a_count, a_queue)) : wY_deliver_219 post (nI t) x5 (nI (J s - 1)) (nI (s + 1)) f_n f_room f_slots f_up f_last f_kept a_ids a_bal a_dig a_len a_amt a_par a_reported a_count a_queue := by
  refine ms_y_through H hs ht h5 h0 hJb hb hP rfl rfl (fun _ => br_f (by decide) ?_) (fun _ => br_t rfl hp)
  have ei : nI (s + 1) * 5 + nI t = nI ((s + 1) * 5 + t) := by rw [ms_m5, nI_add]
  have hin : vp_in (nI (s + 1) * 5 + nI t) 35 := by rw [ei]; exact vp_in_nI (by omega) (by decide)
  have hpi := hP s t hs (by omega)
  obtain ⟨hpa, hfi⟩ := H.2.2.2.1 s t hs (by omega)
  refine And.intro hin (nm_r (e' := nI q) (by rw [ei, nI_clamp (by omega), hpa, hpar]; rfl) (br_f (fun z => hqt ((nI_eq (by omega) (by omega)).mp z)) (And.intro hin (br_f ?_ hp))))
  rw [ei, nI_clamp (by omega), hfi, hf]; decide
theorem ms_y_219a (H : ms_RY (n, room, slots, up, last, kept, B0, D0, Q, J, root, par, fin, mI, rI, B, D, L, ST) L0 (f_n, f_room, f_slots, f_up, f_last, f_kept, a_ids, a_bal, a_dig, a_len, a_amt, a_par, a_reported, a_count, a_queue)) (hs : s < 3) (ht : t < n) (h5 : n ≤ 5) (h0 : J s ≠ 0) (hJb : J s ≤ 100) (hb : ∀ c x, x ∈ Q c → x < 4000000) (hP : ms_IP n par) (hth : ms_thY n (J s - 1) Q (par s) (fin s) t) (hpar : par s t = q + 1) (hqt : q ≠ t) (hq : q < n) (hf : fin s t = false) (hl : (Q (t * 5 + q)).length < 10)
    (K : ∀ v', ms_RY (n, room, slots, up, last, kept, B0, D0, ms_set Q (t * 5 + q) (Q (t * 5 + q) ++ [(J s - 1) * 4 + 3]), J, root, par, ms_set fin s (ms_set (fin s) t true), mI, rI, B, D, L, ST) L0 v' → post x5 v') : wY_deliver_219 post (nI t) x5 (nI (J s - 1)) (nI (s + 1)) f_n f_room f_slots f_up f_last f_kept a_ids a_bal a_dig a_len a_amt a_par a_reported a_count a_queue := by
  refine ms_y_through H hs ht h5 h0 hJb hb hP rfl rfl (fun _ => br_f (by decide) ?_) (fun z => absurd hth z)
  have ei : nI (s + 1) * 5 + nI t = nI ((s + 1) * 5 + t) := by rw [ms_m5, nI_add]
  have hin : vp_in (nI (s + 1) * 5 + nI t) 35 := by rw [ei]; exact vp_in_nI (by omega) (by decide)
  have hpi := hP s t hs (by omega)
  obtain ⟨hpa, hfi⟩ := H.2.2.2.1 s t hs (by omega)
  refine And.intro hin (nm_r (e' := nI q) (by rw [ei, nI_clamp (by omega), hpa, hpar]; rfl) (br_f (fun z => hqt ((nI_eq (by omega) (by omega)).mp z)) (And.intro hin (br_t ?_ (And.intro hin (nm_r (e' := upd a_reported ((s + 1) * 5 + t) 1) ?_ ?_))))))
  · rw [ei, nI_clamp (by omega), hfi, hf]; rfl
  · rw [ei, nI_clamp (by omega), ms_vb1]
  · refine ms_y_append (ms_RY_fin H hs (by omega)) (by omega) (by omega) hl rfl rfl (x := (J s - 1) * 4 + 3) (by rw [ms_m4, ms_r3]) (fun v' H' => ?_)
    obtain ⟨z0, z1, z2, z3, z4, z5, z6, z7, z8, z9, z10, z11, z12, z13, z14⟩ := v'
    exact K _ H'
theorem ms_RY_kept {k : Nat} {w : Int32} (H : ms_RY (n, room, slots, up, last, kept, B0, D0, Q, J, root, par, fin, mI, rI, B, D, L, ST) L0 (f_n, f_room, f_slots, f_up, f_last, f_kept, a_ids, a_bal, a_dig, a_len, a_amt, a_par, a_reported, a_count, a_queue)) (hw : w = nI k) : ms_RY (n, room, slots, up, last, k, B0, D0, Q, J, root, par, fin, mI, rI, B, D, L, ST) L0 (f_n, f_room, f_slots, f_up, f_last, w, a_ids, a_bal, a_dig, a_len, a_amt, a_par, a_reported, a_count, a_queue) := by
  obtain ⟨⟨h1, h2, h3, h4, h5, h6⟩, hh⟩ := H
  exact ⟨⟨h1, h2, h3, h4, h5, hw⟩, hh⟩
theorem ms_y_219c (H : ms_RY (n, room, slots, up, last, kept, B0, D0, Q, J, root, par, fin, mI, rI, B, D, L, ST) L0 (f_n, f_room, f_slots, f_up, f_last, f_kept, a_ids, a_bal, a_dig, a_len, a_amt, a_par, a_reported, a_count, a_queue)) (hs : s < 3) (ht : t < n) (h5 : n ≤ 5) (h0 : J s ≠ 0) (hJb : J s ≤ 100) (hk3 : kept ≤ 3) (hb : ∀ c x, x ∈ Q c → x < 4000000) (hP : ms_IP n par) (hth : ms_thY n (J s - 1) Q (par s) (fin s) t) (hpar : par s t = t + 1)
    (K : ∀ v', ms_RY (n, room, slots, up, last, if kept < 3 then kept + 1 else kept, B0, D0, Q, ms_set (ms_sh3 J s) s 0, root, par, fin, mI, rI, ms_sh3 B s, ms_sh3 D s, ms_sh3 L s, ST) L0 v' → post 4 v') : wY_deliver_219 post (nI t) x5 (nI (J s - 1)) (nI (s + 1)) f_n f_room f_slots f_up f_last f_kept a_ids a_bal a_dig a_len a_amt a_par a_reported a_count a_queue := by
  refine ms_y_through H hs ht h5 h0 hJb hb hP rfl rfl (fun _ => br_f (by decide) ?_) (fun z => absurd hth z)
  have ei : nI (s + 1) * 5 + nI t = nI ((s + 1) * 5 + t) := by rw [ms_m5, nI_add]
  have hin : vp_in (nI (s + 1) * 5 + nI t) 35 := by rw [ei]; exact vp_in_nI (by omega) (by decide)
  obtain ⟨hpa, hfi⟩ := H.2.2.2.1 s t hs (by omega)
  refine And.intro hin (nm_r (e' := nI t) (by rw [ei, nI_clamp (by omega), hpa, hpar]; rfl) (br_t rfl ?_))
  refine ms_y_copyE H (a := 4) (b := 5) (by decide) (by decide) (by decide) rfl rfl (fun v1 H1 => ?_)
  obtain ⟨z0, z1, z2, z3, z4, z5, z6, z7, z8, z9, z10, z11, z12, z13, z14⟩ := v1
  refine ms_y_copyE H1 (a := 3) (b := 4) (by decide) (by decide) (by decide) rfl rfl (fun v2 H2 => ?_)
  obtain ⟨z0, z1, z2, z3, z4, z5, z6, z7, z8, z9, z10, z11, z12, z13, z14⟩ := v2
  refine ms_y_copyE H2 (a := s) (b := 3) (by omega) (by decide) (by omega) rfl rfl (fun v3 H3 => ?_)
  obtain ⟨f_n, f_room, f_slots, f_up, f_last, f_kept, a_ids, a_bal, a_dig, a_len, a_amt, a_par, a_reported, a_count, a_queue⟩ := v3
  rw [ms_sh3_f J hs, ms_sh3_f B hs, ms_sh3_f D hs, ms_sh3_f L hs] at H3
  have hkk := H3.1.2.2.2.2.2
  refine br_c (fun z => And.intro (vp_in_nI (by omega) (by decide)) (nm_r (e' := upd a_ids (s + 1) (-1)) (by rw [nI_clamp (by omega)]) (K _ ?_))) (fun z => nm_r (e' := nI (kept + 1)) ?_ (And.intro (vp_in_nI (by omega) (by decide)) (nm_r (e' := upd a_ids (s + 1) (-1)) (by rw [nI_clamp (by omega)]) (K _ ?_))))
  · rw [hkk, ms_ge3 (by omega)] at z
    rw [if_neg (by omega)]
    exact ms_RY_kill H3 rfl
  · rw [hkk, nI_1]
  · rw [hkk, ms_ge3 (by omega)] at z
    rw [if_pos (by omega)]
    exact ms_RY_kill (ms_RY_kept H3 rfl) rfl
end
/-- the reference's own check that a sender isn't blocked -/
theorem ms_y_bl62 {f t : Nat} {x3 : Int32} (H : ms_RY (n, room, slots, up, last, kept, B0, D0, Q, J, root, par, fin, mI, rI, B, D, L, ST) L0 (f_n, f_room, f_slots, f_up, f_last, f_kept, a_ids, a_bal, a_dig, a_len, a_amt, a_par, a_reported, a_count, a_queue)) (hf : f < 5) (ht : t < 5) (hJb : ∀ r, r < 6 → J r ≤ 100) (hP : ms_IP n par) (hroom : room ≤ 4)
    (p1 : (∃ s, s < 3 ∧ J s ≠ 0 ∧ par s f = 0 ∧ room ≤ (L s (f * 5 + t)).length) → post (-5) (f_n, f_room, f_slots, f_up, f_last, f_kept, a_ids, a_bal, a_dig, a_len, a_amt, a_par, a_reported, a_count, a_queue)) (p0 : (∀ s, s < 3 → ¬ (J s ≠ 0 ∧ par s f = 0 ∧ room ≤ (L s (f * 5 + t)).length)) → ∃ N, wY_transfer_113 post (nI f) (nI t) x3 N 0 f_n f_room f_slots f_up f_last f_kept a_ids a_bal a_dig a_len a_amt a_par a_reported a_count a_queue) :
    ∀ d N i, i + d = 3 → d < N → (∀ s, s < i → ¬ (J s ≠ 0 ∧ par s f = 0 ∧ room ≤ (L s (f * 5 + t)).length)) → wY_transfer_62 post (nI f) (nI t) x3 f_n f_room f_slots f_up f_last f_kept a_ids a_bal a_dig a_len a_amt a_par a_reported a_count a_queue N (nI (i + 1)) := by
  obtain ⟨⟨_, hfr, _⟩, hQ, hI, hpp, hP0, hPr⟩ := H
  intro d
  induction d with
  | zero =>
    intro N i h1 hN hb'
    obtain ⟨N, rfl⟩ : ∃ M, N = M + 1 := ⟨N - 1, by omega⟩
    obtain rfl : i = 3 := by omega
    exact br_t (nI_lt (a := 3) (by omega) (by omega)) (p0 hb')
  | succ d ih =>
    intro N i h1 hN hb'
    obtain ⟨N, rfl⟩ : ∃ M, N = M + 1 := ⟨N - 1, by omega⟩
    have next : ¬ (J i ≠ 0 ∧ par i f = 0 ∧ room ≤ (L i (f * 5 + t)).length) → wY_transfer_62 post (nI f) (nI t) x3 f_n f_room f_slots f_up f_last f_kept a_ids a_bal a_dig a_len a_amt a_par a_reported a_count a_queue N (nI (i + 2)) := fun hn =>
      ih N (i + 1) (by omega) (by omega) (fun s hs => by
        by_cases e : s = i
        · rw [e]; exact hn
        · exact hb' s (by omega))
    have ei : nI (i + 1) * 25 + nI f * 5 + nI t = nI ((i + 1) * 25 + (f * 5 + t)) := by rw [ms_m25, ms_m5, nI_add, nI_add, Nat.add_assoc]
    refine br_f (nI_nlt (a := 3) (by omega) (by decide)) (ms_y_tp hI hJb hP hpp (s := i) (by omega) hf rfl rfl (fun z => br_f (by decide) (And.intro ?_ (br_c (fun w => nm_r (nI_1 (i + 1)) (next ?_)) (fun w => p1 ?_)))) (fun z => br_t rfl (nm_r (nI_1 (i + 1)) (next (fun w => z ⟨w.1, w.2.1⟩)))))
    · rw [ei]; exact vp_in_nI (by omega) (by decide)
    · have hq := (hPr i (by omega) z.1).2 (f * 5 + t) (by omega)
      have hq1 := hq.1
      rw [ei, nI_clamp (by omega), hq.2.1, hfr, nI_ltI (by omega) (by omega)] at w
      exact fun y => by omega
    · have hq := (hPr i (by omega) z.1).2 (f * 5 + t) (by omega)
      have hq1 := hq.1
      rw [ei, nI_clamp (by omega), hq.2.1, hfr, nI_ltI (by omega) (by omega)] at w
      exact ⟨i, by omega, z.1, z.2, by omega⟩
end
end
section
/-! X: stored amounts, through, copies of entries -/
section
variable {f_n f_room f_slots f_up f_last f_keptCount : Int32} {a_liveBalance a_liveDigest a_ring a_head a_count a_tokens a_rootOf a_parentOf a_finished a_markerIn a_reportIn a_recId a_recBalance a_recDigest a_recLength a_recAmount : Nat → Int32} {post : SX → Prop}
theorem ms_x_cp103 {s d : Nat} (hs : s < 6) (hd : d < 6) (hsd : s ≠ d) (hp : post (f_n, f_room, f_slots, f_up, f_last, f_keptCount, a_liveBalance, a_liveDigest, a_ring, a_head, a_count, a_tokens, a_rootOf, a_parentOf, a_finished, a_markerIn, a_reportIn, a_recId, a_recBalance, a_recDigest, a_recLength, ms_blk a_recAmount (d * 100) (s * 100) 100)) : ∀ e N k, k + e = 100 → e < N → wX_copyEntry_103 post (nI s) (nI d) f_n f_room f_slots f_up f_last f_keptCount N (nI k) a_liveBalance a_liveDigest a_ring a_head a_count a_tokens a_rootOf a_parentOf a_finished a_markerIn a_reportIn a_recId a_recBalance a_recDigest a_recLength (ms_blk a_recAmount (d * 100) (s * 100) k) := by
  intro e
  induction e with
  | zero =>
    intro N k h1 hN
    obtain ⟨N, rfl⟩ : ∃ M, N = M + 1 := ⟨N - 1, by omega⟩
    obtain rfl : k = 100 := by omega
    exact br_t (nI_le (a := 100) (by omega) (by omega)) hp
  | succ e ih =>
    intro N k h1 hN
    obtain ⟨N, rfl⟩ : ∃ M, N = M + 1 := ⟨N - 1, by omega⟩
    have e1 : nI s * 100 + nI k = nI (s * 100 + k) := by rw [ms_m100, nI_add]
    have e2 : nI d * 100 + nI k = nI (d * 100 + k) := by rw [ms_m100, nI_add]
    refine br_f (nI_ge (b := 100) (by omega) (by decide)) (And.intro ?_ (And.intro ?_ (nm_r (e' := ms_blk a_recAmount (d * 100) (s * 100) (k + 1)) ?_ (nm_r (nI_1 k) (ih N _ (by omega) (by omega))))))
    · rw [e1]; exact vp_in_nI (by omega) (by decide)
    · rw [e2]; exact vp_in_nI (by omega) (by decide)
    · rw [e1, e2, nI_clamp (by omega), nI_clamp (by omega), ms_blkS _ _ _ _ (by omega)]
theorem ms_x_cp67 {s d : Nat} (hs : s < 6) (hd : d < 6) (hsd : s ≠ d) (hp : post (f_n, f_room, f_slots, f_up, f_last, f_keptCount, a_liveBalance, a_liveDigest, a_ring, a_head, a_count, a_tokens, a_rootOf, a_parentOf, a_finished, a_markerIn, a_reportIn, a_recId, a_recBalance, a_recDigest, ms_blk a_recLength (d * 25) (s * 25) 25, ms_blk a_recAmount (d * 100) (s * 100) 100)) : ∀ e N k, k + e = 25 → e < N → wX_copyEntry_67 post (nI s) (nI d) f_n f_room f_slots f_up f_last f_keptCount N (nI k) a_liveBalance a_liveDigest a_ring a_head a_count a_tokens a_rootOf a_parentOf a_finished a_markerIn a_reportIn a_recId a_recBalance a_recDigest (ms_blk a_recLength (d * 25) (s * 25) k) a_recAmount := by
  intro e
  induction e with
  | zero =>
    intro N k h1 hN
    obtain ⟨N, rfl⟩ : ∃ M, N = M + 1 := ⟨N - 1, by omega⟩
    obtain rfl : k = 25 := by omega
    refine br_t (nI_le (a := 25) (by omega) (by omega)) ⟨101, ?_⟩
    have := ms_x_cp103 (a_recLength := ms_blk a_recLength (d * 25) (s * 25) 25) hs hd hsd hp 100 101 0 (by omega) (by omega)
    rw [ms_blk0] at this; exact this
  | succ e ih =>
    intro N k h1 hN
    obtain ⟨N, rfl⟩ : ∃ M, N = M + 1 := ⟨N - 1, by omega⟩
    have e1 : nI s * 25 + nI k = nI (s * 25 + k) := by rw [ms_m25, nI_add]
    have e2 : nI d * 25 + nI k = nI (d * 25 + k) := by rw [ms_m25, nI_add]
    refine br_f (nI_ge (b := 25) (by omega) (by decide)) (And.intro ?_ (And.intro ?_ (nm_r (e' := ms_blk a_recLength (d * 25) (s * 25) (k + 1)) ?_ (nm_r (nI_1 k) (ih N _ (by omega) (by omega))))))
    · rw [e1]; exact vp_in_nI (by omega) (by decide)
    · rw [e2]; exact vp_in_nI (by omega) (by decide)
    · rw [e1, e2, nI_clamp (by omega), nI_clamp (by omega), ms_blkS _ _ _ _ (by omega)]
theorem ms_x_cp14 {s d : Nat} (hs : s < 6) (hd : d < 6) (hsd : s ≠ d) (hp : post (f_n, f_room, f_slots, f_up, f_last, f_keptCount, a_liveBalance, a_liveDigest, a_ring, a_head, a_count, a_tokens, a_rootOf, a_parentOf, a_finished, a_markerIn, a_reportIn, a_recId, ms_blk a_recBalance (d * 5) (s * 5) 5, ms_blk a_recDigest (d * 5) (s * 5) 5, ms_blk a_recLength (d * 25) (s * 25) 25, ms_blk a_recAmount (d * 100) (s * 100) 100)) : ∀ e N k, k + e = 5 → e < N → wX_copyEntry_14 post (nI s) (nI d) f_n f_room f_slots f_up f_last f_keptCount N (nI k) a_liveBalance a_liveDigest a_ring a_head a_count a_tokens a_rootOf a_parentOf a_finished a_markerIn a_reportIn a_recId (ms_blk a_recBalance (d * 5) (s * 5) k) (ms_blk a_recDigest (d * 5) (s * 5) k) a_recLength a_recAmount := by
  intro e
  induction e with
  | zero =>
    intro N k h1 hN
    obtain ⟨N, rfl⟩ : ∃ M, N = M + 1 := ⟨N - 1, by omega⟩
    obtain rfl : k = 5 := by omega
    refine br_t (nI_le (a := 5) (by omega) (by omega)) ⟨26, ?_⟩
    have := ms_x_cp67 (a_recBalance := ms_blk a_recBalance (d * 5) (s * 5) 5) (a_recDigest := ms_blk a_recDigest (d * 5) (s * 5) 5) hs hd hsd hp 25 26 0 (by omega) (by omega)
    rw [ms_blk0] at this; exact this
  | succ e ih =>
    intro N k h1 hN
    obtain ⟨N, rfl⟩ : ∃ M, N = M + 1 := ⟨N - 1, by omega⟩
    have e1 : nI s * 5 + nI k = nI (s * 5 + k) := by rw [ms_m5, nI_add]
    have e2 : nI d * 5 + nI k = nI (d * 5 + k) := by rw [ms_m5, nI_add]
    refine br_f (nI_ge (b := 5) (by omega) (by decide)) (And.intro ?_ (And.intro ?_ (nm_r (e' := ms_blk a_recBalance (d * 5) (s * 5) (k + 1)) ?_ (And.intro ?_ (And.intro ?_ (nm_r (e' := ms_blk a_recDigest (d * 5) (s * 5) (k + 1)) ?_ (nm_r (nI_1 k) (ih N _ (by omega) (by omega)))))))))
    · rw [e1]; exact vp_in_nI (by omega) (by decide)
    · rw [e2]; exact vp_in_nI (by omega) (by decide)
    · rw [e1, e2, nI_clamp (by omega), nI_clamp (by omega), ms_blkS _ _ _ _ (by omega)]
    · rw [e1]; exact vp_in_nI (by omega) (by decide)
    · rw [e2]; exact vp_in_nI (by omega) (by decide)
    · rw [e1, e2, nI_clamp (by omega), nI_clamp (by omega), ms_blkS _ _ _ _ (by omega)]
theorem ms_x_copy {s d : Nat} {p0 p1 : Int32} (hs : s < 6) (hd : d < 6) (hsd : s ≠ d) (e0 : p0 = nI s) (e1 : p1 = nI d) (hp : post (f_n, f_room, f_slots, f_up, f_last, f_keptCount, a_liveBalance, a_liveDigest, a_ring, a_head, a_count, a_tokens, a_rootOf, a_parentOf, a_finished, a_markerIn, a_reportIn, upd a_recId d (a_recId s), ms_blk a_recBalance (d * 5) (s * 5) 5, ms_blk a_recDigest (d * 5) (s * 5) 5, ms_blk a_recLength (d * 25) (s * 25) 25, ms_blk a_recAmount (d * 100) (s * 100) 100)) : wpX_copyEntry post (f_n, f_room, f_slots, f_up, f_last, f_keptCount, a_liveBalance, a_liveDigest, a_ring, a_head, a_count, a_tokens, a_rootOf, a_parentOf, a_finished, a_markerIn, a_reportIn, a_recId, a_recBalance, a_recDigest, a_recLength, a_recAmount) p0 p1 := by
  subst e0 e1
  refine And.intro (vp_in_nI hs (by decide)) (And.intro (vp_in_nI hd (by decide)) (nm_r (e' := upd a_recId d (a_recId s)) (by rw [nI_clamp (by omega), nI_clamp (by omega)]) ⟨6, ?_⟩))
  have := ms_x_cp14 (a_recId := upd a_recId d (a_recId s)) hs hd hsd hp 5 6 0 (by omega) (by omega)
  rw [ms_blk0, ms_blk0] at this; exact this
end
section
variable {n : Nat} {room : Nat} {slots : Nat} {up : Bool} {last : Nat} {kept : Nat} {B0 : Nat → Nat} {D0 : Nat → Int32} {Q : Nat → List Nat} {J : Nat → Nat} {root : Nat → Nat} {par : Nat → Nat → Nat} {fin : Nat → Nat → Bool} {mI : Nat → Nat → Bool} {rI : Nat → Nat → Bool} {B : Nat → Nat → Nat} {D : Nat → Nat → Int32} {L : Nat → Nat → List Nat} {ST : Nat → Nat → List Nat} {u : SX}
theorem ms_RX_store {f_n f_room f_slots f_up f_last f_keptCount : Int32} {a_liveBalance a_liveDigest a_ring a_head a_count a_tokens a_rootOf a_parentOf a_finished a_markerIn a_reportIn a_recId a_recBalance a_recDigest a_recLength a_recAmount : Nat → Int32} {s c a : Nat} (H : ms_RX (n, room, slots, up, last, kept, B0, D0, Q, J, root, par, fin, mI, rI, B, D, L, ST) (f_n, f_room, f_slots, f_up, f_last, f_keptCount, a_liveBalance, a_liveDigest, a_ring, a_head, a_count, a_tokens, a_rootOf, a_parentOf, a_finished, a_markerIn, a_reportIn, a_recId, a_recBalance, a_recDigest, a_recLength, a_recAmount)) (hs : s < 3) (hc : c < 25) (hl : (ST s c).length < 4) :
    ms_RX (n, room, slots, up, last, kept, B0, D0, Q, J, root, par, fin, mI, rI, B, D, L, ms_set ST s (ms_set (ST s) c (ST s c ++ [a]))) (f_n, f_room, f_slots, f_up, f_last, f_keptCount, a_liveBalance, a_liveDigest, a_ring, a_head, a_count, a_tokens, a_rootOf, a_parentOf, a_finished, a_markerIn, a_reportIn, a_recId, a_recBalance, a_recDigest, upd a_recLength (s * 25 + c) (nI ((ST s c).length + 1)), upd a_recAmount ((s * 25 + c) * 4 + (ST s c).length) (nI a)) := by
  obtain ⟨h1, h2, hQ, hI, hr0, hp0, hm, hE, hS⟩ := H
  refine ⟨h1, h2, hQ, hI, hr0, hp0, hm, hE, fun r j hr hj hJr => ?_⟩
  obtain ⟨q1, q2, q3⟩ := hS r j hr hj hJr
  by_cases e : r = s
  · subst e
    rw [ms_set_s]
    by_cases e2 : j = c
    · subst e2
      rw [ms_set_s, pk_us, List.length_append]
      exact ⟨by show (ST r j).length + 1 ≤ 4; omega, rfl, ms_ls_push q3⟩
    · rw [ms_set_n e2, pk_un (by omega)]
      exact ⟨q1, q2, ms_ls_keep q3 (fun i hi => pk_un (by omega))⟩
  · rw [ms_set_n e, pk_un (by omega)]
    exact ⟨q1, q2, ms_ls_keep q3 (fun i hi => pk_un (by omega))⟩
theorem ms_x_rc45 {post : SX → Prop} {t a c : Nat} (ht : t < 5) (hc : c < 25) (hJ : ∀ r, r < 6 → J r ≤ 100) (hP : ms_IP n par)
    (hst : ∀ s, s < 3 → J s ≠ 0 → par s t ≠ 0 → mI s c = false → (ST s c).length < 4)
    (K : ∀ u', ms_RX (n, room, slots, up, last, kept, B0, D0, Q, J, root, par, fin, mI, rI, B, D, L, ms_pt 3 (fun s => decide (J s ≠ 0 ∧ par s t ≠ 0 ∧ mI s c = false)) (fun s => ms_set (ST s) c (ST s c ++ [a])) ST) u' → post u') :
    ∀ d N k, ∀ (f_n f_room f_slots f_up f_last f_keptCount : Int32) (a_liveBalance a_liveDigest a_ring a_head a_count a_tokens a_rootOf a_parentOf a_finished a_markerIn a_reportIn a_recId a_recBalance a_recDigest a_recLength a_recAmount : Nat → Int32), k + d = 3 → d < N → ms_RX (n, room, slots, up, last, kept, B0, D0, Q, J, root, par, fin, mI, rI, B, D, L, ms_pt k (fun s => decide (J s ≠ 0 ∧ par s t ≠ 0 ∧ mI s c = false)) (fun s => ms_set (ST s) c (ST s c ++ [a])) ST) (f_n, f_room, f_slots, f_up, f_last, f_keptCount, a_liveBalance, a_liveDigest, a_ring, a_head, a_count, a_tokens, a_rootOf, a_parentOf, a_finished, a_markerIn, a_reportIn, a_recId, a_recBalance, a_recDigest, a_recLength, a_recAmount) → wX_receive_45 post (nI t) (nI a) (nI c) f_n f_room f_slots f_up f_last f_keptCount N (nI k) a_liveBalance a_liveDigest a_ring a_head a_count a_tokens a_rootOf a_parentOf a_finished a_markerIn a_reportIn a_recId a_recBalance a_recDigest a_recLength a_recAmount := by
  intro d
  induction d with
  | zero =>
    intro N k f_n f_room f_slots f_up f_last f_keptCount a_liveBalance a_liveDigest a_ring a_head a_count a_tokens a_rootOf a_parentOf a_finished a_markerIn a_reportIn a_recId a_recBalance a_recDigest a_recLength a_recAmount h1 hN H
    obtain ⟨N, rfl⟩ : ∃ M, N = M + 1 := ⟨N - 1, by omega⟩
    obtain rfl : k = 3 := by omega
    exact br_t (nI_le (a := 3) (by omega) (by omega)) (K _ H)
  | succ d ih =>
    intro N k f_n f_room f_slots f_up f_last f_keptCount a_liveBalance a_liveDigest a_ring a_head a_count a_tokens a_rootOf a_parentOf a_finished a_markerIn a_reportIn a_recId a_recBalance a_recDigest a_recLength a_recAmount h1 hN H
    obtain ⟨N, rfl⟩ : ∃ M, N = M + 1 := ⟨N - 1, by omega⟩
    obtain ⟨c1, c2, cQ, cI, cr0, cp0, cm, cE, cS⟩ := id H
    have hj := hJ k (by omega)
    have hpi := hP k t (by omega) ht
    have ei : nI k * 5 + nI t = nI (k * 5 + t) := by rw [ms_m5, nI_add]
    have ej : nI k * 25 + nI c = nI (k * 25 + c) := by rw [ms_m25, nI_add]
    have hpa := (cp0 k t (by omega) ht).1
    have hmi := (cm k c (by omega) hc).1
    have skip : ¬ (J k ≠ 0 ∧ par k t ≠ 0 ∧ mI k c = false) → wX_receive_45 post (nI t) (nI a) (nI c) f_n f_room f_slots f_up f_last f_keptCount N (nI (k + 1)) a_liveBalance a_liveDigest a_ring a_head a_count a_tokens a_rootOf a_parentOf a_finished a_markerIn a_reportIn a_recId a_recBalance a_recDigest a_recLength a_recAmount := fun z => by
      have hP : (fun s => decide (J s ≠ 0 ∧ par s t ≠ 0 ∧ mI s c = false)) k = false := decide_eq_false z
      refine ih N (k + 1) f_n f_room f_slots f_up f_last f_keptCount a_liveBalance a_liveDigest a_ring a_head a_count a_tokens a_rootOf a_parentOf a_finished a_markerIn a_reportIn a_recId a_recBalance a_recDigest a_recLength a_recAmount (by omega) (by omega) ?_
      rw [ms_ptS_n hP]; exact H
    refine br_f (nI_ge (b := 3) (by omega) (by decide)) (And.intro (vp_in_nI (by omega) (by decide)) (br_c (fun z => nm_r (nI_1 k) (skip ?_)) (fun z => And.intro ?_ (br_c (fun y => nm_r (nI_1 k) (skip ?_)) (fun y => And.intro ?_ (br_c (fun x => nm_r ej ?_) (fun x => nm_r (nI_1 k) (skip ?_))))))))
    · rw [nI_clamp (by omega), cI k (by omega), ms_e_lt (by omega)] at z
      exact fun w => w.1 z
    · rw [ei]; exact vp_in_nI (by omega) (by decide)
    · rw [ei, nI_clamp (by omega), hpa, ms_e_lt (by omega)] at y
      exact fun w => w.2.1 y
    · rw [ej]; exact vp_in_nI (by omega) (by decide)
    · rw [nI_clamp (by omega), cI k (by omega), ms_e_lt (by omega)] at z
      rw [ei, nI_clamp (by omega), hpa, ms_e_lt (by omega)] at y
      rw [ej, nI_clamp (by omega), hmi, ms_b0] at x
      have hP : (fun s => decide (J s ≠ 0 ∧ par s t ≠ 0 ∧ mI s c = false)) k = true := decide_eq_true ⟨z, y, x⟩
      have hl := hst k (by omega) z y x
      have hrl := (cS k c (by omega) hc z).2.1
      rw [ms_pt_g (Nat.le_refl k)] at hrl
      refine And.intro (vp_in_nI (by omega) (by decide)) (br_f ?_ (And.intro (vp_in_nI (by omega) (by decide)) (And.intro ?_ (nm_r (e' := upd a_recAmount ((k * 25 + c) * 4 + (ST k c).length) (nI a)) ?_ (And.intro (vp_in_nI (by omega) (by decide)) (And.intro (vp_in_nI (by omega) (by decide)) (nm_r (e' := upd a_recLength (k * 25 + c) (nI ((ST k c).length + 1))) ?_ (nm_r (nI_1 k) (ih N (k + 1) _ _ _ _ _ _ _ _ _ _ _ _ _ _ _ _ _ _ _ _ _ _ (by omega) (by omega) ?_)))))))))
      · rw [nI_clamp (by omega), hrl]; exact nI_ge (b := 4) hl (by decide)
      · rw [nI_clamp (by omega), hrl, ms_m4, nI_add]; exact vp_in_nI (by omega) (by decide)
      · rw [nI_clamp (n := k * 25 + c) (by omega), hrl, ms_m4, nI_add, nI_clamp (by omega)]
      · rw [nI_clamp (by omega), hrl, nI_1]
      · have := ms_RX_store (a := a) H (s := k) (c := c) (by omega) hc (by rw [ms_pt_g (Nat.le_refl k)]; exact hl)
        rw [ms_pt_g (Nat.le_refl k)] at this
        rw [ms_ptS_y hP]; exact this
    · rw [ej, nI_clamp (by omega), hmi, ms_b0] at x
      exact fun w => x w.2.2
theorem ms_x_receive {post : SX → Prop} {f t a : Nat} {p0 p1 p2 : Int32} (H : ms_RX (n, room, slots, up, last, kept, B0, D0, Q, J, root, par, fin, mI, rI, B, D, L, ST) u) (hf : f < n) (ht : t < n) (h5 : n ≤ 5) (hJ : ∀ r, r < 6 → J r ≤ 100) (hP : ms_IP n par)
    (hst : ∀ s, s < 3 → J s ≠ 0 → par s t ≠ 0 → mI s (f * 5 + t) = false → (ST s (f * 5 + t)).length < 4) (e0 : p0 = nI f) (e1 : p1 = nI t) (e2 : p2 = nI a)
    (K : ∀ u', ms_RX (n, room, slots, up, last, kept, ms_set B0 t (B0 t + a), ms_set D0 t (D0 t * 31 + (nI a * 16 + 8 + nI f)), Q, J, root, par, fin, mI, rI, B, D, L, ms_pt 3 (fun s => decide (J s ≠ 0 ∧ par s t ≠ 0 ∧ mI s (f * 5 + t) = false)) (fun s => ms_set (ST s) (f * 5 + t) (ST s (f * 5 + t) ++ [a])) ST) u' → post u') : wpX_receive post u p0 p1 p2 := by
  obtain ⟨f_n, f_room, f_slots, f_up, f_last, f_keptCount, a_liveBalance, a_liveDigest, a_ring, a_head, a_count, a_tokens, a_rootOf, a_parentOf, a_finished, a_markerIn, a_reportIn, a_recId, a_recBalance, a_recDigest, a_recLength, a_recAmount⟩ := u
  subst e0 e1 e2
  have hin : vp_in (nI t) 5 := vp_in_nI (by omega) (by decide)
  obtain ⟨hB, hD⟩ := H.2.1 t ht
  refine nm_r (e' := nI (f * 5 + t)) (by rw [ms_m5, nI_add]) (And.intro hin (And.intro hin (nm_r (e' := upd a_liveBalance t (nI (B0 t + a))) ?_ (And.intro hin (And.intro hin (nm_r (e' := upd a_liveDigest t (D0 t * 31 + (nI a * 16 + 8 + nI f))) ?_ ⟨4, ?_⟩))))))
  · rw [nI_clamp (by omega), hB, nI_add]
  · rw [nI_clamp (by omega), hD]
  · refine ms_x_rc45 (B0 := ms_set B0 t (B0 t + a)) (D0 := ms_set D0 t (D0 t * 31 + (nI a * 16 + 8 + nI f))) (by omega) (by omega) hJ hP hst K 3 4 0 _ _ _ _ _ _ _ _ _ _ _ _ _ _ _ _ _ _ _ _ _ _ (by omega) (by omega) ?_
    rw [ms_pt0]
    exact ms_RX_live H rfl rfl
theorem ms_x_th17 {post : Int32 → Prop} {f_n f_room f_slots f_up f_last f_keptCount : Int32} {a_liveBalance a_liveDigest a_ring a_head a_count a_tokens a_rootOf a_parentOf a_finished a_markerIn a_reportIn a_recId a_recBalance a_recDigest a_recLength a_recAmount : Nat → Int32} {s q : Nat} (H : ms_RX (n, room, slots, up, last, kept, B0, D0, Q, J, root, par, fin, mI, rI, B, D, L, ST) (f_n, f_room, f_slots, f_up, f_last, f_keptCount, a_liveBalance, a_liveDigest, a_ring, a_head, a_count, a_tokens, a_rootOf, a_parentOf, a_finished, a_markerIn, a_reportIn, a_recId, a_recBalance, a_recDigest, a_recLength, a_recAmount)) (hs : s < 3) (hq : q < n) (h5 : n ≤ 5) (hP : ms_IP n par) (hq0 : par s q ≠ 0)
    (k1 : ms_thr n (par s) (mI s) (rI s) q → post 1) (k0 : ¬ ms_thr n (par s) (mI s) (rI s) q → post 0) :
    ∀ d N i, i + d = n → d < N → (∀ r, r < i → r ≠ q → mI s (r * 5 + q) = true ∧ (par s r = q + 1 → rI s (r * 5 + q) = true)) → wX_through_17 post (nI s) (nI q) f_n f_room f_slots f_up f_last f_keptCount a_liveBalance a_liveDigest a_ring a_head a_count a_tokens a_rootOf a_parentOf a_finished a_markerIn a_reportIn a_recId a_recBalance a_recDigest a_recLength a_recAmount N (nI i) := by
  obtain ⟨⟨hn, _⟩, _, _, hI, _, hpp, hm, _, _⟩ := H
  intro d
  induction d with
  | zero =>
    intro N i h1 hN hok
    obtain ⟨N, rfl⟩ : ∃ M, N = M + 1 := ⟨N - 1, by omega⟩
    obtain rfl : i = n := by omega
    refine br_t ?_ (k1 ⟨hq0, hok⟩)
    rw [hn]; exact nI_le (by omega) (by omega)
  | succ d ih =>
    intro N i h1 hN hok
    obtain ⟨N, rfl⟩ : ∃ M, N = M + 1 := ⟨N - 1, by omega⟩
    have next : (i ≠ q → mI s (i * 5 + q) = true ∧ (par s i = q + 1 → rI s (i * 5 + q) = true)) → wX_through_17 post (nI s) (nI q) f_n f_room f_slots f_up f_last f_keptCount a_liveBalance a_liveDigest a_ring a_head a_count a_tokens a_rootOf a_parentOf a_finished a_markerIn a_reportIn a_recId a_recBalance a_recDigest a_recLength a_recAmount N (nI (i + 1)) := fun hn =>
      ih N (i + 1) (by omega) (by omega) (fun r hr hrq => by
        by_cases e : r = i
        · rw [e] at hrq ⊢; exact hn hrq
        · exact hok r (by omega) hrq)
    have ei : nI s * 5 + nI i = nI (s * 5 + i) := by rw [ms_m5, nI_add]
    have ej : nI s * 25 + nI i * 5 + nI q = nI (s * 25 + (i * 5 + q)) := by rw [ms_m25, ms_m5, nI_add, nI_add, Nat.add_assoc]
    have hin : vp_in (nI (s * 25 + (i * 5 + q))) 75 := vp_in_nI (by omega) (by decide)
    have hpi := hP s i hs (by omega)
    obtain ⟨hpa, hfi⟩ := hpp s i hs (by omega)
    obtain ⟨hmi, hri⟩ := hm s (i * 5 + q) hs (by omega)
    refine br_f (by rw [hn]; exact nI_ge (by omega) (by omega)) (br_c (fun z => nm_r (nI_1 i) (next (fun w => absurd ((nI_eq (by omega) (by omega)).mp z) w))) (fun z => nm_r ej (And.intro hin (br_c (fun y => k0 ?_) (fun y => And.intro ?_ (br_c (fun x => And.intro hin (br_c (fun w => k0 ?_) (fun w => nm_r (nI_1 i) (next (fun _ => ⟨?_, fun _ => ?_⟩))))) (fun x => nm_r (nI_1 i) (next (fun _ => ⟨?_, fun w => ?_⟩)))))))))
    · rw [nI_eq (by omega) (by omega)] at z
      rw [nI_clamp (by omega), hmi, ms_b0] at y
      intro th
      have := (th.2 i (by omega) z).1
      rw [y] at this
      exact absurd this (by decide)
    · rw [ei]; exact vp_in_nI (by omega) (by decide)
    · rw [nI_eq (by omega) (by omega)] at z
      rw [ei, nI_clamp (by omega), hpa, ms_e_eq (by omega) (by omega)] at x
      rw [nI_clamp (by omega), hri, ms_b0] at w
      intro th
      have := (th.2 i (by omega) z).2 x
      rw [w] at this
      exact absurd this (by decide)
    · rw [nI_clamp (by omega), hmi, ms_b0] at y
      cases e : mI s (i * 5 + q) with
      | true => rfl
      | false => exact absurd e y
    · rw [nI_clamp (by omega), hri, ms_b0] at w
      cases e : rI s (i * 5 + q) with
      | true => rfl
      | false => exact absurd e w
    · rw [nI_clamp (by omega), hmi, ms_b0] at y
      cases e : mI s (i * 5 + q) with
      | true => rfl
      | false => exact absurd e y
    · rw [ei, nI_clamp (by omega), hpa, ms_e_eq (by omega) (by omega)] at x
      exact absurd w x
theorem ms_x_through {post : Int32 → Prop} {f_n f_room f_slots f_up f_last f_keptCount : Int32} {a_liveBalance a_liveDigest a_ring a_head a_count a_tokens a_rootOf a_parentOf a_finished a_markerIn a_reportIn a_recId a_recBalance a_recDigest a_recLength a_recAmount : Nat → Int32} {s q : Nat} {p0 p1 : Int32} (H : ms_RX (n, room, slots, up, last, kept, B0, D0, Q, J, root, par, fin, mI, rI, B, D, L, ST) (f_n, f_room, f_slots, f_up, f_last, f_keptCount, a_liveBalance, a_liveDigest, a_ring, a_head, a_count, a_tokens, a_rootOf, a_parentOf, a_finished, a_markerIn, a_reportIn, a_recId, a_recBalance, a_recDigest, a_recLength, a_recAmount)) (hs : s < 3) (hq : q < n) (h5 : n ≤ 5) (hP : ms_IP n par) (e0 : p0 = nI s) (e1 : p1 = nI q)
    (k1 : ms_thr n (par s) (mI s) (rI s) q → post 1) (k0 : ¬ ms_thr n (par s) (mI s) (rI s) q → post 0) : wpX_through post (f_n, f_room, f_slots, f_up, f_last, f_keptCount, a_liveBalance, a_liveDigest, a_ring, a_head, a_count, a_tokens, a_rootOf, a_parentOf, a_finished, a_markerIn, a_reportIn, a_recId, a_recBalance, a_recDigest, a_recLength, a_recAmount) p0 p1 := by
  subst e0 e1
  have ei : nI s * 5 + nI q = nI (s * 5 + q) := by rw [ms_m5, nI_add]
  have hpi := hP s q hs (by omega)
  obtain ⟨hpa, hfi⟩ := H.2.2.2.2.2.1 s q hs (by omega)
  refine And.intro (by rw [ei]; exact vp_in_nI (by omega) (by decide)) (br_c (fun y => ⟨n + 1, ?_⟩) (fun y => k0 (fun th => y ?_)))
  · rw [ei, nI_clamp (by omega), hpa, ms_e_ge (by omega)] at y
    exact ms_x_th17 H hs hq h5 hP y k1 k0 n (n + 1) 0 (by omega) (by omega) (fun r hr => absurd hr (Nat.not_lt_zero _))
  · rw [ei, nI_clamp (by omega), hpa, ms_e_ge (by omega)]
    exact th.1
theorem ms_x_copyE {post : SX → Prop} {a b : Nat} {p0 p1 : Int32} (H : ms_RX (n, room, slots, up, last, kept, B0, D0, Q, J, root, par, fin, mI, rI, B, D, L, ST) u) (ha : a < 6) (hb : b < 6) (hb3 : 3 ≤ b) (hab : a ≠ b) (h5 : n ≤ 5) (hrec : a < 3 → ∀ p, p < n → par a p ≠ 0) (e0 : p0 = nI a) (e1 : p1 = nI b)
    (K : ∀ u', ms_RX (n, room, slots, up, last, kept, B0, D0, Q, ms_set J b (J a), root, par, fin, mI, rI, ms_set B b (B a), ms_set D b (D a), ms_set L b (L a), ms_set ST b (ST a)) u' → post u') : wpX_copyEntry post u p0 p1 := by
  obtain ⟨f_n, f_room, f_slots, f_up, f_last, f_keptCount, a_liveBalance, a_liveDigest, a_ring, a_head, a_count, a_tokens, a_rootOf, a_parentOf, a_finished, a_markerIn, a_reportIn, a_recId, a_recBalance, a_recDigest, a_recLength, a_recAmount⟩ := u
  obtain ⟨h1, h2, hQ, hI, hr0, hp0, hm, hE, hS⟩ := H
  refine ms_x_copy (s := a) (d := b) ha hb hab e0 e1 ?_
  refine K _ ?_
  refine ⟨h1, h2, hQ, fun r hr => ?_, fun s hs hJs => ?_, hp0, hm, fun r p hr hp hJr hpr => ?_, fun r c hr hc hJr => ?_⟩
  · by_cases e : r = b
    · subst e; rw [pk_us, ms_set_s]; exact hI a ha
    · rw [pk_un e, ms_set_n e]; exact hI r hr
  · rw [ms_set_n (by omega)] at hJs
    exact hr0 s hs hJs
  · by_cases e : r = b
    · subst e
      rw [ms_set_s] at hJr
      rw [ms_set_s, ms_set_s, ms_blk_in (by omega), ms_blk_in (by omega)]
      exact hE a p ha hp hJr (fun z => hrec z p hp)
    · rw [ms_set_n e] at hJr
      rw [ms_set_n e, ms_set_n e, ms_blk_out (by omega), ms_blk_out (by omega)]
      exact hE r p hr hp hJr hpr
  · by_cases e : r = b
    · subst e
      rw [ms_set_s] at hJr
      obtain ⟨q1, q2, q3⟩ := hS a c ha hc hJr
      rw [ms_set_s, ms_blk_in hc]
      refine ⟨q1, q2, fun i hi => ?_⟩
      rw [show (r * 25 + c) * 4 + i = r * 100 + (c * 4 + i) by omega, ms_blk_in (by omega), show a * 100 + (c * 4 + i) = (a * 25 + c) * 4 + i by omega]
      exact q3 i hi
    · rw [ms_set_n e] at hJr
      obtain ⟨q1, q2, q3⟩ := hS r c hr hc hJr
      rw [ms_set_n e, ms_blk_out (by omega)]
      exact ⟨q1, q2, ms_ls_keep q3 (fun i hi => ms_blk_out (by omega))⟩
end
end
section
/-! X: completion, settling, joining, opening, delivering -/
section
variable {n : Nat} {room : Nat} {slots : Nat} {up : Bool} {last : Nat} {kept : Nat} {B0 : Nat → Nat} {D0 : Nat → Int32} {Q : Nat → List Nat} {J : Nat → Nat} {root : Nat → Nat} {par : Nat → Nat → Nat} {fin : Nat → Nat → Bool} {mI : Nat → Nat → Bool} {rI : Nat → Nat → Bool} {B : Nat → Nat → Nat} {D : Nat → Nat → Int32} {L : Nat → Nat → List Nat} {ST : Nat → Nat → List Nat} {u : SX}
theorem ms_RX_congr {u : SX} {B' : Nat → Nat → Nat} {D' : Nat → Nat → Int32} {L' ST' : Nat → Nat → List Nat} (H : ms_RX (n, room, slots, up, last, kept, B0, D0, Q, J, root, par, fin, mI, rI, B, D, L, ST) u) (hc : ∀ r, r < 6 → J r ≠ 0 → B' r = B r ∧ D' r = D r ∧ ST' r = ST r) : ms_RX (n, room, slots, up, last, kept, B0, D0, Q, J, root, par, fin, mI, rI, B', D', L', ST') u := by
  obtain ⟨f_n, f_room, f_slots, f_up, f_last, f_keptCount, a_liveBalance, a_liveDigest, a_ring, a_head, a_count, a_tokens, a_rootOf, a_parentOf, a_finished, a_markerIn, a_reportIn, a_recId, a_recBalance, a_recDigest, a_recLength, a_recAmount⟩ := u
  obtain ⟨h1, h2, hQ, hI, hr0, hp0, hm, hE, hS⟩ := H
  refine ⟨h1, h2, hQ, hI, hr0, hp0, hm, fun r p hr hp hJr hpr => ?_, fun r c hr hc' hJr => ?_⟩
  · rw [(hc r hr hJr).1, (hc r hr hJr).2.1]; exact hE r p hr hp hJr hpr
  · rw [(hc r hr hJr).2.2]; exact hS r c hr hc' hJr
theorem ms_RX_congrP {u : SX} {B' : Nat → Nat → Nat} {D' : Nat → Nat → Int32} {L' : Nat → Nat → List Nat} (H : ms_RX (n, room, slots, up, last, kept, B0, D0, Q, J, root, par, fin, mI, rI, B, D, L, ST) u) (hc : ∀ r p, r < 6 → (r < 3 → par r p ≠ 0) → B' r p = B r p ∧ D' r p = D r p) : ms_RX (n, room, slots, up, last, kept, B0, D0, Q, J, root, par, fin, mI, rI, B', D', L', ST) u := by
  obtain ⟨f_n, f_room, f_slots, f_up, f_last, f_keptCount, a_liveBalance, a_liveDigest, a_ring, a_head, a_count, a_tokens, a_rootOf, a_parentOf, a_finished, a_markerIn, a_reportIn, a_recId, a_recBalance, a_recDigest, a_recLength, a_recAmount⟩ := u
  obtain ⟨h1, h2, hQ, hI, hr0, hp0, hm, hE, hS⟩ := H
  refine ⟨h1, h2, hQ, hI, hr0, hp0, hm, fun r p hr hp hJr hpr => ?_, hS⟩
  rw [(hc r p hr hpr).1, (hc r p hr hpr).2]; exact hE r p hr hp hJr hpr
theorem ms_RX_kill {f_n f_room f_slots f_up f_last f_keptCount : Int32} {a_liveBalance a_liveDigest a_ring a_head a_count a_tokens a_rootOf a_parentOf a_finished a_markerIn a_reportIn a_recId a_recBalance a_recDigest a_recLength a_recAmount : Nat → Int32} {s : Nat} {w : Int32} (H : ms_RX (n, room, slots, up, last, kept, B0, D0, Q, J, root, par, fin, mI, rI, B, D, L, ST) (f_n, f_room, f_slots, f_up, f_last, f_keptCount, a_liveBalance, a_liveDigest, a_ring, a_head, a_count, a_tokens, a_rootOf, a_parentOf, a_finished, a_markerIn, a_reportIn, a_recId, a_recBalance, a_recDigest, a_recLength, a_recAmount)) (hw : w = -1) : ms_RX (n, room, slots, up, last, kept, B0, D0, Q, ms_set J s 0, root, par, fin, mI, rI, B, D, L, ST) (f_n, f_room, f_slots, f_up, f_last, f_keptCount, a_liveBalance, a_liveDigest, a_ring, a_head, a_count, a_tokens, a_rootOf, a_parentOf, a_finished, a_markerIn, a_reportIn, upd a_recId s w, a_recBalance, a_recDigest, a_recLength, a_recAmount) := by
  obtain ⟨h1, h2, hQ, hI, hr0, hp0, hm, hE, hS⟩ := H
  subst hw
  refine ⟨h1, h2, hQ, fun r hr => ?_, fun r hr hJr => ?_, hp0, hm, fun r p hr hp hJr hpr => ?_, fun r c hr hc hJr => ?_⟩
  · by_cases e : r = s
    · subst e; rw [pk_us, ms_set_s]; rfl
    · rw [pk_un e, ms_set_n e]; exact hI r hr
  · by_cases e : r = s
    · subst e; rw [ms_set_s] at hJr; exact absurd rfl hJr
    · rw [ms_set_n e] at hJr; exact hr0 r hr hJr
  · by_cases e : r = s
    · subst e; rw [ms_set_s] at hJr; exact absurd rfl hJr
    · rw [ms_set_n e] at hJr; exact hE r p hr hp hJr hpr
  · by_cases e : r = s
    · subst e; rw [ms_set_s] at hJr; exact absurd rfl hJr
    · rw [ms_set_n e] at hJr; exact hS r c hr hc hJr
theorem ms_RX_kept {f_n f_room f_slots f_up f_last f_keptCount : Int32} {a_liveBalance a_liveDigest a_ring a_head a_count a_tokens a_rootOf a_parentOf a_finished a_markerIn a_reportIn a_recId a_recBalance a_recDigest a_recLength a_recAmount : Nat → Int32} {k : Nat} {w : Int32} (H : ms_RX (n, room, slots, up, last, kept, B0, D0, Q, J, root, par, fin, mI, rI, B, D, L, ST) (f_n, f_room, f_slots, f_up, f_last, f_keptCount, a_liveBalance, a_liveDigest, a_ring, a_head, a_count, a_tokens, a_rootOf, a_parentOf, a_finished, a_markerIn, a_reportIn, a_recId, a_recBalance, a_recDigest, a_recLength, a_recAmount)) (hw : w = nI k) : ms_RX (n, room, slots, up, last, k, B0, D0, Q, J, root, par, fin, mI, rI, B, D, L, ST) (f_n, f_room, f_slots, f_up, f_last, w, a_liveBalance, a_liveDigest, a_ring, a_head, a_count, a_tokens, a_rootOf, a_parentOf, a_finished, a_markerIn, a_reportIn, a_recId, a_recBalance, a_recDigest, a_recLength, a_recAmount) := by
  obtain ⟨⟨h1, h2, h3, h4, h5, h6⟩, hh⟩ := H
  exact ⟨⟨h1, h2, h3, h4, h5, hw⟩, hh⟩
theorem ms_x_cm0 {post : SX → Prop} {f_n f_room f_slots f_up f_last f_keptCount : Int32} {a_liveBalance a_liveDigest a_ring a_head a_count a_tokens a_rootOf a_parentOf a_finished a_markerIn a_reportIn a_recId a_recBalance a_recDigest a_recLength a_recAmount : Nat → Int32} {s N : Nat} (H : ms_RX (n, room, slots, up, last, kept, B0, D0, Q, J, root, par, fin, mI, rI, B, D, L, ST) (f_n, f_room, f_slots, f_up, f_last, f_keptCount, a_liveBalance, a_liveDigest, a_ring, a_head, a_count, a_tokens, a_rootOf, a_parentOf, a_finished, a_markerIn, a_reportIn, a_recId, a_recBalance, a_recDigest, a_recLength, a_recAmount)) (hs : s < 3) (h5 : n ≤ 5) (hrec : ∀ p, p < n → par s p ≠ 0)
    (K : ∀ u', ms_RX (n, room, slots, up, last, kept, B0, D0, Q, ms_set (ms_set J 3 (J s)) s 0, root, par, fin, mI, rI, ms_set B 3 (B s), ms_set D 3 (D s), ms_set L 3 (L s), ms_set ST 3 (ST s)) u' → post u') : wX_complete_25 post (nI s) (N + 1) (nI 0) f_n f_room f_slots f_up f_last f_keptCount a_liveBalance a_liveDigest a_ring a_head a_count a_tokens a_rootOf a_parentOf a_finished a_markerIn a_reportIn a_recId a_recBalance a_recDigest a_recLength a_recAmount := by
  refine br_t (by decide) (ms_x_copyE H (a := s) (b := 3) (by omega) (by decide) (by decide) (by omega) h5 (fun _ => hrec) rfl rfl (fun u' H' => ?_))
  obtain ⟨f_n, f_room, f_slots, f_up, f_last, f_keptCount, a_liveBalance, a_liveDigest, a_ring, a_head, a_count, a_tokens, a_rootOf, a_parentOf, a_finished, a_markerIn, a_reportIn, a_recId, a_recBalance, a_recDigest, a_recLength, a_recAmount⟩ := u'
  refine And.intro (vp_in_nI (by omega) (by decide)) (nm_r (e' := upd a_recId s (-1)) (by rw [nI_clamp (by omega)]) (K _ ?_))
  exact ms_RX_kill H' rfl
theorem ms_x_complete {post : SX → Prop} {f_n f_room f_slots f_up f_last f_keptCount : Int32} {a_liveBalance a_liveDigest a_ring a_head a_count a_tokens a_rootOf a_parentOf a_finished a_markerIn a_reportIn a_recId a_recBalance a_recDigest a_recLength a_recAmount : Nat → Int32} {s : Nat} {p0 : Int32} (H : ms_RX (n, room, slots, up, last, kept, B0, D0, Q, J, root, par, fin, mI, rI, B, D, L, ST) (f_n, f_room, f_slots, f_up, f_last, f_keptCount, a_liveBalance, a_liveDigest, a_ring, a_head, a_count, a_tokens, a_rootOf, a_parentOf, a_finished, a_markerIn, a_reportIn, a_recId, a_recBalance, a_recDigest, a_recLength, a_recAmount)) (hs : s < 3) (h5 : n ≤ 5) (hk1 : 1 ≤ kept) (hk3 : kept ≤ 3) (hK : ∀ i, i < 3 → kept ≤ i → J (3 + i) = 0) (hrec : ∀ p, p < n → par s p ≠ 0) (e0 : p0 = nI s)
    (K : ∀ u', ms_RX (n, room, slots, up, last, if kept < 3 then kept + 1 else kept, B0, D0, Q, ms_set (ms_sh3 J s) s 0, root, par, fin, mI, rI, ms_sh3 B s, ms_sh3 D s, ms_sh3 L s, ms_sh3 ST s) u' → post u') : wpX_complete post (f_n, f_room, f_slots, f_up, f_last, f_keptCount, a_liveBalance, a_liveDigest, a_ring, a_head, a_count, a_tokens, a_rootOf, a_parentOf, a_finished, a_markerIn, a_reportIn, a_recId, a_recBalance, a_recDigest, a_recLength, a_recAmount) p0 := by
  subst e0
  have hkk := H.1.2.2.2.2.2
  have big : ∀ (f_n f_room f_slots f_up f_last f_keptCount : Int32) (a_liveBalance a_liveDigest a_ring a_head a_count a_tokens a_rootOf a_parentOf a_finished a_markerIn a_reportIn a_recId a_recBalance a_recDigest a_recLength a_recAmount : Nat → Int32), ∀ k, ms_RX (n, room, slots, up, last, k, B0, D0, Q, J, root, par, fin, mI, rI, B, D, L, ST) (f_n, f_room, f_slots, f_up, f_last, f_keptCount, a_liveBalance, a_liveDigest, a_ring, a_head, a_count, a_tokens, a_rootOf, a_parentOf, a_finished, a_markerIn, a_reportIn, a_recId, a_recBalance, a_recDigest, a_recLength, a_recAmount) → (∀ u', ms_RX (n, room, slots, up, last, k, B0, D0, Q, ms_set (ms_sh3 J s) s 0, root, par, fin, mI, rI, ms_sh3 B s, ms_sh3 D s, ms_sh3 L s, ms_sh3 ST s) u' → post u') → wX_complete_25 post (nI s) 3 (nI 2) f_n f_room f_slots f_up f_last f_keptCount a_liveBalance a_liveDigest a_ring a_head a_count a_tokens a_rootOf a_parentOf a_finished a_markerIn a_reportIn a_recId a_recBalance a_recDigest a_recLength a_recAmount := by
    intro f_n f_room f_slots f_up f_last f_keptCount a_liveBalance a_liveDigest a_ring a_head a_count a_tokens a_rootOf a_parentOf a_finished a_markerIn a_reportIn a_recId a_recBalance a_recDigest a_recLength a_recAmount k H K
    refine br_f (by decide) (ms_x_copyE H (a := 4) (b := 5) (by decide) (by decide) (by decide) (by decide) h5 (fun z => absurd z (by decide)) rfl rfl (fun u1 H1 => ?_))
    obtain ⟨z0, z1, z2, z3, z4, z5, z6, z7, z8, z9, z10, z11, z12, z13, z14, z15, z16, z17, z18, z19, z20, z21⟩ := u1
    refine nm_r (e' := nI 1) rfl (br_f (by decide) (ms_x_copyE H1 (a := 3) (b := 4) (by decide) (by decide) (by decide) (by decide) h5 (fun z => absurd z (by decide)) rfl rfl (fun u2 H2 => ?_)))
    obtain ⟨z0, z1, z2, z3, z4, z5, z6, z7, z8, z9, z10, z11, z12, z13, z14, z15, z16, z17, z18, z19, z20, z21⟩ := u2
    refine nm_r (e' := nI 0) rfl (ms_x_cm0 (N := 0) H2 hs h5 hrec (fun u3 H3 => K u3 ?_))
    rw [ms_sh3_f J hs, ms_sh3_f B hs, ms_sh3_f D hs, ms_sh3_f L hs, ms_sh3_f ST hs] at H3
    exact H3
  have hcs : kept = 1 ∨ kept = 2 ∨ kept = 3 := by omega
  rcases hcs with hc | hc | hc
  · subst hc
    refine br_f (by rw [hkk]; decide) (nm_r (e' := nI 2) (by rw [hkk]; rfl) (nm_r (e' := nI 1) rfl ⟨2, ?_⟩))
    refine br_f (by decide) (ms_x_copyE (ms_RX_kept (k := 2) H rfl) (a := 3) (b := 4) (by decide) (by decide) (by decide) (by decide) h5 (fun z => absurd z (by decide)) rfl rfl (fun u1 H1 => ?_))
    obtain ⟨z0, z1, z2, z3, z4, z5, z6, z7, z8, z9, z10, z11, z12, z13, z14, z15, z16, z17, z18, z19, z20, z21⟩ := u1
    refine nm_r (e' := nI 0) rfl (ms_x_cm0 (N := 0) H1 hs h5 hrec (fun u3 H3 => K u3 ?_))
    have hJ4 : J 4 = 0 := hK 1 (by decide) (by decide)
    have hJ5 : J 5 = 0 := hK 2 (by decide) (by decide)
    have ej : ms_set (ms_set J 4 (J 3)) 3 (ms_set J 4 (J 3) s) = ms_sh3 J s := by
      funext r
      rw [ms_set_n (show s ≠ 4 by omega)]
      show (if r = 3 then J s else if r = 4 then J 3 else J r) = if r = 3 then J s else if r = 4 then J 3 else if r = 5 then J 4 else J r
      by_cases e : r = 5
      · subst e
        rw [if_neg (by decide), if_neg (by decide), if_neg (by decide), if_neg (by decide), if_pos rfl, hJ4, hJ5]
      · rw [if_neg e]
    rw [ej] at H3
    refine ms_RX_congr H3 (fun r hr hJr => ?_)
    have e5 : r ≠ 5 := by
      intro e
      subst e
      rw [ms_set_n (by omega), ms_sh3_5, hJ4] at hJr
      exact absurd rfl hJr
    have gen : ∀ {α : Type} (F : Nat → α), ms_sh3 F s r = ms_set (ms_set F 4 (F 3)) 3 (ms_set F 4 (F 3) s) r := by
      intro α F
      rw [ms_set_n (show s ≠ 4 by omega)]
      show (if r = 3 then F s else if r = 4 then F 3 else if r = 5 then F 4 else F r) = if r = 3 then F s else if r = 4 then F 3 else F r
      rw [if_neg e5]
    exact ⟨gen B, gen D, gen ST⟩
  · subst hc
    exact br_f (by rw [hkk]; decide) (nm_r (e' := nI 3) (by rw [hkk]; rfl) (nm_r (e' := nI 2) rfl ⟨3, big _ _ _ _ _ _ _ _ _ _ _ _ _ _ _ _ _ _ _ _ _ _ 3 (ms_RX_kept (k := 3) H rfl) K⟩))
  · subst hc
    exact br_t (by rw [hkk]; decide) (nm_r (e' := nI 2) (by rw [hkk]; rfl) ⟨3, big _ _ _ _ _ _ _ _ _ _ _ _ _ _ _ _ _ _ _ _ _ _ 3 H K⟩)
theorem ms_RX_fin {f_n f_room f_slots f_up f_last f_keptCount : Int32} {a_liveBalance a_liveDigest a_ring a_head a_count a_tokens a_rootOf a_parentOf a_finished a_markerIn a_reportIn a_recId a_recBalance a_recDigest a_recLength a_recAmount : Nat → Int32} {s p : Nat} (H : ms_RX (n, room, slots, up, last, kept, B0, D0, Q, J, root, par, fin, mI, rI, B, D, L, ST) (f_n, f_room, f_slots, f_up, f_last, f_keptCount, a_liveBalance, a_liveDigest, a_ring, a_head, a_count, a_tokens, a_rootOf, a_parentOf, a_finished, a_markerIn, a_reportIn, a_recId, a_recBalance, a_recDigest, a_recLength, a_recAmount)) (hs : s < 3) (hp : p < 5) : ms_RX (n, room, slots, up, last, kept, B0, D0, Q, J, root, par, ms_set fin s (ms_set (fin s) p true), mI, rI, B, D, L, ST) (f_n, f_room, f_slots, f_up, f_last, f_keptCount, a_liveBalance, a_liveDigest, a_ring, a_head, a_count, a_tokens, a_rootOf, a_parentOf, upd a_finished (s * 5 + p) 1, a_markerIn, a_reportIn, a_recId, a_recBalance, a_recDigest, a_recLength, a_recAmount) := by
  obtain ⟨h1, h2, hQ, hI, hr0, hp0, h7⟩ := H
  refine ⟨h1, h2, hQ, hI, hr0, fun s' p' hs' hp' => ?_, h7⟩
  have hh := hp0 s' p' hs' hp'
  by_cases e : s' = s
  · subst e
    rw [ms_set_s]
    by_cases e2 : p' = p
    · subst e2; rw [pk_us, ms_set_s]; exact ⟨hh.1, rfl⟩
    · rw [pk_un (by omega), ms_set_n e2]; exact hh
  · rw [pk_un (by omega), ms_set_n e]; exact hh
theorem ms_RX_mI {f_n f_room f_slots f_up f_last f_keptCount : Int32} {a_liveBalance a_liveDigest a_ring a_head a_count a_tokens a_rootOf a_parentOf a_finished a_markerIn a_reportIn a_recId a_recBalance a_recDigest a_recLength a_recAmount : Nat → Int32} {s c : Nat} (H : ms_RX (n, room, slots, up, last, kept, B0, D0, Q, J, root, par, fin, mI, rI, B, D, L, ST) (f_n, f_room, f_slots, f_up, f_last, f_keptCount, a_liveBalance, a_liveDigest, a_ring, a_head, a_count, a_tokens, a_rootOf, a_parentOf, a_finished, a_markerIn, a_reportIn, a_recId, a_recBalance, a_recDigest, a_recLength, a_recAmount)) (hs : s < 3) (hc : c < 25) : ms_RX (n, room, slots, up, last, kept, B0, D0, Q, J, root, par, fin, ms_set mI s (ms_set (mI s) c true), rI, B, D, L, ST) (f_n, f_room, f_slots, f_up, f_last, f_keptCount, a_liveBalance, a_liveDigest, a_ring, a_head, a_count, a_tokens, a_rootOf, a_parentOf, a_finished, upd a_markerIn (s * 25 + c) 1, a_reportIn, a_recId, a_recBalance, a_recDigest, a_recLength, a_recAmount) := by
  obtain ⟨h1, h2, hQ, hI, hr0, hp0, hm, h8⟩ := H
  refine ⟨h1, h2, hQ, hI, hr0, hp0, fun s' p' hs' hp' => ?_, h8⟩
  have hh := hm s' p' hs' hp'
  by_cases e : s' = s
  · subst e
    rw [ms_set_s]
    by_cases e2 : p' = c
    · subst e2; rw [pk_us, ms_set_s]; exact ⟨rfl, hh.2⟩
    · rw [pk_un (by omega), ms_set_n e2]; exact hh
  · rw [pk_un (by omega), ms_set_n e]; exact hh
theorem ms_RX_rI {f_n f_room f_slots f_up f_last f_keptCount : Int32} {a_liveBalance a_liveDigest a_ring a_head a_count a_tokens a_rootOf a_parentOf a_finished a_markerIn a_reportIn a_recId a_recBalance a_recDigest a_recLength a_recAmount : Nat → Int32} {s c : Nat} (H : ms_RX (n, room, slots, up, last, kept, B0, D0, Q, J, root, par, fin, mI, rI, B, D, L, ST) (f_n, f_room, f_slots, f_up, f_last, f_keptCount, a_liveBalance, a_liveDigest, a_ring, a_head, a_count, a_tokens, a_rootOf, a_parentOf, a_finished, a_markerIn, a_reportIn, a_recId, a_recBalance, a_recDigest, a_recLength, a_recAmount)) (hs : s < 3) (hc : c < 25) : ms_RX (n, room, slots, up, last, kept, B0, D0, Q, J, root, par, fin, mI, ms_set rI s (ms_set (rI s) c true), B, D, L, ST) (f_n, f_room, f_slots, f_up, f_last, f_keptCount, a_liveBalance, a_liveDigest, a_ring, a_head, a_count, a_tokens, a_rootOf, a_parentOf, a_finished, a_markerIn, upd a_reportIn (s * 25 + c) 1, a_recId, a_recBalance, a_recDigest, a_recLength, a_recAmount) := by
  obtain ⟨h1, h2, hQ, hI, hr0, hp0, hm, h8⟩ := H
  refine ⟨h1, h2, hQ, hI, hr0, hp0, fun s' p' hs' hp' => ?_, h8⟩
  have hh := hm s' p' hs' hp'
  by_cases e : s' = s
  · subst e
    rw [ms_set_s]
    by_cases e2 : p' = c
    · subst e2; rw [pk_us, ms_set_s]; exact ⟨hh.1, rfl⟩
    · rw [pk_un (by omega), ms_set_n e2]; exact hh
  · rw [pk_un (by omega), ms_set_n e]; exact hh
section
variable {s t q : Nat} {post : Int32 → SX → Prop}
theorem ms_x_settle_n {f_n f_room f_slots f_up f_last f_keptCount : Int32} {a_liveBalance a_liveDigest a_ring a_head a_count a_tokens a_rootOf a_parentOf a_finished a_markerIn a_reportIn a_recId a_recBalance a_recDigest a_recLength a_recAmount : Nat → Int32} (H : ms_RX (n, room, slots, up, last, kept, B0, D0, Q, J, root, par, fin, mI, rI, B, D, L, ST) (f_n, f_room, f_slots, f_up, f_last, f_keptCount, a_liveBalance, a_liveDigest, a_ring, a_head, a_count, a_tokens, a_rootOf, a_parentOf, a_finished, a_markerIn, a_reportIn, a_recId, a_recBalance, a_recDigest, a_recLength, a_recAmount)) (hs : s < 3) (ht : t < n) (h5 : n ≤ 5) (hP : ms_IP n par) (hth : ¬ ms_thr n (par s) (mI s) (rI s) t) (hp : post 0 (f_n, f_room, f_slots, f_up, f_last, f_keptCount, a_liveBalance, a_liveDigest, a_ring, a_head, a_count, a_tokens, a_rootOf, a_parentOf, a_finished, a_markerIn, a_reportIn, a_recId, a_recBalance, a_recDigest, a_recLength, a_recAmount)) : wpX_settle post (f_n, f_room, f_slots, f_up, f_last, f_keptCount, a_liveBalance, a_liveDigest, a_ring, a_head, a_count, a_tokens, a_rootOf, a_parentOf, a_finished, a_markerIn, a_reportIn, a_recId, a_recBalance, a_recDigest, a_recLength, a_recAmount) (nI s) (nI t) :=
  ms_x_through H hs ht h5 hP rfl rfl (fun z => absurd z hth) (fun _ => br_t rfl hp)
theorem ms_x_settle_f {f_n f_room f_slots f_up f_last f_keptCount : Int32} {a_liveBalance a_liveDigest a_ring a_head a_count a_tokens a_rootOf a_parentOf a_finished a_markerIn a_reportIn a_recId a_recBalance a_recDigest a_recLength a_recAmount : Nat → Int32} (H : ms_RX (n, room, slots, up, last, kept, B0, D0, Q, J, root, par, fin, mI, rI, B, D, L, ST) (f_n, f_room, f_slots, f_up, f_last, f_keptCount, a_liveBalance, a_liveDigest, a_ring, a_head, a_count, a_tokens, a_rootOf, a_parentOf, a_finished, a_markerIn, a_reportIn, a_recId, a_recBalance, a_recDigest, a_recLength, a_recAmount)) (hs : s < 3) (ht : t < n) (h5 : n ≤ 5) (hP : ms_IP n par) (hJ : J s ≠ 0) (hr : root s < n) (hrt : root s ≠ t) (hf : fin s t = true) (hp : post 0 (f_n, f_room, f_slots, f_up, f_last, f_keptCount, a_liveBalance, a_liveDigest, a_ring, a_head, a_count, a_tokens, a_rootOf, a_parentOf, a_finished, a_markerIn, a_reportIn, a_recId, a_recBalance, a_recDigest, a_recLength, a_recAmount)) : wpX_settle post (f_n, f_room, f_slots, f_up, f_last, f_keptCount, a_liveBalance, a_liveDigest, a_ring, a_head, a_count, a_tokens, a_rootOf, a_parentOf, a_finished, a_markerIn, a_reportIn, a_recId, a_recBalance, a_recDigest, a_recLength, a_recAmount) (nI s) (nI t) := by
  refine ms_x_through H hs ht h5 hP rfl rfl (fun _ => br_f (by decide) ?_) (fun _ => br_t rfl hp)
  have ei : nI s * 5 + nI t = nI (s * 5 + t) := by rw [ms_m5, nI_add]
  have hin : vp_in (nI s * 5 + nI t) 15 := by rw [ei]; exact vp_in_nI (by omega) (by decide)
  refine And.intro (vp_in_nI hs (by decide)) (br_f ?_ (And.intro hin (br_f ?_ hp)))
  · rw [nI_clamp (by omega), H.2.2.2.2.1 s hs hJ, nI_eq (by omega) (by omega)]; exact hrt
  · rw [ei, nI_clamp (by omega), (H.2.2.2.2.2.1 s t hs (by omega)).2, hf]; decide
theorem ms_x_settle_a {f_n f_room f_slots f_up f_last f_keptCount : Int32} {a_liveBalance a_liveDigest a_ring a_head a_count a_tokens a_rootOf a_parentOf a_finished a_markerIn a_reportIn a_recId a_recBalance a_recDigest a_recLength a_recAmount : Nat → Int32} (H : ms_RX (n, room, slots, up, last, kept, B0, D0, Q, J, root, par, fin, mI, rI, B, D, L, ST) (f_n, f_room, f_slots, f_up, f_last, f_keptCount, a_liveBalance, a_liveDigest, a_ring, a_head, a_count, a_tokens, a_rootOf, a_parentOf, a_finished, a_markerIn, a_reportIn, a_recId, a_recBalance, a_recDigest, a_recLength, a_recAmount)) (hs : s < 3) (ht : t < n) (h5 : n ≤ 5) (hP : ms_IP n par) (hJ : J s ≠ 0) (hJb : J s ≤ 100) (hr : root s < n) (hrt : root s ≠ t) (hth : ms_thr n (par s) (mI s) (rI s) t) (hpar : par s t = q + 1) (hq : q < n) (hf : fin s t = false) (hl : (Q (t * 5 + q)).length < 10)
    (K : ∀ u', ms_RX (n, room, slots, up, last, kept, B0, D0, ms_set Q (t * 5 + q) (Q (t * 5 + q) ++ [(J s - 1) * 4 + 3]), J, root, par, ms_set fin s (ms_set (fin s) t true), mI, rI, B, D, L, ST) u' → post 0 u') : wpX_settle post (f_n, f_room, f_slots, f_up, f_last, f_keptCount, a_liveBalance, a_liveDigest, a_ring, a_head, a_count, a_tokens, a_rootOf, a_parentOf, a_finished, a_markerIn, a_reportIn, a_recId, a_recBalance, a_recDigest, a_recLength, a_recAmount) (nI s) (nI t) := by
  refine ms_x_through H hs ht h5 hP rfl rfl (fun _ => br_f (by decide) ?_) (fun z => absurd hth z)
  have ei : nI s * 5 + nI t = nI (s * 5 + t) := by rw [ms_m5, nI_add]
  have hin : vp_in (nI s * 5 + nI t) 15 := by rw [ei]; exact vp_in_nI (by omega) (by decide)
  refine And.intro (vp_in_nI hs (by decide)) (br_f ?_ (And.intro hin (br_t ?_ (And.intro hin (nm_r (e' := upd a_finished (s * 5 + t) 1) ?_ (And.intro hin (And.intro (vp_in_nI (by omega) (by decide)) ?_)))))))
  · rw [nI_clamp (by omega), H.2.2.2.2.1 s hs hJ, nI_eq (by omega) (by omega)]; exact hrt
  · rw [ei, nI_clamp (by omega), (H.2.2.2.2.2.1 s t hs (by omega)).2, hf]; rfl
  · rw [ei, nI_clamp (by omega), ms_vb1]
  · refine ms_x_append (ms_RX_fin H hs (by omega)) (c := t * 5 + q) (v := J s - 1) (k := 3) (by omega) hl (by decide) (by omega) ?_ ?_ rfl (fun u' H' => ?_)
    · rw [ei, nI_clamp (by omega), (H.2.2.2.2.2.1 s t hs (by omega)).1, hpar, ms_m5]; exact nI_add _ _
    · rw [nI_clamp (by omega), H.2.2.2.1 s (by omega), ms_e_pos hJ]
    · obtain ⟨z0, z1, z2, z3, z4, z5, z6, z7, z8, z9, z10, z11, z12, z13, z14, z15, z16, z17, z18, z19, z20, z21⟩ := u'
      exact K _ H'
theorem ms_x_settle_c {f_n f_room f_slots f_up f_last f_keptCount : Int32} {a_liveBalance a_liveDigest a_ring a_head a_count a_tokens a_rootOf a_parentOf a_finished a_markerIn a_reportIn a_recId a_recBalance a_recDigest a_recLength a_recAmount : Nat → Int32} (H : ms_RX (n, room, slots, up, last, kept, B0, D0, Q, J, root, par, fin, mI, rI, B, D, L, ST) (f_n, f_room, f_slots, f_up, f_last, f_keptCount, a_liveBalance, a_liveDigest, a_ring, a_head, a_count, a_tokens, a_rootOf, a_parentOf, a_finished, a_markerIn, a_reportIn, a_recId, a_recBalance, a_recDigest, a_recLength, a_recAmount)) (hs : s < 3) (ht : t < n) (h5 : n ≤ 5) (hP : ms_IP n par) (hJ : J s ≠ 0) (hrt : root s = t) (hth : ms_thr n (par s) (mI s) (rI s) t) (hk1 : 1 ≤ kept) (hk3 : kept ≤ 3) (hK : ∀ i, i < 3 → kept ≤ i → J (3 + i) = 0) (hrec : ∀ p, p < n → par s p ≠ 0)
    (K : ∀ u', ms_RX (n, room, slots, up, last, if kept < 3 then kept + 1 else kept, B0, D0, Q, ms_set (ms_sh3 J s) s 0, root, par, fin, mI, rI, ms_sh3 B s, ms_sh3 D s, ms_sh3 L s, ms_sh3 ST s) u' → post 1 u') : wpX_settle post (f_n, f_room, f_slots, f_up, f_last, f_keptCount, a_liveBalance, a_liveDigest, a_ring, a_head, a_count, a_tokens, a_rootOf, a_parentOf, a_finished, a_markerIn, a_reportIn, a_recId, a_recBalance, a_recDigest, a_recLength, a_recAmount) (nI s) (nI t) := by
  refine ms_x_through H hs ht h5 hP rfl rfl (fun _ => br_f (by decide) ?_) (fun z => absurd hth z)
  refine And.intro (vp_in_nI hs (by decide)) (br_t ?_ ?_)
  · rw [nI_clamp (by omega), H.2.2.2.2.1 s hs hJ, hrt]
  · refine ms_x_complete H hs h5 hk1 hk3 hK hrec rfl (fun u' H' => ?_)
    obtain ⟨z0, z1, z2, z3, z4, z5, z6, z7, z8, z9, z10, z11, z12, z13, z14, z15, z16, z17, z18, z19, z20, z21⟩ := u'
    exact K _ H'
end
theorem ms_x_jn46 {post : SX → Prop} {s p : Nat} (hs : s < 3) (hp : p < n) (h5 : n ≤ 5) (hJ : J s ≠ 0) (hJb : J s ≤ 100) (hl : ∀ r, r < n → r ≠ p → (Q (p * 5 + r)).length < 10)
    (K : ∀ u', ms_RX (n, room, slots, up, last, kept, B0, D0, ms_jq n p ((J s - 1) * 4 + 2) Q, J, root, par, fin, mI, rI, B, D, L, ST) u' → post u') :
    ∀ d N k, ∀ (f_n f_room f_slots f_up f_last f_keptCount : Int32) (a_liveBalance a_liveDigest a_ring a_head a_count a_tokens a_rootOf a_parentOf a_finished a_markerIn a_reportIn a_recId a_recBalance a_recDigest a_recLength a_recAmount : Nat → Int32), k + d = n → d < N → ms_RX (n, room, slots, up, last, kept, B0, D0, ms_jq k p ((J s - 1) * 4 + 2) Q, J, root, par, fin, mI, rI, B, D, L, ST) (f_n, f_room, f_slots, f_up, f_last, f_keptCount, a_liveBalance, a_liveDigest, a_ring, a_head, a_count, a_tokens, a_rootOf, a_parentOf, a_finished, a_markerIn, a_reportIn, a_recId, a_recBalance, a_recDigest, a_recLength, a_recAmount) → wX_joinSnapshot_46 post (nI s) (nI p) N (nI k) f_n f_room f_slots f_up f_last f_keptCount a_liveBalance a_liveDigest a_ring a_head a_count a_tokens a_rootOf a_parentOf a_finished a_markerIn a_reportIn a_recId a_recBalance a_recDigest a_recLength a_recAmount := by
  intro d
  induction d with
  | zero =>
    intro N k f_n f_room f_slots f_up f_last f_keptCount a_liveBalance a_liveDigest a_ring a_head a_count a_tokens a_rootOf a_parentOf a_finished a_markerIn a_reportIn a_recId a_recBalance a_recDigest a_recLength a_recAmount h1 hN H
    obtain ⟨N, rfl⟩ : ∃ M, N = M + 1 := ⟨N - 1, by omega⟩
    obtain rfl : k = n := by omega
    refine br_t ?_ (K _ H)
    rw [H.1.1]; exact nI_le (by omega) (by omega)
  | succ d ih =>
    intro N k f_n f_room f_slots f_up f_last f_keptCount a_liveBalance a_liveDigest a_ring a_head a_count a_tokens a_rootOf a_parentOf a_finished a_markerIn a_reportIn a_recId a_recBalance a_recDigest a_recLength a_recAmount h1 hN H
    obtain ⟨N, rfl⟩ : ∃ M, N = M + 1 := ⟨N - 1, by omega⟩
    have hI := H.2.2.2.1 s (by omega)
    refine br_f (by rw [H.1.1]; exact nI_ge (by omega) (by omega)) (br_c (fun z => nm_r (nI_1 k) (ih N (k + 1) _ _ _ _ _ _ _ _ _ _ _ _ _ _ _ _ _ _ _ _ _ _ (by omega) (by omega) ?_)) (fun z => And.intro (vp_in_nI (by omega) (by decide)) ?_))
    · rw [nI_eq (by omega) (by omega)] at z
      subst z
      rw [ms_jqS']; exact H
    · rw [nI_eq (by omega) (by omega)] at z
      have hjn : ms_jq k p ((J s - 1) * 4 + 2) Q (p * 5 + k) = Q (p * 5 + k) := ms_jq_n (fun w => by omega)
      refine ms_x_append H (c := p * 5 + k) (v := J s - 1) (k := 2) (by omega) (by rw [hjn]; exact hl k (by omega) z) (by decide) (by omega) (by rw [ms_m5, nI_add]) (by rw [nI_clamp (by omega), hI, ms_e_pos hJ]) rfl (fun u' H' => ?_)
      obtain ⟨z0, z1, z2, z3, z4, z5, z6, z7, z8, z9, z10, z11, z12, z13, z14, z15, z16, z17, z18, z19, z20, z21⟩ := u'
      refine nm_r (nI_1 k) (ih N (k + 1) _ _ _ _ _ _ _ _ _ _ _ _ _ _ _ _ _ _ _ _ _ _ (by omega) (by omega) ?_)
      rw [hjn, ms_jqS (by omega) z] at H'
      exact H'
theorem ms_x_join {post : SX → Prop} {s p q : Nat} {p0 p1 p2 : Int32} (H : ms_RX (n, room, slots, up, last, kept, B0, D0, Q, J, root, par, fin, mI, rI, B, D, L, ST) u) (hs : s < 3) (hp : p < n) (h5 : n ≤ 5) (hJ : J s ≠ 0) (hJb : J s ≤ 100) (hl : ∀ r, r < n → r ≠ p → (Q (p * 5 + r)).length < 10) (hB : B s p = B0 p) (hD : D s p = D0 p) (e0 : p0 = nI s) (e1 : p1 = nI p) (e2 : p2 = nI q)
    (K : ∀ u', ms_RX (n, room, slots, up, last, kept, B0, D0, ms_jq n p ((J s - 1) * 4 + 2) Q, J, root, ms_set par s (ms_set (par s) p (q + 1)), fin, mI, rI, B, D, L, ST) u' → post u') : wpX_joinSnapshot post u p0 p1 p2 := by
  obtain ⟨f_n, f_room, f_slots, f_up, f_last, f_keptCount, a_liveBalance, a_liveDigest, a_ring, a_head, a_count, a_tokens, a_rootOf, a_parentOf, a_finished, a_markerIn, a_reportIn, a_recId, a_recBalance, a_recDigest, a_recLength, a_recAmount⟩ := u
  subst e0 e1 e2
  have ei : nI s * 5 + nI p = nI (s * 5 + p) := by rw [ms_m5, nI_add]
  have hin : vp_in (nI s * 5 + nI p) 30 := by rw [ei]; exact vp_in_nI (by omega) (by decide)
  obtain ⟨hlb, hld⟩ := H.2.1 p hp
  refine And.intro (by rw [ei]; exact vp_in_nI (by omega) (by decide)) (nm_r (e' := upd a_parentOf (s * 5 + p) (nI q)) (by rw [ei, nI_clamp (by omega)]) (And.intro (vp_in_nI (by omega) (by decide)) (And.intro hin (nm_r (e' := upd a_recBalance (s * 5 + p) (nI (B0 p))) ?_ (And.intro (vp_in_nI (by omega) (by decide)) (And.intro hin (nm_r (e' := upd a_recDigest (s * 5 + p) (D0 p)) ?_ ⟨n + 1, ?_⟩)))))))
  · rw [ei, nI_clamp (by omega), nI_clamp (by omega), hlb]
  · rw [ei, nI_clamp (by omega), nI_clamp (by omega), hld]
  · refine ms_x_jn46 (par := ms_set par s (ms_set (par s) p (q + 1))) hs hp h5 hJ hJb hl K n (n + 1) 0 _ _ _ _ _ _ _ _ _ _ _ _ _ _ _ _ _ _ _ _ _ _ (by omega) (by omega) ?_
    rw [ms_jq0]
    obtain ⟨h1, h2, hQ, hI, hr0, hp0, hm, hE, hS⟩ := H
    refine ⟨h1, h2, hQ, hI, hr0, fun s' p' hs' hp' => ?_, hm, fun r p' hr hp' hJr hpr => ?_, hS⟩
    · have hh := hp0 s' p' hs' hp'
      by_cases e : s' = s
      · subst e
        rw [ms_set_s]
        by_cases e2 : p' = p
        · subst e2; rw [pk_us, ms_set_s]; exact ⟨rfl, hh.2⟩
        · rw [pk_un (by omega), ms_set_n e2]; exact hh
      · rw [pk_un (by omega), ms_set_n e]; exact hh
    · by_cases e : r = s
      · subst e
        by_cases e2 : p' = p
        · subst e2
          rw [pk_us, pk_us, hB, hD]; exact ⟨rfl, rfl⟩
        · rw [pk_un (by omega), pk_un (by omega)]
          rw [ms_set_s, ms_set_n e2] at hpr
          exact hE r p' hr hp' hJr hpr
      · rw [pk_un (by omega), pk_un (by omega)]
        rw [ms_set_n e] at hpr
        exact hE r p' hr hp' hJr hpr
end
end
section
/-! X: opening a slot; the cases of deliverHead -/
section
variable {f_n f_room f_slots f_up f_last f_keptCount : Int32} {a_liveBalance a_liveDigest a_ring a_head a_count a_tokens a_rootOf a_parentOf a_finished a_markerIn a_reportIn a_recId a_recBalance a_recDigest a_recLength a_recAmount : Nat → Int32} {post : SX → Prop}
theorem ms_x_op56 {s : Nat} (hs : s < 3) (hp : post (f_n, f_room, f_slots, f_up, f_last, f_keptCount, a_liveBalance, a_liveDigest, a_ring, a_head, a_count, a_tokens, a_rootOf, a_parentOf, a_finished, ms_fill a_markerIn (s * 25) 25 0, ms_fill a_reportIn (s * 25) 25 0, a_recId, a_recBalance, a_recDigest, ms_fill a_recLength (s * 25) 25 0, a_recAmount)) :
    ∀ e N k, k + e = 25 → e < N → wX_openSlot_56 post (nI s) f_n f_room f_slots f_up f_last f_keptCount N (nI k) a_liveBalance a_liveDigest a_ring a_head a_count a_tokens a_rootOf a_parentOf a_finished (ms_fill a_markerIn (s * 25) k 0) (ms_fill a_reportIn (s * 25) k 0) a_recId a_recBalance a_recDigest (ms_fill a_recLength (s * 25) k 0) a_recAmount := by
  intro e
  induction e with
  | zero =>
    intro N k h1 hN
    obtain ⟨N, rfl⟩ : ∃ M, N = M + 1 := ⟨N - 1, by omega⟩
    obtain rfl : k = 25 := by omega
    exact br_t (nI_le (a := 25) (by omega) (by omega)) hp
  | succ e ih =>
    intro N k h1 hN
    obtain ⟨N, rfl⟩ : ∃ M, N = M + 1 := ⟨N - 1, by omega⟩
    have e1 : nI s * 25 + nI k = nI (s * 25 + k) := by rw [ms_m25, nI_add]
    refine br_f (nI_ge (b := 25) (by omega) (by decide)) (And.intro ?_ (nm_r (e' := ms_fill a_markerIn (s * 25) (k + 1) 0) ?_ (And.intro ?_ (nm_r (e' := ms_fill a_reportIn (s * 25) (k + 1) 0) ?_ (And.intro ?_ (nm_r (e' := ms_fill a_recLength (s * 25) (k + 1) 0) ?_ (nm_r (nI_1 k) (ih N _ (by omega) (by omega)))))))))
    · rw [e1]; exact vp_in_nI (by omega) (by decide)
    · rw [e1, nI_clamp (by omega), ms_vb0, ms_fillS]
    · rw [e1]; exact vp_in_nI (by omega) (by decide)
    · rw [e1, nI_clamp (by omega), ms_vb0, ms_fillS]
    · rw [e1]; exact vp_in_nI (by omega) (by decide)
    · rw [e1, nI_clamp (by omega), ms_fillS]
theorem ms_x_op17 {s : Nat} (hs : s < 3) (hp : post (f_n, f_room, f_slots, f_up, f_last, f_keptCount, a_liveBalance, a_liveDigest, a_ring, a_head, a_count, a_tokens, a_rootOf, ms_fill a_parentOf (s * 5) 5 (-1), ms_fill a_finished (s * 5) 5 0, ms_fill a_markerIn (s * 25) 25 0, ms_fill a_reportIn (s * 25) 25 0, a_recId, a_recBalance, a_recDigest, ms_fill a_recLength (s * 25) 25 0, a_recAmount)) :
    ∀ e N k, k + e = 5 → e < N → wX_openSlot_17 post (nI s) f_n f_room f_slots f_up f_last f_keptCount N (nI k) a_liveBalance a_liveDigest a_ring a_head a_count a_tokens a_rootOf (ms_fill a_parentOf (s * 5) k (-1)) (ms_fill a_finished (s * 5) k 0) a_markerIn a_reportIn a_recId a_recBalance a_recDigest a_recLength a_recAmount := by
  intro e
  induction e with
  | zero =>
    intro N k h1 hN
    obtain ⟨N, rfl⟩ : ∃ M, N = M + 1 := ⟨N - 1, by omega⟩
    obtain rfl : k = 5 := by omega
    refine br_t (nI_le (a := 5) (by omega) (by omega)) ⟨26, ?_⟩
    have := ms_x_op56 (a_parentOf := ms_fill a_parentOf (s * 5) 5 (-1)) (a_finished := ms_fill a_finished (s * 5) 5 0) hs hp 25 26 0 (by omega) (by omega)
    rw [ms_fill0, ms_fill0, ms_fill0] at this; exact this
  | succ e ih =>
    intro N k h1 hN
    obtain ⟨N, rfl⟩ : ∃ M, N = M + 1 := ⟨N - 1, by omega⟩
    have e1 : nI s * 5 + nI k = nI (s * 5 + k) := by rw [ms_m5, nI_add]
    refine br_f (nI_ge (b := 5) (by omega) (by decide)) (And.intro ?_ (nm_r (e' := ms_fill a_parentOf (s * 5) (k + 1) (-1)) ?_ (And.intro ?_ (nm_r (e' := ms_fill a_finished (s * 5) (k + 1) 0) ?_ (nm_r (nI_1 k) (ih N _ (by omega) (by omega)))))))
    · rw [e1]; exact vp_in_nI (by omega) (by decide)
    · rw [e1, nI_clamp (by omega), ms_fillS]
    · rw [e1]; exact vp_in_nI (by omega) (by decide)
    · rw [e1, nI_clamp (by omega), ms_vb0, ms_fillS]
end
section
variable {n : Nat} {room : Nat} {slots : Nat} {up : Bool} {last : Nat} {kept : Nat} {B0 : Nat → Nat} {D0 : Nat → Int32} {Q : Nat → List Nat} {J : Nat → Nat} {root : Nat → Nat} {par : Nat → Nat → Nat} {fin : Nat → Nat → Bool} {mI : Nat → Nat → Bool} {rI : Nat → Nat → Bool} {B : Nat → Nat → Nat} {D : Nat → Nat → Int32} {L : Nat → Nat → List Nat} {ST : Nat → Nat → List Nat} {u : SX}
theorem ms_x_open {post : SX → Prop} {s k p : Nat} {p0 p1 p2 : Int32} {B' : Nat → Nat → Nat} {D' : Nat → Nat → Int32} {L' : Nat → Nat → List Nat} (H : ms_RX (n, room, slots, up, last, kept, B0, D0, Q, J, root, par, fin, mI, rI, B, D, L, ST) u) (hs : s < 3) (e0 : p0 = nI s) (e1 : p1 = nI k) (e2 : p2 = nI p)
    (hB : ∀ r, r ≠ s → B' r = B r) (hD : ∀ r, r ≠ s → D' r = D r)
    (K : ∀ u', ms_RX (n, room, slots, up, last, kept, B0, D0, Q, ms_set J s (k + 1), ms_set root s p, ms_set par s (fun _ => 0), ms_set fin s (fun _ => false), ms_set mI s (fun _ => false), ms_set rI s (fun _ => false), B', D', L', ms_set ST s (fun _ => [])) u' → post u') : wpX_openSlot post u p0 p1 p2 := by
  obtain ⟨f_n, f_room, f_slots, f_up, f_last, f_keptCount, a_liveBalance, a_liveDigest, a_ring, a_head, a_count, a_tokens, a_rootOf, a_parentOf, a_finished, a_markerIn, a_reportIn, a_recId, a_recBalance, a_recDigest, a_recLength, a_recAmount⟩ := u
  subst e0 e1 e2
  refine And.intro (vp_in_nI (by omega) (by decide)) (nm_r (e' := upd a_recId s (nI k)) (by rw [nI_clamp (by omega)]) (And.intro (vp_in_nI hs (by decide)) (nm_r (e' := upd a_rootOf s (nI p)) (by rw [nI_clamp (by omega)]) ⟨6, ?_⟩)))
  have hop := ms_x_op17 (post := post) (a_liveBalance := a_liveBalance) (a_liveDigest := a_liveDigest) (a_ring := a_ring) (a_head := a_head) (a_count := a_count) (a_tokens := a_tokens) (a_rootOf := upd a_rootOf s (nI p)) (a_parentOf := a_parentOf) (a_finished := a_finished) (a_markerIn := a_markerIn) (a_reportIn := a_reportIn) (a_recId := upd a_recId s (nI k)) (a_recBalance := a_recBalance) (a_recDigest := a_recDigest) (a_recLength := a_recLength) (a_recAmount := a_recAmount) (f_n := f_n) (f_room := f_room) (f_slots := f_slots) (f_up := f_up) (f_last := f_last) (f_keptCount := f_keptCount) hs ?_ 5 6 0 (by omega) (by omega)
  · rw [ms_fill0, ms_fill0] at hop
    exact hop
  obtain ⟨h1, h2, hQ, hI, hr0, hp0, hm, hE, hS⟩ := H
  refine K _ ?_
  refine ⟨h1, h2, hQ, fun r hr => ?_, fun r hr hJr => ?_, fun s' p' hs' hp' => ?_, fun s' c hs' hc => ?_, fun r p' hr hp' hJr hpr => ?_, fun r c hr hc hJr => ?_⟩
  · by_cases e : r = s
    · subst e; rw [pk_us, ms_set_s]; rfl
    · rw [pk_un e, ms_set_n e]; exact hI r hr
  · by_cases e : r = s
    · subst e; rw [pk_us, ms_set_s]
    · rw [ms_set_n e] at hJr
      rw [pk_un e, ms_set_n e]; exact hr0 r hr hJr
  · by_cases e : s' = s
    · subst e
      rw [ms_set_s, ms_set_s, ms_fill_in hp', ms_fill_in hp']; exact ⟨rfl, rfl⟩
    · rw [ms_set_n e, ms_set_n e, ms_fill_out (by omega), ms_fill_out (by omega)]; exact hp0 s' p' hs' hp'
  · by_cases e : s' = s
    · subst e
      rw [ms_set_s, ms_set_s, ms_fill_in hc, ms_fill_in hc]; exact ⟨rfl, rfl⟩
    · rw [ms_set_n e, ms_set_n e, ms_fill_out (by omega), ms_fill_out (by omega)]; exact hm s' c hs' hc
  · by_cases e : r = s
    · subst e
      have := hpr hs
      rw [ms_set_s] at this
      exact absurd rfl this
    · rw [ms_set_n e] at hJr hpr
      rw [hB r e, hD r e]; exact hE r p' hr hp' hJr hpr
  · by_cases e : r = s
    · subst e
      rw [ms_set_s, ms_fill_in hc]
      exact ⟨Nat.zero_le _, rfl, fun i hi => absurd hi (Nat.not_lt_zero _)⟩
    · rw [ms_set_n e] at hJr
      rw [ms_set_n e, ms_fill_out (by omega)]; exact hS r c hr hc hJr
def ms_x114 (post : Int32 → SX → Prop) (t s : Nat) (x5 : Int32) (u : SX) : Prop := match u with | (f_n, f_room, f_slots, f_up, f_last, f_keptCount, a_liveBalance, a_liveDigest, a_ring, a_head, a_count, a_tokens, a_rootOf, a_parentOf, a_finished, a_markerIn, a_reportIn, a_recId, a_recBalance, a_recDigest, a_recLength, a_recAmount) => wX_deliverHead_114 post (nI t) x5 (nI s) f_n f_room f_slots f_up f_last f_keptCount a_liveBalance a_liveDigest a_ring a_head a_count a_tokens a_rootOf a_parentOf a_finished a_markerIn a_reportIn a_recId a_recBalance a_recDigest a_recLength a_recAmount
section
variable {post : Int32 → SX → Prop} {f t x s : Nat} {tl : List Nat}
theorem ms_x_dh_t (H : ms_RX (n, room, slots, up, last, kept, B0, D0, Q, J, root, par, fin, mI, rI, B, D, L, ST) u) (hf : f < n) (ht : t < n) (h5 : n ≤ 5) (hJ : ∀ r, r < 6 → J r ≤ 100) (hP : ms_IP n par) (eQ : Q (f * 5 + t) = x :: tl) (hx : x < 4000000) (hx1 : x % 4 = 1)
    (hst : ∀ s, s < 3 → J s ≠ 0 → par s t ≠ 0 → mI s (f * 5 + t) = false → (ST s (f * 5 + t)).length < 4)
    (K : ∀ u', ms_RX (n, room, slots, up, last, kept, ms_set B0 t (B0 t + x / 4), ms_set D0 t (D0 t * 31 + (nI (x / 4) * 16 + 8 + nI f)), ms_set Q (f * 5 + t) tl, J, root, par, fin, mI, rI, B, D, L, ms_pt 3 (fun s => decide (J s ≠ 0 ∧ par s t ≠ 0 ∧ mI s (f * 5 + t) = false)) (fun s => ms_set (ST s) (f * 5 + t) (ST s (f * 5 + t) ++ [x / 4])) ST) u' → post 1 u') : wpX_deliverHead post u (nI f) (nI t) := by
  obtain ⟨f_n, f_room, f_slots, f_up, f_last, f_keptCount, a_liveBalance, a_liveDigest, a_ring, a_head, a_count, a_tokens, a_rootOf, a_parentOf, a_finished, a_markerIn, a_reportIn, a_recId, a_recBalance, a_recDigest, a_recLength, a_recAmount⟩ := u
  refine nm_r (e' := nI (f * 5 + t)) (by rw [ms_m5, nI_add]) (ms_x_takeHead H (by omega) hx eQ (fun u1 H1 => ?_))
  obtain ⟨z0, z1, z2, z3, z4, z5, z6, z7, z8, z9, z10, z11, z12, z13, z14, z15, z16, z17, z18, z19, z20, z21⟩ := u1
  refine nm_r (e' := (1 : Int32)) (by rw [ms_and3 (by omega), hx1]; rfl) (nm_r (ms_shr2 (by omega)) (br_t rfl (ms_x_receive H1 hf ht h5 hJ hP hst rfl rfl rfl (fun u2 H2 => ?_))))
  obtain ⟨z0, z1, z2, z3, z4, z5, z6, z7, z8, z9, z10, z11, z12, z13, z14, z15, z16, z17, z18, z19, z20, z21⟩ := u2
  exact K _ H2
theorem ms_x_dh_m0 (H : ms_RX (n, room, slots, up, last, kept, B0, D0, Q, J, root, par, fin, mI, rI, B, D, L, ST) u) (hf : f < n) (ht : t < n) (h5 : n ≤ 5) (hs : s < 3) (h0 : J s ≠ 0) (hJ : ms_IJ last J) (hl : last ≤ 99) (hP : ms_IP n par) (eQ : Q (f * 5 + t) = x :: tl) (hx : x = (J s - 1) * 4 + 2) (hpt : par s t ≠ 0)
    (K : ∀ u', ms_RX (n, room, slots, up, last, kept, B0, D0, ms_set Q (f * 5 + t) tl, J, root, par, fin, ms_set mI s (ms_set (mI s) (f * 5 + t) true), rI, B, D, L, ST) u' → ms_x114 post t s 2 u') : wpX_deliverHead post u (nI f) (nI t) := by
  obtain ⟨f_n, f_room, f_slots, f_up, f_last, f_keptCount, a_liveBalance, a_liveDigest, a_ring, a_head, a_count, a_tokens, a_rootOf, a_parentOf, a_finished, a_markerIn, a_reportIn, a_recId, a_recBalance, a_recDigest, a_recLength, a_recAmount⟩ := u
  have hjs := (hJ s hs h0).1
  have hpi := hP s t hs (by omega)
  refine nm_r (e' := nI (f * 5 + t)) (by rw [ms_m5, nI_add]) (ms_x_takeHead H (by omega) (by omega) eQ (fun u1 H1 => ?_))
  obtain ⟨f_n, f_room, f_slots, f_up, f_last, f_keptCount, a_liveBalance, a_liveDigest, a_ring, a_head, a_count, a_tokens, a_rootOf, a_parentOf, a_finished, a_markerIn, a_reportIn, a_recId, a_recBalance, a_recDigest, a_recLength, a_recAmount⟩ := u1
  have ei : nI s * 5 + nI t = nI (s * 5 + t) := by rw [ms_m5, nI_add]
  have ej : nI s * 25 + nI (f * 5 + t) = nI (s * 25 + (f * 5 + t)) := by rw [ms_m25, nI_add]
  refine nm_r (e' := (2 : Int32)) (by rw [ms_and3 (by omega), show x % 4 = 2 by omega]; rfl) (nm_r (e' := nI (J s - 1)) (by rw [ms_shr2 (by omega), show x / 4 = J s - 1 by omega]) (br_f (by decide) (ms_x_findSlot H1.2.2.2.1 (nI_pos' (by omega)) hs (ms_e_pos h0) (ms_IJ_first hJ hl hs h0) (br_t (nI_pos' (by omega)) (br_t rfl (And.intro ?_ (nm_r (e' := upd a_markerIn (s * 25 + (f * 5 + t)) 1) ?_ (And.intro ?_ (br_t ?_ ?_)))))))))
  · rw [ej]; exact vp_in_nI (by omega) (by decide)
  · rw [ej, nI_clamp (by omega), ms_vb1]
  · rw [ei]; exact vp_in_nI (by omega) (by decide)
  · rw [ei, nI_clamp (by omega), (H1.2.2.2.2.2.1 s t hs (by omega)).1, ms_e_ge (by omega)]; exact hpt
  · exact K _ (ms_RX_mI H1 hs (by omega))
theorem ms_x_dh_m1 (H : ms_RX (n, room, slots, up, last, kept, B0, D0, Q, J, root, par, fin, mI, rI, B, D, L, ST) u) (hf : f < n) (ht : t < n) (h5 : n ≤ 5) (hs : s < 3) (h0 : J s ≠ 0) (hJ : ms_IJ last J) (hl : last ≤ 99) (eQ : Q (f * 5 + t) = x :: tl) (hx : x = (J s - 1) * 4 + 2) (hpt : par s t = 0) (hq10 : ∀ r, r < n → r ≠ t → (ms_set Q (f * 5 + t) tl (t * 5 + r)).length < 10) (hB : B s t = B0 t) (hD : D s t = D0 t)
    (K : ∀ u', ms_RX (n, room, slots, up, last, kept, B0, D0, ms_jq n t ((J s - 1) * 4 + 2) (ms_set Q (f * 5 + t) tl), J, root, ms_set par s (ms_set (par s) t (f + 1)), fin, ms_set mI s (ms_set (mI s) (f * 5 + t) true), rI, B, D, L, ST) u' → ms_x114 post t s 2 u') : wpX_deliverHead post u (nI f) (nI t) := by
  obtain ⟨f_n, f_room, f_slots, f_up, f_last, f_keptCount, a_liveBalance, a_liveDigest, a_ring, a_head, a_count, a_tokens, a_rootOf, a_parentOf, a_finished, a_markerIn, a_reportIn, a_recId, a_recBalance, a_recDigest, a_recLength, a_recAmount⟩ := u
  have hjs := (hJ s hs h0).1
  refine nm_r (e' := nI (f * 5 + t)) (by rw [ms_m5, nI_add]) (ms_x_takeHead H (by omega) (by omega) eQ (fun u1 H1 => ?_))
  obtain ⟨f_n, f_room, f_slots, f_up, f_last, f_keptCount, a_liveBalance, a_liveDigest, a_ring, a_head, a_count, a_tokens, a_rootOf, a_parentOf, a_finished, a_markerIn, a_reportIn, a_recId, a_recBalance, a_recDigest, a_recLength, a_recAmount⟩ := u1
  have ei : nI s * 5 + nI t = nI (s * 5 + t) := by rw [ms_m5, nI_add]
  have ej : nI s * 25 + nI (f * 5 + t) = nI (s * 25 + (f * 5 + t)) := by rw [ms_m25, nI_add]
  refine nm_r (e' := (2 : Int32)) (by rw [ms_and3 (by omega), show x % 4 = 2 by omega]; rfl) (nm_r (e' := nI (J s - 1)) (by rw [ms_shr2 (by omega), show x / 4 = J s - 1 by omega]) (br_f (by decide) (ms_x_findSlot H1.2.2.2.1 (nI_pos' (by omega)) hs (ms_e_pos h0) (ms_IJ_first hJ hl hs h0) (br_t (nI_pos' (by omega)) (br_t rfl (And.intro ?_ (nm_r (e' := upd a_markerIn (s * 25 + (f * 5 + t)) 1) ?_ (And.intro ?_ (br_f ?_ ?_)))))))))
  · rw [ej]; exact vp_in_nI (by omega) (by decide)
  · rw [ej, nI_clamp (by omega), ms_vb1]
  · rw [ei]; exact vp_in_nI (by omega) (by decide)
  · rw [ei, nI_clamp (by omega), (H1.2.2.2.2.2.1 s t hs (by omega)).1, hpt]; exact ms_n1le
  · refine ms_x_join (ms_RX_mI H1 hs (c := f * 5 + t) (by omega)) hs ht h5 h0 (by omega) hq10 hB hD rfl rfl rfl (fun u2 H2 => ?_)
    exact K _ H2
theorem ms_x_dh_r (H : ms_RX (n, room, slots, up, last, kept, B0, D0, Q, J, root, par, fin, mI, rI, B, D, L, ST) u) (hf : f < n) (ht : t < n) (h5 : n ≤ 5) (hs : s < 3) (h0 : J s ≠ 0) (hJ : ms_IJ last J) (hl : last ≤ 99) (eQ : Q (f * 5 + t) = x :: tl) (hx : x = (J s - 1) * 4 + 3)
    (K : ∀ u', ms_RX (n, room, slots, up, last, kept, B0, D0, ms_set Q (f * 5 + t) tl, J, root, par, fin, mI, ms_set rI s (ms_set (rI s) (f * 5 + t) true), B, D, L, ST) u' → ms_x114 post t s 3 u') : wpX_deliverHead post u (nI f) (nI t) := by
  obtain ⟨f_n, f_room, f_slots, f_up, f_last, f_keptCount, a_liveBalance, a_liveDigest, a_ring, a_head, a_count, a_tokens, a_rootOf, a_parentOf, a_finished, a_markerIn, a_reportIn, a_recId, a_recBalance, a_recDigest, a_recLength, a_recAmount⟩ := u
  have hjs := (hJ s hs h0).1
  refine nm_r (e' := nI (f * 5 + t)) (by rw [ms_m5, nI_add]) (ms_x_takeHead H (by omega) (by omega) eQ (fun u1 H1 => ?_))
  obtain ⟨f_n, f_room, f_slots, f_up, f_last, f_keptCount, a_liveBalance, a_liveDigest, a_ring, a_head, a_count, a_tokens, a_rootOf, a_parentOf, a_finished, a_markerIn, a_reportIn, a_recId, a_recBalance, a_recDigest, a_recLength, a_recAmount⟩ := u1
  have ej : nI s * 25 + nI (f * 5 + t) = nI (s * 25 + (f * 5 + t)) := by rw [ms_m25, nI_add]
  refine nm_r (e' := (3 : Int32)) (by rw [ms_and3 (by omega), show x % 4 = 3 by omega]; rfl) (nm_r (e' := nI (J s - 1)) (by rw [ms_shr2 (by omega), show x / 4 = J s - 1 by omega]) (br_f (by decide) (ms_x_findSlot H1.2.2.2.1 (nI_pos' (by omega)) hs (ms_e_pos h0) (ms_IJ_first hJ hl hs h0) (br_t (nI_pos' (by omega)) (br_f (by decide) (And.intro ?_ (nm_r (e' := upd a_reportIn (s * 25 + (f * 5 + t)) 1) ?_ ?_)))))))
  · rw [ej]; exact vp_in_nI (by omega) (by decide)
  · rw [ej, nI_clamp (by omega), ms_vb1]
  · exact K _ (ms_RX_rI H1 hs (by omega))
end
end
end
section
/-! the invariant: what follows from it; the steps of deliver keep it -/
section
variable {n : Nat} {room : Nat} {slots : Nat} {up : Bool} {last : Nat} {kept : Nat} {B0 : Nat → Nat} {D0 : Nat → Int32} {Q : Nat → List Nat} {J : Nat → Nat} {root : Nat → Nat} {par : Nat → Nat → Nat} {fin : Nat → Nat → Bool} {mI : Nat → Nat → Bool} {rI : Nat → Nat → Bool} {B : Nat → Nat → Nat} {D : Nat → Nat → Int32} {L : Nat → Nat → List Nat} {ST : Nat → Nat → List Nat}
theorem ms_Inv_J (h : ms_Inv (n, room, slots, up, last, kept, B0, D0, Q, J, root, par, fin, mI, rI, B, D, L, ST)) : ∀ r, r < 6 → J r ≤ 100 := by
  obtain ⟨i0, iA, iQ, iJ, iP, iS, iK, iD⟩ := h
  obtain ⟨_, _, _, _, _, _, hl, _, _⟩ := i0
  intro r hr
  by_cases e : J r = 0
  · omega
  · by_cases h3 : r < 3
    · have := (iJ r h3 e).1; omega
    · have hk := iK (r - 3) (by omega)
      rw [show 3 + (r - 3) = r by omega] at hk
      by_cases h4 : r - 3 < kept
      · exact (hk.1 h4).2.1
      · exact absurd (hk.2 (by omega)) e
theorem ms_gd_lt {n c : Nat} (h5 : n ≤ 5) (g : ms_gd n c) : c < 25 := by
  have := g.1
  omega
theorem ms_gd_ft {n f t : Nat} (h5 : n ≤ 5) (hf : f < n) (ht : t < n) (hft : f ≠ t) : ms_gd n (f * 5 + t) := ⟨by omega, by omega, by omega⟩
theorem ms_Inv_b (h : ms_Inv (n, room, slots, up, last, kept, B0, D0, Q, J, root, par, fin, mI, rI, B, D, L, ST)) : ∀ c x, x ∈ Q c → x < 4000000 := by
  obtain ⟨i0, iA, iQ, iJ, iP, iS, iK, iD⟩ := h
  obtain ⟨_, h5, _, _, _, _, hl, _, _⟩ := i0
  intro c x hx
  by_cases g : ms_gd n c
  · rcases iQ.2 c x hx with h1 | ⟨s, hs, hJ, h1⟩
    · have h2 := ms_tot_L (B := B0) (L := fun c => ms_tk (Q c)) (ms_gd_lt h5 g) (ms_tk_m _ _ hx h1)
      have h3 := iA.2.2.2
      omega
    · have := (iJ s hs hJ).1
      omega
  · rw [iQ.1 c g] at hx
    exact absurd hx (List.not_mem_nil)
theorem ms_Inv_L (h : ms_Inv (n, room, slots, up, last, kept, B0, D0, Q, J, root, par, fin, mI, rI, B, D, L, ST)) : ∀ s, s < 3 → J s ≠ 0 → ∀ c, L s c = ST s c ++ (if mI s c = true then [] else ms_bf ((J s - 1) * 4 + 2) (Q c)) := by
  obtain ⟨i0, iA, iQ, iJ, iP, iS, iK, iD⟩ := h
  intro s hs hJ c
  exact ((iS s hs hJ).2.1.2.2.2.2.2 c).1
theorem ms_Inv_L4 (h : ms_Inv (n, room, slots, up, last, kept, B0, D0, Q, J, root, par, fin, mI, rI, B, D, L, ST)) : ∀ s, s < 3 → J s ≠ 0 → ∀ c, (L s c).length ≤ 4 := by
  obtain ⟨i0, iA, iQ, iJ, iP, iS, iK, iD⟩ := h
  intro s hs hJ c
  have := (iS s hs hJ).1.2.2.1 c
  have := i0.2.2.2.1
  omega
theorem ms_SI_ct {k root : Nat} {par : Nat → Nat} {fin mI rI : Nat → Bool} {B : Nat → Nat} {D : Nat → Int32} {L ST : Nat → List Nat} {c : Nat} (h : ms_SI n k root Q B0 D0 par fin mI rI B D L ST) (g : ms_gd n c) : ms_ct (k * 4 + 2) (Q c) ≤ 1 ∧ ms_ct (k * 4 + 3) (Q c) ≤ 1 := by
  obtain ⟨hT, hM, hR, hF, hC⟩ := h
  refine ⟨?_, ?_⟩
  · have hm := hM c g
    by_cases e : par (c / 5) = 0
    · rw [(hm.1 e).1]; exact Nat.zero_le _
    · rw [hm.2 e]
      by_cases e2 : mI c = true
      · rw [if_pos e2]; exact Nat.zero_le _
      · rw [if_neg e2]; exact Nat.le_refl _
  · rw [(hR c g).1]
    by_cases e2 : fin (c / 5) = true ∧ par (c / 5) = c % 5 + 1 ∧ rI c = false
    · rw [if_pos e2]; exact Nat.le_refl _
    · rw [if_neg e2]; exact Nat.zero_le _
/-- capacity: one item of the ten is still wanting -/
theorem ms_Inv_cap (h : ms_Inv (n, room, slots, up, last, kept, B0, D0, Q, J, root, par, fin, mI, rI, B, D, L, ST)) {c : Nat} (g : ms_gd n c) (hw : (ms_tk (Q c)).length < 4 ∨ ∃ s, s < 3 ∧ (J s = 0 ∨ ms_ct ((J s - 1) * 4 + 2) (Q c) = 0 ∨ ms_ct ((J s - 1) * 4 + 3) (Q c) = 0)) : (Q c).length < 10 := by
  obtain ⟨i0, iA, iQ, iJ, iP, iS, iK, iD⟩ := h
  have h1 := ms_len J (Q c) (iQ.2 c)
  have h2 : (ms_tk (Q c)).length ≤ 4 := by
    have : (ms_tk (Q c)).length ≤ room := iA.2.2.1 c
    have := i0.2.2.2.1
    omega
  have hs : ∀ s, s < 3 → (if J s = 0 then 0 else ms_ct ((J s - 1) * 4 + 2) (Q c) + ms_ct ((J s - 1) * 4 + 3) (Q c)) ≤ 2 := by
    intro s hs
    by_cases e : J s = 0
    · rw [if_pos e]; omega
    · rw [if_neg e]
      have := ms_SI_ct (iS s hs e).2.1 g
      omega
  have hs1 : ∀ s, s < 3 → (J s = 0 ∨ ms_ct ((J s - 1) * 4 + 2) (Q c) = 0 ∨ ms_ct ((J s - 1) * 4 + 3) (Q c) = 0) → (if J s = 0 then 0 else ms_ct ((J s - 1) * 4 + 2) (Q c) + ms_ct ((J s - 1) * 4 + 3) (Q c)) ≤ 1 := by
    intro s hs hh
    by_cases e : J s = 0
    · rw [if_pos e]; omega
    · rw [if_neg e]
      have := ms_SI_ct (iS s hs e).2.1 g
      omega
  have a0 := hs 0 (by omega)
  have a1 := hs 1 (by omega)
  have a2 := hs 2 (by omega)
  rcases hw with hw | ⟨s, h3, hw⟩
  · omega
  · have hb := hs1 s h3 hw
    have hcs : s = 0 ∨ s = 1 ∨ s = 2 := by omega
    rcases hcs with rfl | rfl | rfl
    · omega
    · omega
    · omega
theorem ms_fg_pop {k c x : Nat} {tl : List Nat} (hx : ¬ x % 4 = 1) (h2 : x ≠ k * 4 + 2) (h3 : x ≠ k * 4 + 3) (eQ : Q c = x :: tl) : ∀ c', ms_ct (k * 4 + 2) (ms_set Q c tl c') = ms_ct (k * 4 + 2) (Q c') ∧ ms_ct (k * 4 + 3) (ms_set Q c tl c') = ms_ct (k * 4 + 3) (Q c') ∧ ms_bf (k * 4 + 2) (ms_set Q c tl c') = ms_bf (k * 4 + 2) (Q c') := by
  intro c'
  by_cases e : c' = c
  · subst e
    rw [ms_set_s, eQ, ms_ct_cn h2, ms_ct_cn h3, ms_bf_c0 h2 hx]; exact ⟨rfl, rfl, rfl⟩
  · rw [ms_set_n e]; exact ⟨rfl, rfl, rfl⟩
theorem ms_fg_push {k c x : Nat} (hx : ¬ x % 4 = 1) (h2 : x ≠ k * 4 + 2) (h3 : x ≠ k * 4 + 3) : ∀ c', ms_ct (k * 4 + 2) (ms_set Q c (Q c ++ [x]) c') = ms_ct (k * 4 + 2) (Q c') ∧ ms_ct (k * 4 + 3) (ms_set Q c (Q c ++ [x]) c') = ms_ct (k * 4 + 3) (Q c') ∧ ms_bf (k * 4 + 2) (ms_set Q c (Q c ++ [x]) c') = ms_bf (k * 4 + 2) (Q c') := by
  intro c'
  by_cases e : c' = c
  · subst e
    rw [ms_set_s, ms_ct_an h2, ms_ct_an h3, ms_bf_an hx]; exact ⟨rfl, rfl, rfl⟩
  · rw [ms_set_n e]; exact ⟨rfl, rfl, rfl⟩
theorem ms_fg_jq {k p x : Nat} (hx : ¬ x % 4 = 1) (h2 : x ≠ k * 4 + 2) (h3 : x ≠ k * 4 + 3) : ∀ c', ms_ct (k * 4 + 2) (ms_jq n p x Q c') = ms_ct (k * 4 + 2) (Q c') ∧ ms_ct (k * 4 + 3) (ms_jq n p x Q c') = ms_ct (k * 4 + 3) (Q c') ∧ ms_bf (k * 4 + 2) (ms_jq n p x Q c') = ms_bf (k * 4 + 2) (Q c') := by
  intro c'
  by_cases e : c' / 5 = p ∧ c' % 5 < n ∧ c' % 5 ≠ p
  · rw [ms_jq_y e, ms_ct_an h2, ms_ct_an h3, ms_bf_an hx]; exact ⟨rfl, rfl, rfl⟩
  · rw [ms_jq_n e]; exact ⟨rfl, rfl, rfl⟩
theorem ms_tk_pop {c x : Nat} {tl : List Nat} (hx : ¬ x % 4 = 1) (eQ : Q c = x :: tl) : (fun c' => ms_tk (ms_set Q c tl c')) = fun c' => ms_tk (Q c') := by
  funext c'
  by_cases e : c' = c
  · subst e; rw [ms_set_s, eQ, ms_tk_c0 hx]
  · rw [ms_set_n e]
theorem ms_tk_push {c x : Nat} (hx : ¬ x % 4 = 1) : (fun c' => ms_tk (ms_set Q c (Q c ++ [x]) c')) = fun c' => ms_tk (Q c') := by
  funext c'
  by_cases e : c' = c
  · subst e; rw [ms_set_s, ms_tk_a0 hx]
  · rw [ms_set_n e]
theorem ms_tk_jq {p x : Nat} (hx : ¬ x % 4 = 1) : (fun c' => ms_tk (ms_jq n p x Q c')) = fun c' => ms_tk (Q c') := by
  funext c'
  by_cases e : c' / 5 = p ∧ c' % 5 < n ∧ c' % 5 ≠ p
  · rw [ms_jq_y e, ms_tk_a0 hx]
  · rw [ms_jq_n e]
theorem ms_IQ_pop {c x : Nat} {tl : List Nat} (h : ms_IQ n Q J) (eQ : Q c = x :: tl) : ms_IQ n (ms_set Q c tl) J := by
  refine ⟨fun c' g => ?_, fun c' y hy => ?_⟩
  · by_cases e : c' = c
    · subst e
      have := h.1 c' g
      rw [eQ] at this
      exact absurd this (by simp)
    · rw [ms_set_n e]; exact h.1 c' g
  · by_cases e : c' = c
    · subst e
      rw [ms_set_s] at hy
      exact h.2 c' y (by rw [eQ]; exact List.mem_cons_of_mem _ hy)
    · rw [ms_set_n e] at hy; exact h.2 c' y hy
theorem ms_IQ_push {c x : Nat} (h : ms_IQ n Q J) (g : ms_gd n c) (hx : x % 4 = 1 ∨ ∃ s, s < 3 ∧ J s ≠ 0 ∧ (x = (J s - 1) * 4 + 2 ∨ x = (J s - 1) * 4 + 3)) : ms_IQ n (ms_set Q c (Q c ++ [x])) J := by
  refine ⟨fun c' g' => ?_, fun c' y hy => ?_⟩
  · by_cases e : c' = c
    · subst e; exact absurd g g'
    · rw [ms_set_n e]; exact h.1 c' g'
  · by_cases e : c' = c
    · subst e
      rw [ms_set_s] at hy
      rcases List.mem_append.mp hy with hy | hy
      · exact h.2 c' y hy
      · rw [List.mem_singleton] at hy; subst hy; exact hx
    · rw [ms_set_n e] at hy; exact h.2 c' y hy
theorem ms_IQ_jq {p x : Nat} (h : ms_IQ n Q J) (hp : p < n) (hx : x % 4 = 1 ∨ ∃ s, s < 3 ∧ J s ≠ 0 ∧ (x = (J s - 1) * 4 + 2 ∨ x = (J s - 1) * 4 + 3)) : ms_IQ n (ms_jq n p x Q) J := by
  refine ⟨fun c' g' => ?_, fun c' y hy => ?_⟩
  · rw [ms_jq_n (fun z => g' ⟨by omega, z.2.1, by omega⟩)]; exact h.1 c' g'
  · by_cases e : c' / 5 = p ∧ c' % 5 < n ∧ c' % 5 ≠ p
    · rw [ms_jq_y e] at hy
      rcases List.mem_append.mp hy with hy | hy
      · exact h.2 c' y hy
      · rw [List.mem_singleton] at hy; subst hy; exact hx
    · rw [ms_jq_n e] at hy; exact h.2 c' y hy
section
variable {f t s x : Nat} {tl : List Nat}
theorem ms_Inv_mark0 (h : ms_Inv (n, room, slots, up, last, kept, B0, D0, Q, J, root, par, fin, mI, rI, B, D, L, ST)) (g : ms_gd n (f * 5 + t)) (ht : t < 5) (hs : s < 3) (h0 : J s ≠ 0) (eQ : Q (f * 5 + t) = ((J s - 1) * 4 + 2) :: tl) (hp : par s t ≠ 0) :
    ms_Inv (n, room, slots, up, last, kept, B0, D0, ms_set Q (f * 5 + t) tl, J, root, par, fin, ms_set mI s (ms_set (mI s) (f * 5 + t) true), rI, B, D, L, ST) := by
  obtain ⟨i0, iA, iQ, iJ, iP, iS, iK, iD⟩ := h
  refine ⟨i0, by rw [ms_tk_pop (by omega) eQ]; exact iA, ms_IQ_pop iQ eQ, iJ, iP, fun s' hs' hJ' => ?_, iK, iD⟩
  obtain ⟨a, b, c, d⟩ := iS s' hs' hJ'
  refine ⟨a, ?_⟩
  by_cases e : s' = s
  · subst e
    rw [ms_set_s]
    refine ⟨(ms_SI_mark b g eQ).2, fun c' g' hm => ?_, d⟩
    by_cases e2 : c' = f * 5 + t
    · rw [e2, show (f * 5 + t) % 5 = t by omega]; exact hp
    · rw [ms_set_n e2] at hm; exact c c' g' hm
  · rw [ms_set_n e]
    have hne := (iJ s hs h0).2 s' hs' e
    exact ⟨ms_SI_cong b (ms_fg_pop (by omega) (by omega) (by omega) eQ), c, d⟩
theorem ms_Inv_rep (h : ms_Inv (n, room, slots, up, last, kept, B0, D0, Q, J, root, par, fin, mI, rI, B, D, L, ST)) (g : ms_gd n (f * 5 + t)) (hs : s < 3) (h0 : J s ≠ 0) (eQ : Q (f * 5 + t) = ((J s - 1) * 4 + 3) :: tl) :
    ms_Inv (n, room, slots, up, last, kept, B0, D0, ms_set Q (f * 5 + t) tl, J, root, par, fin, mI, ms_set rI s (ms_set (rI s) (f * 5 + t) true), B, D, L, ST) := by
  obtain ⟨i0, iA, iQ, iJ, iP, iS, iK, iD⟩ := h
  refine ⟨i0, by rw [ms_tk_pop (by omega) eQ]; exact iA, ms_IQ_pop iQ eQ, iJ, iP, fun s' hs' hJ' => ?_, iK, iD⟩
  obtain ⟨a, b, c, d⟩ := iS s' hs' hJ'
  refine ⟨a, ?_⟩
  by_cases e : s' = s
  · subst e
    rw [ms_set_s]
    exact ⟨ms_SI_rep b g eQ, c, d⟩
  · rw [ms_set_n e]
    have hne := (iJ s hs h0).2 s' hs' e
    exact ⟨ms_SI_cong b (ms_fg_pop (by omega) (by omega) (by omega) eQ), c, d⟩
theorem ms_Inv_mark1 (h : ms_Inv (n, room, slots, up, last, kept, B0, D0, Q, J, root, par, fin, mI, rI, B, D, L, ST)) (hf : f < n) (ht : t < n) (hft : f ≠ t) (hs : s < 3) (h0 : J s ≠ 0) (eQ : Q (f * 5 + t) = ((J s - 1) * 4 + 2) :: tl) (hp : par s t = 0) :
    ms_Inv (n, room, slots, up, last, kept, B0, D0, ms_jq n t ((J s - 1) * 4 + 2) (ms_set Q (f * 5 + t) tl), J, root, ms_set par s (ms_set (par s) t (f + 1)), fin, ms_set mI s (ms_set (mI s) (f * 5 + t) true), rI, B, D, L, ST) := by
  obtain ⟨i0, iA, iQ, iJ, iP, iS, iK, iD⟩ := h
  have h5 := i0.2.1
  have g := ms_gd_ft h5 hf ht hft
  refine ⟨i0, by rw [ms_tk_jq (by omega), ms_tk_pop (by omega) eQ]; exact iA, ms_IQ_jq (ms_IQ_pop iQ eQ) ht (Or.inr ⟨s, hs, h0, Or.inl rfl⟩), iJ, fun s' p' hs' hp' => ?_, fun s' hs' hJ' => ?_, iK, iD⟩
  · by_cases e : s' = s
    · subst e
      rw [ms_set_s]
      by_cases e2 : p' = t
      · rw [e2, ms_set_s]; omega
      · rw [ms_set_n e2]; exact iP s' p' hs' hp'
    · rw [ms_set_n e]; exact iP s' p' hs' hp'
  · obtain ⟨a, b, c, hr, d⟩ := iS s' hs' hJ'
    refine ⟨a, ?_⟩
    by_cases e : s' = s
    · subst e
      rw [ms_set_s, ms_set_s]
      obtain ⟨b1, b2⟩ := ms_SI_mark b g eQ
      rw [show (f * 5 + t) / 5 = f by omega] at b1
      have hrt : t ≠ root s' := fun z => by rw [z, d] at hp; exact absurd hp (Nat.succ_ne_zero _)
      refine ⟨ms_SI_join b2 ht hp (Or.inr ⟨hf, hft, b1⟩) h5, fun c' g' hm => ?_, hr, by rw [ms_set_n (fun z => hrt z.symm)]; exact d⟩
      by_cases e3 : c' % 5 = t
      · rw [e3, ms_set_s]; exact Nat.succ_ne_zero _
      · rw [ms_set_n e3]
        rw [ms_set_n (fun z => e3 (by rw [z]; omega))] at hm
        exact c c' g' hm
    · rw [ms_set_n e, ms_set_n e]
      have hne := (iJ s hs h0).2 s' hs' e
      exact ⟨ms_SI_cong (ms_SI_cong b (ms_fg_pop (by omega) (by omega) (by omega) eQ)) (ms_fg_jq (by omega) (by omega) (by omega)), c, hr, d⟩
theorem ms_Inv_fin {q : Nat} (h : ms_Inv (n, room, slots, up, last, kept, B0, D0, Q, J, root, par, fin, mI, rI, B, D, L, ST)) (ht : t < n) (hs : s < 3) (h0 : J s ≠ 0) (hth : ms_thr n (par s) (mI s) (rI s) t) (hrt : t ≠ root s) (hpar : par s t = q + 1) (hq : q < n) (hqt : q ≠ t) (hf : fin s t = false) :
    ms_Inv (n, room, slots, up, last, kept, B0, D0, ms_set Q (t * 5 + q) (Q (t * 5 + q) ++ [(J s - 1) * 4 + 3]), J, root, par, ms_set fin s (ms_set (fin s) t true), mI, rI, B, D, L, ST) := by
  obtain ⟨i0, iA, iQ, iJ, iP, iS, iK, iD⟩ := h
  have h5 := i0.2.1
  have g := ms_gd_ft h5 ht hq (fun z => hqt z.symm)
  refine ⟨i0, by rw [ms_tk_push (by omega)]; exact iA, ms_IQ_push iQ g (Or.inr ⟨s, hs, h0, Or.inr rfl⟩), iJ, iP, fun s' hs' hJ' => ?_, iK, iD⟩
  obtain ⟨a, b, c, d⟩ := iS s' hs' hJ'
  refine ⟨a, ?_⟩
  by_cases e : s' = s
  · subst e
    rw [ms_set_s]
    exact ⟨ms_SI_fin b ht hq hqt h5 hf hth hrt hpar, c, d⟩
  · rw [ms_set_n e]
    have hne := (iJ s hs h0).2 s' hs' e
    exact ⟨ms_SI_cong b (ms_fg_push (by omega) (by omega) (by omega)), c, d⟩
theorem ms_Inv_done (h : ms_Inv (n, room, slots, up, last, kept, B0, D0, Q, J, root, par, fin, mI, rI, B, D, L, ST)) (hs : s < 3) (h0 : J s ≠ 0) (hth : ms_thr n (par s) (mI s) (rI s) (root s)) :
    (∀ p, p < n → par s p ≠ 0) ∧ ms_Inv (n, room, slots, up, last, if kept < 3 then kept + 1 else kept, B0, D0, Q, ms_set (ms_sh3 J s) s 0, root, par, fin, mI, rI, ms_sh3 B s, ms_sh3 D s, ms_sh3 L s, ms_sh3 ST s) := by
  have hJb := ms_Inv_J h s (by omega)
  obtain ⟨i0, iA, iQ, iJ, iP, iS, iK, iD⟩ := h
  obtain ⟨n2, h5, r1, r4, s1, s3, hl, k1, k3⟩ := i0
  obtain ⟨aS, bS, cS, hrS, dS⟩ := iS s hs h0
  obtain ⟨hrec, hdone⟩ := ms_SI_done bS h5 hrS hth
  have hLS : ∀ c, ST s c = L s c := by
    intro c
    by_cases g : ms_gd n c
    · exact (hdone c g).2.2.symm
    · have h1 := (bS.2.2.2.2.2 c).1
      rw [aS.2.1 c g] at h1
      rw [aS.2.1 c g]
      exact (List.append_eq_nil_iff.mp h1.symm).1
  have hJ3 : ∀ s', s' < 3 → s' ≠ s → ms_set (ms_sh3 J s) s 0 s' = J s' := fun s' h1 h2 => by rw [ms_set_n h2, ms_sh3_o h1]
  refine ⟨hrec, ⟨n2, h5, r1, r4, s1, s3, hl, ?_, ?_⟩, iA, ⟨iQ.1, fun c x hx => ?_⟩, fun s' hs' hJ' => ?_, iP, fun s' hs' hJ' => ?_, fun i hi => ?_, fun hu s' hs' => ?_⟩
  · by_cases e : kept < 3
    · rw [if_pos e]; omega
    · rw [if_neg e]; omega
  · by_cases e : kept < 3
    · rw [if_pos e]; omega
    · rw [if_neg e]; omega
  · rcases iQ.2 c x hx with h1 | ⟨s', hs', hJ', h1⟩
    · exact Or.inl h1
    · by_cases e : s' = s
      · subst e
        by_cases g : ms_gd n c
        · have hd := hdone c g
          rcases h1 with h1 | h1
          · subst h1; exact absurd hd.1 (ms_ct_mem _ hx)
          · subst h1; exact absurd hd.2.1 (ms_ct_mem _ hx)
        · rw [iQ.1 c g] at hx; exact absurd hx (List.not_mem_nil)
      · exact Or.inr ⟨s', hs', by rw [hJ3 s' hs' e]; exact hJ', by rw [hJ3 s' hs' e]; exact h1⟩
  · have e : s' ≠ s := fun z => by rw [z, ms_set_s] at hJ'; exact hJ' rfl
    rw [hJ3 s' hs' e] at hJ' ⊢
    refine ⟨(iJ s' hs' hJ').1, fun s'' hs'' hne => ?_⟩
    by_cases e2 : s'' = s
    · rw [e2, ms_set_s]; exact fun z => hJ' z.symm
    · rw [hJ3 s'' hs'' e2]; exact (iJ s' hs' hJ').2 s'' hs'' hne
  · have e : s' ≠ s := fun z => by rw [z, ms_set_s] at hJ'; exact hJ' rfl
    rw [hJ3 s' hs' e] at hJ' ⊢
    rw [ms_sh3_o hs', ms_sh3_o hs', ms_sh3_o hs', ms_sh3_o hs']
    exact iS s' hs' hJ'
  · rw [ms_set_n (by omega)]
    have hcs : i = 0 ∨ i = 1 ∨ i = 2 := by omega
    rcases hcs with rfl | rfl | rfl
    · refine ⟨fun _ => ⟨h0, hJb, aS, hLS⟩, fun z => ?_⟩
      by_cases e : kept < 3
      · rw [if_pos e] at z; omega
      · rw [if_neg e] at z; omega
    · refine ⟨fun _ => iK 0 (by omega) |>.1 (by omega), fun z => ?_⟩
      by_cases e : kept < 3
      · rw [if_pos e] at z; omega
      · rw [if_neg e] at z; omega
    · refine ⟨fun z => (iK 1 (by omega)).1 ?_, fun z => (iK 1 (by omega)).2 ?_⟩
      · by_cases e : kept < 3
        · rw [if_pos e] at z; omega
        · omega
      · by_cases e : kept < 3
        · rw [if_pos e] at z; omega
        · rw [if_neg e] at z; omega
  · by_cases e : s' = s
    · rw [e, ms_set_s]
    · rw [hJ3 s' hs' e]; exact iD hu s' hs'
end
end
end
section
/-! the invariant: tokens sent and received -/
theorem ms_A_send {n room f c a b' : Nat} {B : Nat → Nat} {L : Nat → List Nat} (h : ms_A n room B L) (h5 : n ≤ 5) (g : ms_gd n c) (hf : f < n) (hb : b' + a = B f) (hl : (L c).length < room) : ms_A n room (ms_set B f b') (ms_set L c (L c ++ [a])) := by
  obtain ⟨h1, h2, h3, h4⟩ := h
  refine ⟨fun p hp hp5 => ?_, fun c' g' => ?_, fun c' => ?_, ?_⟩
  · rw [ms_set_n (by omega)]; exact h1 p hp hp5
  · have e : c' ≠ c := fun z => g' (by rw [z]; exact g)
    rw [ms_set_n e]; exact h2 c' g'
  · by_cases e : c' = c
    · rw [e, ms_set_s, List.length_append]
      show (L c).length + 1 ≤ room
      omega
    · rw [ms_set_n e]; exact h3 c'
  · rw [ms_tot_up (p := f) (c := c) (B := B) (L := L) (by omega) (ms_gd_lt h5 g) (fun j hj => ms_set_n hj) (fun j hj => ms_set_n hj) (by rw [ms_set_s, ms_set_s, ms_lsum_a]; omega)]
    exact h4
theorem ms_A_recv {n room t c a : Nat} {l : List Nat} {B : Nat → Nat} {L : Nat → List Nat} (h : ms_A n room B L) (h5 : n ≤ 5) (g : ms_gd n c) (ht : t < n) (hl : L c = a :: l) : ms_A n room (ms_set B t (B t + a)) (ms_set L c (L c).tail) := by
  obtain ⟨h1, h2, h3, h4⟩ := h
  refine ⟨fun p hp hp5 => ?_, fun c' g' => ?_, fun c' => ?_, ?_⟩
  · rw [ms_set_n (by omega)]; exact h1 p hp hp5
  · have e : c' ≠ c := fun z => g' (by rw [z]; exact g)
    rw [ms_set_n e]; exact h2 c' g'
  · by_cases e : c' = c
    · have := h3 c
      rw [e, ms_set_s, hl]
      rw [hl, List.length_cons] at this
      show l.length ≤ room
      omega
    · rw [ms_set_n e]; exact h3 c'
  · rw [ms_tot_up (p := t) (c := c) (B := B) (L := L) (by omega) (ms_gd_lt h5 g) (fun j hj => ms_set_n hj) (fun j hj => ms_set_n hj) (by
      rw [ms_set_s, ms_set_s, hl]
      show B t + a + ms_lsum l = B t + (a + ms_lsum l)
      omega)]
    exact h4
section
variable {n : Nat} {room : Nat} {slots : Nat} {up : Bool} {last : Nat} {kept : Nat} {B0 : Nat → Nat} {D0 : Nat → Int32} {Q : Nat → List Nat} {J : Nat → Nat} {root : Nat → Nat} {par : Nat → Nat → Nat} {fin : Nat → Nat → Bool} {mI : Nat → Nat → Bool} {rI : Nat → Nat → Bool} {B : Nat → Nat → Nat} {D : Nat → Nat → Int32} {L : Nat → Nat → List Nat} {ST : Nat → Nat → List Nat} {f t a : Nat}
theorem ms_Inv_send (h : ms_Inv (n, room, slots, up, last, kept, B0, D0, Q, J, root, par, fin, mI, rI, B, D, L, ST)) (hu : up = true) (hf : f < n) (ht : t < n) (hft : f ≠ t) (hba : a ≤ B0 f) (hl : (ms_tk (Q (f * 5 + t))).length < room)
    (hbl : ∀ s, s < 3 → ¬ (J s ≠ 0 ∧ par s f = 0 ∧ room ≤ (L s (f * 5 + t)).length)) :
    ms_Inv (n, room, slots, up, last, kept, ms_set B0 f (B0 f - a), ms_set D0 f (D0 f * 31 + (nI a * 16 + nI t)), ms_set Q (f * 5 + t) (Q (f * 5 + t) ++ [a * 4 + 1]), J, root, par, fin, mI, rI, ms_pt 3 (fun s => decide (J s ≠ 0 ∧ par s f = 0)) (fun s => ms_set (B s) f (B s f - a)) B, ms_pt 3 (fun s => decide (J s ≠ 0 ∧ par s f = 0)) (fun s => ms_set (D s) f (D s f * 31 + (nI a * 16 + nI t))) D, ms_pt 3 (fun s => decide (J s ≠ 0 ∧ par s f = 0)) (fun s => ms_set (L s) (f * 5 + t) (L s (f * 5 + t) ++ [a])) L, ST) := by
  obtain ⟨i0, iA, iQ, iJ, iP, iS, iK, iD⟩ := h
  have h5 := i0.2.1
  have g := ms_gd_ft h5 hf ht hft
  have d1 : (f * 5 + t) / 5 = f := by omega
  refine ⟨i0, ?_, ms_IQ_push iQ g (Or.inl (by omega)), iJ, iP, fun s hs hJ => ?_, fun i hi => ?_, iD⟩
  · have hq : (fun c => ms_tk (ms_set Q (f * 5 + t) (Q (f * 5 + t) ++ [a * 4 + 1]) c)) = ms_set (fun c => ms_tk (Q c)) (f * 5 + t) (ms_tk (Q (f * 5 + t)) ++ [a]) := by
      funext c
      by_cases e : c = f * 5 + t
      · subst e
        rw [ms_set_s, ms_set_s, ms_tk_a1 (by omega), show (a * 4 + 1) / 4 = a by omega]
      · rw [ms_set_n e, ms_set_n e]
    rw [hq]
    exact ms_A_send iA h5 g hf (by omega) hl
  · obtain ⟨hA, b, c, d⟩ := iS s hs hJ
    by_cases e : par s f = 0
    · have hP : (fun s => decide (J s ≠ 0 ∧ par s f = 0)) s = true := decide_eq_true ⟨hJ, e⟩
      rw [ms_pt_y hs hP, ms_pt_y hs hP, ms_pt_y hs hP]
      have hc := b.2.2.2.2.1 f hf e
      have hlen : (L s (f * 5 + t)).length < room := by
        have := hbl s hs
        refine Nat.lt_of_not_le (fun z => this ⟨hJ, e, z⟩)
      have hsi := ms_SI_send0 (a := a) (b' := B0 f - a) (d' := D0 f * 31 + (nI a * 16 + nI t)) b g (by rw [d1]; exact e)
      rw [d1] at hsi
      rw [hc.1, hc.2]
      exact ⟨ms_A_send hA h5 g hf (by rw [hc.1]; omega) hlen, hsi, c, d⟩
    · have hP : (fun s => decide (J s ≠ 0 ∧ par s f = 0)) s = false := decide_eq_false (fun z => e z.2)
      rw [ms_pt_n hP, ms_pt_n hP, ms_pt_n hP]
      have hsi := ms_SI_send1 (a := a) (b' := B0 f - a) (d' := D0 f * 31 + (nI a * 16 + nI t)) b g (by rw [d1]; exact e)
      rw [d1] at hsi
      exact ⟨hA, hsi, c, d⟩
  · rw [ms_pt_g (by omega), ms_pt_g (by omega)]
    exact iK i hi
theorem ms_Inv_recv {tl : List Nat} (h : ms_Inv (n, room, slots, up, last, kept, B0, D0, Q, J, root, par, fin, mI, rI, B, D, L, ST)) (hf : f < n) (ht : t < n) (hft : f ≠ t) (eQ : Q (f * 5 + t) = (a * 4 + 1) :: tl) :
    (∀ s, s < 3 → J s ≠ 0 → par s t = 0 → ∃ l, L s (f * 5 + t) = a :: l) ∧ (∀ s, s < 3 → J s ≠ 0 → par s t ≠ 0 → mI s (f * 5 + t) = false → (ST s (f * 5 + t)).length < 4) ∧
    ms_Inv (n, room, slots, up, last, kept, ms_set B0 t (B0 t + a), ms_set D0 t (D0 t * 31 + (nI a * 16 + 8 + nI f)), ms_set Q (f * 5 + t) tl, J, root, par, fin, mI, rI, ms_pt 3 (fun s => decide (J s ≠ 0 ∧ par s t = 0)) (fun s => ms_set (B s) t (B s t + a)) B, ms_pt 3 (fun s => decide (J s ≠ 0 ∧ par s t = 0)) (fun s => ms_set (D s) t (D s t * 31 + (nI a * 16 + 8 + nI f))) D, ms_pt 3 (fun s => decide (J s ≠ 0 ∧ par s t = 0)) (fun s => ms_set (L s) (f * 5 + t) (L s (f * 5 + t)).tail) L, ms_pt 3 (fun s => decide (J s ≠ 0 ∧ par s t ≠ 0 ∧ mI s (f * 5 + t) = false)) (fun s => ms_set (ST s) (f * 5 + t) (ST s (f * 5 + t) ++ [a])) ST) := by
  obtain ⟨i0, iA, iQ, iJ, iP, iS, iK, iD⟩ := h
  have h5 := i0.2.1
  have g := ms_gd_ft h5 hf ht hft
  have d1 : (f * 5 + t) % 5 = t := by omega
  refine ⟨fun s hs hJ hp => ?_, fun s hs hJ hp hm => ?_, i0, ?_, ms_IQ_pop iQ eQ, iJ, iP, fun s hs hJ => ?_, fun i hi => ?_, iD⟩
  · obtain ⟨hA, b, c, d⟩ := iS s hs hJ
    exact (ms_SI_recv0 (b' := 0) (d' := 0) b c g eQ (by rw [d1]; exact hp)).1
  · obtain ⟨hA, b, c, d⟩ := iS s hs hJ
    have h1 := (ms_SI_recv1 (b' := 0) (d' := 0) b g eQ (by rw [d1]; exact hp) hm).1
    have h2 := hA.2.2.1 (f * 5 + t)
    have h3 := i0.2.2.2.1
    omega
  · have hq : (fun c => ms_tk (ms_set Q (f * 5 + t) tl c)) = ms_set (fun c => ms_tk (Q c)) (f * 5 + t) (ms_tk (Q (f * 5 + t))).tail := by
      funext c
      by_cases e : c = f * 5 + t
      · subst e
        rw [ms_set_s, ms_set_s, eQ, ms_tk_c1 (by omega)]; rfl
      · rw [ms_set_n e, ms_set_n e]
    rw [hq]
    exact ms_A_recv iA h5 g ht (l := ms_tk tl) (by
      show ms_tk (Q (f * 5 + t)) = _
      rw [eQ, ms_tk_c1 (by omega), show (a * 4 + 1) / 4 = a by omega])
  · obtain ⟨hA, b, c, d⟩ := iS s hs hJ
    by_cases e : par s t = 0
    · have hP : (fun s => decide (J s ≠ 0 ∧ par s t = 0)) s = true := decide_eq_true ⟨hJ, e⟩
      have hP2 : (fun s => decide (J s ≠ 0 ∧ par s t ≠ 0 ∧ mI s (f * 5 + t) = false)) s = false := decide_eq_false (fun z => z.2.1 e)
      rw [ms_pt_y hs hP, ms_pt_y hs hP, ms_pt_y hs hP, ms_pt_n hP2]
      have hc := b.2.2.2.2.1 t ht e
      obtain ⟨⟨l, hl⟩, hsi⟩ := ms_SI_recv0 (b' := B0 t + a) (d' := D0 t * 31 + (nI a * 16 + 8 + nI f)) b c g eQ (by rw [d1]; exact e)
      rw [d1] at hsi
      have hA' := ms_A_recv hA h5 g ht hl
      rw [hc.1] at hA'
      rw [hc.1, hc.2]
      exact ⟨hA', hsi, c, d⟩
    · have hP : (fun s => decide (J s ≠ 0 ∧ par s t = 0)) s = false := decide_eq_false (fun z => e z.2)
      rw [ms_pt_n hP, ms_pt_n hP, ms_pt_n hP]
      refine ⟨hA, ?_⟩
      cases em : mI s (f * 5 + t) with
      | false =>
        have hP2 : (fun s => decide (J s ≠ 0 ∧ par s t ≠ 0 ∧ mI s (f * 5 + t) = false)) s = true := decide_eq_true ⟨hJ, e, em⟩
        rw [ms_pt_y hs hP2]
        have hsi := (ms_SI_recv1 (b' := B0 t + a) (d' := D0 t * 31 + (nI a * 16 + 8 + nI f)) b g eQ (by rw [d1]; exact e) em).2
        rw [d1] at hsi
        exact ⟨hsi, c, d⟩
      | true =>
        have hP2 : (fun s => decide (J s ≠ 0 ∧ par s t ≠ 0 ∧ mI s (f * 5 + t) = false)) s = false := decide_eq_false (fun z => by rw [em] at z; exact absurd z.2.2 (by decide))
        rw [ms_pt_n hP2]
        have hsi := ms_SI_recv2 (b' := B0 t + a) (d' := D0 t * 31 + (nI a * 16 + 8 + nI f)) b g eQ (by rw [d1]; exact e) em
        rw [d1] at hsi
        exact ⟨hsi, c, d⟩
  · rw [ms_pt_g (by omega), ms_pt_g (by omega), ms_pt_g (by omega)]
    exact iK i hi
end
end
section
/-! one delivery, both sides, one outcome -/
def ms_un (A : ms_S) : Nat := A.1
def ms_uu (A : ms_S) : Bool := A.2.2.2.1
def ms_uQ (A : ms_S) : Nat → List Nat := A.2.2.2.2.2.2.2.2.1
def ms_RY0 (A : ms_S) (v : SY) : Prop := ms_RY A (fun c => ms_tk (ms_uQ A c)) v
theorem ms_tk_recv {Q : Nat → List Nat} {c a : Nat} {tl : List Nat} (eQ : Q c = (a * 4 + 1) :: tl) : (fun c' => ms_tk (ms_set Q c tl c')) = ms_set (fun c' => ms_tk (Q c')) c (ms_tk (Q c)).tail := by
  funext c'
  by_cases e : c' = c
  · subst e
    rw [ms_set_s, ms_set_s, eQ, ms_tk_c1 (by omega)]; rfl
  · rw [ms_set_n e, ms_set_n e]
section
variable {n : Nat} {room : Nat} {slots : Nat} {up : Bool} {last : Nat} {kept : Nat} {B0 : Nat → Nat} {D0 : Nat → Int32} {Q : Nat → List Nat} {J : Nat → Nat} {root : Nat → Nat} {par : Nat → Nat → Nat} {fin : Nat → Nat → Bool} {mI : Nat → Nat → Bool} {rI : Nat → Nat → Bool} {B : Nat → Nat → Nat} {D : Nat → Nat → Int32} {L : Nat → Nat → List Nat} {ST : Nat → Nat → List Nat}
/-- Y's picture doesn't see what X alone keeps -/
theorem ms_RY_to {root' : Nat → Nat} {mI' rI' : Nat → Nat → Bool} {ST' : Nat → Nat → List Nat} {L0 L1 : Nat → List Nat} {v : SY} (H : ms_RY (n, room, slots, up, last, kept, B0, D0, Q, J, root, par, fin, mI, rI, B, D, L, ST) L0 v) (e : L0 = L1) : ms_RY (n, room, slots, up, last, kept, B0, D0, Q, J, root', par, fin, mI', rI', B, D, L, ST') L1 v := by
  obtain ⟨f_n, f_room, f_slots, f_up, f_last, f_kept, a_ids, a_bal, a_dig, a_len, a_amt, a_par, a_reported, a_count, a_queue⟩ := v
  obtain ⟨h1, h2, h3, h4, h5, h6⟩ := H
  subst e
  exact ⟨h1, h2, h3, h4, h5, h6⟩
/-- settling: outcome r and state A' -/
theorem ms_settle {s t : Nat} {x5 : Int32} (h : ms_Inv (n, room, slots, up, last, kept, B0, D0, Q, J, root, par, fin, mI, rI, B, D, L, ST)) (hs : s < 3) (h0 : J s ≠ 0) (ht : t < n) (hx5 : x5 = 2 ∨ x5 = 3) :
    ∃ (r : Int32) (A' : ms_S), 0 < r ∧ ms_Inv A' ∧ ms_un A' = n ∧ ms_uu A' = up ∧
      (∀ (u : SX) (post : Int32 → SX → Prop), ms_RX (n, room, slots, up, last, kept, B0, D0, Q, J, root, par, fin, mI, rI, B, D, L, ST) u → (∀ u', ms_RX A' u' → post r u') → ms_x114 post t s x5 u) ∧
      (∀ (v : SY) (post : Int32 → SY → Prop), ms_RY0 (n, room, slots, up, last, kept, B0, D0, Q, J, root, par, fin, mI, rI, B, D, L, ST) v → (∀ v', ms_RY0 A' v' → post r v') → ms_y219 post t s (J s - 1) x5 v) := by
  have hJb := ms_Inv_J h s (by omega)
  have hb := ms_Inv_b h
  have hcap := @ms_Inv_cap n room slots up last kept B0 D0 Q J root par fin mI rI B D L ST h
  have hfin := @ms_Inv_fin n room slots up last kept B0 D0 Q J root par fin mI rI B D L ST
  have hdone := @ms_Inv_done n room slots up last kept B0 D0 Q J root par fin mI rI B D L ST
  obtain ⟨i0, iA, iQ, iJ, iP, iS, iK, iD⟩ := id h
  obtain ⟨n2, h5, r1, r4, s1, s3, hl, k1, k3⟩ := i0
  obtain ⟨aS, bS, cS, hrS, dS⟩ := iS s hs h0
  have hthe := ms_SI_thY bS h5 ht
  have hpos : 0 < x5 := by rcases hx5 with e | e <;> rw [e] <;> decide
  by_cases hth : ms_thr n (par s) (mI s) (rI s) t
  · have hthy := hthe.mp hth
    by_cases hr : root s = t
    · have hd := hdone h hs h0 (by rw [hr]; exact hth)
      refine ⟨4, _, by decide, hd.2, rfl, rfl, fun u post H K => ?_, fun v post H K => ?_⟩
      · obtain ⟨f_n, f_room, f_slots, f_up, f_last, f_keptCount, a_liveBalance, a_liveDigest, a_ring, a_head, a_count, a_tokens, a_rootOf, a_parentOf, a_finished, a_markerIn, a_reportIn, a_recId, a_recBalance, a_recDigest, a_recLength, a_recAmount⟩ := u
        unfold ms_x114 wX_deliverHead_114
        refine ms_x_settle_c H hs ht h5 iP h0 hr hth k1 k3 (fun i hi hk => (iK i hi).2 hk) hd.1 (fun u' H' => ?_)
        obtain ⟨z0, z1, z2, z3, z4, z5, z6, z7, z8, z9, z10, z11, z12, z13, z14, z15, z16, z17, z18, z19, z20, z21⟩ := u'
        exact br_f (by decide) (K _ H')
      · obtain ⟨f_n, f_room, f_slots, f_up, f_last, f_kept, a_ids, a_bal, a_dig, a_len, a_amt, a_par, a_reported, a_count, a_queue⟩ := v
        replace H : ms_RY (n, room, slots, up, last, kept, B0, D0, Q, J, root, par, fin, mI, rI, B, D, L, ST) (fun c => ms_tk (Q c)) (f_n, f_room, f_slots, f_up, f_last, f_kept, a_ids, a_bal, a_dig, a_len, a_amt, a_par, a_reported, a_count, a_queue) := H
        exact ms_y_219c H hs ht h5 h0 hJb k3 hb iP hthy (by rw [← hr]; exact dS) (fun v' H' => K _ (ms_RY_to H' rfl))
    · obtain ⟨rk, hT⟩ := bS.1
      obtain ⟨q, hq, hqt, hpar, _, _⟩ := hT t ht hth.1 (fun z => hr z.symm)
      cases hf : fin s t with
      | true =>
        refine ⟨x5, _, hpos, h, rfl, rfl, fun u post H K => ?_, fun v post H K => ?_⟩
        · obtain ⟨f_n, f_room, f_slots, f_up, f_last, f_keptCount, a_liveBalance, a_liveDigest, a_ring, a_head, a_count, a_tokens, a_rootOf, a_parentOf, a_finished, a_markerIn, a_reportIn, a_recId, a_recBalance, a_recDigest, a_recLength, a_recAmount⟩ := u
          unfold ms_x114 wX_deliverHead_114
          exact ms_x_settle_f H hs ht h5 iP h0 hrS hr hf (br_t rfl (K _ H))
        · obtain ⟨f_n, f_room, f_slots, f_up, f_last, f_kept, a_ids, a_bal, a_dig, a_len, a_amt, a_par, a_reported, a_count, a_queue⟩ := v
          replace H : ms_RY (n, room, slots, up, last, kept, B0, D0, Q, J, root, par, fin, mI, rI, B, D, L, ST) (fun c => ms_tk (Q c)) (f_n, f_room, f_slots, f_up, f_last, f_kept, a_ids, a_bal, a_dig, a_len, a_amt, a_par, a_reported, a_count, a_queue) := H
          exact ms_y_219f H hs ht h5 h0 hJb hb iP hpar hqt hf (K _ H)
      | false =>
        have g := ms_gd_ft h5 ht hq (fun z => hqt z.symm)
        have hw : ms_ct ((J s - 1) * 4 + 3) (Q (t * 5 + q)) = 0 := by
          rw [(bS.2.2.1 _ g).1, if_neg]
          rw [show (t * 5 + q) / 5 = t by omega, hf]
          exact fun z => absurd z.1 (by decide)
        have hlen := hcap g (Or.inr ⟨s, hs, Or.inr (Or.inr hw)⟩)
        refine ⟨x5, _, hpos, hfin h ht hs h0 hth (fun z => hr z.symm) hpar hq hqt hf, rfl, rfl, fun u post H K => ?_, fun v post H K => ?_⟩
        · obtain ⟨f_n, f_room, f_slots, f_up, f_last, f_keptCount, a_liveBalance, a_liveDigest, a_ring, a_head, a_count, a_tokens, a_rootOf, a_parentOf, a_finished, a_markerIn, a_reportIn, a_recId, a_recBalance, a_recDigest, a_recLength, a_recAmount⟩ := u
          unfold ms_x114 wX_deliverHead_114
          refine ms_x_settle_a H hs ht h5 iP h0 hJb hrS hr hth hpar hq hf hlen (fun u' H' => ?_)
          obtain ⟨z0, z1, z2, z3, z4, z5, z6, z7, z8, z9, z10, z11, z12, z13, z14, z15, z16, z17, z18, z19, z20, z21⟩ := u'
          exact br_t rfl (K _ H')
        · obtain ⟨f_n, f_room, f_slots, f_up, f_last, f_kept, a_ids, a_bal, a_dig, a_len, a_amt, a_par, a_reported, a_count, a_queue⟩ := v
          replace H : ms_RY (n, room, slots, up, last, kept, B0, D0, Q, J, root, par, fin, mI, rI, B, D, L, ST) (fun c => ms_tk (Q c)) (f_n, f_room, f_slots, f_up, f_last, f_kept, a_ids, a_bal, a_dig, a_len, a_amt, a_par, a_reported, a_count, a_queue) := H
          refine ms_y_219a H hs ht h5 h0 hJb hb iP hthy hpar hqt hq hf hlen (fun v' H' => K _ ?_)
          refine ms_RY_to H' ?_
          exact (ms_tk_push (by omega)).symm
  · refine ⟨x5, _, hpos, h, rfl, rfl, fun u post H K => ?_, fun v post H K => ?_⟩
    · obtain ⟨f_n, f_room, f_slots, f_up, f_last, f_keptCount, a_liveBalance, a_liveDigest, a_ring, a_head, a_count, a_tokens, a_rootOf, a_parentOf, a_finished, a_markerIn, a_reportIn, a_recId, a_recBalance, a_recDigest, a_recLength, a_recAmount⟩ := u
      unfold ms_x114 wX_deliverHead_114
      exact ms_x_settle_n H hs ht h5 iP hth (br_t rfl (K _ H))
    · obtain ⟨f_n, f_room, f_slots, f_up, f_last, f_kept, a_ids, a_bal, a_dig, a_len, a_amt, a_par, a_reported, a_count, a_queue⟩ := v
      replace H : ms_RY (n, room, slots, up, last, kept, B0, D0, Q, J, root, par, fin, mI, rI, B, D, L, ST) (fun c => ms_tk (Q c)) (f_n, f_room, f_slots, f_up, f_last, f_kept, a_ids, a_bal, a_dig, a_len, a_amt, a_par, a_reported, a_count, a_queue) := H
      exact ms_y_219n H hs ht h5 h0 hJb hb iP (fun z => hth (hthe.mpr z)) (K _ H)
theorem ms_RY_pop {f_n f_room f_slots f_up f_last f_kept : Int32} {a_ids a_bal a_dig a_len a_amt a_par a_reported a_count a_queue : Nat → Int32} {L0 : Nat → List Nat} {c x : Nat} {tl : List Nat} (H : ms_RY (n, room, slots, up, last, kept, B0, D0, Q, J, root, par, fin, mI, rI, B, D, L, ST) L0 (f_n, f_room, f_slots, f_up, f_last, f_kept, a_ids, a_bal, a_dig, a_len, a_amt, a_par, a_reported, a_count, a_queue)) (hc : c < 25) (eQ : Q c = x :: tl) : ms_RY (n, room, slots, up, last, kept, B0, D0, ms_set Q c tl, J, root, par, fin, mI, rI, B, D, L, ST) L0 (f_n, f_room, f_slots, f_up, f_last, f_kept, a_ids, a_bal, a_dig, a_len, a_amt, a_par, a_reported, upd a_count c (nI tl.length), ms_shf a_queue (c * 10) tl.length) := by
  obtain ⟨h1, hQ, h3⟩ := H
  exact ⟨h1, ms_QY_pop hQ hc eQ, h3⟩
theorem ms_deliver {f t : Nat} (h : ms_Inv (n, room, slots, up, last, kept, B0, D0, Q, J, root, par, fin, mI, rI, B, D, L, ST)) (hu : up = true) (hf : f < n) (ht : t < n) (hft : f ≠ t) (hne : Q (f * 5 + t) ≠ []) :
    ∃ (r : Int32) (A' : ms_S), 0 < r ∧ ms_Inv A' ∧ ms_un A' = n ∧ ms_uu A' = up ∧
      (∀ (u : SX) (post : Int32 → SX → Prop), ms_RX (n, room, slots, up, last, kept, B0, D0, Q, J, root, par, fin, mI, rI, B, D, L, ST) u → (∀ u', ms_RX A' u' → post r u') → wpX_deliverHead post u (nI f) (nI t)) ∧
      (∀ (v : SY) (post : Int32 → SY → Prop), ms_RY0 (n, room, slots, up, last, kept, B0, D0, Q, J, root, par, fin, mI, rI, B, D, L, ST) v → (∀ v', ms_RY0 A' v' → post r v') → wpY_deliver post v (nI f) (nI t)) := by
  have hJb := ms_Inv_J h
  have hb := ms_Inv_b h
  have hcap := @ms_Inv_cap n room slots up last kept B0 D0 Q J root par fin mI rI B D L ST h
  have hrecv := fun a tl => @ms_Inv_recv n room slots up last kept B0 D0 Q J root par fin mI rI B D L ST f t a tl h
  have hm0 := fun s tl => @ms_Inv_mark0 n room slots up last kept B0 D0 Q J root par fin mI rI B D L ST f t s tl h
  have hm1 := fun s tl => @ms_Inv_mark1 n room slots up last kept B0 D0 Q J root par fin mI rI B D L ST f t s tl h
  have hrp := fun s tl => @ms_Inv_rep n room slots up last kept B0 D0 Q J root par fin mI rI B D L ST f t s tl h
  obtain ⟨i0, iA, iQ, iJ, iP, iS, iK, iD⟩ := id h
  obtain ⟨n2, h5, r1, r4, s1, s3, hl, k1, k3⟩ := i0
  have g := ms_gd_ft h5 hf ht hft
  have hc : f * 5 + t < 25 := by omega
  cases eQ : Q (f * 5 + t) with
  | nil => exact absurd eQ hne
  | cons x tl =>
    have hxm : x ∈ Q (f * 5 + t) := by rw [eQ]; exact List.mem_cons_self
    have hxb := hb _ x hxm
    have hcn : ∀ {a_count a_queue : Nat → Int32}, ms_QY Q a_count a_queue → a_count (f * 5 + t) = nI (tl.length + 1) := fun hQ => by
      have := (hQ _ hc).2.1
      rw [eQ, List.length_cons] at this; exact this
    rcases iQ.2 _ x hxm with hx1 | ⟨s, hs, h0, hx⟩
    · have hxa : x = x / 4 * 4 + 1 := by omega
      have eQ' : Q (f * 5 + t) = (x / 4 * 4 + 1) :: tl := by rw [← hxa]; exact eQ
      obtain ⟨hp1, hp2, hI'⟩ := hrecv (x / 4) tl hf ht hft eQ'
      refine ⟨1, _, by decide, hI', rfl, rfl, fun u post H K => ?_, fun v post H K => ?_⟩
      · refine ms_x_dh_t H hf ht h5 hJb iP eQ hxb hx1 hp2 (fun u' H' => K _ ?_)
        obtain ⟨f_n, f_room, f_slots, f_up, f_last, f_keptCount, a_liveBalance, a_liveDigest, a_ring, a_head, a_count, a_tokens, a_rootOf, a_parentOf, a_finished, a_markerIn, a_reportIn, a_recId, a_recBalance, a_recDigest, a_recLength, a_recAmount⟩ := u'
        refine ms_RX_congrP H' ?_
        intro r p hr hpr
        by_cases h3 : r < 3
        · have hn : (fun s => decide (J s ≠ 0 ∧ par s t = 0)) r = true → p ≠ t := fun z y => by
            have := of_decide_eq_true z
            rw [y] at hpr
            exact hpr h3 this.2
          by_cases e : (fun s => decide (J s ≠ 0 ∧ par s t = 0)) r = true
          · rw [ms_pt_y h3 e, ms_pt_y h3 e, ms_set_n (hn e), ms_set_n (hn e)]; exact ⟨rfl, rfl⟩
          · rw [ms_pt_n (Bool.eq_false_iff.mpr e), ms_pt_n (Bool.eq_false_iff.mpr e)]; exact ⟨rfl, rfl⟩
        · rw [ms_pt_g (by omega), ms_pt_g (by omega)]; exact ⟨rfl, rfl⟩
      · obtain ⟨f_n, f_room, f_slots, f_up, f_last, f_kept, a_ids, a_bal, a_dig, a_len, a_amt, a_par, a_reported, a_count, a_queue⟩ := v
        replace H : ms_RY (n, room, slots, up, last, kept, B0, D0, Q, J, root, par, fin, mI, rI, B, D, L, ST) (fun c => ms_tk (Q c)) (f_n, f_room, f_slots, f_up, f_last, f_kept, a_ids, a_bal, a_dig, a_len, a_amt, a_par, a_reported, a_count, a_queue) := H
        have H1 := ms_RY_pop H hc eQ
        refine ms_y_dpop H hu h5 hf ht hft eQ (ms_y_103t hc (hcn H.2.1) hxb hx1 ?_)
        refine ms_y_dl0 H1 (by omega) (by omega) hJb iP (l0 := ms_tk tl) (by
          show ms_tk (Q (f * 5 + t)) = _
          rw [eQ, ms_tk_c1 hx1]) hp1 (fun v' H' => K _ ?_)
        refine ms_RY_to H' ?_
        exact (ms_tk_recv eQ').symm
    · have hjs := (iJ s hs h0).1
      obtain ⟨aS, bS, cS, hrS, dS⟩ := iS s hs h0
      rcases hx with hx | hx
      · have eQ' : Q (f * 5 + t) = ((J s - 1) * 4 + 2) :: tl := by rw [← hx]; exact eQ
        by_cases hpt : par s t = 0
        · have hlen : ∀ r, r < n → r ≠ t → (ms_set Q (f * 5 + t) tl (t * 5 + r)).length < 10 := by
            intro r hr hrt
            rw [ms_set_n (by omega)]
            have g' := ms_gd_ft h5 ht hr (fun z => hrt z.symm)
            refine hcap g' (Or.inr ⟨s, hs, Or.inr (Or.inl ?_)⟩)
            exact ((bS.2.1 _ g').1 (by rw [show (t * 5 + r) / 5 = t by omega]; exact hpt)).1
          obtain ⟨hB, hD⟩ := bS.2.2.2.2.1 t ht hpt
          obtain ⟨r, A', a1, a2, a3, a4, a5, a6⟩ := ms_settle (x5 := 2) (hm1 s tl hf ht hft hs h0 eQ' hpt) hs h0 ht (Or.inl rfl)
          refine ⟨r, A', a1, a2, a3, a4, fun u post H K => ?_, fun v post H K => ?_⟩
          · exact ms_x_dh_m1 H hf ht h5 hs h0 iJ hl eQ hx hpt hlen hB hD (fun u' H' => a5 u' post H' K)
          · obtain ⟨f_n, f_room, f_slots, f_up, f_last, f_kept, a_ids, a_bal, a_dig, a_len, a_amt, a_par, a_reported, a_count, a_queue⟩ := v
            replace H : ms_RY (n, room, slots, up, last, kept, B0, D0, Q, J, root, par, fin, mI, rI, B, D, L, ST) (fun c => ms_tk (Q c)) (f_n, f_room, f_slots, f_up, f_last, f_kept, a_ids, a_bal, a_dig, a_len, a_amt, a_par, a_reported, a_count, a_queue) := H
            have H1 := ms_RY_pop H hc eQ
            refine ms_y_dpop H hu h5 hf ht hft eQ (ms_y_103m1 hc (hcn H.2.1) hs h0 iJ hl hx h5 ht hpt hlen H1 (fun v' H' => a6 v' post ?_ K))
            refine ms_RY_to H' ?_
            exact ((ms_tk_jq (Q := ms_set Q (f * 5 + t) tl) (by omega)).trans (ms_tk_pop (by omega) eQ)).symm
        · obtain ⟨r, A', a1, a2, a3, a4, a5, a6⟩ := ms_settle (x5 := 2) (hm0 s tl g (by omega) hs h0 eQ' hpt) hs h0 ht (Or.inl rfl)
          refine ⟨r, A', a1, a2, a3, a4, fun u post H K => ?_, fun v post H K => ?_⟩
          · exact ms_x_dh_m0 H hf ht h5 hs h0 iJ hl iP eQ hx hpt (fun u' H' => a5 u' post H' K)
          · obtain ⟨f_n, f_room, f_slots, f_up, f_last, f_kept, a_ids, a_bal, a_dig, a_len, a_amt, a_par, a_reported, a_count, a_queue⟩ := v
            replace H : ms_RY (n, room, slots, up, last, kept, B0, D0, Q, J, root, par, fin, mI, rI, B, D, L, ST) (fun c => ms_tk (Q c)) (f_n, f_room, f_slots, f_up, f_last, f_kept, a_ids, a_bal, a_dig, a_len, a_amt, a_par, a_reported, a_count, a_queue) := H
            have H1 := ms_RY_pop H hc eQ
            refine ms_y_dpop H hu h5 hf ht hft eQ (ms_y_103m0 hc (hcn H.2.1) hs h0 iJ hl hx (by omega) hpt iP H1 (a6 (f_n, f_room, f_slots, f_up, f_last, f_kept, a_ids, a_bal, a_dig, a_len, a_amt, a_par, a_reported, upd a_count (f * 5 + t) (nI tl.length), ms_shf a_queue ((f * 5 + t) * 10) tl.length) post ?_ K))
            refine ms_RY_to H1 ?_
            exact (ms_tk_pop (by omega) eQ).symm
      · have eQ' : Q (f * 5 + t) = ((J s - 1) * 4 + 3) :: tl := by rw [← hx]; exact eQ
        obtain ⟨r, A', a1, a2, a3, a4, a5, a6⟩ := ms_settle (x5 := 3) (hrp s tl g hs h0 eQ') hs h0 ht (Or.inr rfl)
        refine ⟨r, A', a1, a2, a3, a4, fun u post H K => ?_, fun v post H K => ?_⟩
        · exact ms_x_dh_r H hf ht h5 hs h0 iJ hl eQ hx (fun u' H' => a5 u' post H' K)
        · obtain ⟨f_n, f_room, f_slots, f_up, f_last, f_kept, a_ids, a_bal, a_dig, a_len, a_amt, a_par, a_reported, a_count, a_queue⟩ := v
          replace H : ms_RY (n, room, slots, up, last, kept, B0, D0, Q, J, root, par, fin, mI, rI, B, D, L, ST) (fun c => ms_tk (Q c)) (f_n, f_room, f_slots, f_up, f_last, f_kept, a_ids, a_bal, a_dig, a_len, a_amt, a_par, a_reported, a_count, a_queue) := H
          have H1 := ms_RY_pop H hc eQ
          refine ms_y_dpop H hu h5 hf ht hft eQ (ms_y_103r hc (hcn H.2.1) hs h0 iJ hl hx H1 (a6 (f_n, f_room, f_slots, f_up, f_last, f_kept, a_ids, a_bal, a_dig, a_len, a_amt, a_par, a_reported, upd a_count (f * 5 + t) (nI tl.length), ms_shf a_queue ((f * 5 + t) * 10) tl.length) post ?_ K))
          refine ms_RY_to H1 ?_
          exact (ms_tk_pop (by omega) eQ).symm
end
end
section
/-! the relation; deliver, sweep -/
def i_Rel (k : Nat) (u : SX) (v : SY) : Prop := ∃ A : ms_S, ms_Inv A ∧ ms_RX A u ∧ ms_RY0 A v
theorem i_up {k : Nat} {u : SX} {v : SY} (h : i_Rel k u v) : i_Rel (k + 5) u v := h
section
variable {n : Nat} {room : Nat} {slots : Nat} {up : Bool} {last : Nat} {kept : Nat} {B0 : Nat → Nat} {D0 : Nat → Int32} {Q : Nat → List Nat} {J : Nat → Nat} {root : Nat → Nat} {par : Nat → Nat → Nat} {fin : Nat → Nat → Bool} {mI : Nat → Nat → Bool} {rI : Nat → Nat → Bool} {B : Nat → Nat → Nat} {D : Nat → Nat → Int32} {L : Nat → Nat → List Nat} {ST : Nat → Nat → List Nat}
theorem ms_y_del_bad {post : Int32 → SY → Prop} {f_n f_room f_slots f_up f_last f_kept : Int32} {a_ids a_bal a_dig a_len a_amt a_par a_reported a_count a_queue : Nat → Int32} {L0 : Nat → List Nat} {p0 p1 : Int32} (H : ms_RY (n, room, slots, up, last, kept, B0, D0, Q, J, root, par, fin, mI, rI, B, D, L, ST) L0 (f_n, f_room, f_slots, f_up, f_last, f_kept, a_ids, a_bal, a_dig, a_len, a_amt, a_par, a_reported, a_count, a_queue)) (hu : up = true) (h5 : n ≤ 5) (hg : ¬ ∃ f t, f < n ∧ t < n ∧ f ≠ t ∧ p0 = nI f ∧ p1 = nI t) (hp : post (-1) (f_n, f_room, f_slots, f_up, f_last, f_kept, a_ids, a_bal, a_dig, a_len, a_amt, a_par, a_reported, a_count, a_queue)) : wpY_deliver post (f_n, f_room, f_slots, f_up, f_last, f_kept, a_ids, a_bal, a_dig, a_len, a_amt, a_par, a_reported, a_count, a_queue) p0 p1 := by
  obtain ⟨⟨hn, _, _, hup, _, _⟩, hQ, _⟩ := H
  exact br_f (by rw [hup, hu]; decide) (ms_y_gp0 hn h5 hg (br_t rfl hp))
theorem ms_y_del_emp {post : Int32 → SY → Prop} {f_n f_room f_slots f_up f_last f_kept : Int32} {a_ids a_bal a_dig a_len a_amt a_par a_reported a_count a_queue : Nat → Int32} {L0 : Nat → List Nat} {f t : Nat} (H : ms_RY (n, room, slots, up, last, kept, B0, D0, Q, J, root, par, fin, mI, rI, B, D, L, ST) L0 (f_n, f_room, f_slots, f_up, f_last, f_kept, a_ids, a_bal, a_dig, a_len, a_amt, a_par, a_reported, a_count, a_queue)) (hu : up = true) (h5 : n ≤ 5) (hf : f < n) (ht : t < n) (hft : f ≠ t) (eQ : Q (f * 5 + t) = []) (hp : post (-3) (f_n, f_room, f_slots, f_up, f_last, f_kept, a_ids, a_bal, a_dig, a_len, a_amt, a_par, a_reported, a_count, a_queue)) : wpY_deliver post (f_n, f_room, f_slots, f_up, f_last, f_kept, a_ids, a_bal, a_dig, a_len, a_amt, a_par, a_reported, a_count, a_queue) (nI f) (nI t) := by
  obtain ⟨⟨hn, _, _, hup, _, _⟩, hQ, _⟩ := H
  have q2 := (hQ (f * 5 + t) (by omega)).2.1
  refine br_f (by rw [hup, hu]; decide) (ms_y_gp1 hn h5 hf ht hft (br_f (by decide) (nm_r (e' := nI (f * 5 + t)) (by rw [ms_m5, nI_add]) (And.intro (vp_in_nI (by omega) (by decide)) (br_f ?_ hp)))))
  rw [nI_clamp (by omega), q2, eQ]; decide
end
theorem i_vc_deliver {k : Nat} {u : SX} {v : SY} (I : i_Rel k u v) (hk : k + 5 ≤ 2564) (v1 : Int32) (v2 : Int32) : wpX_deliver (fun r u' => wpY_deliver (fun r' v' => r' = r ∧ i_Rel (k + 5) u' v') v v1 v2) u v1 v2 := by
  obtain ⟨⟨n, room, slots, up, last, kept, B0, D0, Q, J, root, par, fin, mI, rI, B, D, L, ST⟩, hI, HX, HY⟩ := id I
  obtain ⟨f_n, f_room, f_slots, f_up, f_last, f_keptCount, a_liveBalance, a_liveDigest, a_ring, a_head, a_count, a_tokens, a_rootOf, a_parentOf, a_finished, a_markerIn, a_reportIn, a_recId, a_recBalance, a_recDigest, a_recLength, a_recAmount⟩ := u
  obtain ⟨y1, y2, y3, y4, y5, y6, y7, y8, y9, y10, y11, y12, y13, y14, y15⟩ := v
  obtain ⟨⟨hn, _, _, hup, _, _⟩, _, hQ, _⟩ := id HX
  replace HY : ms_RY (n, room, slots, up, last, kept, B0, D0, Q, J, root, par, fin, mI, rI, B, D, L, ST) (fun c => ms_tk (Q c)) _ := HY
  have h5 := hI.1.2.1
  cases hu : up with
  | false =>
    refine br_t (by rw [hup, hu]; rfl) (br_t ?_ ⟨rfl, I⟩)
    obtain ⟨⟨_, _, _, hupy, _, _⟩, _⟩ := HY
    rw [hupy, hu]; rfl
  | true =>
    refine br_f (by rw [hup, hu]; decide) ?_
    by_cases hg : ∃ f t, f < n ∧ t < n ∧ f ≠ t ∧ v1 = nI f ∧ v2 = nI t
    · obtain ⟨f, t, hf, ht, hft, rfl, rfl⟩ := hg
      have ei : nI f * 5 + nI t = nI (f * 5 + t) := by rw [ms_m5, nI_add]
      have q := hQ (f * 5 + t) (by omega)
      refine ms_x_gp1 hn h5 hf ht hft (br_f (by decide) (And.intro (by rw [ei]; exact vp_in_nI (by omega) (by decide)) ?_))
      by_cases e : Q (f * 5 + t) = []
      · refine br_t ?_ (ms_y_del_emp HY hu h5 hf ht hft e ⟨rfl, I⟩)
        rw [ei, nI_clamp (by omega), q.2.1, e]; rfl
      · refine br_f ?_ ?_
        · rw [ei, nI_clamp (by omega), q.2.1, ms_eq0 (by omega)]
          exact fun z => e (List.eq_nil_of_length_eq_zero z)
        · obtain ⟨r, A', a1, a2, a3, a4, a5, a6⟩ := ms_deliver hI hu hf ht hft e
          refine a5 _ _ HX (fun u' H' => ?_)
          obtain ⟨z0, z1, z2, z3, z4, z5, z6, z7, z8, z9, z10, z11, z12, z13, z14, z15, z16, z17, z18, z19, z20, z21⟩ := u'
          exact a6 _ _ HY (fun v' H'' => ⟨rfl, A', a2, H', H''⟩)
    · exact ms_x_gp0 hn h5 hg (br_t rfl (ms_y_del_bad HY hu h5 hg ⟨rfl, I⟩))
def ms_jx (J : Int32 → Int32 → Int32 → Int32 → Int32 → Int32 → Int32 → Int32 → (Nat → Int32) → (Nat → Int32) → (Nat → Int32) → (Nat → Int32) → (Nat → Int32) → (Nat → Int32) → (Nat → Int32) → (Nat → Int32) → (Nat → Int32) → (Nat → Int32) → (Nat → Int32) → (Nat → Int32) → (Nat → Int32) → (Nat → Int32) → (Nat → Int32) → (Nat → Int32) → Prop) (x1 x2 : Int32) (u : SX) : Prop := match u with | (f_n, f_room, f_slots, f_up, f_last, f_keptCount, a_liveBalance, a_liveDigest, a_ring, a_head, a_count, a_tokens, a_rootOf, a_parentOf, a_finished, a_markerIn, a_reportIn, a_recId, a_recBalance, a_recDigest, a_recLength, a_recAmount) => J x1 x2 f_n f_room f_slots f_up f_last f_keptCount a_liveBalance a_liveDigest a_ring a_head a_count a_tokens a_rootOf a_parentOf a_finished a_markerIn a_reportIn a_recId a_recBalance a_recDigest a_recLength a_recAmount
def ms_jy (J : Int32 → Int32 → Int32 → Int32 → Int32 → Int32 → Int32 → Int32 → (Nat → Int32) → (Nat → Int32) → (Nat → Int32) → (Nat → Int32) → (Nat → Int32) → (Nat → Int32) → (Nat → Int32) → (Nat → Int32) → (Nat → Int32) → Prop) (x1 x2 : Int32) (v : SY) : Prop := match v with | (f_n, f_room, f_slots, f_up, f_last, f_kept, a_ids, a_bal, a_dig, a_len, a_amt, a_par, a_reported, a_count, a_queue) => J x1 x2 f_n f_room f_slots f_up f_last f_kept a_ids a_bal a_dig a_len a_amt a_par a_reported a_count a_queue
def ms_x24 (post : Int32 → SX → Prop) (J : Int32 → Int32 → Int32 → Int32 → Int32 → Int32 → Int32 → Int32 → (Nat → Int32) → (Nat → Int32) → (Nat → Int32) → (Nat → Int32) → (Nat → Int32) → (Nat → Int32) → (Nat → Int32) → (Nat → Int32) → (Nat → Int32) → (Nat → Int32) → (Nat → Int32) → (Nat → Int32) → (Nat → Int32) → (Nat → Int32) → (Nat → Int32) → (Nat → Int32) → Prop) (x2 : Int32) (N : Nat) (x1 x3 : Int32) (u : SX) : Prop := match u with | (f_n, f_room, f_slots, f_up, f_last, f_keptCount, a_liveBalance, a_liveDigest, a_ring, a_head, a_count, a_tokens, a_rootOf, a_parentOf, a_finished, a_markerIn, a_reportIn, a_recId, a_recBalance, a_recDigest, a_recLength, a_recAmount) => wX_sweep_24 post J x2 N x1 x3 f_n f_room f_slots f_up f_last f_keptCount a_liveBalance a_liveDigest a_ring a_head a_count a_tokens a_rootOf a_parentOf a_finished a_markerIn a_reportIn a_recId a_recBalance a_recDigest a_recLength a_recAmount
def ms_y24 (post : Int32 → SY → Prop) (J : Int32 → Int32 → Int32 → Int32 → Int32 → Int32 → Int32 → Int32 → (Nat → Int32) → (Nat → Int32) → (Nat → Int32) → (Nat → Int32) → (Nat → Int32) → (Nat → Int32) → (Nat → Int32) → (Nat → Int32) → (Nat → Int32) → Prop) (x2 : Int32) (N : Nat) (x1 x3 : Int32) (v : SY) : Prop := match v with | (f_n, f_room, f_slots, f_up, f_last, f_kept, a_ids, a_bal, a_dig, a_len, a_amt, a_par, a_reported, a_count, a_queue) => wY_sweep_24 post J x2 N x1 x3 f_n f_room f_slots f_up f_last f_kept a_ids a_bal a_dig a_len a_amt a_par a_reported a_count a_queue
def ms_x14 (post : Int32 → SX → Prop) (N : Nat) (x1 x2 : Int32) (u : SX) : Prop := match u with | (f_n, f_room, f_slots, f_up, f_last, f_keptCount, a_liveBalance, a_liveDigest, a_ring, a_head, a_count, a_tokens, a_rootOf, a_parentOf, a_finished, a_markerIn, a_reportIn, a_recId, a_recBalance, a_recDigest, a_recLength, a_recAmount) => wX_sweep_14 post N x1 x2 f_n f_room f_slots f_up f_last f_keptCount a_liveBalance a_liveDigest a_ring a_head a_count a_tokens a_rootOf a_parentOf a_finished a_markerIn a_reportIn a_recId a_recBalance a_recDigest a_recLength a_recAmount
def ms_y14 (post : Int32 → SY → Prop) (N : Nat) (x1 x2 : Int32) (v : SY) : Prop := match v with | (f_n, f_room, f_slots, f_up, f_last, f_kept, a_ids, a_bal, a_dig, a_len, a_amt, a_par, a_reported, a_count, a_queue) => wY_sweep_14 post N x1 x2 f_n f_room f_slots f_up f_last f_kept a_ids a_bal a_dig a_len a_amt a_par a_reported a_count a_queue
theorem ms_sw_in {m f : Nat} (hf : f < m) : ∀ (d j cnt : Nat) (A : ms_S), j + d = m → ms_Inv A → ms_un A = m → ms_uu A = true →
    ∃ (cnt' : Nat) (A' : ms_S), ms_Inv A' ∧ ms_un A' = m ∧ ms_uu A' = true ∧
      (∀ N post J (u : SX), d < N → ms_RX A u → (∀ u', ms_RX A' u' → ms_jx J (nI cnt') (nI (f + 1)) u') → ms_x24 post J (nI f) N (nI cnt) (nI j) u) ∧
      (∀ N post J (v : SY), d < N → ms_RY0 A v → (∀ v', ms_RY0 A' v' → ms_jy J (nI cnt') (nI (f + 1)) v') → ms_y24 post J (nI f) N (nI cnt) (nI j) v) := by
  intro d
  induction d with
  | zero =>
    intro j cnt A h1 hI hm hu
    obtain ⟨n, room, slots, up, last, kept, B0, D0, Q, J, root, par, fin, mI, rI, B, D, L, ST⟩ := A
    obtain rfl : n = m := hm
    have h5 := hI.1.2.1
    refine ⟨cnt, _, hI, rfl, hu, fun N post J' u hN H K => ?_, fun N post J' v hN H K => ?_⟩
    · obtain ⟨f_n, f_room, f_slots, f_up, f_last, f_keptCount, a_liveBalance, a_liveDigest, a_ring, a_head, a_count, a_tokens, a_rootOf, a_parentOf, a_finished, a_markerIn, a_reportIn, a_recId, a_recBalance, a_recDigest, a_recLength, a_recAmount⟩ := u
      obtain ⟨N, rfl⟩ : ∃ M, N = M + 1 := ⟨N - 1, by omega⟩
      refine br_t ?_ (nm_r (nI_1 f) (K _ H))
      rw [H.1.1]; exact nI_le (by omega) (by omega)
    · obtain ⟨f_n, f_room, f_slots, f_up, f_last, f_kept, a_ids, a_bal, a_dig, a_len, a_amt, a_par, a_reported, a_count, a_queue⟩ := v
      obtain ⟨N, rfl⟩ : ∃ M, N = M + 1 := ⟨N - 1, by omega⟩
      refine br_t ?_ (nm_r (nI_1 f) (K _ H))
      replace H : ms_RY (n, room, slots, up, last, kept, B0, D0, Q, J, root, par, fin, mI, rI, B, D, L, ST) (fun c => ms_tk (Q c)) (f_n, f_room, f_slots, f_up, f_last, f_kept, a_ids, a_bal, a_dig, a_len, a_amt, a_par, a_reported, a_count, a_queue) := H
      rw [H.1.1]; exact nI_le (by omega) (by omega)
  | succ d ih =>
    intro j cnt A h1 hI hm hu
    obtain ⟨n, room, slots, up, last, kept, B0, D0, Q, J, root, par, fin, mI, rI, B, D, L, ST⟩ := A
    obtain rfl : n = m := hm
    replace hu : up = true := hu
    have h5 := hI.1.2.1
    by_cases hj : j = f
    · obtain ⟨cnt', A', b1, b2, b3, b4, b5⟩ := ih (j + 1) cnt _ (by omega) hI rfl hu
      refine ⟨cnt', A', b1, b2, b3, fun N post J' u hN H K => ?_, fun N post J' v hN H K => ?_⟩
      · obtain ⟨f_n, f_room, f_slots, f_up, f_last, f_keptCount, a_liveBalance, a_liveDigest, a_ring, a_head, a_count, a_tokens, a_rootOf, a_parentOf, a_finished, a_markerIn, a_reportIn, a_recId, a_recBalance, a_recDigest, a_recLength, a_recAmount⟩ := u
        obtain ⟨N, rfl⟩ : ∃ M, N = M + 1 := ⟨N - 1, by omega⟩
        refine br_f (by rw [H.1.1]; exact nI_ge (by omega) (by omega)) (br_t (by rw [hj]) (nm_r (nI_1 j) (b4 N post J' _ (by omega) H K)))
      · obtain ⟨f_n, f_room, f_slots, f_up, f_last, f_kept, a_ids, a_bal, a_dig, a_len, a_amt, a_par, a_reported, a_count, a_queue⟩ := v
        obtain ⟨N, rfl⟩ : ∃ M, N = M + 1 := ⟨N - 1, by omega⟩
        have H' : ms_RY (n, room, slots, up, last, kept, B0, D0, Q, J, root, par, fin, mI, rI, B, D, L, ST) (fun c => ms_tk (Q c)) (f_n, f_room, f_slots, f_up, f_last, f_kept, a_ids, a_bal, a_dig, a_len, a_amt, a_par, a_reported, a_count, a_queue) := H
        refine br_f (by rw [H'.1.1]; exact nI_ge (by omega) (by omega)) (ms_y_del_bad H' hu h5 ?_ (br_t (by decide) (nm_r (nI_1 j) (b5 N post J' _ (by omega) H K))))
        rintro ⟨f', t', hf', ht', hne, e1, e2⟩
        rw [nI_eq (by omega) (by omega)] at e1 e2
        omega
    · by_cases e : Q (f * 5 + j) = []
      · obtain ⟨cnt', A', b1, b2, b3, b4, b5⟩ := ih (j + 1) cnt _ (by omega) hI rfl hu
        refine ⟨cnt', A', b1, b2, b3, fun N post J' u hN H K => ?_, fun N post J' v hN H K => ?_⟩
        · obtain ⟨f_n, f_room, f_slots, f_up, f_last, f_keptCount, a_liveBalance, a_liveDigest, a_ring, a_head, a_count, a_tokens, a_rootOf, a_parentOf, a_finished, a_markerIn, a_reportIn, a_recId, a_recBalance, a_recDigest, a_recLength, a_recAmount⟩ := u
          obtain ⟨N, rfl⟩ : ∃ M, N = M + 1 := ⟨N - 1, by omega⟩
          have ei : nI f * 5 + nI j = nI (f * 5 + j) := by rw [ms_m5, nI_add]
          have q := H.2.2.1 (f * 5 + j) (by omega)
          refine br_f (by rw [H.1.1]; exact nI_ge (by omega) (by omega)) (br_f (by rw [nI_eq (by omega) (by omega)]; exact hj) (And.intro (by rw [ei]; exact vp_in_nI (by omega) (by decide)) (br_t ?_ (nm_r (nI_1 j) (b4 N post J' _ (by omega) H K)))))
          rw [ei, nI_clamp (by omega), q.2.1, e]; decide
        · obtain ⟨f_n, f_room, f_slots, f_up, f_last, f_kept, a_ids, a_bal, a_dig, a_len, a_amt, a_par, a_reported, a_count, a_queue⟩ := v
          obtain ⟨N, rfl⟩ : ∃ M, N = M + 1 := ⟨N - 1, by omega⟩
          have H' : ms_RY (n, room, slots, up, last, kept, B0, D0, Q, J, root, par, fin, mI, rI, B, D, L, ST) (fun c => ms_tk (Q c)) (f_n, f_room, f_slots, f_up, f_last, f_kept, a_ids, a_bal, a_dig, a_len, a_amt, a_par, a_reported, a_count, a_queue) := H
          exact br_f (by rw [H'.1.1]; exact nI_ge (by omega) (by omega)) (ms_y_del_emp H' hu h5 hf (by omega) (fun z => hj z.symm) e (br_t (by decide) (nm_r (nI_1 j) (b5 N post J' _ (by omega) H K))))
      · obtain ⟨r, A1, a1, a2, a3, a4, a5, a6⟩ := ms_deliver hI hu hf (show j < n by omega) (fun z => hj z.symm) e
        obtain ⟨cnt', A', b1, b2, b3, b4, b5⟩ := ih (j + 1) (cnt + 1) A1 (by omega) a2 a3 (by rw [a4]; exact hu)
        refine ⟨cnt', A', b1, b2, b3, fun N post J' u hN H K => ?_, fun N post J' v hN H K => ?_⟩
        · obtain ⟨f_n, f_room, f_slots, f_up, f_last, f_keptCount, a_liveBalance, a_liveDigest, a_ring, a_head, a_count, a_tokens, a_rootOf, a_parentOf, a_finished, a_markerIn, a_reportIn, a_recId, a_recBalance, a_recDigest, a_recLength, a_recAmount⟩ := u
          obtain ⟨N, rfl⟩ : ∃ M, N = M + 1 := ⟨N - 1, by omega⟩
          have ei : nI f * 5 + nI j = nI (f * 5 + j) := by rw [ms_m5, nI_add]
          have q := H.2.2.1 (f * 5 + j) (by omega)
          refine br_f (by rw [H.1.1]; exact nI_ge (by omega) (by omega)) (br_f (by rw [nI_eq (by omega) (by omega)]; exact hj) (And.intro (by rw [ei]; exact vp_in_nI (by omega) (by decide)) (br_f ?_ (a5 _ _ H (fun u' H1 => ?_)))))
          · rw [ei, nI_clamp (by omega), q.2.1, ms_le0 (by omega)]
            exact fun z => e (List.eq_nil_of_length_eq_zero z)
          · obtain ⟨z0, z1, z2, z3, z4, z5, z6, z7, z8, z9, z10, z11, z12, z13, z14, z15, z16, z17, z18, z19, z20, z21⟩ := u'
            exact nm_r (nI_1 cnt) (nm_r (nI_1 j) (b4 N post J' _ (by omega) H1 K))
        · obtain ⟨f_n, f_room, f_slots, f_up, f_last, f_kept, a_ids, a_bal, a_dig, a_len, a_amt, a_par, a_reported, a_count, a_queue⟩ := v
          obtain ⟨N, rfl⟩ : ∃ M, N = M + 1 := ⟨N - 1, by omega⟩
          have H' : ms_RY (n, room, slots, up, last, kept, B0, D0, Q, J, root, par, fin, mI, rI, B, D, L, ST) (fun c => ms_tk (Q c)) (f_n, f_room, f_slots, f_up, f_last, f_kept, a_ids, a_bal, a_dig, a_len, a_amt, a_par, a_reported, a_count, a_queue) := H
          refine br_f (by rw [H'.1.1]; exact nI_ge (by omega) (by omega)) (a6 _ _ H (fun v' H1 => ?_))
          obtain ⟨z0, z1, z2, z3, z4, z5, z6, z7, z8, z9, z10, z11, z12, z13, z14⟩ := v'
          exact br_f (Int32.not_le.mpr a1) (nm_r (nI_1 cnt) (nm_r (nI_1 j) (b5 N post J' _ (by omega) H1 K)))
theorem ms_sw_out {m : Nat} : ∀ (d i cnt : Nat) (A : ms_S), i + d = m → ms_Inv A → ms_un A = m → ms_uu A = true →
    ∃ (cnt' : Nat) (A' : ms_S), ms_Inv A' ∧
      (∀ N post (u : SX), d < N → ms_RX A u → (∀ u', ms_RX A' u' → post (nI cnt') u') → ms_x14 post N (nI cnt) (nI i) u) ∧
      (∀ N post (v : SY), d < N → ms_RY0 A v → (∀ v', ms_RY0 A' v' → post (nI cnt') v') → ms_y14 post N (nI cnt) (nI i) v) := by
  intro d
  induction d with
  | zero =>
    intro i cnt A h1 hI hm hu
    obtain ⟨n, room, slots, up, last, kept, B0, D0, Q, J, root, par, fin, mI, rI, B, D, L, ST⟩ := A
    obtain rfl : n = m := hm
    have h5 := hI.1.2.1
    refine ⟨cnt, _, hI, fun N post u hN H K => ?_, fun N post v hN H K => ?_⟩
    · obtain ⟨f_n, f_room, f_slots, f_up, f_last, f_keptCount, a_liveBalance, a_liveDigest, a_ring, a_head, a_count, a_tokens, a_rootOf, a_parentOf, a_finished, a_markerIn, a_reportIn, a_recId, a_recBalance, a_recDigest, a_recLength, a_recAmount⟩ := u
      obtain ⟨N, rfl⟩ : ∃ M, N = M + 1 := ⟨N - 1, by omega⟩
      refine br_t ?_ (K _ H)
      rw [H.1.1]; exact nI_le (by omega) (by omega)
    · obtain ⟨f_n, f_room, f_slots, f_up, f_last, f_kept, a_ids, a_bal, a_dig, a_len, a_amt, a_par, a_reported, a_count, a_queue⟩ := v
      obtain ⟨N, rfl⟩ : ∃ M, N = M + 1 := ⟨N - 1, by omega⟩
      refine br_t ?_ (K _ H)
      replace H : ms_RY (n, room, slots, up, last, kept, B0, D0, Q, J, root, par, fin, mI, rI, B, D, L, ST) (fun c => ms_tk (Q c)) (f_n, f_room, f_slots, f_up, f_last, f_kept, a_ids, a_bal, a_dig, a_len, a_amt, a_par, a_reported, a_count, a_queue) := H
      rw [H.1.1]; exact nI_le (by omega) (by omega)
  | succ d ih =>
    intro i cnt A h1 hI hm hu
    obtain ⟨n, room, slots, up, last, kept, B0, D0, Q, J, root, par, fin, mI, rI, B, D, L, ST⟩ := A
    obtain rfl : n = m := hm
    have h5 := hI.1.2.1
    obtain ⟨c1, A1, a1, a2, a3, a4, a5⟩ := ms_sw_in (f := i) (m := n) (by omega) n 0 cnt _ (by omega) hI rfl hu
    obtain ⟨cnt', A', b1, b4, b5⟩ := ih (i + 1) c1 A1 (by omega) a1 a2 a3
    refine ⟨cnt', A', b1, fun N post u hN H K => ?_, fun N post v hN H K => ?_⟩
    · obtain ⟨f_n, f_room, f_slots, f_up, f_last, f_keptCount, a_liveBalance, a_liveDigest, a_ring, a_head, a_count, a_tokens, a_rootOf, a_parentOf, a_finished, a_markerIn, a_reportIn, a_recId, a_recBalance, a_recDigest, a_recLength, a_recAmount⟩ := u
      obtain ⟨N, rfl⟩ : ∃ M, N = M + 1 := ⟨N - 1, by omega⟩
      refine br_f (by rw [H.1.1]; exact nI_ge (by omega) (by omega)) ⟨n + 1, ?_⟩
      exact a4 (n + 1) post (wX_sweep_14 post N) _ (by omega) H (fun u' H' => b4 N post u' (by omega) H' K)
    · obtain ⟨f_n, f_room, f_slots, f_up, f_last, f_kept, a_ids, a_bal, a_dig, a_len, a_amt, a_par, a_reported, a_count, a_queue⟩ := v
      obtain ⟨N, rfl⟩ : ∃ M, N = M + 1 := ⟨N - 1, by omega⟩
      have H' : ms_RY (n, room, slots, up, last, kept, B0, D0, Q, J, root, par, fin, mI, rI, B, D, L, ST) (fun c => ms_tk (Q c)) (f_n, f_room, f_slots, f_up, f_last, f_kept, a_ids, a_bal, a_dig, a_len, a_amt, a_par, a_reported, a_count, a_queue) := H
      refine br_f (by rw [H'.1.1]; exact nI_ge (by omega) (by omega)) ⟨n + 1, ?_⟩
      exact a5 (n + 1) post (wY_sweep_14 post N) _ (by omega) H (fun v' H' => b5 N post v' (by omega) H' K)
theorem i_vc_sweep {k : Nat} {u : SX} {v : SY} (I : i_Rel k u v) (hk : k + 5 ≤ 2564) : wpX_sweep (fun r u' => wpY_sweep (fun r' v' => r' = r ∧ i_Rel (k + 5) u' v') v) u := by
  obtain ⟨⟨n, room, slots, up, last, kept, B0, D0, Q, J, root, par, fin, mI, rI, B, D, L, ST⟩, hI, HX, HY⟩ := id I
  obtain ⟨f_n, f_room, f_slots, f_up, f_last, f_keptCount, a_liveBalance, a_liveDigest, a_ring, a_head, a_count, a_tokens, a_rootOf, a_parentOf, a_finished, a_markerIn, a_reportIn, a_recId, a_recBalance, a_recDigest, a_recLength, a_recAmount⟩ := u
  obtain ⟨y1, y2, y3, y4, y5, y6, y7, y8, y9, y10, y11, y12, y13, y14, y15⟩ := v
  obtain ⟨⟨hn, _, _, hup, _, _⟩, _, hQ, _⟩ := id HX
  have HY' : ms_RY (n, room, slots, up, last, kept, B0, D0, Q, J, root, par, fin, mI, rI, B, D, L, ST) (fun c => ms_tk (Q c)) _ := HY
  obtain ⟨⟨_, _, _, hupy, _, _⟩, _⟩ := HY'
  cases hu : up with
  | false => exact br_t (by rw [hup, hu]; rfl) (br_t (by rw [hupy, hu]; rfl) ⟨rfl, I⟩)
  | true =>
    obtain ⟨cnt', A', b1, b4, b5⟩ := ms_sw_out (m := n) n 0 0 _ (by omega) hI rfl hu
    refine br_f (by rw [hup, hu]; decide) ⟨n + 1, b4 (n + 1) (fun r u' => wpY_sweep (fun r' v' => r' = r ∧ i_Rel (k + 5) u' v') (y1, y2, y3, y4, y5, y6, y7, y8, y9, y10, y11, y12, y13, y14, y15)) _ (by omega) HX (fun u' H' => ?_)⟩
    exact br_f (by rw [hupy, hu]; decide) ⟨n + 1, b5 (n + 1) (fun r' v' => r' = nI cnt' ∧ i_Rel (k + 5) u' v') _ (by omega) HY (fun v' H'' => ⟨rfl, A', b1, H', H''⟩)⟩
end
section
/-! transfer, and the plain queries -/
theorem i_vc_transfer {k : Nat} {u : SX} {v : SY} (I : i_Rel k u v) (hk : k + 5 ≤ 2564) (v1 : Int32) (v2 : Int32) (v3 : Int32) : wpX_transfer (fun r u' => wpY_transfer (fun r' v' => r' = r ∧ i_Rel (k + 5) u' v') v v1 v2 v3) u v1 v2 v3 := by
  obtain ⟨⟨n, room, slots, up, last, kept, B0, D0, Q, J, root, par, fin, mI, rI, B, D, L, ST⟩, hI, HX, HY⟩ := id I
  obtain ⟨f_n, f_room, f_slots, f_up, f_last, f_keptCount, a_liveBalance, a_liveDigest, a_ring, a_head, a_count, a_tokens, a_rootOf, a_parentOf, a_finished, a_markerIn, a_reportIn, a_recId, a_recBalance, a_recDigest, a_recLength, a_recAmount⟩ := u
  obtain ⟨y1, y2, y3, y4, y5, y6, y7, y8, y9, y10, y11, y12, y13, y14, y15⟩ := v
  replace HY : ms_RY (n, room, slots, up, last, kept, B0, D0, Q, J, root, par, fin, mI, rI, B, D, L, ST) (fun c => ms_tk (Q c)) (y1, y2, y3, y4, y5, y6, y7, y8, y9, y10, y11, y12, y13, y14, y15) := HY
  obtain ⟨⟨xn, xr, xs, xu, xl, xk⟩, xB, xQ, xI, xR, xP, xM, xE, xS⟩ := id HX
  obtain ⟨⟨yn, yr, ys, yu, yl, yk⟩, yQ, yI, yP, yL, yE⟩ := id HY
  have h5 := hI.1.2.1
  have hJb := ms_Inv_J hI
  have hb := ms_Inv_b hI
  have hcap := @ms_Inv_cap n room slots up last kept B0 D0 Q J root par fin mI rI B D L ST hI
  have hsend := fun f t a => @ms_Inv_send n room slots up last kept B0 D0 Q J root par fin mI rI B D L ST f t a hI
  have hLL := ms_Inv_L hI
  have hL4 := ms_Inv_L4 hI
  obtain ⟨i0, iA, iQ, iJ, iP, iS, iK, iD⟩ := id hI
  cases hu : up with
  | false => exact br_t (by rw [xu, hu]; rfl) (br_t (by rw [yu, hu]; rfl) ⟨rfl, I⟩)
  | true =>
    refine br_f (by rw [xu, hu]; decide) ?_
    have yu' : ¬ y4 = 0 := by rw [yu, hu]; decide
    by_cases hg : ∃ f t, f < n ∧ t < n ∧ f ≠ t ∧ v1 = nI f ∧ v2 = nI t
    · obtain ⟨f, t, hf, ht, hft, rfl, rfl⟩ := hg
      refine ms_x_gp1 xn h5 hf ht hft (br_f (by decide) ?_)
      by_cases h1 : 1 ≤ v3
      · have hnn : ¬ v3 < 0 := fun z => by
          have := Int32.lt_of_lt_of_le z (Int32.le_trans (show (0 : Int32) ≤ 1 by decide) h1)
          exact Int32.lt_irrefl this
        obtain ⟨a, ha, rfl⟩ := nI_of hnn
        have h1' : 1 ≤ a := (ms_ge1 ha).mp h1
        have hB5 : B0 f ≤ 5000 := Nat.le_trans (ms_tot_B (L := fun c => ms_tk (Q c)) (by omega)) iA.2.2.2
        have hxb := (xB f hf).1
        have hyb : y8 f = nI (B0 f) := by
          have := (yL.1 f (by omega)).1
          rw [Nat.zero_mul, Nat.zero_add] at this; exact this
        have ei : nI f * 5 + nI t = nI (f * 5 + t) := by rw [ms_m5, nI_add]
        have hcq := yL.2 (f * 5 + t) (by omega)
        have hyl : y10 (f * 5 + t) = nI (ms_tk (Q (f * 5 + t))).length := by
          have := hcq.2.1
          rw [Nat.zero_mul, Nat.zero_add] at this; exact this
        have hl4 : (ms_tk (Q (f * 5 + t))).length ≤ 4 := hcq.1
        have hxt := (xQ (f * 5 + t) (by omega)).2.2.1
        have hroom := i0.2.2.2.1
        refine br_t h1 (And.intro (vp_in_nI (by omega) (by decide)) (br_c (fun z => nm_r ei (And.intro (vp_in_nI (by omega) (by decide)) (br_c (fun w => ?_) (fun w => ?_)))) (fun z => ?_)))
        · rw [nI_clamp (by omega), hxb, nI_leI ha (by omega)] at z
          rw [nI_clamp (by omega), hxt, xr, nI_ltI (by omega) (by omega)] at w
          have g := ms_gd_ft h5 hf ht hft
          have yw : ∀ P Q : Prop, P → (y10 (nI f * 5 + nI t).toNatClampNeg < y2 → P) ∧ (¬ y10 (nI f * 5 + nI t).toNatClampNeg < y2 → Q) := fun P Q hp => br_t (by rw [ei, nI_clamp (by omega), hyl, yr, nI_ltI (by omega) (by omega)]; exact w) hp
          refine ms_x_blocked HX (f := f) (c := f * 5 + t) (by omega) (by omega) hJb (hb _) iP hroom (fun s hs hJ => hL4 s hs hJ _) (fun s hs hJ => hLL s hs hJ _) rfl rfl (fun bl => br_f (by decide) ?_) (fun bl => br_t rfl ?_)
          · refine br_f yu' (ms_y_gp1 yn h5 hf ht hft (br_f (by decide) (br_t h1 (And.intro (vp_in_nI (by omega) (by decide)) (br_t ?_ (And.intro ?_ (yw _ _ ⟨4, ?_⟩)))))))
            · rw [nI_clamp (by omega), hyb, nI_leI ha (by omega)]; exact z
            · rw [ei]; exact vp_in_nI (by omega) (by decide)
            · exact ms_y_bl62 HY (by omega) (by omega) hJb iP hroom (fun _ => ⟨rfl, I⟩) (fun nb => absurd bl (fun ⟨s, hs, h⟩ => nb s hs h)) 3 4 0 (by omega) (by omega) (fun s hs => absurd hs (Nat.not_lt_zero _))
          · have hin : vp_in (nI f) 5 := vp_in_nI (by omega) (by decide)
            have hlen := hcap g (Or.inl (by omega))
            refine And.intro hin (And.intro hin (nm_r (e' := upd a_liveBalance f (nI (B0 f - a))) ?_ (And.intro hin (And.intro hin (nm_r (e' := upd a_liveDigest f (D0 f * 31 + (nI a * 16 + nI t))) ?_ ?_)))))
            · rw [nI_clamp (by omega), hxb, pk_sub z]
            · rw [nI_clamp (by omega), (xB f hf).2]
            · have HX1 := ms_RX_live (f := f) (b := B0 f - a) (d := D0 f * 31 + (nI a * 16 + nI t)) HX rfl rfl
              refine ms_x_append HX1 (c := f * 5 + t) (v := a) (k := 1) (by omega) hlen (by decide) (by omega) rfl rfl rfl (fun u' H' => ?_)
              have H2 := ms_RX_congrP (B' := ms_pt 3 (fun s => decide (J s ≠ 0 ∧ par s f = 0)) (fun s => ms_set (B s) f (B s f - a)) B) (D' := ms_pt 3 (fun s => decide (J s ≠ 0 ∧ par s f = 0)) (fun s => ms_set (D s) f (D s f * 31 + (nI a * 16 + nI t))) D) (L' := ms_pt 3 (fun s => decide (J s ≠ 0 ∧ par s f = 0)) (fun s => ms_set (L s) (f * 5 + t) (L s (f * 5 + t) ++ [a])) L) H' (by
                intro r p hr hpr
                by_cases h3 : r < 3
                · have hn : (fun s => decide (J s ≠ 0 ∧ par s f = 0)) r = true → p ≠ f := fun z y => by
                    have := of_decide_eq_true z
                    rw [y] at hpr
                    exact hpr h3 this.2
                  by_cases e : (fun s => decide (J s ≠ 0 ∧ par s f = 0)) r = true
                  · rw [ms_pt_y h3 e, ms_pt_y h3 e, ms_set_n (hn e), ms_set_n (hn e)]; exact ⟨rfl, rfl⟩
                  · rw [ms_pt_n (Bool.eq_false_iff.mpr e), ms_pt_n (Bool.eq_false_iff.mpr e)]; exact ⟨rfl, rfl⟩
                · rw [ms_pt_g (by omega), ms_pt_g (by omega)]; exact ⟨rfl, rfl⟩)
              obtain ⟨z0, z1, z2, z3, z4, z5, z6, z7, z8, z9, z10, z11, z12, z13, z14, z15, z16, z17, z18, z19, z20, z21⟩ := u'
              refine br_f yu' (ms_y_gp1 yn h5 hf ht hft (br_f (by decide) (br_t h1 (And.intro (vp_in_nI (by omega) (by decide)) (br_t ?_ (And.intro ?_ (yw _ _ ⟨4, ?_⟩)))))))
              · rw [nI_clamp (by omega), hyb, nI_leI ha (by omega)]; exact z
              · rw [ei]; exact vp_in_nI (by omega) (by decide)
              · refine ms_y_bl62 HY (by omega) (by omega) hJb iP hroom (fun ⟨s, hs, h⟩ => absurd h (bl s hs)) (fun _ => ?_) 3 4 0 (by omega) (by omega) (fun s hs => absurd hs (Nat.not_lt_zero _))
                refine ms_y_tr0 HY (by omega) (by omega) hJb iP hlen z (by show (ms_tk (Q (f * 5 + t))).length < 4; omega) (fun s hs hJ hp => ?_) (fun v' H3 => ⟨rfl, _, hsend f t a hu hf ht hft z w bl, H2, ?_⟩)
                · obtain ⟨hA, b, c, d⟩ := iS s hs hJ
                  rw [(b.2.2.2.2.1 f hf hp).1]
                  refine ⟨z, ?_⟩
                  have : ¬ room ≤ (L s (f * 5 + t)).length := fun y => bl s hs ⟨hJ, hp, y⟩
                  omega
                · refine ms_RY_to H3 ?_
                  funext c
                  show ms_set (fun c => ms_tk (Q c)) (f * 5 + t) (ms_tk (Q (f * 5 + t)) ++ [a]) c = ms_tk (ms_set Q (f * 5 + t) (Q (f * 5 + t) ++ [a * 4 + 1]) c)
                  by_cases e : c = f * 5 + t
                  · subst e
                    rw [ms_set_s, ms_set_s, ms_tk_a1 (by omega), show (a * 4 + 1) / 4 = a by omega]
                  · rw [ms_set_n e, ms_set_n e]
        · rw [nI_clamp (by omega), hxb, nI_leI ha (by omega)] at z
          rw [nI_clamp (by omega), hxt, xr, nI_ltI (by omega) (by omega)] at w
          refine br_f yu' (ms_y_gp1 yn h5 hf ht hft (br_f (by decide) (br_t h1 (And.intro (vp_in_nI (by omega) (by decide)) (br_t ?_ (And.intro ?_ (br_f ?_ ⟨rfl, I⟩)))))))
          · rw [nI_clamp (by omega), hyb, nI_leI ha (by omega)]; exact z
          · rw [ei]; exact vp_in_nI (by omega) (by decide)
          · rw [ei, nI_clamp (by omega), hyl, yr, nI_ltI (by omega) (by omega)]; exact w
        · rw [nI_clamp (by omega), hxb, nI_leI ha (by omega)] at z
          refine br_f yu' (ms_y_gp1 yn h5 hf ht hft (br_f (by decide) (br_t h1 (And.intro (vp_in_nI (by omega) (by decide)) (br_f ?_ ⟨rfl, I⟩)))))
          rw [nI_clamp (by omega), hyb, nI_leI ha (by omega)]; exact z
      · exact br_f h1 (br_f yu' (ms_y_gp1 yn h5 hf ht hft (br_f (by decide) (br_f h1 ⟨rfl, I⟩))))
    · exact ms_x_gp0 xn h5 hg (br_t rfl (br_f yu' (ms_y_gp0 yn h5 hg (br_t rfl ⟨rfl, I⟩))))
theorem ms_narb (b : Bool) : narrow .boolean (.int (ms_b b)) = .int (ms_b b) := by
  cases b <;> rfl
theorem i_vc_isUp {k : Nat} {u : SX} {v : SY} (I : i_Rel k u v) (hk : k + 5 ≤ 2564) : wpX_isUp (fun r => wpY_isUp (fun r' => r' = r ∧ i_Rel (k + 5) u v) v) u := by
  obtain ⟨⟨n, room, slots, up, last, kept, B0, D0, Q, J, root, par, fin, mI, rI, B, D, L, ST⟩, hI, HX, HY⟩ := id I
  obtain ⟨f_n, f_room, f_slots, f_up, f_last, f_keptCount, a_liveBalance, a_liveDigest, a_ring, a_head, a_count, a_tokens, a_rootOf, a_parentOf, a_finished, a_markerIn, a_reportIn, a_recId, a_recBalance, a_recDigest, a_recLength, a_recAmount⟩ := u
  obtain ⟨y1, y2, y3, y4, y5, y6, y7, y8, y9, y10, y11, y12, y13, y14, y15⟩ := v
  replace HY : ms_RY (n, room, slots, up, last, kept, B0, D0, Q, J, root, par, fin, mI, rI, B, D, L, ST) (fun c => ms_tk (Q c)) (y1, y2, y3, y4, y5, y6, y7, y8, y9, y10, y11, y12, y13, y14, y15) := HY
  obtain ⟨⟨xn, xr, xs, xu, xl, xk⟩, xB, xQ, xI, xR, xP, xM, xE, xS⟩ := id HX
  obtain ⟨⟨yn, yr, ys, yu, yl, yk⟩, yQ, yI, yP, yL, yE⟩ := id HY
  have h5 := hI.1.2.1
  have hJb := ms_Inv_J hI
  refine And.intro (by rw [xu]; exact ms_narb up) (And.intro (by rw [yu]; exact ms_narb up) ⟨?_, I⟩)
  rw [xu, yu]
theorem i_vc_balance {k : Nat} {u : SX} {v : SY} (I : i_Rel k u v) (hk : k + 5 ≤ 2564) (v1 : Int32) : wpX_balance (fun r => wpY_balance (fun r' => r' = r ∧ i_Rel (k + 5) u v) v v1) u v1 := by
  obtain ⟨⟨n, room, slots, up, last, kept, B0, D0, Q, J, root, par, fin, mI, rI, B, D, L, ST⟩, hI, HX, HY⟩ := id I
  obtain ⟨f_n, f_room, f_slots, f_up, f_last, f_keptCount, a_liveBalance, a_liveDigest, a_ring, a_head, a_count, a_tokens, a_rootOf, a_parentOf, a_finished, a_markerIn, a_reportIn, a_recId, a_recBalance, a_recDigest, a_recLength, a_recAmount⟩ := u
  obtain ⟨y1, y2, y3, y4, y5, y6, y7, y8, y9, y10, y11, y12, y13, y14, y15⟩ := v
  replace HY : ms_RY (n, room, slots, up, last, kept, B0, D0, Q, J, root, par, fin, mI, rI, B, D, L, ST) (fun c => ms_tk (Q c)) (y1, y2, y3, y4, y5, y6, y7, y8, y9, y10, y11, y12, y13, y14, y15) := HY
  obtain ⟨⟨xn, xr, xs, xu, xl, xk⟩, xB, xQ, xI, xR, xP, xM, xE, xS⟩ := id HX
  obtain ⟨⟨yn, yr, ys, yu, yl, yk⟩, yQ, yI, yP, yL, yE⟩ := id HY
  have h5 := hI.1.2.1
  have hJb := ms_Inv_J hI
  unfold wpX_balance wpY_balance
  dsimp only
  by_cases hg : ∃ p, p < n ∧ v1 = nI p
  · obtain ⟨p, hp, rfl⟩ := hg
    refine ms_x_pr1 xn h5 hp (br_f (by decide) (And.intro (vp_in_nI (by omega) (by decide)) (ms_y_pr1 yn h5 hp (br_f (by decide) (And.intro (vp_in_nI (by omega) (by decide)) ⟨?_, I⟩)))))
    have := (yL.1 p (by omega)).1
    rw [Nat.zero_mul, Nat.zero_add] at this
    rw [nI_clamp (by omega), (xB p hp).1, this]
  · exact ms_x_pr0 xn h5 hg (br_t rfl (ms_y_pr0 yn h5 hg (br_t rfl ⟨rfl, I⟩)))
theorem i_vc_digest {k : Nat} {u : SX} {v : SY} (I : i_Rel k u v) (hk : k + 5 ≤ 2564) (v1 : Int32) : wpX_digest (fun r => wpY_digest (fun r' => r' = r ∧ i_Rel (k + 5) u v) v v1) u v1 := by
  obtain ⟨⟨n, room, slots, up, last, kept, B0, D0, Q, J, root, par, fin, mI, rI, B, D, L, ST⟩, hI, HX, HY⟩ := id I
  obtain ⟨f_n, f_room, f_slots, f_up, f_last, f_keptCount, a_liveBalance, a_liveDigest, a_ring, a_head, a_count, a_tokens, a_rootOf, a_parentOf, a_finished, a_markerIn, a_reportIn, a_recId, a_recBalance, a_recDigest, a_recLength, a_recAmount⟩ := u
  obtain ⟨y1, y2, y3, y4, y5, y6, y7, y8, y9, y10, y11, y12, y13, y14, y15⟩ := v
  replace HY : ms_RY (n, room, slots, up, last, kept, B0, D0, Q, J, root, par, fin, mI, rI, B, D, L, ST) (fun c => ms_tk (Q c)) (y1, y2, y3, y4, y5, y6, y7, y8, y9, y10, y11, y12, y13, y14, y15) := HY
  obtain ⟨⟨xn, xr, xs, xu, xl, xk⟩, xB, xQ, xI, xR, xP, xM, xE, xS⟩ := id HX
  obtain ⟨⟨yn, yr, ys, yu, yl, yk⟩, yQ, yI, yP, yL, yE⟩ := id HY
  have h5 := hI.1.2.1
  have hJb := ms_Inv_J hI
  unfold wpX_digest wpY_digest
  dsimp only
  by_cases hg : ∃ p, p < n ∧ v1 = nI p
  · obtain ⟨p, hp, rfl⟩ := hg
    refine ms_x_pr1 xn h5 hp (br_f (by decide) (And.intro (vp_in_nI (by omega) (by decide)) (ms_y_pr1 yn h5 hp (br_f (by decide) (And.intro (vp_in_nI (by omega) (by decide)) ⟨?_, I⟩)))))
    have := (yL.1 p (by omega)).2
    rw [Nat.zero_mul, Nat.zero_add] at this
    rw [nI_clamp (by omega), (xB p hp).2, this]
  · exact ms_x_pr0 xn h5 hg (br_t rfl (ms_y_pr0 yn h5 hg (br_t rfl ⟨rfl, I⟩)))
theorem i_vc_items {k : Nat} {u : SX} {v : SY} (I : i_Rel k u v) (hk : k + 5 ≤ 2564) (v1 : Int32) (v2 : Int32) : wpX_items (fun r => wpY_items (fun r' => r' = r ∧ i_Rel (k + 5) u v) v v1 v2) u v1 v2 := by
  obtain ⟨⟨n, room, slots, up, last, kept, B0, D0, Q, J, root, par, fin, mI, rI, B, D, L, ST⟩, hI, HX, HY⟩ := id I
  obtain ⟨f_n, f_room, f_slots, f_up, f_last, f_keptCount, a_liveBalance, a_liveDigest, a_ring, a_head, a_count, a_tokens, a_rootOf, a_parentOf, a_finished, a_markerIn, a_reportIn, a_recId, a_recBalance, a_recDigest, a_recLength, a_recAmount⟩ := u
  obtain ⟨y1, y2, y3, y4, y5, y6, y7, y8, y9, y10, y11, y12, y13, y14, y15⟩ := v
  replace HY : ms_RY (n, room, slots, up, last, kept, B0, D0, Q, J, root, par, fin, mI, rI, B, D, L, ST) (fun c => ms_tk (Q c)) (y1, y2, y3, y4, y5, y6, y7, y8, y9, y10, y11, y12, y13, y14, y15) := HY
  obtain ⟨⟨xn, xr, xs, xu, xl, xk⟩, xB, xQ, xI, xR, xP, xM, xE, xS⟩ := id HX
  obtain ⟨⟨yn, yr, ys, yu, yl, yk⟩, yQ, yI, yP, yL, yE⟩ := id HY
  have h5 := hI.1.2.1
  have hJb := ms_Inv_J hI
  unfold wpX_items wpY_items
  dsimp only
  by_cases hg : ∃ f t, f < n ∧ t < n ∧ f ≠ t ∧ v1 = nI f ∧ v2 = nI t
  · obtain ⟨f, t, hf, ht, hft, rfl, rfl⟩ := hg
    have ei : nI f * 5 + nI t = nI (f * 5 + t) := by rw [ms_m5, nI_add]
    have hin : vp_in (nI f * 5 + nI t) 25 := by rw [ei]; exact vp_in_nI (by omega) (by decide)
    refine ms_x_gp1 xn h5 hf ht hft (br_f (by decide) (And.intro hin (ms_y_gp1 yn h5 hf ht hft (br_f (by decide) (And.intro hin ⟨?_, I⟩)))))
    rw [ei, nI_clamp (by omega), (xQ _ (by omega)).2.1, (yQ _ (by omega)).2.1]
  · exact ms_x_gp0 xn h5 hg (br_t rfl (ms_y_gp0 yn h5 hg (br_t rfl ⟨rfl, I⟩)))
theorem i_vc_item {k : Nat} {u : SX} {v : SY} (I : i_Rel k u v) (hk : k + 5 ≤ 2564) (v1 : Int32) (v2 : Int32) (v3 : Int32) : wpX_item (fun r => wpY_item (fun r' => r' = r ∧ i_Rel (k + 5) u v) v v1 v2 v3) u v1 v2 v3 := by
  obtain ⟨⟨n, room, slots, up, last, kept, B0, D0, Q, J, root, par, fin, mI, rI, B, D, L, ST⟩, hI, HX, HY⟩ := id I
  obtain ⟨f_n, f_room, f_slots, f_up, f_last, f_keptCount, a_liveBalance, a_liveDigest, a_ring, a_head, a_count, a_tokens, a_rootOf, a_parentOf, a_finished, a_markerIn, a_reportIn, a_recId, a_recBalance, a_recDigest, a_recLength, a_recAmount⟩ := u
  obtain ⟨y1, y2, y3, y4, y5, y6, y7, y8, y9, y10, y11, y12, y13, y14, y15⟩ := v
  replace HY : ms_RY (n, room, slots, up, last, kept, B0, D0, Q, J, root, par, fin, mI, rI, B, D, L, ST) (fun c => ms_tk (Q c)) (y1, y2, y3, y4, y5, y6, y7, y8, y9, y10, y11, y12, y13, y14, y15) := HY
  obtain ⟨⟨xn, xr, xs, xu, xl, xk⟩, xB, xQ, xI, xR, xP, xM, xE, xS⟩ := id HX
  obtain ⟨⟨yn, yr, ys, yu, yl, yk⟩, yQ, yI, yP, yL, yE⟩ := id HY
  have h5 := hI.1.2.1
  have hJb := ms_Inv_J hI
  unfold wpX_item wpY_item
  dsimp only
  by_cases hg : ∃ f t, f < n ∧ t < n ∧ f ≠ t ∧ v1 = nI f ∧ v2 = nI t
  · obtain ⟨f, t, hf, ht, hft, rfl, rfl⟩ := hg
    have ei : nI f * 5 + nI t = nI (f * 5 + t) := by rw [ms_m5, nI_add]
    have hin : vp_in (nI f * 5 + nI t) 25 := by rw [ei]; exact vp_in_nI (by omega) (by decide)
    have xq := xQ (f * 5 + t) (by omega)
    have yq := yQ (f * 5 + t) (by omega)
    refine ms_x_gp1 xn h5 hf ht hft (br_f (by decide) (nm_r ei ?_))
    by_cases h0 : v3 < 0
    · exact br_t h0 (ms_y_gp1 yn h5 hf ht hft (br_f (by decide) (br_t h0 ⟨rfl, I⟩)))
    · obtain ⟨i, hi, rfl⟩ := nI_of h0
      have hq1 := xq.1
      refine br_f h0 (And.intro (vp_in_nI (by omega) (by decide)) ?_)
      by_cases hlt : i < (Q (f * 5 + t)).length
      · have ej : nI f * 5 + nI t = nI (f * 5 + t) := ei
        have ek : (nI f * 5 + nI t) * 10 + nI i = nI ((f * 5 + t) * 10 + i) := by rw [ei, ms_m10, nI_add]
        refine br_t (by rw [nI_clamp (by omega), xq.2.1, nI_ltI hi (by omega)]; exact hlt) (ms_x_itemAt xQ (by omega) hlt (ms_y_gp1 yn h5 hf ht hft (br_f (by decide) (br_f h0 (And.intro hin (br_t ?_ (And.intro ?_ ⟨?_, I⟩)))))))
        · rw [ei, nI_clamp (by omega), yq.2.1, nI_ltI hi (by omega)]; exact hlt
        · rw [ek]; exact vp_in_nI (by omega) (by decide)
        · rw [ek, nI_clamp (by omega), yq.2.2 i hlt]
      · refine br_f (by rw [nI_clamp (by omega), xq.2.1, nI_ltI hi (by omega)]; exact hlt) (ms_y_gp1 yn h5 hf ht hft (br_f (by decide) (br_f h0 (And.intro hin (br_f ?_ ⟨rfl, I⟩)))))
        rw [ei, nI_clamp (by omega), yq.2.1, nI_ltI hi (by omega)]; exact hlt
  · exact ms_x_gp0 xn h5 hg (br_t rfl (ms_y_gp0 yn h5 hg (br_t rfl ⟨rfl, I⟩)))
theorem i_vc_lastId {k : Nat} {u : SX} {v : SY} (I : i_Rel k u v) (hk : k + 5 ≤ 2564) : wpX_lastId (fun r => wpY_lastId (fun r' => r' = r ∧ i_Rel (k + 5) u v) v) u := by
  obtain ⟨⟨n, room, slots, up, last, kept, B0, D0, Q, J, root, par, fin, mI, rI, B, D, L, ST⟩, hI, HX, HY⟩ := id I
  obtain ⟨f_n, f_room, f_slots, f_up, f_last, f_keptCount, a_liveBalance, a_liveDigest, a_ring, a_head, a_count, a_tokens, a_rootOf, a_parentOf, a_finished, a_markerIn, a_reportIn, a_recId, a_recBalance, a_recDigest, a_recLength, a_recAmount⟩ := u
  obtain ⟨y1, y2, y3, y4, y5, y6, y7, y8, y9, y10, y11, y12, y13, y14, y15⟩ := v
  replace HY : ms_RY (n, room, slots, up, last, kept, B0, D0, Q, J, root, par, fin, mI, rI, B, D, L, ST) (fun c => ms_tk (Q c)) (y1, y2, y3, y4, y5, y6, y7, y8, y9, y10, y11, y12, y13, y14, y15) := HY
  obtain ⟨⟨xn, xr, xs, xu, xl, xk⟩, xB, xQ, xI, xR, xP, xM, xE, xS⟩ := id HX
  obtain ⟨⟨yn, yr, ys, yu, yl, yk⟩, yQ, yI, yP, yL, yE⟩ := id HY
  have h5 := hI.1.2.1
  have hJb := ms_Inv_J hI
  refine ⟨?_, I⟩
  rw [xl, yl]
theorem i_vc_keptId {k : Nat} {u : SX} {v : SY} (I : i_Rel k u v) (hk : k + 5 ≤ 2564) (v1 : Int32) : wpX_keptId (fun r => wpY_keptId (fun r' => r' = r ∧ i_Rel (k + 5) u v) v v1) u v1 := by
  obtain ⟨⟨n, room, slots, up, last, kept, B0, D0, Q, J, root, par, fin, mI, rI, B, D, L, ST⟩, hI, HX, HY⟩ := id I
  obtain ⟨f_n, f_room, f_slots, f_up, f_last, f_keptCount, a_liveBalance, a_liveDigest, a_ring, a_head, a_count, a_tokens, a_rootOf, a_parentOf, a_finished, a_markerIn, a_reportIn, a_recId, a_recBalance, a_recDigest, a_recLength, a_recAmount⟩ := u
  obtain ⟨y1, y2, y3, y4, y5, y6, y7, y8, y9, y10, y11, y12, y13, y14, y15⟩ := v
  replace HY : ms_RY (n, room, slots, up, last, kept, B0, D0, Q, J, root, par, fin, mI, rI, B, D, L, ST) (fun c => ms_tk (Q c)) (y1, y2, y3, y4, y5, y6, y7, y8, y9, y10, y11, y12, y13, y14, y15) := HY
  obtain ⟨⟨xn, xr, xs, xu, xl, xk⟩, xB, xQ, xI, xR, xP, xM, xE, xS⟩ := id HX
  obtain ⟨⟨yn, yr, ys, yu, yl, yk⟩, yQ, yI, yP, yL, yE⟩ := id HY
  have h5 := hI.1.2.1
  have hJb := ms_Inv_J hI
  have hk3 := hI.1.2.2.2.2.2.2.2.2
  by_cases h0 : v1 < 0
  · exact br_t h0 (br_t h0 ⟨rfl, I⟩)
  · obtain ⟨i, hi, rfl⟩ := nI_of h0
    refine br_f h0 ?_
    by_cases hlt : i < kept
    · refine br_t (by rw [xk, nI_ltI hi (by omega)]; exact hlt) (And.intro ?_ (br_f h0 (br_t ?_ (And.intro ?_ ⟨?_, I⟩))))
      · rw [ms_l3]; exact vp_in_nI (by omega) (by decide)
      · rw [yk, nI_ltI hi (by omega)]; exact hlt
      · rw [ms_l4]; exact vp_in_nI (by omega) (by decide)
      · rw [ms_l3, ms_l4, nI_clamp (by omega), nI_clamp (by omega), xI _ (by omega), show 4 + i = 3 + i + 1 by omega, yI _ (by omega)]
    · refine br_f (by rw [xk, nI_ltI hi (by omega)]; exact hlt) (br_f h0 (br_f ?_ ⟨rfl, I⟩))
      rw [yk, nI_ltI hi (by omega)]; exact hlt
end
section
/-! queries on snapshots -/
theorem ms_fcase {J : Nat → Nat} (hJ : ∀ r, r < 6 → J r ≤ 100) (id : Int32) : (0 ≤ id ∧ ∃ r, r < 6 ∧ J r ≠ 0 ∧ ms_enc (J r) = id ∧ ∀ r', r' < r → ms_enc (J r') ≠ id) ∨ (0 ≤ id → ∀ r, r < 6 → ms_enc (J r) ≠ id) := by
  by_cases h0 : 0 ≤ id
  · rcases ms_first (fun r => ms_enc (J r) = id) 6 with ⟨r, a, b, c⟩ | h
    · refine Or.inl ⟨h0, r, a, ?_, b, c⟩
      intro z
      have b' : ms_enc (J r) = id := b
      rw [z] at b'
      rw [← b'] at h0
      exact ms_n1le h0
    · exact Or.inr (fun _ => h)
  · exact Or.inr (fun z => absurd z h0)
section
variable {f_n f_room f_slots f_up f_last f_keptCount : Int32} {a_liveBalance a_liveDigest a_ring a_head a_count a_tokens a_rootOf a_parentOf a_finished a_markerIn a_reportIn a_recId a_recBalance a_recDigest a_recLength a_recAmount : Nat → Int32} {n : Nat} {room : Nat} {slots : Nat} {up : Bool} {last : Nat} {kept : Nat} {B0 : Nat → Nat} {D0 : Nat → Int32} {Q : Nat → List Nat} {J : Nat → Nat} {root : Nat → Nat} {par : Nat → Nat → Nat} {fin : Nat → Nat → Bool} {mI : Nat → Nat → Bool} {rI : Nat → Nat → Bool} {B : Nat → Nat → Nat} {D : Nat → Nat → Int32} {L : Nat → Nat → List Nat} {ST : Nat → Nat → List Nat}
theorem ms_x_balanceIn {post : Int32 → Prop} {r p : Nat} {p0 p1 : Int32} (H : ms_RX (n, room, slots, up, last, kept, B0, D0, Q, J, root, par, fin, mI, rI, B, D, L, ST) (f_n, f_room, f_slots, f_up, f_last, f_keptCount, a_liveBalance, a_liveDigest, a_ring, a_head, a_count, a_tokens, a_rootOf, a_parentOf, a_finished, a_markerIn, a_reportIn, a_recId, a_recBalance, a_recDigest, a_recLength, a_recAmount)) (h5 : n ≤ 5) (hr : r < 6) (hp : p < n) (hJ : J r ≠ 0) (hP : ms_IP n par) (hB : r < 3 → par r p = 0 → B r p = B0 p) (e0 : p0 = nI r) (e1 : p1 = nI p) (K : post (nI (B r p))) : wpX_balanceIn post (f_n, f_room, f_slots, f_up, f_last, f_keptCount, a_liveBalance, a_liveDigest, a_ring, a_head, a_count, a_tokens, a_rootOf, a_parentOf, a_finished, a_markerIn, a_reportIn, a_recId, a_recBalance, a_recDigest, a_recLength, a_recAmount) p0 p1 := by
  obtain ⟨⟨xn, xr, xs, xu, xl, xk⟩, xB, xQ, xI, xR, xP, xM, xE, xS⟩ := H
  subst e0 e1
  unfold wpX_balanceIn wpX_stillLive
  have ei : nI r * 5 + nI p = nI (r * 5 + p) := by rw [ms_m5, nI_add]
  by_cases h3 : r < 3
  · have hpi := hP r p h3 (by omega)
    refine br_f (nI_ge (b := 3) h3 (by decide)) (And.intro (by rw [ei]; exact vp_in_nI (by omega) (by decide)) (br_c (fun z => br_t rfl (And.intro (by rw [ei]; exact vp_in_nI (by omega) (by decide)) ?_)) (fun z => br_f (by decide) (And.intro (vp_in_nI (by omega) (by decide)) ?_))))
    · rw [ei, nI_clamp (by omega), (xP r p h3 (by omega)).1, ms_e_ge (by omega)] at z
      rw [ei, nI_clamp (by omega), (xE r p hr hp hJ (fun _ => z)).1]; exact K
    · rw [ei, nI_clamp (by omega), (xP r p h3 (by omega)).1, ms_e_ge (by omega)] at z
      rw [nI_clamp (by omega), (xB p hp).1, ← hB h3 (by omega)]; exact K
  · refine br_t (nI_le (a := 3) (by omega) (by omega)) (br_t rfl (And.intro (by rw [ei]; exact vp_in_nI (by omega) (by decide)) ?_))
    rw [ei, nI_clamp (by omega), (xE r p hr hp hJ (fun z => absurd z h3)).1]; exact K
theorem ms_bf_pre {m : Nat} : ∀ (l : List Nat) (j : Nat), j < (ms_bf m l).length → j < (ms_tk l).length ∧ ms_nth (ms_bf m l) j = ms_nth (ms_tk l) j := by
  intro l
  induction l with
  | nil => intro j hj; exact absurd hj (Nat.not_lt_zero _)
  | cons y l ih =>
    intro j hj
    by_cases e : y = m
    · subst e; rw [ms_bf_cs] at hj; exact absurd hj (Nat.not_lt_zero _)
    · by_cases e1 : y % 4 = 1
      · rw [ms_bf_c1 e e1] at hj ⊢
        rw [ms_tk_c1 e1]
        cases j with
        | zero => exact ⟨Nat.succ_pos _, rfl⟩
        | succ j =>
          have := ih j (Nat.lt_of_succ_lt_succ hj)
          exact ⟨Nat.succ_lt_succ this.1, this.2⟩
      · rw [ms_bf_c0 e e1] at hj ⊢
        rw [ms_tk_c0 e1]
        exact ih j hj
theorem ms_x_am44 {post : Int32 → Prop} {c : Nat} (hQ : ms_QX Q a_ring a_head a_count a_tokens) (hc : c < 25) (hb : ∀ x, x ∈ Q c → x < 4000000) : ∀ (suf : List Nat) (N i left : Nat), suf.length < N → i + suf.length = (Q c).length →
    (∀ j, j < suf.length → ms_nth (Q c) (i + j) = ms_nth suf j) → left < (ms_tk suf).length → left < 100 → post (nI (ms_nth (ms_tk suf) left)) → wX_amountIn_44 post (nI c) f_n f_room f_slots f_up f_last f_keptCount a_liveBalance a_liveDigest a_ring a_head a_count a_tokens a_rootOf a_parentOf a_finished a_markerIn a_reportIn a_recId a_recBalance a_recDigest a_recLength a_recAmount N (nI left) (nI i) := by
  have q2 := (hQ c hc).2.1
  have q1 := (hQ c hc).1
  intro suf
  induction suf with
  | nil => intro N i left hN h1 h2 hl hl2 hp; exact absurd hl (Nat.not_lt_zero _)
  | cons y suf ih =>
    intro N i left hN h1 h2 hl hl2 hp
    obtain ⟨N, rfl⟩ : ∃ M, N = M + 1 := ⟨N - 1, by omega⟩
    rw [List.length_cons] at h1 hN
    have hle : ¬ (Q c).length ≤ i := by omega
    have hy : ms_nth (Q c) i = y := h2 0 (by rw [List.length_cons]; omega)
    have hyb : y < 4000000 := by
      rw [← hy]; exact hb _ (ms_nth_mem _ _ (by omega))
    have h2' : ∀ j, j < suf.length → ms_nth (Q c) (i + 1 + j) = ms_nth suf j := by
      intro j hj
      have := h2 (j + 1) (by rw [List.length_cons]; omega)
      rw [show i + 1 + j = i + (j + 1) by omega]; exact this
    refine And.intro (vp_in_nI hc (by decide)) (br_f ?_ (ms_x_itemAt hQ hc (by omega) ?_))
    · rw [nI_clamp (by omega), q2]; exact nI_ge (by omega) (by omega)
    · rw [hy]
      by_cases e1 : y % 4 = 1
      · rw [ms_tk_c1 e1] at hl hp
        refine br_t (by rw [ms_and3 (by omega), e1]; rfl) ?_
        cases left with
        | zero =>
          refine br_t rfl ?_
          rw [ms_shr2 (by omega)]; exact hp
        | succ left =>
          refine br_f (nI_ne0 (by omega) (by omega)) (nm_r (pk_m1 left) (nm_r (nI_1 i) (ih N _ _ (by omega) (by omega) h2' (Nat.lt_of_succ_lt_succ hl) (by omega) hp)))
      · rw [ms_tk_c0 e1] at hl hp
        refine br_f (fun z => e1 ?_) (nm_r (nI_1 i) (ih N _ _ (by omega) (by omega) h2' hl hl2 hp))
        rw [ms_and3 (by omega), ms_eq1 (by omega)] at z; exact z
theorem ms_x_amountIn {post : Int32 → Prop} {r c i : Nat} {p0 p1 p2 : Int32} (H : ms_RX (n, room, slots, up, last, kept, B0, D0, Q, J, root, par, fin, mI, rI, B, D, L, ST) (f_n, f_room, f_slots, f_up, f_last, f_keptCount, a_liveBalance, a_liveDigest, a_ring, a_head, a_count, a_tokens, a_rootOf, a_parentOf, a_finished, a_markerIn, a_reportIn, a_recId, a_recBalance, a_recDigest, a_recLength, a_recAmount)) (hr : r < 6) (hc : c < 25) (hJ : J r ≠ 0) (hb : ∀ x, x ∈ Q c → x < 4000000)
    (hL : L r c = ST r c ++ (if r < 3 then (if mI r c = true then [] else ms_bf ((J r - 1) * 4 + 2) (Q c)) else [])) (hi : i < (L r c).length) (hi4 : i < 100) (e0 : p0 = nI r) (e1 : p1 = nI c) (e2 : p2 = nI i) (hp : post (nI (ms_nth (L r c) i))) : wpX_amountIn post (f_n, f_room, f_slots, f_up, f_last, f_keptCount, a_liveBalance, a_liveDigest, a_ring, a_head, a_count, a_tokens, a_rootOf, a_parentOf, a_finished, a_markerIn, a_reportIn, a_recId, a_recBalance, a_recDigest, a_recLength, a_recAmount) p0 p1 p2 := by
  obtain ⟨⟨xn, xr, xs, xu, xl, xk⟩, xB, xQ, xI, xR, xP, xM, xE, xS⟩ := H
  obtain ⟨q1, q2, q3⟩ := xS r c hr hc hJ
  subst e0 e1 e2
  have ei : nI r * 25 + nI c = nI (r * 25 + c) := by rw [ms_m25, nI_add]
  refine And.intro (by rw [ei]; exact vp_in_nI (by omega) (by decide)) (nm_r (e' := nI (ST r c).length) (by rw [ei, nI_clamp (by omega), q2]) ?_)
  by_cases hs : (ST r c).length ≤ i
  · obtain ⟨m, hm⟩ : ∃ m, L r c = ST r c ++ ms_bf m (Q c) := by
      by_cases h3 : r < 3
      · rw [if_pos h3] at hL
        cases e : mI r c with
        | false => rw [e, if_neg (by decide)] at hL; exact ⟨_, hL⟩
        | true =>
          rw [e, if_pos rfl, List.append_nil] at hL
          rw [hL] at hi; omega
      · rw [if_neg h3, List.append_nil] at hL
        rw [hL] at hi; omega
    refine br_t (nI_le hs (by omega)) (nm_r (e' := nI (i - (ST r c).length)) (pk_sub hs) ⟨(Q c).length + 1, ?_⟩)
    rw [hm, List.length_append] at hi
    have hpre := ms_bf_pre (m := m) (Q c) (i - (ST r c).length) (by omega)
    refine ms_x_am44 xQ hc hb (Q c) _ 0 _ (Nat.lt_succ_self _) (Nat.zero_add _) (fun j _ => by rw [Nat.zero_add]) hpre.1 (by omega) ?_
    rw [← hpre.2]
    rw [hm, show i = (ST r c).length + (i - (ST r c).length) by omega, ms_nth_app2] at hp
    exact hp
  · have ek : (nI r * 25 + nI c) * 4 + nI i = nI ((r * 25 + c) * 4 + i) := by rw [ei, ms_m4, nI_add]
    refine br_f (by rw [nI_leI (by omega) (by omega)]; exact hs) (And.intro ?_ ?_)
    · rw [ek]; exact vp_in_nI (by omega) (by decide)
    · rw [ek, nI_clamp (by omega), q3 i (by omega)]
      rw [hL, ms_nth_app1 _ _ _ (by omega)] at hp
      exact hp
/-- the cut's list of an entry, as X puts it together -/
theorem ms_Inv_cut (h : ms_Inv (n, room, slots, up, last, kept, B0, D0, Q, J, root, par, fin, mI, rI, B, D, L, ST)) {r : Nat} (hr : r < 6) (hJ : J r ≠ 0) (c : Nat) : L r c = ST r c ++ (if r < 3 then (if mI r c = true then [] else ms_bf ((J r - 1) * 4 + 2) (Q c)) else []) := by
  by_cases h3 : r < 3
  · rw [if_pos h3]; exact ms_Inv_L h r h3 hJ c
  · obtain ⟨i0, iA, iQ, iJ, iP, iS, iK, iD⟩ := h
    rw [if_neg h3, List.append_nil]
    have hk := iK (r - 3) (by omega)
    rw [show 3 + (r - 3) = r by omega] at hk
    by_cases h4 : r - 3 < kept
    · exact ((hk.1 h4).2.2.2 c).symm
    · exact absurd (hk.2 (by omega)) hJ
theorem ms_Inv_A (h : ms_Inv (n, room, slots, up, last, kept, B0, D0, Q, J, root, par, fin, mI, rI, B, D, L, ST)) {r : Nat} (hr : r < 6) (hJ : J r ≠ 0) : ms_A n room (B r) (L r) := by
  obtain ⟨i0, iA, iQ, iJ, iP, iS, iK, iD⟩ := h
  by_cases h3 : r < 3
  · exact (iS r h3 hJ).1
  · have hk := iK (r - 3) (by omega)
    rw [show 3 + (r - 3) = r by omega] at hk
    by_cases h4 : r - 3 < kept
    · exact (hk.1 h4).2.2.1
    · exact absurd (hk.2 (by omega)) hJ
theorem ms_Inv_unrec (h : ms_Inv (n, room, slots, up, last, kept, B0, D0, Q, J, root, par, fin, mI, rI, B, D, L, ST)) {r p : Nat} (hp : p < n) (hJ : J r ≠ 0) (h3 : r < 3) (h0 : par r p = 0) : B r p = B0 p ∧ D r p = D0 p := by
  obtain ⟨i0, iA, iQ, iJ, iP, iS, iK, iD⟩ := h
  exact (iS r h3 hJ).2.1.2.2.2.2.1 p hp h0
end
theorem i_vc_stage {k : Nat} {u : SX} {v : SY} (I : i_Rel k u v) (hk : k + 5 ≤ 2564) (v1 : Int32) (v2 : Int32) : wpX_stage (fun r => wpY_stage (fun r' => r' = r ∧ i_Rel (k + 5) u v) v v1 v2) u v1 v2 := by
  obtain ⟨⟨n, room, slots, up, last, kept, B0, D0, Q, J, root, par, fin, mI, rI, B, D, L, ST⟩, hI, HX, HY⟩ := id I
  obtain ⟨f_n, f_room, f_slots, f_up, f_last, f_keptCount, a_liveBalance, a_liveDigest, a_ring, a_head, a_count, a_tokens, a_rootOf, a_parentOf, a_finished, a_markerIn, a_reportIn, a_recId, a_recBalance, a_recDigest, a_recLength, a_recAmount⟩ := u
  obtain ⟨y1, y2, y3, y4, y5, y6, y7, y8, y9, y10, y11, y12, y13, y14, y15⟩ := v
  replace HY : ms_RY (n, room, slots, up, last, kept, B0, D0, Q, J, root, par, fin, mI, rI, B, D, L, ST) (fun c => ms_tk (Q c)) (y1, y2, y3, y4, y5, y6, y7, y8, y9, y10, y11, y12, y13, y14, y15) := HY
  obtain ⟨⟨xn, xr, xs, xu, xl, xk⟩, xB, xQ, xI, xR, xP, xM, xE, xS⟩ := id HX
  obtain ⟨⟨yn, yr, ys, yu, yl, yk⟩, yQ, yI, yP, yL, yE⟩ := id HY
  have h5 := hI.1.2.1
  have hJb := ms_Inv_J hI
  have iP := hI.2.2.2.2.1
  unfold wpX_stage wpY_stage
  by_cases hg : ∃ p, p < n ∧ v2 = nI p
  · obtain ⟨p, hp, rfl⟩ := hg
    refine ms_x_pr1 xn h5 hp (br_f (by decide) ?_)
    rcases ms_fcase hJb v1 with ⟨h0, r, hr, hJ, he, hl⟩ | hno
    · refine ms_x_findEntry xI h0 hr he hl (br_t (nI_pos' (by omega)) ?_)
      by_cases h3 : r < 3
      · have ei : nI r * 5 + nI p = nI (r * 5 + p) := by rw [ms_m5, nI_add]
        have ej : nI (r + 1) * 5 + nI p = nI ((r + 1) * 5 + p) := by rw [ms_m5, nI_add]
        have hin : vp_in (nI r * 5 + nI p) 15 := by rw [ei]; exact vp_in_nI (by omega) (by decide)
        have hiy : vp_in (nI (r + 1) * 5 + nI p) 35 := by rw [ej]; exact vp_in_nI (by omega) (by decide)
        obtain ⟨xp1, xp2⟩ := xP r p h3 (by omega)
        obtain ⟨yp1, yp2⟩ := yP r p h3 (by omega)
        have hpi := iP r p h3 (by omega)
        refine br_t (nI_lt (b := 3) h3 (by decide)) (And.intro hin (br_c (fun z => And.intro hin (br_c (fun w => ?_) (fun w => ?_))) (fun z => ?_)))
        · rw [ei, nI_clamp (by omega), xp1, ms_e_ge (by omega)] at z
          rw [ei, nI_clamp (by omega), xp2] at w
          refine ms_y_pr1 yn h5 hp (br_f (by decide) (ms_y_find yI h0 hr he hl (br_t (nI_pos' (by omega)) (br_t (nI_lt (b := 4) (by omega) (by decide)) (And.intro hiy (br_t ?_ (And.intro hiy (br_t ?_ ⟨rfl, I⟩))))))))
          · rw [ej, nI_clamp (by omega), yp1, ms_e_ge (by omega)]; exact z
          · rw [ej, nI_clamp (by omega), yp2]; exact w
        · rw [ei, nI_clamp (by omega), xp1, ms_e_ge (by omega)] at z
          rw [ei, nI_clamp (by omega), xp2] at w
          refine ms_y_pr1 yn h5 hp (br_f (by decide) (ms_y_find yI h0 hr he hl (br_t (nI_pos' (by omega)) (br_t (nI_lt (b := 4) (by omega) (by decide)) (And.intro hiy (br_t ?_ (And.intro hiy (br_f ?_ ⟨rfl, I⟩))))))))
          · rw [ej, nI_clamp (by omega), yp1, ms_e_ge (by omega)]; exact z
          · rw [ej, nI_clamp (by omega), yp2]; exact w
        · rw [ei, nI_clamp (by omega), xp1, ms_e_ge (by omega)] at z
          refine ms_y_pr1 yn h5 hp (br_f (by decide) (ms_y_find yI h0 hr he hl (br_t (nI_pos' (by omega)) (br_t (nI_lt (b := 4) (by omega) (by decide)) (And.intro hiy (br_f ?_ ⟨rfl, I⟩))))))
          rw [ej, nI_clamp (by omega), yp1, ms_e_ge (by omega)]; exact z
      · exact br_f (nI_nlt (b := 3) (by omega) (by omega)) (ms_y_pr1 yn h5 hp (br_f (by decide) (ms_y_find yI h0 hr he hl (br_t (nI_pos' (by omega)) (br_f (nI_nlt (b := 4) (by omega) (by omega)) ⟨rfl, I⟩)))))
    · exact ms_x_findEntry_n xI hno (br_f (by decide) (ms_y_pr1 yn h5 hp (br_f (by decide) (ms_y_find_n yI hno (br_f (by decide) ⟨rfl, I⟩)))))
  · exact ms_x_pr0 xn h5 hg (br_t rfl (ms_y_pr0 yn h5 hg (br_t rfl ⟨rfl, I⟩)))
theorem i_vc_parent {k : Nat} {u : SX} {v : SY} (I : i_Rel k u v) (hk : k + 5 ≤ 2564) (v1 : Int32) (v2 : Int32) : wpX_parent (fun r => wpY_parent (fun r' => r' = r ∧ i_Rel (k + 5) u v) v v1 v2) u v1 v2 := by
  obtain ⟨⟨n, room, slots, up, last, kept, B0, D0, Q, J, root, par, fin, mI, rI, B, D, L, ST⟩, hI, HX, HY⟩ := id I
  obtain ⟨f_n, f_room, f_slots, f_up, f_last, f_keptCount, a_liveBalance, a_liveDigest, a_ring, a_head, a_count, a_tokens, a_rootOf, a_parentOf, a_finished, a_markerIn, a_reportIn, a_recId, a_recBalance, a_recDigest, a_recLength, a_recAmount⟩ := u
  obtain ⟨y1, y2, y3, y4, y5, y6, y7, y8, y9, y10, y11, y12, y13, y14, y15⟩ := v
  replace HY : ms_RY (n, room, slots, up, last, kept, B0, D0, Q, J, root, par, fin, mI, rI, B, D, L, ST) (fun c => ms_tk (Q c)) (y1, y2, y3, y4, y5, y6, y7, y8, y9, y10, y11, y12, y13, y14, y15) := HY
  obtain ⟨⟨xn, xr, xs, xu, xl, xk⟩, xB, xQ, xI, xR, xP, xM, xE, xS⟩ := id HX
  obtain ⟨⟨yn, yr, ys, yu, yl, yk⟩, yQ, yI, yP, yL, yE⟩ := id HY
  have h5 := hI.1.2.1
  have hJb := ms_Inv_J hI
  have iP := hI.2.2.2.2.1
  unfold wpX_parent wpY_parent
  by_cases hg : ∃ p, p < n ∧ v2 = nI p
  · obtain ⟨p, hp, rfl⟩ := hg
    refine ms_x_pr1 xn h5 hp (br_f (by decide) ?_)
    rcases ms_fcase hJb v1 with ⟨h0, r, hr, hJ, he, hl⟩ | hno
    · by_cases h3 : r < 3
      · have ei : nI r * 5 + nI p = nI (r * 5 + p) := by rw [ms_m5, nI_add]
        have ej : nI (r + 1) * 5 + nI p = nI ((r + 1) * 5 + p) := by rw [ms_m5, nI_add]
        have hin : vp_in (nI r * 5 + nI p) 15 := by rw [ei]; exact vp_in_nI (by omega) (by decide)
        have hiy : vp_in (nI (r + 1) * 5 + nI p) 35 := by rw [ej]; exact vp_in_nI (by omega) (by decide)
        obtain ⟨xp1, xp2⟩ := xP r p h3 (by omega)
        obtain ⟨yp1, yp2⟩ := yP r p h3 (by omega)
        have hpi := iP r p h3 (by omega)
        refine ms_x_findSlot xI h0 h3 he hl (br_t (nI_pos' (by omega)) (And.intro hin (nm_r (e' := ms_enc (par r p)) (by rw [ei, nI_clamp (by omega), xp1]) (br_c (fun z => ?_) (fun z => ?_)))))
        · refine ms_y_pr1 yn h5 hp (br_f (by decide) (ms_y_find yI h0 hr he hl (br_f (nI_pos (by omega)) (br_t (nI_lt (b := 4) (by omega) (by decide)) (And.intro hiy (br_t ?_ (And.intro hiy ⟨?_, I⟩)))))))
          · rw [ej, nI_clamp (by omega), yp1]; exact z
          · rw [ej, nI_clamp (by omega), yp1]
        · refine ms_y_pr1 yn h5 hp (br_f (by decide) (ms_y_find yI h0 hr he hl (br_f (nI_pos (by omega)) (br_t (nI_lt (b := 4) (by omega) (by decide)) (And.intro hiy (br_f ?_ ⟨rfl, I⟩))))))
          rw [ej, nI_clamp (by omega), yp1]; exact z
      · exact ms_x_findSlot_n xI (fun _ r' hr' => hl r' (by omega)) (br_f (by decide) (ms_y_pr1 yn h5 hp (br_f (by decide) (ms_y_find yI h0 hr he hl (br_f (nI_pos (by omega)) (br_f (nI_nlt (b := 4) (by omega) (by omega)) ⟨rfl, I⟩))))))
    · exact ms_x_findSlot_n xI (fun z r' hr' => hno z r' (by omega)) (br_f (by decide) (ms_y_pr1 yn h5 hp (br_f (by decide) (ms_y_find_n yI hno (br_t (by decide) ⟨rfl, I⟩)))))
  · exact ms_x_pr0 xn h5 hg (br_t rfl (ms_y_pr0 yn h5 hg (br_t rfl ⟨rfl, I⟩)))
theorem i_vc_cutBalance {k : Nat} {u : SX} {v : SY} (I : i_Rel k u v) (hk : k + 5 ≤ 2564) (v1 : Int32) (v2 : Int32) : wpX_cutBalance (fun r => wpY_cutBalance (fun r' => r' = r ∧ i_Rel (k + 5) u v) v v1 v2) u v1 v2 := by
  obtain ⟨⟨n, room, slots, up, last, kept, B0, D0, Q, J, root, par, fin, mI, rI, B, D, L, ST⟩, hI, HX, HY⟩ := id I
  obtain ⟨f_n, f_room, f_slots, f_up, f_last, f_keptCount, a_liveBalance, a_liveDigest, a_ring, a_head, a_count, a_tokens, a_rootOf, a_parentOf, a_finished, a_markerIn, a_reportIn, a_recId, a_recBalance, a_recDigest, a_recLength, a_recAmount⟩ := u
  obtain ⟨y1, y2, y3, y4, y5, y6, y7, y8, y9, y10, y11, y12, y13, y14, y15⟩ := v
  replace HY : ms_RY (n, room, slots, up, last, kept, B0, D0, Q, J, root, par, fin, mI, rI, B, D, L, ST) (fun c => ms_tk (Q c)) (y1, y2, y3, y4, y5, y6, y7, y8, y9, y10, y11, y12, y13, y14, y15) := HY
  obtain ⟨⟨xn, xr, xs, xu, xl, xk⟩, xB, xQ, xI, xR, xP, xM, xE, xS⟩ := id HX
  obtain ⟨⟨yn, yr, ys, yu, yl, yk⟩, yQ, yI, yP, yL, yE⟩ := id HY
  have h5 := hI.1.2.1
  have hJb := ms_Inv_J hI
  have iP := hI.2.2.2.2.1
  unfold wpX_cutBalance wpY_cutBalance
  by_cases hg : ∃ p, p < n ∧ v2 = nI p
  · obtain ⟨p, hp, rfl⟩ := hg
    refine ms_x_pr1 xn h5 hp (br_f (by decide) ?_)
    rcases ms_fcase hJb v1 with ⟨h0, r, hr, hJ, he, hl⟩ | hno
    · have ej : nI (r + 1) * 5 + nI p = nI ((r + 1) * 5 + p) := by rw [ms_m5, nI_add]
      refine ms_x_findEntry xI h0 hr he hl (br_t (nI_pos' (by omega)) (ms_x_balanceIn HX h5 hr hp hJ iP (fun h3 hz => (ms_Inv_unrec hI hp hJ h3 hz).1) rfl rfl ?_))
      refine ms_y_pr1 yn h5 hp (br_f (by decide) (ms_y_find yI h0 hr he hl (br_t (nI_pos' (by omega)) (And.intro ?_ ⟨?_, I⟩))))
      · rw [ej]; exact vp_in_nI (by omega) (by decide)
      · rw [ej, nI_clamp (by omega), ((yE r hr hJ).1 p (by omega)).1]
    · exact ms_x_findEntry_n xI hno (br_f (by decide) (ms_y_pr1 yn h5 hp (br_f (by decide) (ms_y_find_n yI hno (br_f (by decide) ⟨rfl, I⟩)))))
  · exact ms_x_pr0 xn h5 hg (br_t rfl (ms_y_pr0 yn h5 hg (br_t rfl ⟨rfl, I⟩)))
theorem i_vc_cutDigest {k : Nat} {u : SX} {v : SY} (I : i_Rel k u v) (hk : k + 5 ≤ 2564) (v1 : Int32) (v2 : Int32) : wpX_cutDigest (fun r => wpY_cutDigest (fun r' => r' = r ∧ i_Rel (k + 5) u v) v v1 v2) u v1 v2 := by
  obtain ⟨⟨n, room, slots, up, last, kept, B0, D0, Q, J, root, par, fin, mI, rI, B, D, L, ST⟩, hI, HX, HY⟩ := id I
  obtain ⟨f_n, f_room, f_slots, f_up, f_last, f_keptCount, a_liveBalance, a_liveDigest, a_ring, a_head, a_count, a_tokens, a_rootOf, a_parentOf, a_finished, a_markerIn, a_reportIn, a_recId, a_recBalance, a_recDigest, a_recLength, a_recAmount⟩ := u
  obtain ⟨y1, y2, y3, y4, y5, y6, y7, y8, y9, y10, y11, y12, y13, y14, y15⟩ := v
  replace HY : ms_RY (n, room, slots, up, last, kept, B0, D0, Q, J, root, par, fin, mI, rI, B, D, L, ST) (fun c => ms_tk (Q c)) (y1, y2, y3, y4, y5, y6, y7, y8, y9, y10, y11, y12, y13, y14, y15) := HY
  obtain ⟨⟨xn, xr, xs, xu, xl, xk⟩, xB, xQ, xI, xR, xP, xM, xE, xS⟩ := id HX
  obtain ⟨⟨yn, yr, ys, yu, yl, yk⟩, yQ, yI, yP, yL, yE⟩ := id HY
  have h5 := hI.1.2.1
  have hJb := ms_Inv_J hI
  have iP := hI.2.2.2.2.1
  unfold wpX_cutDigest wpY_cutDigest
  by_cases hg : ∃ p, p < n ∧ v2 = nI p
  · obtain ⟨p, hp, rfl⟩ := hg
    refine ms_x_pr1 xn h5 hp (br_f (by decide) ?_)
    rcases ms_fcase hJb v1 with ⟨h0, r, hr, hJ, he, hl⟩ | hno
    · have ei : nI r * 5 + nI p = nI (r * 5 + p) := by rw [ms_m5, nI_add]
      have ej : nI (r + 1) * 5 + nI p = nI ((r + 1) * 5 + p) := by rw [ms_m5, nI_add]
      have hiy : vp_in (nI (r + 1) * 5 + nI p) 35 := by rw [ej]; exact vp_in_nI (by omega) (by decide)
      have hix : vp_in (nI r * 5 + nI p) 30 := by rw [ei]; exact vp_in_nI (by omega) (by decide)
      refine ms_x_findEntry xI h0 hr he hl (br_t (nI_pos' (by omega)) ?_)
      unfold wpX_stillLive
      by_cases h3 : r < 3
      · have hpi := iP r p h3 (by omega)
        refine br_f (nI_ge (b := 3) h3 (by decide)) (And.intro (by rw [ei]; exact vp_in_nI (by omega) (by decide)) (br_c (fun z => br_t rfl (And.intro hix ?_)) (fun z => br_f (by decide) (And.intro (vp_in_nI (by omega) (by decide)) ?_))))
        · rw [ei, nI_clamp (by omega), (xP r p h3 (by omega)).1, ms_e_ge (by omega)] at z
          refine ms_y_pr1 yn h5 hp (br_f (by decide) (ms_y_find yI h0 hr he hl (br_t (nI_pos' (by omega)) (And.intro hiy ⟨?_, I⟩))))
          rw [ej, ei, nI_clamp (by omega), nI_clamp (by omega), ((yE r hr hJ).1 p (by omega)).2, (xE r p hr hp hJ (fun _ => z)).2]
        · rw [ei, nI_clamp (by omega), (xP r p h3 (by omega)).1, ms_e_ge (by omega)] at z
          refine ms_y_pr1 yn h5 hp (br_f (by decide) (ms_y_find yI h0 hr he hl (br_t (nI_pos' (by omega)) (And.intro hiy ⟨?_, I⟩))))
          rw [ej, nI_clamp (by omega), nI_clamp (by omega), ((yE r hr hJ).1 p (by omega)).2, (xB p hp).2, (ms_Inv_unrec hI hp hJ h3 (by omega)).2]
      · refine br_t (nI_le (a := 3) (by omega) (by omega)) (br_t rfl (And.intro hix ?_))
        refine ms_y_pr1 yn h5 hp (br_f (by decide) (ms_y_find yI h0 hr he hl (br_t (nI_pos' (by omega)) (And.intro hiy ⟨?_, I⟩))))
        rw [ej, ei, nI_clamp (by omega), nI_clamp (by omega), ((yE r hr hJ).1 p (by omega)).2, (xE r p hr hp hJ (fun z => absurd z h3)).2]
    · exact ms_x_findEntry_n xI hno (br_f (by decide) (ms_y_pr1 yn h5 hp (br_f (by decide) (ms_y_find_n yI hno (br_f (by decide) ⟨rfl, I⟩)))))
  · exact ms_x_pr0 xn h5 hg (br_t rfl (ms_y_pr0 yn h5 hg (br_t rfl ⟨rfl, I⟩)))
theorem i_vc_cutLength {k : Nat} {u : SX} {v : SY} (I : i_Rel k u v) (hk : k + 5 ≤ 2564) (v1 : Int32) (v2 : Int32) (v3 : Int32) : wpX_cutLength (fun r => wpY_cutLength (fun r' => r' = r ∧ i_Rel (k + 5) u v) v v1 v2 v3) u v1 v2 v3 := by
  obtain ⟨⟨n, room, slots, up, last, kept, B0, D0, Q, J, root, par, fin, mI, rI, B, D, L, ST⟩, hI, HX, HY⟩ := id I
  obtain ⟨f_n, f_room, f_slots, f_up, f_last, f_keptCount, a_liveBalance, a_liveDigest, a_ring, a_head, a_count, a_tokens, a_rootOf, a_parentOf, a_finished, a_markerIn, a_reportIn, a_recId, a_recBalance, a_recDigest, a_recLength, a_recAmount⟩ := u
  obtain ⟨y1, y2, y3, y4, y5, y6, y7, y8, y9, y10, y11, y12, y13, y14, y15⟩ := v
  replace HY : ms_RY (n, room, slots, up, last, kept, B0, D0, Q, J, root, par, fin, mI, rI, B, D, L, ST) (fun c => ms_tk (Q c)) (y1, y2, y3, y4, y5, y6, y7, y8, y9, y10, y11, y12, y13, y14, y15) := HY
  obtain ⟨⟨xn, xr, xs, xu, xl, xk⟩, xB, xQ, xI, xR, xP, xM, xE, xS⟩ := id HX
  obtain ⟨⟨yn, yr, ys, yu, yl, yk⟩, yQ, yI, yP, yL, yE⟩ := id HY
  have h5 := hI.1.2.1
  have hJb := ms_Inv_J hI
  have hb := ms_Inv_b hI
  unfold wpX_cutLength wpY_cutLength
  by_cases hg : ∃ f t, f < n ∧ t < n ∧ f ≠ t ∧ v2 = nI f ∧ v3 = nI t
  · obtain ⟨f, t, hf, ht, hft, rfl, rfl⟩ := hg
    refine ms_x_gp1 xn h5 hf ht hft (br_f (by decide) ?_)
    rcases ms_fcase hJb v1 with ⟨h0, r, hr, hJ, he, hl⟩ | hno
    · have ej : nI (r + 1) * 25 + nI f * 5 + nI t = nI ((r + 1) * 25 + (f * 5 + t)) := by rw [ms_m25, ms_m5, nI_add, nI_add, Nat.add_assoc]
      refine ms_x_findEntry xI h0 hr he hl (br_t (nI_pos' (by omega)) (ms_x_lengthIn HX (c := f * 5 + t) hr (by omega) hJ (hJb r hr) (hb _) (ms_Inv_cut hI hr hJ _) rfl (by rw [ms_m5, nI_add]) ?_))
      refine ms_y_gp1 yn h5 hf ht hft (br_f (by decide) (ms_y_find yI h0 hr he hl (br_t (nI_pos' (by omega)) (And.intro ?_ ⟨?_, I⟩))))
      · rw [ej]; exact vp_in_nI (by omega) (by decide)
      · rw [ej, nI_clamp (by omega), ((yE r hr hJ).2 (f * 5 + t) (by omega)).2.1]
    · exact ms_x_findEntry_n xI hno (br_f (by decide) (ms_y_gp1 yn h5 hf ht hft (br_f (by decide) (ms_y_find_n yI hno (br_f (by decide) ⟨rfl, I⟩)))))
  · exact ms_x_gp0 xn h5 hg (br_t rfl (ms_y_gp0 yn h5 hg (br_t rfl ⟨rfl, I⟩)))
theorem i_vc_cutAmount {k : Nat} {u : SX} {v : SY} (I : i_Rel k u v) (hk : k + 5 ≤ 2564) (v1 : Int32) (v2 : Int32) (v3 : Int32) (v4 : Int32) : wpX_cutAmount (fun r => wpY_cutAmount (fun r' => r' = r ∧ i_Rel (k + 5) u v) v v1 v2 v3 v4) u v1 v2 v3 v4 := by
  obtain ⟨⟨n, room, slots, up, last, kept, B0, D0, Q, J, root, par, fin, mI, rI, B, D, L, ST⟩, hI, HX, HY⟩ := id I
  obtain ⟨f_n, f_room, f_slots, f_up, f_last, f_keptCount, a_liveBalance, a_liveDigest, a_ring, a_head, a_count, a_tokens, a_rootOf, a_parentOf, a_finished, a_markerIn, a_reportIn, a_recId, a_recBalance, a_recDigest, a_recLength, a_recAmount⟩ := u
  obtain ⟨y1, y2, y3, y4, y5, y6, y7, y8, y9, y10, y11, y12, y13, y14, y15⟩ := v
  replace HY : ms_RY (n, room, slots, up, last, kept, B0, D0, Q, J, root, par, fin, mI, rI, B, D, L, ST) (fun c => ms_tk (Q c)) (y1, y2, y3, y4, y5, y6, y7, y8, y9, y10, y11, y12, y13, y14, y15) := HY
  obtain ⟨⟨xn, xr, xs, xu, xl, xk⟩, xB, xQ, xI, xR, xP, xM, xE, xS⟩ := id HX
  obtain ⟨⟨yn, yr, ys, yu, yl, yk⟩, yQ, yI, yP, yL, yE⟩ := id HY
  have h5 := hI.1.2.1
  have hJb := ms_Inv_J hI
  have hb := ms_Inv_b hI
  unfold wpX_cutAmount wpY_cutAmount
  by_cases hg : ∃ f t, f < n ∧ t < n ∧ f ≠ t ∧ v2 = nI f ∧ v3 = nI t
  · obtain ⟨f, t, hf, ht, hft, rfl, rfl⟩ := hg
    refine ms_x_gp1 xn h5 hf ht hft (br_f (by decide) ?_)
    rcases ms_fcase hJb v1 with ⟨h0, r, hr, hJ, he, hl⟩ | hno
    · have ej : nI (r + 1) * 25 + nI f * 5 + nI t = nI ((r + 1) * 25 + (f * 5 + t)) := by rw [ms_m25, ms_m5, nI_add, nI_add, Nat.add_assoc]
      have hcut := ms_Inv_cut hI hr hJ (f * 5 + t)
      obtain ⟨hl4, hlen, hls⟩ := (yE r hr hJ).2 (f * 5 + t) (by omega)
      refine ms_x_findEntry xI h0 hr he hl (br_t (nI_pos' (by omega)) (nm_r (e' := nI (f * 5 + t)) (by rw [ms_m5, nI_add]) (ms_x_lengthIn HX (c := f * 5 + t) hr (by omega) hJ (hJb r hr) (hb _) hcut rfl rfl ?_)))
      by_cases hn : v4 < 0
      · exact br_t hn (ms_y_gp1 yn h5 hf ht hft (br_f (by decide) (ms_y_find yI h0 hr he hl (br_t (nI_pos' (by omega)) (nm_r ej (br_t hn ⟨rfl, I⟩))))))
      · obtain ⟨i, hi, rfl⟩ := nI_of hn
        refine br_f hn ?_
        by_cases hlt : i < (L r (f * 5 + t)).length
        · have ek : nI ((r + 1) * 25 + (f * 5 + t)) * 4 + nI i = nI (((r + 1) * 25 + (f * 5 + t)) * 4 + i) := by rw [ms_m4, nI_add]
          refine br_t (nI_lt hlt (by omega)) (ms_x_amountIn HX hr (by omega) hJ (hb _) hcut hlt (by omega) rfl rfl rfl ?_)
          refine ms_y_gp1 yn h5 hf ht hft (br_f (by decide) (ms_y_find yI h0 hr he hl (br_t (nI_pos' (by omega)) (nm_r ej (br_f hn (And.intro (vp_in_nI (by omega) (by decide)) (br_t ?_ (And.intro ?_ ⟨?_, I⟩))))))))
          · rw [nI_clamp (by omega), hlen]; exact nI_lt hlt (by omega)
          · rw [ek]; exact vp_in_nI (by omega) (by decide)
          · rw [ek, nI_clamp (by omega), hls i hlt]
        · refine br_f (by rw [nI_ltI hi (by omega)]; exact hlt) (ms_y_gp1 yn h5 hf ht hft (br_f (by decide) (ms_y_find yI h0 hr he hl (br_t (nI_pos' (by omega)) (nm_r ej (br_f hn (And.intro (vp_in_nI (by omega) (by decide)) (br_f ?_ ⟨rfl, I⟩))))))))
          rw [nI_clamp (by omega), hlen, nI_ltI hi (by omega)]; exact hlt
    · exact ms_x_findEntry_n xI hno (br_f (by decide) (ms_y_gp1 yn h5 hf ht hft (br_f (by decide) (ms_y_find_n yI hno (br_f (by decide) ⟨rfl, I⟩)))))
  · exact ms_x_gp0 xn h5 hg (br_t rfl (ms_y_gp0 yn h5 hg (br_t rfl ⟨rfl, I⟩)))
end
section
/-! running ids; totals -/
def ms_smn (J : Nat → Nat) (s : Nat) : Nat → Nat
  | 0 => 0
  | t + 1 => ms_smn J s t + if J t ≠ 0 ∧ J t < J s then 1 else 0
def ms_rid (J : Nat → Nat) (x : Int32) : Nat → Nat → Int32
  | 0, _ => -1
  | d + 1, s => if J s = 0 then ms_rid J x d (s + 1) else if nI (ms_smn J s 3) = x then ms_enc (J s) else ms_rid J x d (s + 1)
theorem ms_e_le {a b : Nat} (ha : a ≠ 0) (hb : b ≠ 0) (ha1 : a ≤ 100) (hb1 : b ≤ 100) : ms_enc a ≤ ms_enc b ↔ a ≤ b := by
  rw [ms_e_pos ha, ms_e_pos hb, nI_leI (by omega) (by omega)]; omega
section
variable {f_n f_room f_slots f_up f_last f_keptCount : Int32} {a_liveBalance a_liveDigest a_ring a_head a_count a_tokens a_rootOf a_parentOf a_finished a_markerIn a_reportIn a_recId a_recBalance a_recDigest a_recLength a_recAmount : Nat → Int32} {n : Nat} {room : Nat} {slots : Nat} {up : Bool} {last : Nat} {kept : Nat} {B0 : Nat → Nat} {D0 : Nat → Int32} {Q : Nat → List Nat} {J : Nat → Nat} {root : Nat → Nat} {par : Nat → Nat → Nat} {fin : Nat → Nat → Bool} {mI : Nat → Nat → Bool} {rI : Nat → Nat → Bool} {B : Nat → Nat → Nat} {D : Nat → Nat → Int32} {L : Nat → Nat → List Nat} {ST : Nat → Nat → List Nat} {post : Int32 → Prop} {x1 : Int32}
theorem ms_x_rid21 {Jc : Int32 → Prop} {s : Nat} (hI : ∀ r, r < 6 → a_recId r = ms_enc (J r)) (hJ : ∀ r, r < 6 → J r ≤ 100) (hs : s < 3) (h0 : J s ≠ 0) (k1 : nI (ms_smn J s 3) = x1 → post (ms_enc (J s))) (k0 : ¬ nI (ms_smn J s 3) = x1 → Jc (nI (s + 1))) :
    ∀ d N t, t + d = 3 → d < N → wX_runningId_21 post Jc x1 (nI s) f_n f_room f_slots f_up f_last f_keptCount a_liveBalance a_liveDigest a_ring a_head a_count a_tokens a_rootOf a_parentOf a_finished a_markerIn a_reportIn a_recId a_recBalance a_recDigest a_recLength a_recAmount N (nI (ms_smn J s t)) (nI t) := by
  intro d
  induction d with
  | zero =>
    intro N t h1 hN
    obtain ⟨N, rfl⟩ : ∃ M, N = M + 1 := ⟨N - 1, by omega⟩
    obtain rfl : t = 3 := by omega
    refine br_t (nI_le (a := 3) (by omega) (by omega)) (br_c (fun z => And.intro (vp_in_nI (by omega) (by decide)) ?_) (fun z => nm_r (nI_1 s) (k0 z)))
    rw [nI_clamp (by omega), hI s (by omega)]; exact k1 z
  | succ d ih =>
    intro N t h1 hN
    obtain ⟨N, rfl⟩ : ∃ M, N = M + 1 := ⟨N - 1, by omega⟩
    have hj := hJ t (by omega)
    have hjs := hJ s (by omega)
    have := ih N (t + 1) (by omega) (by omega)
    have skip : ¬ (J t ≠ 0 ∧ J t < J s) → ms_smn J s (t + 1) = ms_smn J s t := fun z => by
      show ms_smn J s t + (if J t ≠ 0 ∧ J t < J s then 1 else 0) = _
      rw [if_neg z]; rfl
    refine br_f (nI_ge (b := 3) (by omega) (by decide)) (And.intro (vp_in_nI (by omega) (by decide)) (br_c (fun z => nm_r (nI_1 t) ?_) (fun z => And.intro (vp_in_nI (by omega) (by decide)) (And.intro (vp_in_nI (by omega) (by decide)) (br_c (fun y => nm_r (nI_1 t) ?_) (fun y => nm_r (nI_1 _) (nm_r (nI_1 t) ?_)))))))
    · rw [nI_clamp (by omega), hI t (by omega), ms_e_lt (by omega)] at z
      rw [skip (fun w => w.1 z)] at this; exact this
    · rw [nI_clamp (by omega), hI t (by omega), ms_e_lt (by omega)] at z
      rw [nI_clamp (by omega), nI_clamp (by omega), hI t (by omega), hI s (by omega), ms_e_le h0 z hjs hj] at y
      rw [skip (fun w => by omega)] at this; exact this
    · rw [nI_clamp (by omega), hI t (by omega), ms_e_lt (by omega)] at z
      rw [nI_clamp (by omega), nI_clamp (by omega), hI t (by omega), hI s (by omega), ms_e_le h0 z hjs hj] at y
      have e : ms_smn J s (t + 1) = ms_smn J s t + 1 := by
        show ms_smn J s t + (if J t ≠ 0 ∧ J t < J s then 1 else 0) = _
        rw [if_pos ⟨z, by omega⟩]
      rw [e] at this; exact this
theorem ms_x_rid2 (hI : ∀ r, r < 6 → a_recId r = ms_enc (J r)) (hJ : ∀ r, r < 6 → J r ≤ 100) : ∀ d N s, s + d = 3 → d < N → post (ms_rid J x1 d s) → wX_runningId_2 post x1 f_n f_room f_slots f_up f_last f_keptCount a_liveBalance a_liveDigest a_ring a_head a_count a_tokens a_rootOf a_parentOf a_finished a_markerIn a_reportIn a_recId a_recBalance a_recDigest a_recLength a_recAmount N (nI s) := by
  intro d
  induction d with
  | zero =>
    intro N s h1 hN hp
    obtain ⟨N, rfl⟩ : ∃ M, N = M + 1 := ⟨N - 1, by omega⟩
    exact br_t (nI_le (a := 3) (by omega) (by omega)) hp
  | succ d ih =>
    intro N s h1 hN hp
    obtain ⟨N, rfl⟩ : ∃ M, N = M + 1 := ⟨N - 1, by omega⟩
    have hj := hJ s (by omega)
    replace hp : post (if J s = 0 then ms_rid J x1 d (s + 1) else if nI (ms_smn J s 3) = x1 then ms_enc (J s) else ms_rid J x1 d (s + 1)) := hp
    refine br_f (nI_ge (b := 3) (by omega) (by decide)) (And.intro (vp_in_nI (by omega) (by decide)) (br_c (fun z => nm_r (nI_1 s) ?_) (fun z => ⟨4, ?_⟩)))
    · rw [nI_clamp (by omega), hI s (by omega), ms_e_lt (by omega)] at z
      rw [if_pos z] at hp
      exact ih N (s + 1) (by omega) (by omega) hp
    · rw [nI_clamp (by omega), hI s (by omega), ms_e_lt (by omega)] at z
      rw [if_neg z] at hp
      refine ms_x_rid21 hI hJ (by omega) z (fun y => ?_) (fun y => ih N (s + 1) (by omega) (by omega) ?_) 3 4 0 (by omega) (by omega)
      · rw [if_pos y] at hp; exact hp
      · rw [if_neg y] at hp; exact hp
end
section
variable {f_n f_room f_slots f_up f_last f_kept : Int32} {a_ids a_bal a_dig a_len a_amt a_par a_reported a_count a_queue : Nat → Int32} {n : Nat} {room : Nat} {slots : Nat} {up : Bool} {last : Nat} {kept : Nat} {B0 : Nat → Nat} {D0 : Nat → Int32} {Q : Nat → List Nat} {J : Nat → Nat} {root : Nat → Nat} {par : Nat → Nat → Nat} {fin : Nat → Nat → Bool} {mI : Nat → Nat → Bool} {rI : Nat → Nat → Bool} {B : Nat → Nat → Nat} {D : Nat → Nat → Int32} {L : Nat → Nat → List Nat} {ST : Nat → Nat → List Nat} {post : Int32 → Prop} {x1 : Int32}
theorem ms_y_rid21 {Jc : Int32 → Prop} {s : Nat} (hI : ∀ r, r < 6 → a_ids (r + 1) = ms_enc (J r)) (hJ : ∀ r, r < 6 → J r ≤ 100) (hs : s < 3) (h0 : J s ≠ 0) (k1 : nI (ms_smn J s 3) = x1 → post (ms_enc (J s))) (k0 : ¬ nI (ms_smn J s 3) = x1 → Jc (nI (s + 2))) :
    ∀ d N t, t + d = 3 → d < N → wY_runningId_21 post Jc x1 (nI (s + 1)) f_n f_room f_slots f_up f_last f_kept a_ids a_bal a_dig a_len a_amt a_par a_reported a_count a_queue N (nI (ms_smn J s t)) (nI (t + 1)) := by
  intro d
  induction d with
  | zero =>
    intro N t h1 hN
    obtain ⟨N, rfl⟩ : ∃ M, N = M + 1 := ⟨N - 1, by omega⟩
    obtain rfl : t = 3 := by omega
    refine br_t (nI_lt (a := 3) (by omega) (by omega)) (br_c (fun z => And.intro (vp_in_nI (by omega) (by decide)) ?_) (fun z => nm_r (nI_1 (s + 1)) (k0 z)))
    rw [nI_clamp (by omega), hI s (by omega)]; exact k1 z
  | succ d ih =>
    intro N t h1 hN
    obtain ⟨N, rfl⟩ : ∃ M, N = M + 1 := ⟨N - 1, by omega⟩
    have hj := hJ t (by omega)
    have hjs := hJ s (by omega)
    have := ih N (t + 1) (by omega) (by omega)
    have skip : ¬ (J t ≠ 0 ∧ J t < J s) → ms_smn J s (t + 1) = ms_smn J s t := fun z => by
      show ms_smn J s t + (if J t ≠ 0 ∧ J t < J s then 1 else 0) = _
      rw [if_neg z]; rfl
    refine br_f (nI_nlt (a := 3) (by omega) (by decide)) (And.intro (vp_in_nI (by omega) (by decide)) (br_c (fun z => nm_r (nI_1 (t + 1)) ?_) (fun z => And.intro (vp_in_nI (by omega) (by decide)) (And.intro (vp_in_nI (by omega) (by decide)) (br_c (fun y => nm_r (nI_1 (t + 1)) ?_) (fun y => nm_r (nI_1 _) (nm_r (nI_1 (t + 1)) ?_)))))))
    · rw [nI_clamp (by omega), hI t (by omega), ms_e_lt (by omega)] at z
      rw [skip (fun w => w.1 z)] at this; exact this
    · rw [nI_clamp (by omega), hI t (by omega), ms_e_lt (by omega)] at z
      rw [nI_clamp (by omega), nI_clamp (by omega), hI t (by omega), hI s (by omega), ms_e_le h0 z hjs hj] at y
      rw [skip (fun w => by omega)] at this; exact this
    · rw [nI_clamp (by omega), hI t (by omega), ms_e_lt (by omega)] at z
      rw [nI_clamp (by omega), nI_clamp (by omega), hI t (by omega), hI s (by omega), ms_e_le h0 z hjs hj] at y
      have e : ms_smn J s (t + 1) = ms_smn J s t + 1 := by
        show ms_smn J s t + (if J t ≠ 0 ∧ J t < J s then 1 else 0) = _
        rw [if_pos ⟨z, by omega⟩]
      rw [e] at this; exact this
theorem ms_y_rid2 (hI : ∀ r, r < 6 → a_ids (r + 1) = ms_enc (J r)) (hJ : ∀ r, r < 6 → J r ≤ 100) : ∀ d N s, s + d = 3 → d < N → post (ms_rid J x1 d s) → wY_runningId_2 post x1 f_n f_room f_slots f_up f_last f_kept a_ids a_bal a_dig a_len a_amt a_par a_reported a_count a_queue N (nI (s + 1)) := by
  intro d
  induction d with
  | zero =>
    intro N s h1 hN hp
    obtain ⟨N, rfl⟩ : ∃ M, N = M + 1 := ⟨N - 1, by omega⟩
    exact br_t (nI_lt (a := 3) (by omega) (by omega)) hp
  | succ d ih =>
    intro N s h1 hN hp
    obtain ⟨N, rfl⟩ : ∃ M, N = M + 1 := ⟨N - 1, by omega⟩
    have hj := hJ s (by omega)
    replace hp : post (if J s = 0 then ms_rid J x1 d (s + 1) else if nI (ms_smn J s 3) = x1 then ms_enc (J s) else ms_rid J x1 d (s + 1)) := hp
    refine br_f (nI_nlt (a := 3) (by omega) (by decide)) (And.intro (vp_in_nI (by omega) (by decide)) (br_c (fun z => nm_r (nI_1 (s + 1)) ?_) (fun z => ⟨4, ?_⟩)))
    · rw [nI_clamp (by omega), hI s (by omega), ms_e_lt (by omega)] at z
      rw [if_pos z] at hp
      exact ih N (s + 1) (by omega) (by omega) hp
    · rw [nI_clamp (by omega), hI s (by omega), ms_e_lt (by omega)] at z
      rw [if_neg z] at hp
      refine ms_y_rid21 hI hJ (by omega) z (fun y => ?_) (fun y => ih N (s + 1) (by omega) (by omega) ?_) 3 4 0 (by omega) (by omega)
      · rw [if_pos y] at hp; exact hp
      · rw [if_neg y] at hp; exact hp
end
theorem i_vc_runningId {k : Nat} {u : SX} {v : SY} (I : i_Rel k u v) (hk : k + 5 ≤ 2564) (v1 : Int32) : wpX_runningId (fun r => wpY_runningId (fun r' => r' = r ∧ i_Rel (k + 5) u v) v v1) u v1 := by
  obtain ⟨⟨n, room, slots, up, last, kept, B0, D0, Q, J, root, par, fin, mI, rI, B, D, L, ST⟩, hI, HX, HY⟩ := id I
  obtain ⟨f_n, f_room, f_slots, f_up, f_last, f_keptCount, a_liveBalance, a_liveDigest, a_ring, a_head, a_count, a_tokens, a_rootOf, a_parentOf, a_finished, a_markerIn, a_reportIn, a_recId, a_recBalance, a_recDigest, a_recLength, a_recAmount⟩ := u
  obtain ⟨y1, y2, y3, y4, y5, y6, y7, y8, y9, y10, y11, y12, y13, y14, y15⟩ := v
  replace HY : ms_RY (n, room, slots, up, last, kept, B0, D0, Q, J, root, par, fin, mI, rI, B, D, L, ST) (fun c => ms_tk (Q c)) (y1, y2, y3, y4, y5, y6, y7, y8, y9, y10, y11, y12, y13, y14, y15) := HY
  obtain ⟨⟨xn, xr, xs, xu, xl, xk⟩, xB, xQ, xI, xR, xP, xM, xE, xS⟩ := id HX
  obtain ⟨⟨yn, yr, ys, yu, yl, yk⟩, yQ, yI, yP, yL, yE⟩ := id HY
  have h5 := hI.1.2.1
  have hJb := ms_Inv_J hI
  refine ⟨4, ms_x_rid2 xI hJb 3 4 0 (by omega) (by omega) ?_⟩
  exact ⟨4, ms_y_rid2 yI hJb 3 4 0 (by omega) (by omega) ⟨rfl, I⟩⟩
/-! sums -/
def ms_sI (acc : Int32) (F : Nat → Nat) : Nat → Int32
  | 0 => acc
  | k + 1 => ms_sI acc F k + nI (F k)
def ms_sl : Int32 → List Nat → Int32
  | acc, [] => acc
  | acc, x :: l => ms_sl (acc + nI x) l
def ms_sc (acc : Int32) (L : Nat → List Nat) : Nat → Int32
  | 0 => acc
  | k + 1 => ms_sl (ms_sc acc L k) (L k)
theorem ms_sI_ge {acc : Int32} {F : Nat → Nat} {n : Nat} : ∀ d, (∀ p, n ≤ p → p < n + d → F p = 0) → ms_sI acc F (n + d) = ms_sI acc F n := by
  intro d
  induction d with
  | zero => intro _; rfl
  | succ d ih =>
    intro h
    show ms_sI acc F (n + d) + nI (F (n + d)) = _
    rw [ih (fun p h1 h2 => h p h1 (by omega)), h (n + d) (by omega) (by omega), nI_0, Int32.add_zero]
section
variable {f_n f_room f_slots f_up f_last f_keptCount : Int32} {a_liveBalance a_liveDigest a_ring a_head a_count a_tokens a_rootOf a_parentOf a_finished a_markerIn a_reportIn a_recId a_recBalance a_recDigest a_recLength a_recAmount : Nat → Int32} {n : Nat} {room : Nat} {slots : Nat} {up : Bool} {last : Nat} {kept : Nat} {B0 : Nat → Nat} {D0 : Nat → Int32} {Q : Nat → List Nat} {J : Nat → Nat} {root : Nat → Nat} {par : Nat → Nat → Nat} {fin : Nat → Nat → Bool} {mI : Nat → Nat → Bool} {rI : Nat → Nat → Bool} {B : Nat → Nat → Nat} {D : Nat → Nat → Int32} {L : Nat → Nat → List Nat} {ST : Nat → Nat → List Nat} {post : Int32 → Prop}
theorem ms_x_lt37 {Jc : Int32 → Int32 → Prop} {c : Nat} (hQ : ms_QX Q a_ring a_head a_count a_tokens) (hc : c < 25) (hb : ∀ x, x ∈ Q c → x < 4000000) : ∀ (suf : List Nat) (N i : Nat) (acc : Int32), suf.length < N → i + suf.length = (Q c).length →
    (∀ j, j < suf.length → ms_nth (Q c) (i + j) = ms_nth suf j) → Jc (ms_sl acc (ms_tk suf)) (nI (c + 1)) → wX_liveTotal_37 post Jc (nI c) f_n f_room f_slots f_up f_last f_keptCount a_liveBalance a_liveDigest a_ring a_head a_count a_tokens a_rootOf a_parentOf a_finished a_markerIn a_reportIn a_recId a_recBalance a_recDigest a_recLength a_recAmount N acc (nI i) := by
  have q2 := (hQ c hc).2.1
  have q1 := (hQ c hc).1
  intro suf
  induction suf with
  | nil =>
    intro N i acc hN h1 h2 hp
    obtain ⟨N, rfl⟩ : ∃ M, N = M + 1 := ⟨N - 1, by omega⟩
    have hle : (Q c).length ≤ i := by rw [← h1]; exact Nat.le_refl _
    refine And.intro (vp_in_nI hc (by decide)) (br_t ?_ (nm_r (nI_1 c) hp))
    rw [nI_clamp (by omega), q2]; exact nI_le hle (by rw [List.length_nil] at h1; omega)
  | cons y suf ih =>
    intro N i acc hN h1 h2 hp
    obtain ⟨N, rfl⟩ : ∃ M, N = M + 1 := ⟨N - 1, by omega⟩
    rw [List.length_cons] at h1 hN
    have hy : ms_nth (Q c) i = y := h2 0 (by rw [List.length_cons]; omega)
    have hyb : y < 4000000 := by
      rw [← hy]; exact hb _ (ms_nth_mem _ _ (by omega))
    have h2' : ∀ j, j < suf.length → ms_nth (Q c) (i + 1 + j) = ms_nth suf j := by
      intro j hj
      have := h2 (j + 1) (by rw [List.length_cons]; omega)
      rw [show i + 1 + j = i + (j + 1) by omega]; exact this
    refine And.intro (vp_in_nI hc (by decide)) (br_f ?_ (ms_x_itemAt hQ hc (by omega) ?_))
    · rw [nI_clamp (by omega), q2]; exact nI_ge (by omega) (by omega)
    · rw [hy]
      by_cases e1 : y % 4 = 1
      · rw [ms_tk_c1 e1] at hp
        exact br_t (by rw [ms_and3 (by omega), e1]; rfl) (nm_r (e' := acc + nI (y / 4)) (by rw [ms_shr2 (by omega)]) (nm_r (nI_1 i) (ih N _ _ (by omega) (by omega) h2' hp)))
      · rw [ms_tk_c0 e1] at hp
        refine br_f (fun z => e1 ?_) (nm_r (nI_1 i) (ih N _ _ (by omega) (by omega) h2' hp))
        rw [ms_and3 (by omega), ms_eq1 (by omega)] at z; exact z
theorem ms_x_lt29 {acc : Int32} (hQ : ms_QX Q a_ring a_head a_count a_tokens) (hb : ∀ c x, x ∈ Q c → x < 4000000) (hp : post (ms_sc acc (fun c => ms_tk (Q c)) 25)) : ∀ d N c, c + d = 25 → d < N → wX_liveTotal_29 post f_n f_room f_slots f_up f_last f_keptCount a_liveBalance a_liveDigest a_ring a_head a_count a_tokens a_rootOf a_parentOf a_finished a_markerIn a_reportIn a_recId a_recBalance a_recDigest a_recLength a_recAmount N (ms_sc acc (fun c => ms_tk (Q c)) c) (nI c) := by
  intro d
  induction d with
  | zero =>
    intro N c h1 hN
    obtain ⟨N, rfl⟩ : ∃ M, N = M + 1 := ⟨N - 1, by omega⟩
    obtain rfl : c = 25 := by omega
    exact br_t (nI_le (a := 25) (by omega) (by omega)) hp
  | succ d ih =>
    intro N c h1 hN
    obtain ⟨N, rfl⟩ : ∃ M, N = M + 1 := ⟨N - 1, by omega⟩
    refine br_f (nI_ge (b := 25) (by omega) (by decide)) ⟨(Q c).length + 1, ?_⟩
    exact ms_x_lt37 hQ (by omega) (hb c) (Q c) _ 0 _ (Nat.lt_succ_self _) (Nat.zero_add _) (fun j _ => by rw [Nat.zero_add]) (ih N (c + 1) (by omega) (by omega))
theorem ms_x_lt4 (H : ms_RX (n, room, slots, up, last, kept, B0, D0, Q, J, root, par, fin, mI, rI, B, D, L, ST) (f_n, f_room, f_slots, f_up, f_last, f_keptCount, a_liveBalance, a_liveDigest, a_ring, a_head, a_count, a_tokens, a_rootOf, a_parentOf, a_finished, a_markerIn, a_reportIn, a_recId, a_recBalance, a_recDigest, a_recLength, a_recAmount)) (h5 : n ≤ 5) (hb : ∀ c x, x ∈ Q c → x < 4000000) (hp : post (ms_sc (ms_sI 0 B0 n) (fun c => ms_tk (Q c)) 25)) : ∀ d N p, p + d = n → d < N → wX_liveTotal_4 post f_n f_room f_slots f_up f_last f_keptCount a_liveBalance a_liveDigest a_ring a_head a_count a_tokens a_rootOf a_parentOf a_finished a_markerIn a_reportIn a_recId a_recBalance a_recDigest a_recLength a_recAmount N (ms_sI 0 B0 p) (nI p) := by
  obtain ⟨⟨xn, xr, xs, xu, xl, xk⟩, xB, xQ, xI, xR, xP, xM, xE, xS⟩ := H
  intro d
  induction d with
  | zero =>
    intro N p h1 hN
    obtain ⟨N, rfl⟩ : ∃ M, N = M + 1 := ⟨N - 1, by omega⟩
    obtain rfl : p = n := by omega
    refine br_t (by rw [xn]; exact nI_le (by omega) (by omega)) ⟨26, ms_x_lt29 xQ hb hp 25 26 0 (by omega) (by omega)⟩
  | succ d ih =>
    intro N p h1 hN
    obtain ⟨N, rfl⟩ : ∃ M, N = M + 1 := ⟨N - 1, by omega⟩
    refine br_f (by rw [xn]; exact nI_ge (by omega) (by omega)) (And.intro (vp_in_nI (by omega) (by decide)) (nm_r (e' := ms_sI 0 B0 (p + 1)) ?_ (nm_r (nI_1 p) (ih N _ (by omega) (by omega)))))
    rw [nI_clamp (by omega), (xB p (by omega)).1]; rfl
theorem ms_x_ct65 {Jc : Int32 → Int32 → Prop} {r c : Nat} (H : ms_RX (n, room, slots, up, last, kept, B0, D0, Q, J, root, par, fin, mI, rI, B, D, L, ST) (f_n, f_room, f_slots, f_up, f_last, f_keptCount, a_liveBalance, a_liveDigest, a_ring, a_head, a_count, a_tokens, a_rootOf, a_parentOf, a_finished, a_markerIn, a_reportIn, a_recId, a_recBalance, a_recDigest, a_recLength, a_recAmount)) (hr : r < 6) (hc : c < 25) (hJ : J r ≠ 0) (hb : ∀ x, x ∈ Q c → x < 4000000)
    (hL : L r c = ST r c ++ (if r < 3 then (if mI r c = true then [] else ms_bf ((J r - 1) * 4 + 2) (Q c)) else [])) (hl4 : (L r c).length ≤ 4) : ∀ (suf : List Nat) (N i : Nat) (acc : Int32), suf.length < N → i + suf.length = (L r c).length →
    (∀ j, j < suf.length → ms_nth (L r c) (i + j) = ms_nth suf j) → Jc (ms_sl acc suf) (nI (c + 1)) → wX_cutTotal_65 post Jc (nI r) (nI c) (nI (L r c).length) f_n f_room f_slots f_up f_last f_keptCount a_liveBalance a_liveDigest a_ring a_head a_count a_tokens a_rootOf a_parentOf a_finished a_markerIn a_reportIn a_recId a_recBalance a_recDigest a_recLength a_recAmount N acc (nI i) := by
  intro suf
  induction suf with
  | nil =>
    intro N i acc hN h1 h2 hp
    obtain ⟨N, rfl⟩ : ∃ M, N = M + 1 := ⟨N - 1, by omega⟩
    rw [List.length_nil] at h1
    exact br_t (nI_le (by omega) (by omega)) (nm_r (nI_1 c) hp)
  | cons y suf ih =>
    intro N i acc hN h1 h2 hp
    obtain ⟨N, rfl⟩ : ∃ M, N = M + 1 := ⟨N - 1, by omega⟩
    rw [List.length_cons] at h1 hN
    have hy : ms_nth (L r c) i = y := h2 0 (by rw [List.length_cons]; omega)
    have h2' : ∀ j, j < suf.length → ms_nth (L r c) (i + 1 + j) = ms_nth suf j := by
      intro j hj
      have := h2 (j + 1) (by rw [List.length_cons]; omega)
      rw [show i + 1 + j = i + (j + 1) by omega]; exact this
    refine br_f (nI_ge (by omega) (by omega)) (ms_x_amountIn H hr hc hJ hb hL (i := i) (by omega) (by omega) rfl rfl rfl ?_)
    rw [hy]
    exact nm_e (nm_r (nI_1 i) (ih N _ _ (by omega) (by omega) h2' hp))
theorem ms_x_ct46 {r : Nat} {acc : Int32} (H : ms_RX (n, room, slots, up, last, kept, B0, D0, Q, J, root, par, fin, mI, rI, B, D, L, ST) (f_n, f_room, f_slots, f_up, f_last, f_keptCount, a_liveBalance, a_liveDigest, a_ring, a_head, a_count, a_tokens, a_rootOf, a_parentOf, a_finished, a_markerIn, a_reportIn, a_recId, a_recBalance, a_recDigest, a_recLength, a_recAmount)) (hr : r < 6) (hJ : J r ≠ 0) (hJb : J r ≤ 100) (hb : ∀ c x, x ∈ Q c → x < 4000000)
    (hL : ∀ c, L r c = ST r c ++ (if r < 3 then (if mI r c = true then [] else ms_bf ((J r - 1) * 4 + 2) (Q c)) else [])) (hl4 : ∀ c, (L r c).length ≤ 4) (hp : post (ms_sc acc (L r) 25)) : ∀ d N c, c + d = 25 → d < N → wX_cutTotal_46 post (nI r) f_n f_room f_slots f_up f_last f_keptCount a_liveBalance a_liveDigest a_ring a_head a_count a_tokens a_rootOf a_parentOf a_finished a_markerIn a_reportIn a_recId a_recBalance a_recDigest a_recLength a_recAmount N (ms_sc acc (L r) c) (nI c) := by
  intro d
  induction d with
  | zero =>
    intro N c h1 hN
    obtain ⟨N, rfl⟩ : ∃ M, N = M + 1 := ⟨N - 1, by omega⟩
    obtain rfl : c = 25 := by omega
    exact br_t (nI_le (a := 25) (by omega) (by omega)) hp
  | succ d ih =>
    intro N c h1 hN
    obtain ⟨N, rfl⟩ : ∃ M, N = M + 1 := ⟨N - 1, by omega⟩
    refine br_f (nI_ge (b := 25) (by omega) (by decide)) (ms_x_lengthIn H (c := c) hr (by omega) hJ hJb (hb c) (hL c) rfl rfl ⟨(L r c).length + 1, ?_⟩)
    exact ms_x_ct65 H hr (by omega) hJ (hb c) (hL c) (hl4 c) (L r c) _ 0 _ (Nat.lt_succ_self _) (Nat.zero_add _) (fun j _ => by rw [Nat.zero_add]) (ih N (c + 1) (by omega) (by omega))
theorem ms_x_ct18 {r : Nat} (H : ms_RX (n, room, slots, up, last, kept, B0, D0, Q, J, root, par, fin, mI, rI, B, D, L, ST) (f_n, f_room, f_slots, f_up, f_last, f_keptCount, a_liveBalance, a_liveDigest, a_ring, a_head, a_count, a_tokens, a_rootOf, a_parentOf, a_finished, a_markerIn, a_reportIn, a_recId, a_recBalance, a_recDigest, a_recLength, a_recAmount)) (h5 : n ≤ 5) (hr : r < 6) (hJ : J r ≠ 0) (hJb : J r ≤ 100) (hP : ms_IP n par) (hb : ∀ c x, x ∈ Q c → x < 4000000) (hB : ∀ p, p < n → r < 3 → par r p = 0 → B r p = B0 p)
    (hL : ∀ c, L r c = ST r c ++ (if r < 3 then (if mI r c = true then [] else ms_bf ((J r - 1) * 4 + 2) (Q c)) else [])) (hl4 : ∀ c, (L r c).length ≤ 4) (hp : post (ms_sc (ms_sI 0 (B r) n) (L r) 25)) : ∀ d N p, p + d = n → d < N → wX_cutTotal_18 post (nI r) f_n f_room f_slots f_up f_last f_keptCount a_liveBalance a_liveDigest a_ring a_head a_count a_tokens a_rootOf a_parentOf a_finished a_markerIn a_reportIn a_recId a_recBalance a_recDigest a_recLength a_recAmount N (ms_sI 0 (B r) p) (nI p) := by
  intro d
  induction d with
  | zero =>
    intro N p h1 hN
    obtain ⟨N, rfl⟩ : ∃ M, N = M + 1 := ⟨N - 1, by omega⟩
    obtain rfl : p = n := by omega
    refine br_t (by rw [H.1.1]; exact nI_le (by omega) (by omega)) ⟨26, ms_x_ct46 H hr hJ hJb hb hL hl4 hp 25 26 0 (by omega) (by omega)⟩
  | succ d ih =>
    intro N p h1 hN
    obtain ⟨N, rfl⟩ : ∃ M, N = M + 1 := ⟨N - 1, by omega⟩
    refine br_f (by rw [H.1.1]; exact nI_ge (by omega) (by omega)) (ms_x_balanceIn H h5 hr (by omega) hJ hP (hB p (by omega)) rfl rfl ?_)
    exact nm_r (e' := ms_sI 0 (B r) (p + 1)) rfl (nm_r (nI_1 p) (ih N _ (by omega) (by omega)))
end
section
variable {f_n f_room f_slots f_up f_last f_kept : Int32} {a_ids a_bal a_dig a_len a_amt a_par a_reported a_count a_queue : Nat → Int32} {post : Int32 → Prop} {q : Nat} {B : Nat → Nat} {D : Nat → Int32} {L : Nat → List Nat}
theorem ms_y_tt47 {Jc : Int32 → Int32 → Prop} {c : Nat} {x1 : Int32} (H : ms_PL q B D L a_bal a_dig a_len a_amt) (hq : q < 7) (hc : c < 25) : ∀ (suf : List Nat) (N i : Nat) (acc : Int32), suf.length < N → i + suf.length = (L c).length →
    (∀ j, j < suf.length → ms_nth (L c) (i + j) = ms_nth suf j) → Jc (ms_sl acc suf) (nI (q * 25 + c + 1)) → wY_total_47 post Jc x1 (nI (q * 25 + c)) f_n f_room f_slots f_up f_last f_kept a_ids a_bal a_dig a_len a_amt a_par a_reported a_count a_queue N acc (nI i) := by
  obtain ⟨q1, q2, q3⟩ := H.2 c hc
  intro suf
  induction suf with
  | nil =>
    intro N i acc hN h1 h2 hp
    obtain ⟨N, rfl⟩ : ∃ M, N = M + 1 := ⟨N - 1, by omega⟩
    rw [List.length_nil] at h1
    refine And.intro (vp_in_nI (by omega) (by decide)) (br_t ?_ (nm_r (nI_1 _) hp))
    rw [nI_clamp (by omega), q2]; exact nI_le (by omega) (by omega)
  | cons y suf ih =>
    intro N i acc hN h1 h2 hp
    obtain ⟨N, rfl⟩ : ∃ M, N = M + 1 := ⟨N - 1, by omega⟩
    rw [List.length_cons] at h1 hN
    have hy : ms_nth (L c) i = y := h2 0 (by rw [List.length_cons]; omega)
    have h2' : ∀ j, j < suf.length → ms_nth (L c) (i + 1 + j) = ms_nth suf j := by
      intro j hj
      have := h2 (j + 1) (by rw [List.length_cons]; omega)
      rw [show i + 1 + j = i + (j + 1) by omega]; exact this
    have ek : nI (q * 25 + c) * 4 + nI i = nI ((q * 25 + c) * 4 + i) := by rw [ms_m4, nI_add]
    refine And.intro (vp_in_nI (by omega) (by decide)) (br_f ?_ (br_f (nI_ge (b := 4) (by omega) (by decide)) (And.intro ?_ (nm_r (e' := acc + nI y) ?_ (nm_r (nI_1 i) (ih N _ _ (by omega) (by omega) h2' hp))))))
    · rw [nI_clamp (by omega), q2]; exact nI_ge (by omega) (by omega)
    · rw [ek]; exact vp_in_nI (by omega) (by decide)
    · rw [ek, nI_clamp (by omega), q3 i (by omega), hy]
theorem ms_y_tt33 {acc : Int32} (H : ms_PL q B D L a_bal a_dig a_len a_amt) (hq : q < 7) (hp : post (ms_sc acc L 25)) : ∀ d N c, c + d = 25 → d < N → wY_total_33 post (nI q) f_n f_room f_slots f_up f_last f_kept a_ids a_bal a_dig a_len a_amt a_par a_reported a_count a_queue N (ms_sc acc L c) (nI (q * 25 + c)) := by
  intro d
  have e : nI q * 25 + 25 = nI (q * 25 + 25) := by rw [ms_m25, ms_r25]
  induction d with
  | zero =>
    intro N c h1 hN
    obtain ⟨N, rfl⟩ : ∃ M, N = M + 1 := ⟨N - 1, by omega⟩
    obtain rfl : c = 25 := by omega
    exact br_t (by rw [e]; exact nI_le (by omega) (by omega)) hp
  | succ d ih =>
    intro N c h1 hN
    obtain ⟨N, rfl⟩ : ∃ M, N = M + 1 := ⟨N - 1, by omega⟩
    refine br_f (by rw [e]; exact nI_ge (by omega) (by omega)) ⟨(L c).length + 1, ?_⟩
    exact ms_y_tt47 H hq (by omega) (L c) _ 0 _ (Nat.lt_succ_self _) (Nat.zero_add _) (fun j _ => by rw [Nat.zero_add]) (ih N (c + 1) (by omega) (by omega))
theorem ms_y_tt4 (H : ms_PL q B D L a_bal a_dig a_len a_amt) (hq : q < 7) (hp : post (ms_sc (ms_sI 0 B 5) L 25)) : ∀ d N p, p + d = 5 → d < N → wY_total_4 post (nI q) f_n f_room f_slots f_up f_last f_kept a_ids a_bal a_dig a_len a_amt a_par a_reported a_count a_queue N (ms_sI 0 B p) (nI p) := by
  intro d
  induction d with
  | zero =>
    intro N p h1 hN
    obtain ⟨N, rfl⟩ : ∃ M, N = M + 1 := ⟨N - 1, by omega⟩
    obtain rfl : p = 5 := by omega
    exact br_t (nI_le (a := 5) (by omega) (by omega)) (nm_r (e' := nI (q * 25 + 0)) (by rw [ms_m25]; rfl) ⟨26, ms_y_tt33 H hq hp 25 26 0 (by omega) (by omega)⟩)
  | succ d ih =>
    intro N p h1 hN
    obtain ⟨N, rfl⟩ : ∃ M, N = M + 1 := ⟨N - 1, by omega⟩
    have ei : nI q * 5 + nI p = nI (q * 5 + p) := by rw [ms_m5, nI_add]
    refine br_f (nI_ge (b := 5) (by omega) (by decide)) (And.intro (by rw [ei]; exact vp_in_nI (by omega) (by decide)) (nm_r (e' := ms_sI 0 B (p + 1)) ?_ (nm_r (nI_1 p) (ih N _ (by omega) (by omega)))))
    rw [ei, nI_clamp (by omega), (H.1 p (by omega)).1]; rfl
theorem ms_y_total {p0 : Int32} (H : ms_PL q B D L a_bal a_dig a_len a_amt) (hq : q < 7) (e0 : p0 = nI q) (hp : post (ms_sc (ms_sI 0 B 5) L 25)) : wpY_total post (f_n, f_room, f_slots, f_up, f_last, f_kept, a_ids, a_bal, a_dig, a_len, a_amt, a_par, a_reported, a_count, a_queue) p0 := by
  subst e0
  exact ⟨6, ms_y_tt4 H hq hp 5 6 0 (by omega) (by omega)⟩
end
theorem ms_sI5 {n room : Nat} {B : Nat → Nat} {L : Nat → List Nat} (h : ms_A n room B L) (h5 : n ≤ 5) : ms_sI 0 B 5 = ms_sI 0 B n := by
  have := ms_sI_ge (acc := 0) (F := B) (n := n) (5 - n) (fun p h1 h2 => h.1 p h1 (by omega))
  rw [show n + (5 - n) = 5 by omega] at this
  exact this
theorem i_vc_liveTotal {k : Nat} {u : SX} {v : SY} (I : i_Rel k u v) (hk : k + 5 ≤ 2564) : wpX_liveTotal (fun r => wpY_liveTotal (fun r' => r' = r ∧ i_Rel (k + 5) u v) v) u := by
  obtain ⟨⟨n, room, slots, up, last, kept, B0, D0, Q, J, root, par, fin, mI, rI, B, D, L, ST⟩, hI, HX, HY⟩ := id I
  obtain ⟨f_n, f_room, f_slots, f_up, f_last, f_keptCount, a_liveBalance, a_liveDigest, a_ring, a_head, a_count, a_tokens, a_rootOf, a_parentOf, a_finished, a_markerIn, a_reportIn, a_recId, a_recBalance, a_recDigest, a_recLength, a_recAmount⟩ := u
  obtain ⟨y1, y2, y3, y4, y5, y6, y7, y8, y9, y10, y11, y12, y13, y14, y15⟩ := v
  replace HY : ms_RY (n, room, slots, up, last, kept, B0, D0, Q, J, root, par, fin, mI, rI, B, D, L, ST) (fun c => ms_tk (Q c)) (y1, y2, y3, y4, y5, y6, y7, y8, y9, y10, y11, y12, y13, y14, y15) := HY
  obtain ⟨⟨xn, xr, xs, xu, xl, xk⟩, xB, xQ, xI, xR, xP, xM, xE, xS⟩ := id HX
  obtain ⟨⟨yn, yr, ys, yu, yl, yk⟩, yQ, yI, yP, yL, yE⟩ := id HY
  have h5 := hI.1.2.1
  have hJb := ms_Inv_J hI
  have hb := ms_Inv_b hI
  have iA := hI.2.1
  refine ⟨n + 1, ms_x_lt4 HX h5 hb ?_ n (n + 1) 0 (by omega) (by omega)⟩
  unfold wpY_liveTotal
  refine ms_y_total (q := 0) yL (by decide) rfl ⟨?_, I⟩
  rw [ms_sI5 iA h5]
theorem i_vc_cutTotal {k : Nat} {u : SX} {v : SY} (I : i_Rel k u v) (hk : k + 5 ≤ 2564) (v1 : Int32) : wpX_cutTotal (fun r => wpY_cutTotal (fun r' => r' = r ∧ i_Rel (k + 5) u v) v v1) u v1 := by
  obtain ⟨⟨n, room, slots, up, last, kept, B0, D0, Q, J, root, par, fin, mI, rI, B, D, L, ST⟩, hI, HX, HY⟩ := id I
  obtain ⟨f_n, f_room, f_slots, f_up, f_last, f_keptCount, a_liveBalance, a_liveDigest, a_ring, a_head, a_count, a_tokens, a_rootOf, a_parentOf, a_finished, a_markerIn, a_reportIn, a_recId, a_recBalance, a_recDigest, a_recLength, a_recAmount⟩ := u
  obtain ⟨y1, y2, y3, y4, y5, y6, y7, y8, y9, y10, y11, y12, y13, y14, y15⟩ := v
  replace HY : ms_RY (n, room, slots, up, last, kept, B0, D0, Q, J, root, par, fin, mI, rI, B, D, L, ST) (fun c => ms_tk (Q c)) (y1, y2, y3, y4, y5, y6, y7, y8, y9, y10, y11, y12, y13, y14, y15) := HY
  obtain ⟨⟨xn, xr, xs, xu, xl, xk⟩, xB, xQ, xI, xR, xP, xM, xE, xS⟩ := id HX
  obtain ⟨⟨yn, yr, ys, yu, yl, yk⟩, yQ, yI, yP, yL, yE⟩ := id HY
  have h5 := hI.1.2.1
  have hJb := ms_Inv_J hI
  have hb := ms_Inv_b hI
  have iP := hI.2.2.2.2.1
  unfold wpX_cutTotal wpY_cutTotal
  rcases ms_fcase hJb v1 with ⟨h0, r, hr, hJ, he, hl⟩ | hno
  · have hA := ms_Inv_A hI hr hJ
    have hroom := hI.1.2.2.2.1
    refine ms_x_findEntry xI h0 hr he hl (br_t (nI_pos' (by omega)) ⟨n + 1, ms_x_ct18 HX h5 hr hJ (hJb r hr) iP hb (fun p hp h3 hz => (ms_Inv_unrec hI hp hJ h3 hz).1) (ms_Inv_cut hI hr hJ) (fun c => Nat.le_trans (hA.2.2.1 c) hroom) ?_ n (n + 1) 0 (by omega) (by omega)⟩)
    refine ms_y_find yI h0 hr he hl (br_t (nI_pos' (by omega)) (ms_y_total (q := r + 1) (yE r hr hJ) (by omega) rfl ⟨?_, I⟩))
    rw [ms_sI5 hA h5]
  · exact ms_x_findEntry_n xI hno (br_f (by decide) (ms_y_find_n yI hno (br_f (by decide) ⟨rfl, I⟩)))
end
section
/-! begin -/
section
variable {n : Nat} {room : Nat} {slots : Nat} {up : Bool} {last : Nat} {kept : Nat} {B0 : Nat → Nat} {D0 : Nat → Int32} {Q : Nat → List Nat} {J : Nat → Nat} {root : Nat → Nat} {par : Nat → Nat → Nat} {fin : Nat → Nat → Bool} {mI : Nat → Nat → Bool} {rI : Nat → Nat → Bool} {B : Nat → Nat → Nat} {D : Nat → Nat → Int32} {L : Nat → Nat → List Nat} {ST : Nat → Nat → List Nat} {p s : Nat}
theorem ms_SI_fresh {k : Nat} (hno : ∀ c, ms_ct (k * 4 + 2) (Q c) = 0 ∧ ms_ct (k * 4 + 3) (Q c) = 0) : ms_SI n k p Q B0 D0 (fun _ => 0) (fun _ => false) (fun _ => false) (fun _ => false) B0 D0 (fun c => ms_tk (Q c)) (fun _ => []) := by
  refine ⟨⟨fun _ => 0, fun r _ z => absurd rfl z⟩, fun c g => ⟨fun _ => ⟨(hno c).1, rfl⟩, fun z => absurd rfl z⟩, fun c g => ⟨?_, fun z => (Bool.false_ne_true z).elim⟩, fun r _ z => (Bool.false_ne_true z).elim, fun r _ _ => ⟨rfl, rfl⟩, fun c => ⟨?_, fun _ => rfl⟩⟩
  · rw [(hno c).2, if_neg (fun z => Bool.false_ne_true z.1)]
  · rw [if_neg Bool.false_ne_true, ms_bf_0 _ (hno c).1]; rfl
theorem ms_Inv_begin (h : ms_Inv (n, room, slots, up, last, kept, B0, D0, Q, J, root, par, fin, mI, rI, B, D, L, ST)) (hu : up = true) (hp : p < n) (hs : s < 3) (hJ0 : J s = 0) (hl : last < 99) :
    ms_Inv (n, room, slots, up, last + 1, kept, B0, D0, ms_jq n p ((ms_set J s (last + 1 + 1) s - 1) * 4 + 2) Q, ms_set J s (last + 1 + 1), ms_set root s p, ms_set (ms_set par s (fun _ => 0)) s (ms_set (ms_set par s (fun _ => 0) s) p (p + 1)), ms_set fin s (fun _ => false), ms_set mI s (fun _ => false), ms_set rI s (fun _ => false), ms_set B s B0, ms_set D s D0, ms_set L s (fun c => ms_tk (Q c)), ms_set ST s (fun _ => [])) := by
  obtain ⟨i0, iA, iQ, iJ, iP, iS, iK, iD⟩ := h
  obtain ⟨n2, h5, r1, r4, s1, s3, hl9, k1, k3⟩ := i0
  rw [ms_set_s, ms_set_s, show last + 1 + 1 - 1 = last + 1 by omega]
  have hx4 : ¬ ((last + 1) * 4 + 2) % 4 = 1 := by omega
  have hno : ∀ c, ms_ct ((last + 1) * 4 + 2) (Q c) = 0 ∧ ms_ct ((last + 1) * 4 + 3) (Q c) = 0 := by
    intro c
    refine ⟨ms_ct_no _ (fun x hx z => ?_), ms_ct_no _ (fun x hx z => ?_)⟩
    · rcases iQ.2 c x hx with h1 | ⟨s', hs', hJ', h1⟩
      · omega
      · have := (iJ s' hs' hJ').1
        omega
    · rcases iQ.2 c x hx with h1 | ⟨s', hs', hJ', h1⟩
      · omega
      · have := (iJ s' hs' hJ').1
        omega
  have hQJ : ms_IQ n Q (ms_set J s (last + 1 + 1)) := by
    refine ⟨iQ.1, fun c x hx => ?_⟩
    rcases iQ.2 c x hx with h1 | ⟨s', hs', hJ', h1⟩
    · exact Or.inl h1
    · have e : s' ≠ s := fun z => hJ' (by rw [z]; exact hJ0)
      exact Or.inr ⟨s', hs', by rw [ms_set_n e]; exact hJ', by rw [ms_set_n e]; exact h1⟩
  refine ⟨⟨n2, h5, r1, r4, s1, s3, by omega, k1, k3⟩, by rw [ms_tk_jq hx4]; exact iA, ms_IQ_jq hQJ hp (Or.inr ⟨s, hs, by rw [ms_set_s]; omega, Or.inl (by rw [ms_set_s]; omega)⟩), fun s' hs' hJ' => ?_, fun s' p' hs' hp' => ?_, fun s' hs' hJ' => ?_, fun i hi => ?_, fun z => by rw [hu] at z; exact absurd z (by decide)⟩
  · by_cases e : s' = s
    · subst e
      rw [ms_set_s]
      refine ⟨Nat.le_refl _, fun s'' hs'' hne => ?_⟩
      rw [ms_set_n hne]
      by_cases e2 : J s'' = 0
      · omega
      · have := (iJ s'' hs'' e2).1; omega
    · rw [ms_set_n e] at hJ' ⊢
      have h1 := (iJ s' hs' hJ').1
      refine ⟨by omega, fun s'' hs'' hne => ?_⟩
      by_cases e2 : s'' = s
      · rw [e2, ms_set_s]; omega
      · rw [ms_set_n e2]; exact (iJ s' hs' hJ').2 s'' hs'' hne
  · by_cases e : s' = s
    · subst e
      rw [ms_set_s]
      by_cases e2 : p' = p
      · rw [e2, ms_set_s]; omega
      · rw [ms_set_n e2]; exact Nat.zero_le _
    · rw [ms_set_n e, ms_set_n e]; exact iP s' p' hs' hp'
  · by_cases e : s' = s
    · subst e
      rw [ms_set_s, ms_set_s, ms_set_s, ms_set_s, ms_set_s, ms_set_s, ms_set_s, ms_set_s, ms_set_s, ms_set_s, show last + 1 + 1 - 1 = last + 1 by omega]
      refine ⟨iA, ms_SI_join (ms_SI_fresh (p := p) hno) hp rfl (Or.inl ⟨rfl, rfl⟩) h5, fun c g z => (Bool.false_ne_true z).elim, hp, by rw [ms_set_s]⟩
    · rw [ms_set_n e] at hJ'
      rw [ms_set_n e, ms_set_n e, ms_set_n e, ms_set_n e, ms_set_n e, ms_set_n e, ms_set_n e, ms_set_n e, ms_set_n e, ms_set_n e, ms_set_n e]
      obtain ⟨hA, b, c, d⟩ := iS s' hs' hJ'
      have h1 := (iJ s' hs' hJ').1
      exact ⟨hA, ms_SI_cong b (ms_fg_jq hx4 (by omega) (by omega)), c, d⟩
  · rw [ms_set_n (by omega), ms_set_n (by omega), ms_set_n (by omega), ms_set_n (by omega)]
    exact iK i hi
theorem ms_y_bg107 {post : Int32 → SY → Prop} {f_n f_room f_slots f_up f_last f_kept : Int32} {a_ids a_bal a_dig a_len a_amt a_par a_reported a_count a_queue : Nat → Int32} {x1 : Int32} (hs : s < 3) (hp : wpY_join (fun u => match u with | (f_n, f_room, f_slots, f_up, f_last, f_kept, a_ids, a_bal, a_dig, a_len, a_amt, a_par, a_reported, a_count, a_queue) => post f_last (f_n, f_room, f_slots, f_up, f_last, f_kept, a_ids, a_bal, a_dig, a_len, a_amt, a_par, a_reported, a_count, a_queue)) (f_n, f_room, f_slots, f_up, f_last, f_kept, a_ids, a_bal, a_dig, a_len, a_amt, ms_fill a_par ((s + 1) * 5) 5 (-1), ms_fill a_reported ((s + 1) * 5) 5 0, a_count, a_queue) (nI (s + 1)) x1 x1) :
    ∀ e N k, k + e = 5 → e < N → wY_begin_107 post x1 (nI (s + 1)) f_n f_room f_slots f_up f_last f_kept N (nI k) a_ids a_bal a_dig a_len a_amt (ms_fill a_par ((s + 1) * 5) k (-1)) (ms_fill a_reported ((s + 1) * 5) k 0) a_count a_queue := by
  intro e
  induction e with
  | zero =>
    intro N k h1 hN
    obtain ⟨N, rfl⟩ : ∃ M, N = M + 1 := ⟨N - 1, by omega⟩
    obtain rfl : k = 5 := by omega
    exact br_t (nI_le (a := 5) (by omega) (by omega)) hp
  | succ e ih =>
    intro N k h1 hN
    obtain ⟨N, rfl⟩ : ∃ M, N = M + 1 := ⟨N - 1, by omega⟩
    have e1 : nI (s + 1) * 5 + nI k = nI ((s + 1) * 5 + k) := by rw [ms_m5, nI_add]
    refine br_f (nI_ge (b := 5) (by omega) (by decide)) (And.intro ?_ (nm_r (e' := ms_fill a_par ((s + 1) * 5) (k + 1) (-1)) ?_ (And.intro ?_ (nm_r (e' := ms_fill a_reported ((s + 1) * 5) (k + 1) 0) ?_ (nm_r (nI_1 k) (ih N _ (by omega) (by omega)))))))
    · rw [e1]; exact vp_in_nI (by omega) (by decide)
    · rw [e1, nI_clamp (by omega), ms_fillS]
    · rw [e1]; exact vp_in_nI (by omega) (by decide)
    · rw [e1, nI_clamp (by omega), ms_vb0, ms_fillS]
theorem ms_y_bg63 {post : Int32 → SY → Prop} {f_n f_room f_slots f_up f_last f_kept : Int32} {a_ids a_bal a_dig a_len a_amt a_par a_reported a_count a_queue : Nat → Int32} {x1 : Int32} (hI : ∀ r, r < 6 → a_ids (r + 1) = ms_enc (J r)) (hJ : ∀ r, r < 6 → J r ≤ 100) (hs : s < 3) (hJ0 : J s = 0) (hl : ∀ r, r < s → J r ≠ 0) (hz : ∀ N, wY_begin_63 post x1 f_n f_room f_slots f_up f_last f_kept a_ids a_bal a_dig a_len a_amt a_par a_reported a_count a_queue (N + 1) (nI (s + 1)) (nI 0)) :
    ∀ k N x3, k < N → k ≤ 3 → (k ≤ s → x3 = nI (s + 1)) → wY_begin_63 post x1 f_n f_room f_slots f_up f_last f_kept a_ids a_bal a_dig a_len a_amt a_par a_reported a_count a_queue N x3 (nI k) := by
  intro k
  induction k with
  | zero =>
    intro N x3 hN hk hx
    obtain ⟨N, rfl⟩ : ∃ M, N = M + 1 := ⟨N - 1, by omega⟩
    rw [hx (by omega)]; exact hz N
  | succ k ih =>
    intro N x3 hN hk hx
    obtain ⟨N, rfl⟩ : ∃ M, N = M + 1 := ⟨N - 1, by omega⟩
    have hj := hJ k (by omega)
    refine br_f (nI_nlt (b := 1) (by omega) (by omega)) (And.intro (vp_in_nI (by omega) (by decide)) (br_c (fun z => nm_r (pk_m1 k) (ih N x3 (by omega) (by omega) (fun w => ?_))) (fun z => nm_r (pk_m1 k) (ih N _ (by omega) (by omega) (fun w => ?_)))))
    · rw [nI_clamp (by omega), hI k (by omega), ms_e_ge (by omega)] at z
      refine hx ?_
      have : k ≠ s := fun y => z (by rw [y]; exact hJ0)
      omega
    · rw [nI_clamp (by omega), hI k (by omega), ms_e_ge (by omega)] at z
      have : ¬ k < s := fun y => z (hl k y)
      have : k = s := by omega
      rw [this]
theorem ms_RY_open {f_n f_room f_slots f_up f_last f_kept : Int32} {a_ids a_bal a_dig a_len a_amt a_par a_reported a_count a_queue : Nat → Int32} (H : ms_RY (n, room, slots, up, last, kept, B0, D0, Q, J, root, par, fin, mI, rI, B, D, L, ST) (fun c => ms_tk (Q c)) (f_n, f_room, f_slots, f_up, f_last, f_kept, a_ids, a_bal, a_dig, a_len, a_amt, a_par, a_reported, a_count, a_queue)) (hs : s < 3) {k : Nat} {w : Int32} (hw : w = nI k) :
    ms_RY (n, room, slots, up, last, kept, B0, D0, Q, ms_set J s (k + 1), root, ms_set par s (fun _ => 0), ms_set fin s (fun _ => false), mI, rI, ms_set B s B0, ms_set D s D0, ms_set L s (fun c => ms_tk (Q c)), ST) (fun c => ms_tk (Q c))
      (f_n, f_room, f_slots, f_up, f_last, f_kept, upd (upd a_ids (s + 1) (a_ids 0)) (s + 1) w, ms_blk a_bal ((s + 1) * 5) (0 * 5) 5, ms_blk a_dig ((s + 1) * 5) (0 * 5) 5, ms_blk a_len ((s + 1) * 25) (0 * 25) 25, ms_blk a_amt ((s + 1) * 100) (0 * 100) 100, ms_fill a_par ((s + 1) * 5) 5 (-1), ms_fill a_reported ((s + 1) * 5) 5 0, a_count, a_queue) := by
  obtain ⟨h1, hQ, hI, hp, hP0, hPr⟩ := H
  subst hw
  refine ⟨h1, hQ, fun r hr => ?_, fun s' p' hs' hp' => ?_, ms_PL_copy_o hP0 (by omega), fun r hr hJr => ?_⟩
  · by_cases e : r = s
    · subst e; rw [pk_us, ms_set_s]; rfl
    · rw [pk_un (by omega), pk_un (by omega), ms_set_n e]; exact hI r hr
  · by_cases e : s' = s
    · subst e
      rw [ms_set_s, ms_set_s, ms_fill_in hp', ms_fill_in hp']; exact ⟨rfl, rfl⟩
    · rw [ms_set_n e, ms_set_n e, ms_fill_out (by omega), ms_fill_out (by omega)]; exact hp s' p' hs' hp'
  · by_cases e : r = s
    · subst e
      rw [ms_set_s, ms_set_s, ms_set_s]; exact ms_PL_copy hP0
    · rw [ms_set_n e] at hJr
      rw [ms_set_n e, ms_set_n e, ms_set_n e]; exact ms_PL_copy_o (hPr r hr hJr) (by omega)
theorem ms_RY_last {L0 : Nat → List Nat} {f_n f_room f_slots f_up f_last f_kept : Int32} {a_ids a_bal a_dig a_len a_amt a_par a_reported a_count a_queue : Nat → Int32} {k : Nat} {w : Int32} (H : ms_RY (n, room, slots, up, last, kept, B0, D0, Q, J, root, par, fin, mI, rI, B, D, L, ST) L0 (f_n, f_room, f_slots, f_up, f_last, f_kept, a_ids, a_bal, a_dig, a_len, a_amt, a_par, a_reported, a_count, a_queue)) (hw : w = nI k) : ms_RY (n, room, slots, up, k, kept, B0, D0, Q, J, root, par, fin, mI, rI, B, D, L, ST) L0 (f_n, f_room, f_slots, f_up, w, f_kept, a_ids, a_bal, a_dig, a_len, a_amt, a_par, a_reported, a_count, a_queue) := by
  obtain ⟨⟨h1, h2, h3, h4, h5, h6⟩, hh⟩ := H
  exact ⟨⟨h1, h2, h3, h4, hw, h6⟩, hh⟩
theorem ms_RX_last {f_n f_room f_slots f_up f_last f_keptCount : Int32} {a_liveBalance a_liveDigest a_ring a_head a_count a_tokens a_rootOf a_parentOf a_finished a_markerIn a_reportIn a_recId a_recBalance a_recDigest a_recLength a_recAmount : Nat → Int32} {k : Nat} {w : Int32} (H : ms_RX (n, room, slots, up, last, kept, B0, D0, Q, J, root, par, fin, mI, rI, B, D, L, ST) (f_n, f_room, f_slots, f_up, f_last, f_keptCount, a_liveBalance, a_liveDigest, a_ring, a_head, a_count, a_tokens, a_rootOf, a_parentOf, a_finished, a_markerIn, a_reportIn, a_recId, a_recBalance, a_recDigest, a_recLength, a_recAmount)) (hw : w = nI k) : ms_RX (n, room, slots, up, k, kept, B0, D0, Q, J, root, par, fin, mI, rI, B, D, L, ST) (f_n, f_room, f_slots, f_up, w, f_keptCount, a_liveBalance, a_liveDigest, a_ring, a_head, a_count, a_tokens, a_rootOf, a_parentOf, a_finished, a_markerIn, a_reportIn, a_recId, a_recBalance, a_recDigest, a_recLength, a_recAmount) := by
  obtain ⟨⟨h1, h2, h3, h4, h5, h6⟩, hh⟩ := H
  exact ⟨⟨h1, h2, h3, h4, hw, h6⟩, hh⟩
theorem ms_y_bg {post : Int32 → SY → Prop} {f_n f_room f_slots f_up f_last f_kept : Int32} {a_ids a_bal a_dig a_len a_amt a_par a_reported a_count a_queue : Nat → Int32} {L0 : Nat → List Nat} (H : ms_RY (n, room, slots, up, last, kept, B0, D0, Q, J, root, par, fin, mI, rI, B, D, L, ST) (fun c => ms_tk (Q c)) (f_n, f_room, f_slots, f_up, f_last, f_kept, a_ids, a_bal, a_dig, a_len, a_amt, a_par, a_reported, a_count, a_queue)) (h5 : n ≤ 5) (hJ : ∀ r, r < 6 → J r ≤ 100) (hs : s < 3) (hJ0 : J s = 0) (hl : ∀ r, r < s → J r ≠ 0) (hp : p < n) (hlast : last ≤ 99) (hcap : ∀ r, r < n → r ≠ p → (Q (p * 5 + r)).length < 10)
    (K : ∀ v', ms_RY (n, room, slots, up, last, kept, B0, D0, ms_jq n p ((ms_set J s (last + 1) s - 1) * 4 + 2) Q, ms_set J s (last + 1), root, ms_set (ms_set par s (fun _ => 0)) s (ms_set (ms_set par s (fun _ => 0) s) p (p + 1)), ms_set fin s (fun _ => false), mI, rI, ms_set B s B0, ms_set D s D0, ms_set L s (fun c => ms_tk (Q c)), ST) (fun c => ms_tk (Q c)) v' → post (nI last) v') : ∃ N, wY_begin_63 post (nI p) f_n f_room f_slots f_up f_last f_kept a_ids a_bal a_dig a_len a_amt a_par a_reported a_count a_queue N 1 3 := by
  have hI := H.2.2.1
  have hla := H.1.2.2.2.2.1
  refine ⟨4, ms_y_bg63 hI hJ hs hJ0 hl (fun N => ?_) 3 4 1 (by omega) (by omega) (fun z => by omega)⟩
  refine br_t (by decide) (ms_y_copy (s := 0) (d := s + 1) (by decide) (by omega) (by omega) rfl rfl ?_)
  refine And.intro (vp_in_nI (by omega) (by decide)) (nm_r (e' := upd (upd a_ids (s + 1) (a_ids 0)) (s + 1) (nI last)) (by rw [nI_clamp (by omega), hla]) ⟨6, ?_⟩)
  have key := ms_y_bg107 (post := post) (f_n := f_n) (f_room := f_room) (f_slots := f_slots) (f_up := f_up) (f_last := f_last) (f_kept := f_kept) (a_ids := upd (upd a_ids (s + 1) (a_ids 0)) (s + 1) (nI last)) (a_bal := ms_blk a_bal ((s + 1) * 5) (0 * 5) 5) (a_dig := ms_blk a_dig ((s + 1) * 5) (0 * 5) 5) (a_len := ms_blk a_len ((s + 1) * 25) (0 * 25) 25) (a_amt := ms_blk a_amt ((s + 1) * 100) (0 * 100) 100) (a_par := a_par) (a_reported := a_reported) (a_count := a_count) (a_queue := a_queue) (x1 := nI p) hs ?_ 5 6 0 (by omega) (by omega)
  · rw [ms_fill0, ms_fill0] at key; exact key
  · refine ms_y_join (ms_RY_open (s := s) H hs rfl) hs hp h5 (by rw [ms_set_s]; omega) (by rw [ms_set_s]; omega) hcap rfl rfl rfl (fun v' H' => ?_)
    obtain ⟨z0, z1, z2, z3, z4, z5, z6, z7, z8, z9, z10, z11, z12, z13, z14⟩ := v'
    show post z4 _
    have hz : z4 = nI last := H'.1.2.2.2.2.1
    have := K _ H'
    rw [← hz] at this; exact this
end
theorem i_vc_begin {k : Nat} {u : SX} {v : SY} (I : i_Rel k u v) (hk : k + 5 ≤ 2564) (v1 : Int32) : wpX_begin (fun r u' => wpY_begin (fun r' v' => r' = r ∧ i_Rel (k + 5) u' v') v v1) u v1 := by
  obtain ⟨⟨n, room, slots, up, last, kept, B0, D0, Q, J, root, par, fin, mI, rI, B, D, L, ST⟩, hI, HX, HY⟩ := id I
  obtain ⟨f_n, f_room, f_slots, f_up, f_last, f_keptCount, a_liveBalance, a_liveDigest, a_ring, a_head, a_count, a_tokens, a_rootOf, a_parentOf, a_finished, a_markerIn, a_reportIn, a_recId, a_recBalance, a_recDigest, a_recLength, a_recAmount⟩ := u
  obtain ⟨y1, y2, y3, y4, y5, y6, y7, y8, y9, y10, y11, y12, y13, y14, y15⟩ := v
  replace HY : ms_RY (n, room, slots, up, last, kept, B0, D0, Q, J, root, par, fin, mI, rI, B, D, L, ST) (fun c => ms_tk (Q c)) (y1, y2, y3, y4, y5, y6, y7, y8, y9, y10, y11, y12, y13, y14, y15) := HY
  obtain ⟨⟨xn, xr, xs, xu, xl, xk⟩, xB, xQ, xI, xR, xP, xM, xE, xS⟩ := id HX
  obtain ⟨⟨yn, yr, ys, yu, yl, yk⟩, yQ, yI, yP, yL, yE⟩ := id HY
  have h5 := hI.1.2.1
  have hJb := ms_Inv_J hI
  have hcap := @ms_Inv_cap n room slots up last kept B0 D0 Q J root par fin mI rI B D L ST hI
  have hbeg := fun p s => @ms_Inv_begin n room slots up last kept B0 D0 Q J root par fin mI rI B D L ST p s hI
  obtain ⟨n2, _, r1, r4, s1, s3, hl9, k1, k3⟩ := hI.1
  cases hu : up with
  | false => exact br_t (by rw [xu, hu]; rfl) (br_t (by rw [yu, hu]; rfl) ⟨rfl, I⟩)
  | true =>
    refine br_f (by rw [xu, hu]; decide) ?_
    have yu' : ¬ y4 = 0 := by rw [yu, hu]; decide
    by_cases hg : ∃ p, p < n ∧ v1 = nI p
    · obtain ⟨p, hp, rfl⟩ := hg
      refine ms_x_pr1 xn h5 hp (br_f (by decide) ?_)
      have hrc := ms_rcn_le J 3
      rcases ms_first (fun r => J r = 0) 3 with ⟨s, hs, hJ0, hl⟩ | hno
      · refine ms_x_freeSlot xI hJb hs hJ0 hl (ms_x_runningCount xI hJb (br_c (fun z => ?_) (fun z => br_t (nI_pos' (by omega)) (br_c (fun w => nm_r (e' := nI (last + 1)) (by rw [xl, nI_1]) ?_) (fun w => ?_)))))
        · rw [xs, nI_leI (by omega) (by omega)] at z
          refine br_f yu' (ms_y_pr1 yn h5 hp (br_f (by decide) (ms_y_running yI hJb (br_f ?_ ⟨rfl, I⟩))))
          rw [ys, nI_ltI (by omega) (by omega)]; omega
        · rw [xs, nI_leI (by omega) (by omega)] at z
          rw [xl, ms_lt99 (by omega)] at w
          have hcp : ∀ r, r < n → r ≠ p → (Q (p * 5 + r)).length < 10 := fun r hr hrp => hcap (ms_gd_ft h5 hp hr (fun z => hrp z.symm)) (Or.inr ⟨s, hs, Or.inl hJ0⟩)
          refine ms_x_open (ms_RX_last (k := last + 1) HX rfl) (s := s) (k := last + 1) (p := p) (B' := ms_set B s B0) (D' := ms_set D s D0) (L' := ms_set L s (fun c => ms_tk (Q c))) hs rfl rfl rfl (fun r hr => ms_set_n hr) (fun r hr => ms_set_n hr) (fun u1 H1 => ?_)
          obtain ⟨z0, z1, z2, z3, z4, z5, z6, z7, z8, z9, z10, z11, z12, z13, z14, z15, z16, z17, z18, z19, z20, z21⟩ := u1
          refine ms_x_join H1 hs hp h5 (by rw [ms_set_s]; omega) (by rw [ms_set_s]; omega) hcp (by rw [ms_set_s]) (by rw [ms_set_s]) rfl rfl rfl (fun u2 H2 => ?_)
          obtain ⟨f_n, f_room, f_slots, f_up, f_last, f_keptCount, a_liveBalance, a_liveDigest, a_ring, a_head, a_count, a_tokens, a_rootOf, a_parentOf, a_finished, a_markerIn, a_reportIn, a_recId, a_recBalance, a_recDigest, a_recLength, a_recAmount⟩ := u2
          have hla : f_last = nI (last + 1) := H2.1.2.2.2.2.1
          show wpY_begin (fun r' v' => r' = f_last ∧ i_Rel (k + 5) (f_n, f_room, f_slots, f_up, f_last, f_keptCount, a_liveBalance, a_liveDigest, a_ring, a_head, a_count, a_tokens, a_rootOf, a_parentOf, a_finished, a_markerIn, a_reportIn, a_recId, a_recBalance, a_recDigest, a_recLength, a_recAmount) v') _ _
          rw [hla]
          rw [hla] at H2
          refine br_f yu' (ms_y_pr1 yn h5 hp (br_f (by decide) (ms_y_running yI hJb (br_t ?_ (br_f ?_ (nm_r (e' := nI (last + 1)) (by rw [yl, nI_1]) ?_))))))
          · rw [ys, nI_ltI (by omega) (by omega)]; omega
          · rw [yl, ms_eq99 (by omega)]; omega
          · refine ms_y_bg (L0 := fun c => ms_tk (Q c)) (ms_RY_last (k := last + 1) HY rfl) h5 hJb hs hJ0 hl hp (by omega) hcp (fun v' H3 => ⟨rfl, _, hbeg p s hu hp hs hJ0 w, H2, ?_⟩)
            refine ms_RY_to H3 ?_
            exact (ms_tk_jq (by omega)).symm
        · rw [xs, nI_leI (by omega) (by omega)] at z
          rw [xl, ms_lt99 (by omega)] at w
          refine br_f yu' (ms_y_pr1 yn h5 hp (br_f (by decide) (ms_y_running yI hJb (br_t ?_ (br_t ?_ ⟨rfl, I⟩)))))
          · rw [ys, nI_ltI (by omega) (by omega)]; omega
          · rw [yl, ms_eq99 (by omega)]; omega
      · have hr3 : ms_rcn J 3 = 3 := by
          show 0 + (if J 0 = 0 then 0 else 1) + (if J 1 = 0 then 0 else 1) + (if J 2 = 0 then 0 else 1) = 3
          rw [if_neg (hno 0 (by omega)), if_neg (hno 1 (by omega)), if_neg (hno 2 (by omega))]
        refine ms_x_freeSlot_n xI hJb hno (ms_x_runningCount xI hJb (br_t ?_ (br_f yu' (ms_y_pr1 yn h5 hp (br_f (by decide) (ms_y_running yI hJb (br_f ?_ ⟨rfl, I⟩)))))))
        · rw [xs, nI_leI (by omega) (by omega)]; omega
        · rw [ys, nI_ltI (by omega) (by omega)]; omega
    · exact ms_x_pr0 xn h5 hg (br_t rfl (br_f yu' (ms_y_pr0 yn h5 hg (br_t rfl ⟨rfl, I⟩))))
end
section
/-! crash -/
section
variable {f_n f_room f_slots f_up f_last f_keptCount : Int32} {a_liveBalance a_liveDigest a_ring a_head a_count a_tokens a_rootOf a_parentOf a_finished a_markerIn a_reportIn a_recId a_recBalance a_recDigest a_recLength a_recAmount : Nat → Int32} {post : SX → Prop}
theorem ms_x_cl29 (hp : post (f_n, f_room, f_slots, f_up, f_last, f_keptCount, a_liveBalance, a_liveDigest, a_ring, ms_fill a_head 0 25 0, ms_fill a_count 0 25 0, ms_fill a_tokens 0 25 0, a_rootOf, a_parentOf, a_finished, a_markerIn, a_reportIn, a_recId, a_recBalance, a_recDigest, a_recLength, a_recAmount)) :
    ∀ e N k, k + e = 25 → e < N → wX_clearLive_29 post f_n f_room f_slots f_up f_last f_keptCount N (nI k) a_liveBalance a_liveDigest a_ring (ms_fill a_head 0 k 0) (ms_fill a_count 0 k 0) (ms_fill a_tokens 0 k 0) a_rootOf a_parentOf a_finished a_markerIn a_reportIn a_recId a_recBalance a_recDigest a_recLength a_recAmount := by
  intro e
  induction e with
  | zero =>
    intro N k h1 hN
    obtain ⟨N, rfl⟩ : ∃ M, N = M + 1 := ⟨N - 1, by omega⟩
    obtain rfl : k = 25 := by omega
    exact br_t (nI_le (a := 25) (by omega) (by omega)) hp
  | succ e ih =>
    intro N k h1 hN
    obtain ⟨N, rfl⟩ : ∃ M, N = M + 1 := ⟨N - 1, by omega⟩
    have hin : vp_in (nI k) 25 := vp_in_nI (by omega) (by decide)
    have ef : ∀ a : Nat → Int32, upd (ms_fill a 0 k 0) (nI k).toNatClampNeg 0 = ms_fill a 0 (k + 1) 0 := by
      intro a
      have := ms_fillS a 0 k 0
      rw [Nat.zero_add] at this
      rw [nI_clamp (by omega), this]
    exact br_f (nI_ge (b := 25) (by omega) (by decide)) (And.intro hin (nm_r (ef a_head) (And.intro hin (nm_r (ef a_count) (And.intro hin (nm_r (ef a_tokens) (nm_r (nI_1 k) (ih N _ (by omega) (by omega)))))))))
theorem ms_x_cl2 (hp : post (f_n, f_room, f_slots, f_up, f_last, f_keptCount, ms_fill a_liveBalance 0 5 0, ms_fill a_liveDigest 0 5 0, a_ring, ms_fill a_head 0 25 0, ms_fill a_count 0 25 0, ms_fill a_tokens 0 25 0, a_rootOf, a_parentOf, a_finished, a_markerIn, a_reportIn, a_recId, a_recBalance, a_recDigest, a_recLength, a_recAmount)) :
    ∀ e N k, k + e = 5 → e < N → wX_clearLive_2 post f_n f_room f_slots f_up f_last f_keptCount N (nI k) (ms_fill a_liveBalance 0 k 0) (ms_fill a_liveDigest 0 k 0) a_ring a_head a_count a_tokens a_rootOf a_parentOf a_finished a_markerIn a_reportIn a_recId a_recBalance a_recDigest a_recLength a_recAmount := by
  intro e
  induction e with
  | zero =>
    intro N k h1 hN
    obtain ⟨N, rfl⟩ : ∃ M, N = M + 1 := ⟨N - 1, by omega⟩
    obtain rfl : k = 5 := by omega
    refine br_t (nI_le (a := 5) (by omega) (by omega)) ⟨26, ?_⟩
    have := ms_x_cl29 (a_liveBalance := ms_fill a_liveBalance 0 5 0) (a_liveDigest := ms_fill a_liveDigest 0 5 0) hp 25 26 0 (by omega) (by omega)
    rw [ms_fill0, ms_fill0, ms_fill0] at this; exact this
  | succ e ih =>
    intro N k h1 hN
    obtain ⟨N, rfl⟩ : ∃ M, N = M + 1 := ⟨N - 1, by omega⟩
    have hin : vp_in (nI k) 5 := vp_in_nI (by omega) (by decide)
    have ef : ∀ a : Nat → Int32, upd (ms_fill a 0 k 0) (nI k).toNatClampNeg 0 = ms_fill a 0 (k + 1) 0 := by
      intro a
      have := ms_fillS a 0 k 0
      rw [Nat.zero_add] at this
      rw [nI_clamp (by omega), this]
    exact br_f (nI_ge (b := 5) (by omega) (by decide)) (And.intro hin (nm_r (ef a_liveBalance) (And.intro hin (nm_r (ef a_liveDigest) (nm_r (nI_1 k) (ih N _ (by omega) (by omega)))))))
end
theorem ms_fill_at {a : Nat → Int32} {k i : Nat} {v : Int32} (h : i < k) : ms_fill a 0 k v i = v := if_pos (by omega)
section
variable {n : Nat} {room : Nat} {slots : Nat} {up : Bool} {last : Nat} {kept : Nat} {B0 : Nat → Nat} {D0 : Nat → Int32} {Q : Nat → List Nat} {J : Nat → Nat} {root : Nat → Nat} {par : Nat → Nat → Nat} {fin : Nat → Nat → Bool} {mI : Nat → Nat → Bool} {rI : Nat → Nat → Bool} {B : Nat → Nat → Nat} {D : Nat → Nat → Int32} {L : Nat → Nat → List Nat} {ST : Nat → Nat → List Nat} {u : SX}
theorem ms_x_clear {post : SX → Prop} (H : ms_RX (n, room, slots, up, last, kept, B0, D0, Q, J, root, par, fin, mI, rI, B, D, L, ST) u) (h5 : n ≤ 5) (K : ∀ u', ms_RX (n, room, slots, up, last, kept, fun _ => 0, fun _ => 0, fun _ => [], J, root, par, fin, mI, rI, B, D, L, ST) u' → post u') : wpX_clearLive post u := by
  obtain ⟨f_n, f_room, f_slots, f_up, f_last, f_keptCount, a_liveBalance, a_liveDigest, a_ring, a_head, a_count, a_tokens, a_rootOf, a_parentOf, a_finished, a_markerIn, a_reportIn, a_recId, a_recBalance, a_recDigest, a_recLength, a_recAmount⟩ := u
  refine ⟨6, ?_⟩
  have key := ms_x_cl2 (post := post) (f_n := f_n) (f_room := f_room) (f_slots := f_slots) (f_up := f_up) (f_last := f_last) (f_keptCount := f_keptCount) (a_liveBalance := a_liveBalance) (a_liveDigest := a_liveDigest) (a_ring := a_ring) (a_head := a_head) (a_count := a_count) (a_tokens := a_tokens) (a_rootOf := a_rootOf) (a_parentOf := a_parentOf) (a_finished := a_finished) (a_markerIn := a_markerIn) (a_reportIn := a_reportIn) (a_recId := a_recId) (a_recBalance := a_recBalance) (a_recDigest := a_recDigest) (a_recLength := a_recLength) (a_recAmount := a_recAmount) ?_ 5 6 0 (by omega) (by omega)
  · rw [ms_fill0, ms_fill0] at key; exact key
  · obtain ⟨h1, h2, hQ, h4⟩ := H
    refine K _ ?_
    refine ⟨h1, fun p hp => ?_, fun c hc => ?_, h4⟩
    · rw [ms_fill_at (by omega), ms_fill_at (by omega)]; exact ⟨rfl, rfl⟩
    · rw [ms_fill_at hc, ms_fill_at hc, ms_fill_at hc]
      exact ⟨Nat.zero_le _, rfl, rfl, 0, by decide, rfl, fun i hi => absurd hi (Nat.not_lt_zero _)⟩
theorem ms_x_cr17 {post : Int32 → SX → Prop} {x1 : Int32} (h5 : n ≤ 5) (K : ∀ u', ms_RX (n, room, slots, false, last, kept, fun _ => 0, fun _ => 0, fun _ => [], ms_pt 3 (fun _ => true) (fun _ => 0) J, root, par, fin, mI, rI, B, D, L, ST) u' → post x1 u') :
    ∀ d N k, ∀ (f_n f_room f_slots f_up f_last f_keptCount : Int32) (a_liveBalance a_liveDigest a_ring a_head a_count a_tokens a_rootOf a_parentOf a_finished a_markerIn a_reportIn a_recId a_recBalance a_recDigest a_recLength a_recAmount : Nat → Int32), k + d = 3 → d < N → ms_RX (n, room, slots, up, last, kept, B0, D0, Q, ms_pt k (fun _ => true) (fun _ => 0) J, root, par, fin, mI, rI, B, D, L, ST) (f_n, f_room, f_slots, f_up, f_last, f_keptCount, a_liveBalance, a_liveDigest, a_ring, a_head, a_count, a_tokens, a_rootOf, a_parentOf, a_finished, a_markerIn, a_reportIn, a_recId, a_recBalance, a_recDigest, a_recLength, a_recAmount) → wX_crash_17 post x1 f_n f_room f_slots f_up f_last f_keptCount N (nI k) a_liveBalance a_liveDigest a_ring a_head a_count a_tokens a_rootOf a_parentOf a_finished a_markerIn a_reportIn a_recId a_recBalance a_recDigest a_recLength a_recAmount := by
  intro d
  induction d with
  | zero =>
    intro N k f_n f_room f_slots f_up f_last f_keptCount a_liveBalance a_liveDigest a_ring a_head a_count a_tokens a_rootOf a_parentOf a_finished a_markerIn a_reportIn a_recId a_recBalance a_recDigest a_recLength a_recAmount h1 hN H
    obtain ⟨N, rfl⟩ : ∃ M, N = M + 1 := ⟨N - 1, by omega⟩
    obtain rfl : k = 3 := by omega
    refine br_t (nI_le (a := 3) (by omega) (by omega)) (ms_x_clear H h5 (fun u' H' => ?_))
    obtain ⟨f_n, f_room, f_slots, f_up, f_last, f_keptCount, a_liveBalance, a_liveDigest, a_ring, a_head, a_count, a_tokens, a_rootOf, a_parentOf, a_finished, a_markerIn, a_reportIn, a_recId, a_recBalance, a_recDigest, a_recLength, a_recAmount⟩ := u'
    obtain ⟨⟨h1, h2, h3, h4, h5, h6⟩, hh⟩ := H'
    refine K _ ?_
    exact ⟨⟨h1, h2, h3, rfl, h5, h6⟩, hh⟩
  | succ d ih =>
    intro N k f_n f_room f_slots f_up f_last f_keptCount a_liveBalance a_liveDigest a_ring a_head a_count a_tokens a_rootOf a_parentOf a_finished a_markerIn a_reportIn a_recId a_recBalance a_recDigest a_recLength a_recAmount h1 hN H
    obtain ⟨N, rfl⟩ : ∃ M, N = M + 1 := ⟨N - 1, by omega⟩
    refine br_f (nI_ge (b := 3) (by omega) (by decide)) (And.intro (vp_in_nI (by omega) (by decide)) (nm_r (e' := upd a_recId k (-1)) (by rw [nI_clamp (by omega)]) (nm_r (nI_1 k) (ih N (k + 1) _ _ _ _ _ _ _ _ _ _ _ _ _ _ _ _ _ _ _ _ _ _ (by omega) (by omega) ?_))))
    rw [ms_ptS_y rfl]
    exact ms_RX_kill H rfl
end
section
variable {f_n f_room f_slots f_up f_last f_kept : Int32} {a_ids a_bal a_dig a_len a_amt a_par a_reported a_count a_queue : Nat → Int32} {post : Int32 → SY → Prop} {x1 : Int32}
theorem ms_y_cr69 (hp : post x1 (f_n, f_room, f_slots, f_up, f_last, f_kept, a_ids, a_bal, a_dig, ms_fill a_len 0 25 0, a_amt, a_par, a_reported, ms_fill a_count 0 25 0, a_queue)) :
    ∀ e N k, k + e = 25 → e < N → wY_crash_69 post x1 f_n f_room f_slots f_up f_last f_kept N (nI k) a_ids a_bal a_dig (ms_fill a_len 0 k 0) a_amt a_par a_reported (ms_fill a_count 0 k 0) a_queue := by
  intro e
  induction e with
  | zero =>
    intro N k h1 hN
    obtain ⟨N, rfl⟩ : ∃ M, N = M + 1 := ⟨N - 1, by omega⟩
    obtain rfl : k = 25 := by omega
    exact br_t (nI_le (a := 25) (by omega) (by omega)) hp
  | succ e ih =>
    intro N k h1 hN
    obtain ⟨N, rfl⟩ : ∃ M, N = M + 1 := ⟨N - 1, by omega⟩
    have ef : ∀ a : Nat → Int32, upd (ms_fill a 0 k 0) (nI k).toNatClampNeg 0 = ms_fill a 0 (k + 1) 0 := by
      intro a
      have := ms_fillS a 0 k 0
      rw [Nat.zero_add] at this
      rw [nI_clamp (by omega), this]
    exact br_f (nI_ge (b := 25) (by omega) (by decide)) (And.intro (vp_in_nI (by omega) (by decide)) (nm_r (ef a_len) (And.intro (vp_in_nI (by omega) (by decide)) (nm_r (ef a_count) (nm_r (nI_1 k) (ih N _ (by omega) (by omega)))))))
theorem ms_y_cr42 (hp : post x1 (f_n, f_room, f_slots, f_up, f_last, f_kept, a_ids, ms_fill a_bal 0 5 0, ms_fill a_dig 0 5 0, ms_fill a_len 0 25 0, a_amt, a_par, a_reported, ms_fill a_count 0 25 0, a_queue)) :
    ∀ e N k, k + e = 5 → e < N → wY_crash_42 post x1 f_n f_room f_slots f_up f_last f_kept N (nI k) a_ids (ms_fill a_bal 0 k 0) (ms_fill a_dig 0 k 0) a_len a_amt a_par a_reported a_count a_queue := by
  intro e
  induction e with
  | zero =>
    intro N k h1 hN
    obtain ⟨N, rfl⟩ : ∃ M, N = M + 1 := ⟨N - 1, by omega⟩
    obtain rfl : k = 5 := by omega
    refine br_t (nI_le (a := 5) (by omega) (by omega)) ⟨26, ?_⟩
    have := ms_y_cr69 (a_bal := ms_fill a_bal 0 5 0) (a_dig := ms_fill a_dig 0 5 0) hp 25 26 0 (by omega) (by omega)
    rw [ms_fill0, ms_fill0] at this; exact this
  | succ e ih =>
    intro N k h1 hN
    obtain ⟨N, rfl⟩ : ∃ M, N = M + 1 := ⟨N - 1, by omega⟩
    have ef : ∀ a : Nat → Int32, upd (ms_fill a 0 k 0) (nI k).toNatClampNeg 0 = ms_fill a 0 (k + 1) 0 := by
      intro a
      have := ms_fillS a 0 k 0
      rw [Nat.zero_add] at this
      rw [nI_clamp (by omega), this]
    exact br_f (nI_ge (b := 5) (by omega) (by decide)) (And.intro (vp_in_nI (by omega) (by decide)) (nm_r (ef a_bal) (And.intro (vp_in_nI (by omega) (by decide)) (nm_r (ef a_dig) (nm_r (nI_1 k) (ih N _ (by omega) (by omega)))))))
end
section
variable {n : Nat} {room : Nat} {slots : Nat} {up : Bool} {last : Nat} {kept : Nat} {B0 : Nat → Nat} {D0 : Nat → Int32} {Q : Nat → List Nat} {J : Nat → Nat} {root : Nat → Nat} {par : Nat → Nat → Nat} {fin : Nat → Nat → Bool} {mI : Nat → Nat → Bool} {rI : Nat → Nat → Bool} {B : Nat → Nat → Nat} {D : Nat → Nat → Int32} {L : Nat → Nat → List Nat} {ST : Nat → Nat → List Nat}
theorem ms_y_cr22 {post : Int32 → SY → Prop} {x1 : Int32} {L0 : Nat → List Nat} (K : ∀ v', ms_RY (n, room, slots, up, last, kept, fun _ => 0, fun _ => 0, fun _ => [], ms_pt 3 (fun _ => true) (fun _ => 0) J, root, par, fin, mI, rI, B, D, L, ST) (fun _ => []) v' → post x1 v') :
    ∀ d N k, ∀ (f_n f_room f_slots f_up f_last f_kept : Int32) (a_ids a_bal a_dig a_len a_amt a_par a_reported a_count a_queue : Nat → Int32), k + d = 3 → d < N → ms_RY (n, room, slots, up, last, kept, B0, D0, Q, ms_pt k (fun _ => true) (fun _ => 0) J, root, par, fin, mI, rI, B, D, L, ST) L0 (f_n, f_room, f_slots, f_up, f_last, f_kept, a_ids, a_bal, a_dig, a_len, a_amt, a_par, a_reported, a_count, a_queue) → wY_crash_22 post x1 f_n f_room f_slots f_up f_last f_kept N (nI (k + 1)) a_ids a_bal a_dig a_len a_amt a_par a_reported a_count a_queue := by
  intro d
  induction d with
  | zero =>
    intro N k f_n f_room f_slots f_up f_last f_kept a_ids a_bal a_dig a_len a_amt a_par a_reported a_count a_queue h1 hN H
    obtain ⟨N, rfl⟩ : ∃ M, N = M + 1 := ⟨N - 1, by omega⟩
    obtain rfl : k = 3 := by omega
    refine br_t (nI_lt (a := 3) (by omega) (by omega)) ⟨6, ?_⟩
    have key := ms_y_cr42 (post := post) (x1 := x1) (f_n := f_n) (f_room := f_room) (f_slots := f_slots) (f_up := f_up) (f_last := f_last) (f_kept := f_kept) (a_ids := a_ids) (a_bal := a_bal) (a_dig := a_dig) (a_len := a_len) (a_amt := a_amt) (a_par := a_par) (a_reported := a_reported) (a_count := a_count) (a_queue := a_queue) ?_ 5 6 0 (by omega) (by omega)
    · rw [ms_fill0, ms_fill0] at key; exact key
    · obtain ⟨h1, hQ, hI, hp, hP0, hPr⟩ := H
      refine K _ ?_
      refine ⟨h1, fun c hc => ?_, hI, hp, ⟨fun p hp => ?_, fun c hc => ?_⟩, fun r hr hJr => ⟨fun p hp => ?_, fun c hc => ?_⟩⟩
      · rw [ms_fill_at hc]; exact ⟨Nat.zero_le _, rfl, fun i hi => absurd hi (Nat.not_lt_zero _)⟩
      · rw [ms_fill_at (by omega), ms_fill_at (by omega)]; exact ⟨rfl, rfl⟩
      · rw [ms_fill_at (by omega)]; exact ⟨Nat.zero_le _, rfl, fun i hi => absurd hi (Nat.not_lt_zero _)⟩
      · rw [ms_fill_out (by omega), ms_fill_out (by omega)]; exact (hPr r hr hJr).1 p hp
      · rw [ms_fill_out (by omega)]; exact (hPr r hr hJr).2 c hc
  | succ d ih =>
    intro N k f_n f_room f_slots f_up f_last f_kept a_ids a_bal a_dig a_len a_amt a_par a_reported a_count a_queue h1 hN H
    obtain ⟨N, rfl⟩ : ∃ M, N = M + 1 := ⟨N - 1, by omega⟩
    refine br_f (nI_nlt (a := 3) (by omega) (by decide)) (And.intro (vp_in_nI (by omega) (by decide)) (nm_r (e' := upd a_ids (k + 1) (-1)) (by rw [nI_clamp (by omega)]) (nm_r (nI_1 (k + 1)) (ih N (k + 1) _ _ _ _ _ _ _ _ _ _ _ _ _ _ _ (by omega) (by omega) ?_))))
    rw [ms_ptS_y rfl]
    exact ms_RY_kill H rfl
theorem ms_Inv_crash (h : ms_Inv (n, room, slots, up, last, kept, B0, D0, Q, J, root, par, fin, mI, rI, B, D, L, ST)) : ms_Inv (n, room, slots, false, last, kept, fun _ => 0, fun _ => 0, fun _ => [], ms_pt 3 (fun _ => true) (fun _ => 0) J, root, par, fin, mI, rI, B, D, L, ST) := by
  obtain ⟨i0, iA, iQ, iJ, iP, iS, iK, iD⟩ := h
  have hz : ∀ s, s < 3 → ms_pt 3 (fun _ => true) (fun _ => 0) J s = 0 := fun s hs => ms_pt_y hs rfl
  refine ⟨i0, ⟨fun _ _ _ => rfl, fun _ _ => rfl, fun _ => Nat.zero_le _, ?_⟩, ⟨fun _ _ => rfl, fun c x hx => absurd hx (List.not_mem_nil)⟩, fun s hs hJ => absurd (hz s hs) hJ, iP, fun s hs hJ => absurd (hz s hs) hJ, fun i hi => ?_, fun _ => hz⟩
  · decide
  · rw [ms_pt_g (by omega)]; exact iK i hi
end
theorem i_vc_crash {k : Nat} {u : SX} {v : SY} (I : i_Rel k u v) (hk : k + 5 ≤ 2564) : wpX_crash (fun r u' => wpY_crash (fun r' v' => r' = r ∧ i_Rel (k + 5) u' v') v) u := by
  obtain ⟨⟨n, room, slots, up, last, kept, B0, D0, Q, J, root, par, fin, mI, rI, B, D, L, ST⟩, hI, HX, HY⟩ := id I
  obtain ⟨f_n, f_room, f_slots, f_up, f_last, f_keptCount, a_liveBalance, a_liveDigest, a_ring, a_head, a_count, a_tokens, a_rootOf, a_parentOf, a_finished, a_markerIn, a_reportIn, a_recId, a_recBalance, a_recDigest, a_recLength, a_recAmount⟩ := u
  obtain ⟨y1, y2, y3, y4, y5, y6, y7, y8, y9, y10, y11, y12, y13, y14, y15⟩ := v
  replace HY : ms_RY (n, room, slots, up, last, kept, B0, D0, Q, J, root, par, fin, mI, rI, B, D, L, ST) (fun c => ms_tk (Q c)) (y1, y2, y3, y4, y5, y6, y7, y8, y9, y10, y11, y12, y13, y14, y15) := HY
  obtain ⟨⟨xn, xr, xs, xu, xl, xk⟩, xB, xQ, xI, xR, xP, xM, xE, xS⟩ := id HX
  obtain ⟨⟨yn, yr, ys, yu, yl, yk⟩, yQ, yI, yP, yL, yE⟩ := id HY
  have h5 := hI.1.2.1
  have hJb := ms_Inv_J hI
  have hcr := ms_Inv_crash hI
  cases hu : up with
  | false => exact br_t (by rw [xu, hu]; rfl) (br_t (by rw [yu, hu]; rfl) ⟨rfl, I⟩)
  | true =>
    refine br_f (by rw [xu, hu]; decide) (ms_x_runningCount xI hJb ⟨4, ms_x_cr17 h5 (fun u' H' => ?_) 3 4 0 _ _ _ _ _ _ _ _ _ _ _ _ _ _ _ _ _ _ _ _ _ _ (by omega) (by omega) (by rw [ms_pt0]; exact HX)⟩)
    refine br_f (by rw [yu, hu]; decide) (ms_y_running yI hJb ⟨4, ms_y_cr22 (up := false) (B0 := B0) (D0 := D0) (Q := Q) (root := root) (mI := mI) (rI := rI) (ST := ST) (L0 := fun c => ms_tk (Q c)) (fun v' H'' => ⟨rfl, _, hcr, H', ms_RY_to H'' rfl⟩) 3 4 0 _ _ _ _ _ _ _ _ _ _ _ _ _ _ _ (by omega) (by omega) ?_⟩)
    rw [ms_pt0]
    exact ⟨⟨yn, yr, ys, rfl, yl, yk⟩, yQ, yI, yP, yL, yE⟩
end
section
/-! restore, first part: the newest kept ones are dropped -/
def ms_dr {α : Type} (b : Nat) (z : α) (F : Nat → α) : Nat → α := fun r => if r < 3 then F r else if r + b < 6 then F (r + b) else z
theorem ms_six {P : Nat → Prop} (h0 : P 0) (h1 : P 1) (h2 : P 2) (h3 : P 3) (h4 : P 4) (h5 : P 5) : ∀ r, r < 6 → P r := by
  intro r hr
  have hc : r = 0 ∨ r = 1 ∨ r = 2 ∨ r = 3 ∨ r = 4 ∨ r = 5 := by omega
  rcases hc with rfl | rfl | rfl | rfl | rfl | rfl
  · exact h0
  · exact h1
  · exact h2
  · exact h3
  · exact h4
  · exact h5
section
variable {n : Nat} {room : Nat} {slots : Nat} {up : Bool} {last : Nat} {kept : Nat} {B0 : Nat → Nat} {D0 : Nat → Int32} {Q : Nat → List Nat} {J : Nat → Nat} {root : Nat → Nat} {par : Nat → Nat → Nat} {fin : Nat → Nat → Bool} {mI : Nat → Nat → Bool} {rI : Nat → Nat → Bool} {B : Nat → Nat → Nat} {D : Nat → Nat → Int32} {L : Nat → Nat → List Nat} {ST : Nat → Nat → List Nat} {u : SX} {v : SY} {L0 : Nat → List Nat}
theorem ms_RX_cg {J' : Nat → Nat} {B' : Nat → Nat → Nat} {D' : Nat → Nat → Int32} {L' ST' : Nat → Nat → List Nat} (H : ms_RX (n, room, slots, up, last, kept, B0, D0, Q, J, root, par, fin, mI, rI, B, D, L, ST) u) (hJ : ∀ r, r < 6 → J' r = J r) (hc : ∀ r, r < 6 → J r ≠ 0 → B' r = B r ∧ D' r = D r ∧ ST' r = ST r) : ms_RX (n, room, slots, up, last, kept, B0, D0, Q, J', root, par, fin, mI, rI, B', D', L', ST') u := by
  obtain ⟨f_n, f_room, f_slots, f_up, f_last, f_keptCount, a_liveBalance, a_liveDigest, a_ring, a_head, a_count, a_tokens, a_rootOf, a_parentOf, a_finished, a_markerIn, a_reportIn, a_recId, a_recBalance, a_recDigest, a_recLength, a_recAmount⟩ := u
  obtain ⟨h1, h2, hQ, hI, hr0, hp0, hm, hE, hS⟩ := H
  refine ⟨h1, h2, hQ, fun r hr => ?_, fun s hs hJs => ?_, hp0, hm, fun r p hr hp hJr hpr => ?_, fun r c hr hc' hJr => ?_⟩
  · rw [hJ r hr]; exact hI r hr
  · rw [hJ s (by omega)] at hJs; exact hr0 s hs hJs
  · rw [hJ r hr] at hJr
    rw [(hc r hr hJr).1, (hc r hr hJr).2.1]; exact hE r p hr hp hJr hpr
  · rw [hJ r hr] at hJr
    rw [(hc r hr hJr).2.2]; exact hS r c hr hc' hJr
theorem ms_RY_cg {J' : Nat → Nat} {B' : Nat → Nat → Nat} {D' : Nat → Nat → Int32} {L' ST' : Nat → Nat → List Nat} (H : ms_RY (n, room, slots, up, last, kept, B0, D0, Q, J, root, par, fin, mI, rI, B, D, L, ST) L0 v) (hJ : ∀ r, r < 6 → J' r = J r) (hc : ∀ r, r < 6 → J r ≠ 0 → B' r = B r ∧ D' r = D r ∧ L' r = L r) : ms_RY (n, room, slots, up, last, kept, B0, D0, Q, J', root, par, fin, mI, rI, B', D', L', ST') L0 v := by
  obtain ⟨f_n, f_room, f_slots, f_up, f_last, f_kept, a_ids, a_bal, a_dig, a_len, a_amt, a_par, a_reported, a_count, a_queue⟩ := v
  obtain ⟨h1, hQ, hI, hp, hP0, hPr⟩ := H
  refine ⟨h1, hQ, fun r hr => ?_, hp, hP0, fun r hr hJr => ?_⟩
  · rw [hJ r hr]; exact hI r hr
  · rw [hJ r hr] at hJr
    rw [(hc r hr hJr).1, (hc r hr hJr).2.1, (hc r hr hJr).2.2]; exact hPr r hr hJr
theorem ms_x_f48a {post : SX → Prop} {f_n f_room f_slots f_up f_last f_keptCount : Int32} {a_liveBalance a_liveDigest a_ring a_head a_count a_tokens a_rootOf a_parentOf a_finished a_markerIn a_reportIn a_recId a_recBalance a_recDigest a_recLength a_recAmount : Nat → Int32} (H : ms_RX (n, room, slots, up, last, kept, B0, D0, Q, J, root, par, fin, mI, rI, B, D, L, ST) (f_n, f_room, f_slots, f_up, f_last, f_keptCount, a_liveBalance, a_liveDigest, a_ring, a_head, a_count, a_tokens, a_rootOf, a_parentOf, a_finished, a_markerIn, a_reportIn, a_recId, a_recBalance, a_recDigest, a_recLength, a_recAmount)) (K : ∀ u', ms_RX (n, room, slots, up, last, kept, B0, D0, Q, ms_set J 5 0, root, par, fin, mI, rI, B, D, L, ST) u' → post u') : wX_forgetNewest_48 post f_n f_room f_slots f_up f_last f_keptCount 2 (nI 2) a_liveBalance a_liveDigest a_ring a_head a_count a_tokens a_rootOf a_parentOf a_finished a_markerIn a_reportIn a_recId a_recBalance a_recDigest a_recLength a_recAmount := by
  refine br_f (by decide) (And.intro (pk_in 5 6 (by decide)) (nm_r (e' := upd a_recId 5 (-1)) rfl (nm_r (e' := nI 3) rfl (br_t (by decide) (K _ ?_)))))
  exact ms_RX_kill H rfl
theorem ms_x_f48b {post : SX → Prop} {f_n f_room f_slots f_up f_last f_keptCount : Int32} {a_liveBalance a_liveDigest a_ring a_head a_count a_tokens a_rootOf a_parentOf a_finished a_markerIn a_reportIn a_recId a_recBalance a_recDigest a_recLength a_recAmount : Nat → Int32} (H : ms_RX (n, room, slots, up, last, kept, B0, D0, Q, J, root, par, fin, mI, rI, B, D, L, ST) (f_n, f_room, f_slots, f_up, f_last, f_keptCount, a_liveBalance, a_liveDigest, a_ring, a_head, a_count, a_tokens, a_rootOf, a_parentOf, a_finished, a_markerIn, a_reportIn, a_recId, a_recBalance, a_recDigest, a_recLength, a_recAmount)) (K : ∀ u', ms_RX (n, room, slots, up, last, kept, B0, D0, Q, ms_set (ms_set J 4 0) 5 0, root, par, fin, mI, rI, B, D, L, ST) u' → post u') : wX_forgetNewest_48 post f_n f_room f_slots f_up f_last f_keptCount 3 (nI 1) a_liveBalance a_liveDigest a_ring a_head a_count a_tokens a_rootOf a_parentOf a_finished a_markerIn a_reportIn a_recId a_recBalance a_recDigest a_recLength a_recAmount := by
  refine br_f (by decide) (And.intro (pk_in 4 6 (by decide)) (nm_r (e' := upd a_recId 4 (-1)) rfl (nm_r (e' := nI 2) rfl ?_)))
  exact ms_x_f48a (ms_RX_kill (s := 4) H rfl) K
theorem ms_x_forget {post : SX → Prop} {b : Nat} {p0 : Int32} (H : ms_RX (n, room, slots, up, last, kept, B0, D0, Q, J, root, par, fin, mI, rI, B, D, L, ST) u) (h5 : n ≤ 5) (hb : b < kept) (hk : kept ≤ 3) (hK : ∀ i, i < 3 → kept ≤ i → J (3 + i) = 0) (e0 : p0 = nI b)
    (K : ∀ u', ms_RX (n, room, slots, up, last, kept - b, B0, D0, Q, ms_dr b 0 J, root, par, fin, mI, rI, ms_dr b (B 3) B, ms_dr b (D 3) D, ms_dr b (L 3) L, ms_dr b (ST 3) ST) u' → post u') : wpX_forgetNewest post u p0 := by
  obtain ⟨f_n, f_room, f_slots, f_up, f_last, f_keptCount, a_liveBalance, a_liveDigest, a_ring, a_head, a_count, a_tokens, a_rootOf, a_parentOf, a_finished, a_markerIn, a_reportIn, a_recId, a_recBalance, a_recDigest, a_recLength, a_recAmount⟩ := u
  subst e0
  have hkk := H.1.2.2.2.2.2
  have hcs : b = 0 ∨ (b = 1 ∧ kept = 2) ∨ (b = 1 ∧ kept = 3) ∨ (b = 2 ∧ kept = 3) := by omega
  rcases hcs with rfl | ⟨rfl, rfl⟩ | ⟨rfl, rfl⟩ | ⟨rfl, rfl⟩
  · refine br_t rfl (K _ ?_)
    exact ms_RX_cg H (ms_six rfl rfl rfl rfl rfl rfl) (ms_six (fun _ => ⟨rfl, rfl, rfl⟩) (fun _ => ⟨rfl, rfl, rfl⟩) (fun _ => ⟨rfl, rfl, rfl⟩) (fun _ => ⟨rfl, rfl, rfl⟩) (fun _ => ⟨rfl, rfl, rfl⟩) (fun _ => ⟨rfl, rfl, rfl⟩))
  · have hJ5 : J 5 = 0 := hK 2 (by decide) (by decide)
    refine br_f (by decide) ⟨2, br_f (by rw [hkk]; decide) (ms_x_copyE H (a := 4) (b := 3) (by decide) (by decide) (by decide) (by decide) h5 (fun z => absurd z (by decide)) rfl rfl (fun u1 H1 => ?_))⟩
    obtain ⟨f_n, f_room, f_slots, f_up, f_last, f_keptCount, a_liveBalance, a_liveDigest, a_ring, a_head, a_count, a_tokens, a_rootOf, a_parentOf, a_finished, a_markerIn, a_reportIn, a_recId, a_recBalance, a_recDigest, a_recLength, a_recAmount⟩ := u1
    have hkk := H1.1.2.2.2.2.2
    refine nm_r (e' := nI 2) rfl (br_t (by rw [hkk]; decide) (nm_r (e' := nI 1) (by rw [hkk]; rfl) ⟨3, ms_x_f48b (ms_RX_kept (k := 1) H1 rfl) (fun u2 H2 => K _ ?_)⟩))
    exact ms_RX_cg H2 (ms_six rfl rfl rfl rfl hJ5 rfl) (ms_six (fun _ => ⟨rfl, rfl, rfl⟩) (fun _ => ⟨rfl, rfl, rfl⟩) (fun _ => ⟨rfl, rfl, rfl⟩) (fun _ => ⟨rfl, rfl, rfl⟩) (fun z => absurd rfl z) (fun z => absurd rfl z))
  · refine br_f (by decide) ⟨3, br_f (by rw [hkk]; decide) (ms_x_copyE H (a := 4) (b := 3) (by decide) (by decide) (by decide) (by decide) h5 (fun z => absurd z (by decide)) rfl rfl (fun u1 H1 => ?_))⟩
    obtain ⟨f_n, f_room, f_slots, f_up, f_last, f_keptCount, a_liveBalance, a_liveDigest, a_ring, a_head, a_count, a_tokens, a_rootOf, a_parentOf, a_finished, a_markerIn, a_reportIn, a_recId, a_recBalance, a_recDigest, a_recLength, a_recAmount⟩ := u1
    have hkk := H1.1.2.2.2.2.2
    refine nm_r (e' := nI 2) rfl (br_f (by rw [hkk]; decide) (ms_x_copyE H1 (a := 5) (b := 4) (by decide) (by decide) (by decide) (by decide) h5 (fun z => absurd z (by decide)) rfl rfl (fun u2 H2 => ?_)))
    obtain ⟨f_n, f_room, f_slots, f_up, f_last, f_keptCount, a_liveBalance, a_liveDigest, a_ring, a_head, a_count, a_tokens, a_rootOf, a_parentOf, a_finished, a_markerIn, a_reportIn, a_recId, a_recBalance, a_recDigest, a_recLength, a_recAmount⟩ := u2
    have hkk := H2.1.2.2.2.2.2
    refine nm_r (e' := nI 3) rfl (br_t (by rw [hkk]; decide) (nm_r (e' := nI 2) (by rw [hkk]; rfl) ⟨2, ms_x_f48a (ms_RX_kept (k := 2) H2 rfl) (fun u3 H3 => K _ ?_)⟩))
    exact ms_RX_cg H3 (ms_six rfl rfl rfl rfl rfl rfl) (ms_six (fun _ => ⟨rfl, rfl, rfl⟩) (fun _ => ⟨rfl, rfl, rfl⟩) (fun _ => ⟨rfl, rfl, rfl⟩) (fun _ => ⟨rfl, rfl, rfl⟩) (fun _ => ⟨rfl, rfl, rfl⟩) (fun z => absurd rfl z))
  · refine br_f (by decide) ⟨2, br_f (by rw [hkk]; decide) (ms_x_copyE H (a := 5) (b := 3) (by decide) (by decide) (by decide) (by decide) h5 (fun z => absurd z (by decide)) rfl rfl (fun u1 H1 => ?_))⟩
    obtain ⟨f_n, f_room, f_slots, f_up, f_last, f_keptCount, a_liveBalance, a_liveDigest, a_ring, a_head, a_count, a_tokens, a_rootOf, a_parentOf, a_finished, a_markerIn, a_reportIn, a_recId, a_recBalance, a_recDigest, a_recLength, a_recAmount⟩ := u1
    have hkk := H1.1.2.2.2.2.2
    refine nm_r (e' := nI 3) rfl (br_t (by rw [hkk]; decide) (nm_r (e' := nI 1) (by rw [hkk]; rfl) ⟨3, ms_x_f48b (ms_RX_kept (k := 1) H1 rfl) (fun u2 H2 => K _ ?_)⟩))
    exact ms_RX_cg H2 (ms_six rfl rfl rfl rfl rfl rfl) (ms_six (fun _ => ⟨rfl, rfl, rfl⟩) (fun _ => ⟨rfl, rfl, rfl⟩) (fun _ => ⟨rfl, rfl, rfl⟩) (fun _ => ⟨rfl, rfl, rfl⟩) (fun z => absurd rfl z) (fun z => absurd rfl z))
theorem ms_y_r26s {post : Int32 → SY → Prop} {f_n f_room f_slots f_up f_last f_kept : Int32} {a_ids a_bal a_dig a_len a_amt a_par a_reported a_count a_queue : Nat → Int32} {b j N : Nat} (H : ms_RY (n, room, slots, up, last, kept, B0, D0, Q, J, root, par, fin, mI, rI, B, D, L, ST) L0 (f_n, f_room, f_slots, f_up, f_last, f_kept, a_ids, a_bal, a_dig, a_len, a_amt, a_par, a_reported, a_count, a_queue)) (hj : j < b) (hb : b < 3) (hk : 1 ≤ kept)
    (K : ∀ (f_n f_room f_slots f_up f_last f_kept : Int32) (a_ids a_bal a_dig a_len a_amt a_par a_reported a_count a_queue : Nat → Int32), ms_RY (n, room, slots, up, last, kept - 1, B0, D0, Q, ms_set (ms_set (ms_set J 3 (J 4)) 4 (ms_set J 3 (J 4) 5)) 5 0, root, par, fin, mI, rI, ms_set (ms_set B 3 (B 4)) 4 (ms_set B 3 (B 4) 5), ms_set (ms_set D 3 (D 4)) 4 (ms_set D 3 (D 4) 5), ms_set (ms_set L 3 (L 4)) 4 (ms_set L 3 (L 4) 5), ST) L0 (f_n, f_room, f_slots, f_up, f_last, f_kept, a_ids, a_bal, a_dig, a_len, a_amt, a_par, a_reported, a_count, a_queue) → wY_restore_26 post (nI b) N (nI (j + 1)) f_n f_room f_slots f_up f_last f_kept a_ids a_bal a_dig a_len a_amt a_par a_reported a_count a_queue) : wY_restore_26 post (nI b) (N + 1) (nI j) f_n f_room f_slots f_up f_last f_kept a_ids a_bal a_dig a_len a_amt a_par a_reported a_count a_queue := by
  refine br_f (nI_ge hj (by omega)) (br_f (nI_ge (b := 3) (by omega) (by decide)) (ms_y_copyE H (a := 4) (b := 3) (by decide) (by decide) (by decide) rfl rfl (fun v1 H1 => ?_)))
  obtain ⟨z0, z1, z2, z3, z4, z5, z6, z7, z8, z9, z10, z11, z12, z13, z14⟩ := v1
  refine ms_y_copyE H1 (a := 5) (b := 4) (by decide) (by decide) (by decide) rfl rfl (fun v2 H2 => ?_)
  obtain ⟨f_n, f_room, f_slots, f_up, f_last, f_kept, a_ids, a_bal, a_dig, a_len, a_amt, a_par, a_reported, a_count, a_queue⟩ := v2
  have hkk := H2.1.2.2.2.2.2
  refine nm_e (nm_r (e' := nI (kept - 1)) (by rw [hkk, ms_s1 (by omega)]) (nm_r (nI_1 j) (K _ _ _ _ _ _ _ _ _ _ _ _ _ _ _ ?_)))
  exact ms_RY_kill (s := 5) (ms_RY_kept H2 rfl) rfl
theorem ms_y_forget {post : Int32 → SY → Prop} {f_n f_room f_slots f_up f_last f_kept : Int32} {a_ids a_bal a_dig a_len a_amt a_par a_reported a_count a_queue : Nat → Int32} {b : Nat} (H : ms_RY (n, room, slots, up, last, kept, B0, D0, Q, J, root, par, fin, mI, rI, B, D, L, ST) L0 (f_n, f_room, f_slots, f_up, f_last, f_kept, a_ids, a_bal, a_dig, a_len, a_amt, a_par, a_reported, a_count, a_queue)) (hb : b < kept) (hk : kept ≤ 3)
    (K : ∀ (f_n f_room f_slots f_up f_last f_kept : Int32) (a_ids a_bal a_dig a_len a_amt a_par a_reported a_count a_queue : Nat → Int32), ms_RY (n, room, slots, up, last, kept - b, B0, D0, Q, ms_dr b 0 J, root, par, fin, mI, rI, ms_dr b (B 3) B, ms_dr b (D 3) D, ms_dr b (L 3) L, ms_dr b (ST 3) ST) L0 (f_n, f_room, f_slots, f_up, f_last, f_kept, a_ids, a_bal, a_dig, a_len, a_amt, a_par, a_reported, a_count, a_queue) → wY_restore_73 post f_n f_room f_slots f_up f_last f_kept a_ids a_bal a_dig a_len a_amt a_par a_reported a_count a_queue) : ∃ N, wY_restore_26 post (nI b) N 0 f_n f_room f_slots f_up f_last f_kept a_ids a_bal a_dig a_len a_amt a_par a_reported a_count a_queue := by
  have hcs : b = 0 ∨ b = 1 ∨ b = 2 := by omega
  rcases hcs with rfl | rfl | rfl
  · refine ⟨1, br_t (by decide) (K _ _ _ _ _ _ _ _ _ _ _ _ _ _ _ ?_)⟩
    exact ms_RY_cg H (ms_six rfl rfl rfl rfl rfl rfl) (ms_six (fun _ => ⟨rfl, rfl, rfl⟩) (fun _ => ⟨rfl, rfl, rfl⟩) (fun _ => ⟨rfl, rfl, rfl⟩) (fun _ => ⟨rfl, rfl, rfl⟩) (fun _ => ⟨rfl, rfl, rfl⟩) (fun _ => ⟨rfl, rfl, rfl⟩))
  · refine ⟨2, ms_y_r26s (N := 1) (j := 0) H (by decide) (by decide) (by omega) ?_⟩
    intro f_n f_room f_slots f_up f_last f_kept a_ids a_bal a_dig a_len a_amt a_par a_reported a_count a_queue H1
    refine br_t (by decide) (K _ _ _ _ _ _ _ _ _ _ _ _ _ _ _ ?_)
    exact ms_RY_cg H1 (ms_six rfl rfl rfl rfl rfl rfl) (ms_six (fun _ => ⟨rfl, rfl, rfl⟩) (fun _ => ⟨rfl, rfl, rfl⟩) (fun _ => ⟨rfl, rfl, rfl⟩) (fun _ => ⟨rfl, rfl, rfl⟩) (fun _ => ⟨rfl, rfl, rfl⟩) (fun z => absurd rfl z))
  · refine ⟨3, ms_y_r26s (N := 2) (j := 0) H (by decide) (by decide) (by omega) ?_⟩
    intro f_n f_room f_slots f_up f_last f_kept a_ids a_bal a_dig a_len a_amt a_par a_reported a_count a_queue H1
    refine ms_y_r26s (N := 1) (j := 1) H1 (by decide) (by decide) (by omega) ?_
    intro f_n f_room f_slots f_up f_last f_kept a_ids a_bal a_dig a_len a_amt a_par a_reported a_count a_queue H2
    refine br_t (by decide) (K _ _ _ _ _ _ _ _ _ _ _ _ _ _ _ ?_)
    exact ms_RY_cg H2 (ms_six rfl rfl rfl rfl rfl rfl) (ms_six (fun _ => ⟨rfl, rfl, rfl⟩) (fun _ => ⟨rfl, rfl, rfl⟩) (fun _ => ⟨rfl, rfl, rfl⟩) (fun _ => ⟨rfl, rfl, rfl⟩) (fun z => absurd rfl z) (fun z => absurd rfl z))
theorem ms_Inv_forget {b : Nat} (h : ms_Inv (n, room, slots, up, last, kept, B0, D0, Q, J, root, par, fin, mI, rI, B, D, L, ST)) (hu : up = false) (hb : b < kept) : ms_Inv (n, room, slots, up, last, kept - b, B0, D0, Q, ms_dr b 0 J, root, par, fin, mI, rI, ms_dr b (B 3) B, ms_dr b (D 3) D, ms_dr b (L 3) L, ms_dr b (ST 3) ST) := by
  obtain ⟨i0, iA, iQ, iJ, iP, iS, iK, iD⟩ := h
  obtain ⟨n2, h5, r1, r4, s1, s3, hl9, k1, k3⟩ := i0
  have hz : ∀ s, s < 3 → ms_dr b 0 J s = 0 := fun s hs => by
    show (if s < 3 then J s else if s + b < 6 then J (s + b) else 0) = 0
    rw [if_pos hs]; exact iD hu s hs
  have lo : ∀ {α : Type} (z : α) (F : Nat → α) (i : Nat), 3 + i + b < 6 → ms_dr b z F (3 + i) = F (3 + (i + b)) := by
    intro α z F i hi
    show (if 3 + i < 3 then F (3 + i) else if 3 + i + b < 6 then F (3 + i + b) else z) = _
    rw [if_neg (by omega), if_pos hi, Nat.add_assoc]
  refine ⟨⟨n2, h5, r1, r4, s1, s3, hl9, by omega, by omega⟩, iA, ⟨iQ.1, fun c x hx => ?_⟩, fun s hs hJ => absurd (hz s hs) hJ, iP, fun s hs hJ => absurd (hz s hs) hJ, fun i hi => ⟨fun hk => ?_, fun hk => ?_⟩, fun _ => hz⟩
  · rcases iQ.2 c x hx with h1 | ⟨s', hs', hJ', h1⟩
    · exact Or.inl h1
    · exact absurd (iD hu s' hs') hJ'
  · rw [lo 0 J i (by omega), lo (B 3) B i (by omega), lo (L 3) L i (by omega), lo (ST 3) ST i (by omega)]
    exact (iK (i + b) (by omega)).1 (by omega)
  · by_cases e : 3 + i + b < 6
    · rw [lo 0 J i e]; exact (iK (i + b) (by omega)).2 (by omega)
    · show (if 3 + i < 3 then J (3 + i) else if 3 + i + b < 6 then J (3 + i + b) else 0) = 0
      rw [if_neg (by omega), if_neg e]
end
end
section
/-! restore, second part: the newest kept one becomes live -/
def ms_ld : List Nat → List Nat
  | [] => []
  | a :: l => (a * 4 + 1) :: ms_ld l
theorem ms_ld_tk : ∀ l, ms_tk (ms_ld l) = l := by
  intro l
  induction l with
  | nil => rfl
  | cons a l ih =>
    show ms_tk ((a * 4 + 1) :: ms_ld l) = a :: l
    rw [ms_tk_c1 (by omega), ih, show (a * 4 + 1) / 4 = a by omega]
theorem ms_ld_len : ∀ l, (ms_ld l).length = l.length := by
  intro l
  induction l with
  | nil => rfl
  | cons a l ih => show (ms_ld l).length + 1 = l.length + 1; rw [ih]
theorem ms_ld_nth : ∀ (l : List Nat) (i : Nat), i < l.length → ms_nth (ms_ld l) i = ms_nth l i * 4 + 1 := by
  intro l
  induction l with
  | nil => intro i hi; exact absurd hi (Nat.not_lt_zero _)
  | cons a l ih =>
    intro i hi
    cases i with
    | zero => rfl
    | succ i => exact ih i (Nat.lt_of_succ_lt_succ hi)
theorem ms_ld_mem : ∀ (l : List Nat) (x : Nat), x ∈ ms_ld l → x % 4 = 1 := by
  intro l
  induction l with
  | nil => intro x hx; exact absurd hx (List.not_mem_nil)
  | cons a l ih =>
    intro x hx
    rcases List.mem_cons.mp hx with hx | hx
    · omega
    · exact ih x hx
def ms_j48 (J : Int32 → Int32 → Int32 → Int32 → Int32 → Int32 → Int32 → (Nat → Int32) → (Nat → Int32) → (Nat → Int32) → (Nat → Int32) → (Nat → Int32) → (Nat → Int32) → (Nat → Int32) → (Nat → Int32) → (Nat → Int32) → (Nat → Int32) → (Nat → Int32) → (Nat → Int32) → (Nat → Int32) → (Nat → Int32) → (Nat → Int32) → (Nat → Int32) → Prop) (x1 : Int32) (u : SX) : Prop := match u with | (f_n, f_room, f_slots, f_up, f_last, f_keptCount, a_liveBalance, a_liveDigest, a_ring, a_head, a_count, a_tokens, a_rootOf, a_parentOf, a_finished, a_markerIn, a_reportIn, a_recId, a_recBalance, a_recDigest, a_recLength, a_recAmount) => J x1 f_n f_room f_slots f_up f_last f_keptCount a_liveBalance a_liveDigest a_ring a_head a_count a_tokens a_rootOf a_parentOf a_finished a_markerIn a_reportIn a_recId a_recBalance a_recDigest a_recLength a_recAmount
section
variable {n : Nat} {room : Nat} {slots : Nat} {up : Bool} {last : Nat} {kept : Nat} {B0 : Nat → Nat} {D0 : Nat → Int32} {Q : Nat → List Nat} {J : Nat → Nat} {root : Nat → Nat} {par : Nat → Nat → Nat} {fin : Nat → Nat → Bool} {mI : Nat → Nat → Bool} {rI : Nat → Nat → Bool} {B : Nat → Nat → Nat} {D : Nat → Nat → Int32} {L : Nat → Nat → List Nat} {ST : Nat → Nat → List Nat}
theorem ms_x_l61 {post : SX → Prop} {J48 : Int32 → Int32 → Int32 → Int32 → Int32 → Int32 → Int32 → (Nat → Int32) → (Nat → Int32) → (Nat → Int32) → (Nat → Int32) → (Nat → Int32) → (Nat → Int32) → (Nat → Int32) → (Nat → Int32) → (Nat → Int32) → (Nat → Int32) → (Nat → Int32) → (Nat → Int32) → (Nat → Int32) → (Nat → Int32) → (Nat → Int32) → (Nat → Int32) → Prop} {c : Nat} (hc : c < 25) (h3 : J 3 ≠ 0) : ∀ (suf : List Nat) (N i : Nat) (Qc : Nat → List Nat), ∀ (f_n f_room f_slots f_up f_last f_keptCount : Int32) (a_liveBalance a_liveDigest a_ring a_head a_count a_tokens a_rootOf a_parentOf a_finished a_markerIn a_reportIn a_recId a_recBalance a_recDigest a_recLength a_recAmount : Nat → Int32), suf.length < N → i + suf.length = (ST 3 c).length → (∀ j, j < suf.length → ms_nth (ST 3 c) (i + j) = ms_nth suf j) → (Qc c).length + suf.length ≤ 9 → (∀ x, x ∈ suf → x < 1000000) →
    ms_RX (n, room, slots, up, last, kept, B0, D0, Qc, J, root, par, fin, mI, rI, B, D, L, ST) (f_n, f_room, f_slots, f_up, f_last, f_keptCount, a_liveBalance, a_liveDigest, a_ring, a_head, a_count, a_tokens, a_rootOf, a_parentOf, a_finished, a_markerIn, a_reportIn, a_recId, a_recBalance, a_recDigest, a_recLength, a_recAmount) → (∀ u', ms_RX (n, room, slots, up, last, kept, B0, D0, ms_set Qc c (Qc c ++ ms_ld suf), J, root, par, fin, mI, rI, B, D, L, ST) u' → ms_j48 J48 (nI (c + 1)) u') → wX_loadNewest_61 post J48 (nI c) (nI (75 + c)) N (nI i) f_n f_room f_slots f_up f_last f_keptCount a_liveBalance a_liveDigest a_ring a_head a_count a_tokens a_rootOf a_parentOf a_finished a_markerIn a_reportIn a_recId a_recBalance a_recDigest a_recLength a_recAmount := by
  intro suf
  induction suf with
  | nil =>
    intro N i Qc f_n f_room f_slots f_up f_last f_keptCount a_liveBalance a_liveDigest a_ring a_head a_count a_tokens a_rootOf a_parentOf a_finished a_markerIn a_reportIn a_recId a_recBalance a_recDigest a_recLength a_recAmount hN h1 h2 hl hx H K
    obtain ⟨N, rfl⟩ : ∃ M, N = M + 1 := ⟨N - 1, by omega⟩
    rw [List.length_nil] at h1
    obtain ⟨q1, q2, q3⟩ := H.2.2.2.2.2.2.2.2 3 c (by decide) hc h3
    have q2' : a_recLength (75 + c) = nI (ST 3 c).length := q2
    refine And.intro (vp_in_nI (by omega) (by decide)) (br_t ?_ (nm_r (nI_1 c) (K (f_n, f_room, f_slots, f_up, f_last, f_keptCount, a_liveBalance, a_liveDigest, a_ring, a_head, a_count, a_tokens, a_rootOf, a_parentOf, a_finished, a_markerIn, a_reportIn, a_recId, a_recBalance, a_recDigest, a_recLength, a_recAmount) ?_)))
    · rw [nI_clamp (by omega), q2']; exact nI_le (by omega) (by omega)
    · have e : ms_set Qc c (Qc c ++ ms_ld []) = Qc := by
        funext j
        by_cases e : j = c
        · subst e; rw [ms_set_s]; exact List.append_nil _
        · rw [ms_set_n e]
      rw [e]; exact H
  | cons y suf ih =>
    intro N i Qc f_n f_room f_slots f_up f_last f_keptCount a_liveBalance a_liveDigest a_ring a_head a_count a_tokens a_rootOf a_parentOf a_finished a_markerIn a_reportIn a_recId a_recBalance a_recDigest a_recLength a_recAmount hN h1 h2 hl hx H K
    obtain ⟨N, rfl⟩ : ∃ M, N = M + 1 := ⟨N - 1, by omega⟩
    rw [List.length_cons] at h1 hN hl
    obtain ⟨q1, q2, q3⟩ := H.2.2.2.2.2.2.2.2 3 c (by decide) hc h3
    have q2' : a_recLength (75 + c) = nI (ST 3 c).length := q2
    have hy : ms_nth (ST 3 c) i = y := h2 0 (by rw [List.length_cons]; omega)
    have q3' : a_recAmount ((75 + c) * 4 + i) = nI y := by
      have := q3 i (by omega)
      rw [hy] at this; exact this
    have h2' : ∀ j, j < suf.length → ms_nth (ST 3 c) (i + 1 + j) = ms_nth suf j := by
      intro j hj
      have := h2 (j + 1) (by rw [List.length_cons]; omega)
      rw [show i + 1 + j = i + (j + 1) by omega]; exact this
    have ek : nI (75 + c) * 4 + nI i = nI ((75 + c) * 4 + i) := by rw [ms_m4, nI_add]
    refine And.intro (vp_in_nI (by omega) (by decide)) (br_f ?_ (And.intro ?_ (ms_x_append H (c := c) (v := y) (k := 1) hc (by omega) (by decide) (hx y List.mem_cons_self) rfl ?_ rfl (fun u' H' => ?_))))
    · rw [nI_clamp (by omega), q2']; exact nI_ge (by omega) (by omega)
    · rw [ek]; exact vp_in_nI (by omega) (by decide)
    · rw [ek, nI_clamp (by omega), q3']
    · obtain ⟨z0, z1, z2, z3, z4, z5, z6, z7, z8, z9, z10, z11, z12, z13, z14, z15, z16, z17, z18, z19, z20, z21⟩ := u'
      refine nm_r (nI_1 i) (ih N (i + 1) _ _ _ _ _ _ _ _ _ _ _ _ _ _ _ _ _ _ _ _ _ _ _ (by omega) (by omega) h2' ?_ (fun x hx' => hx x (List.mem_cons_of_mem _ hx')) H' (fun u2 H2 => K u2 ?_))
      · rw [ms_set_s, List.length_append]
        show (Qc c).length + 1 + suf.length ≤ 9
        omega
      · have e : ms_set (ms_set Qc c (Qc c ++ [y * 4 + 1])) c (ms_set Qc c (Qc c ++ [y * 4 + 1]) c ++ ms_ld suf) = ms_set Qc c (Qc c ++ ms_ld (y :: suf)) := by
          funext j
          by_cases e : j = c
          · subst e
            rw [ms_set_s, ms_set_s, ms_set_s, List.append_assoc]; rfl
          · rw [ms_set_n e, ms_set_n e, ms_set_n e]
        rw [e] at H2; exact H2
theorem ms_x_l48 {post : SX → Prop} (h3 : J 3 ≠ 0) (hb : ∀ c x, x ∈ ST 3 c → x < 1000000)
    (K : ∀ u', ms_RX (n, room, slots, up, last, kept, B0, D0, ms_pt 25 (fun _ => true) (fun c => ms_ld (ST 3 c)) (fun _ => []), J, root, par, fin, mI, rI, B, D, L, ST) u' → post u') : ∀ d N k, ∀ (f_n f_room f_slots f_up f_last f_keptCount : Int32) (a_liveBalance a_liveDigest a_ring a_head a_count a_tokens a_rootOf a_parentOf a_finished a_markerIn a_reportIn a_recId a_recBalance a_recDigest a_recLength a_recAmount : Nat → Int32), k + d = 25 → d < N → ms_RX (n, room, slots, up, last, kept, B0, D0, ms_pt k (fun _ => true) (fun c => ms_ld (ST 3 c)) (fun _ => []), J, root, par, fin, mI, rI, B, D, L, ST) (f_n, f_room, f_slots, f_up, f_last, f_keptCount, a_liveBalance, a_liveDigest, a_ring, a_head, a_count, a_tokens, a_rootOf, a_parentOf, a_finished, a_markerIn, a_reportIn, a_recId, a_recBalance, a_recDigest, a_recLength, a_recAmount) → wX_loadNewest_48 post N (nI k) f_n f_room f_slots f_up f_last f_keptCount a_liveBalance a_liveDigest a_ring a_head a_count a_tokens a_rootOf a_parentOf a_finished a_markerIn a_reportIn a_recId a_recBalance a_recDigest a_recLength a_recAmount := by
  intro d
  induction d with
  | zero =>
    intro N k f_n f_room f_slots f_up f_last f_keptCount a_liveBalance a_liveDigest a_ring a_head a_count a_tokens a_rootOf a_parentOf a_finished a_markerIn a_reportIn a_recId a_recBalance a_recDigest a_recLength a_recAmount h1 hN H
    obtain ⟨N, rfl⟩ : ∃ M, N = M + 1 := ⟨N - 1, by omega⟩
    obtain rfl : k = 25 := by omega
    exact br_t (nI_le (a := 25) (by omega) (by omega)) (K _ H)
  | succ d ih =>
    intro N k f_n f_room f_slots f_up f_last f_keptCount a_liveBalance a_liveDigest a_ring a_head a_count a_tokens a_rootOf a_parentOf a_finished a_markerIn a_reportIn a_recId a_recBalance a_recDigest a_recLength a_recAmount h1 hN H
    obtain ⟨N, rfl⟩ : ∃ M, N = M + 1 := ⟨N - 1, by omega⟩
    have q1 := (H.2.2.2.2.2.2.2.2 3 k (by decide) (by omega) h3).1
    have hg : ms_pt k (fun _ => true) (fun c => ms_ld (ST 3 c)) (fun _ => []) k = [] := ms_pt_g (Nat.le_refl k)
    refine br_f (nI_ge (b := 25) (by omega) (by decide)) (nm_r (ms_l75 k) ⟨(ST 3 k).length + 1, ?_⟩)
    refine ms_x_l61 (by omega) h3 (ST 3 k) _ 0 _ f_n f_room f_slots f_up f_last f_keptCount a_liveBalance a_liveDigest a_ring a_head a_count a_tokens a_rootOf a_parentOf a_finished a_markerIn a_reportIn a_recId a_recBalance a_recDigest a_recLength a_recAmount (Nat.lt_succ_self _) (Nat.zero_add _) (fun j _ => by rw [Nat.zero_add]) (by rw [hg, List.length_nil]; omega) (hb k) H (fun u' H' => ?_)
    obtain ⟨z0, z1, z2, z3, z4, z5, z6, z7, z8, z9, z10, z11, z12, z13, z14, z15, z16, z17, z18, z19, z20, z21⟩ := u'
    refine ih N (k + 1) _ _ _ _ _ _ _ _ _ _ _ _ _ _ _ _ _ _ _ _ _ _ (by omega) (by omega) ?_
    rw [hg, List.nil_append] at H'
    rw [ms_ptS_y rfl]; exact H'
theorem ms_RX_c0 {u : SX} {B0' : Nat → Nat} {D0' : Nat → Int32} {Q' : Nat → List Nat} (H : ms_RX (n, room, slots, up, last, kept, B0, D0, Q, J, root, par, fin, mI, rI, B, D, L, ST) u) (hc : ∀ p, p < n → B0' p = B0 p ∧ D0' p = D0 p) (hQ : ∀ c, c < 25 → Q' c = Q c) : ms_RX (n, room, slots, up, last, kept, B0', D0', Q', J, root, par, fin, mI, rI, B, D, L, ST) u := by
  obtain ⟨f_n, f_room, f_slots, f_up, f_last, f_keptCount, a_liveBalance, a_liveDigest, a_ring, a_head, a_count, a_tokens, a_rootOf, a_parentOf, a_finished, a_markerIn, a_reportIn, a_recId, a_recBalance, a_recDigest, a_recLength, a_recAmount⟩ := u
  obtain ⟨h1, h2, h3, h4⟩ := H
  refine ⟨h1, fun p hp => ?_, fun c hc' => ?_, h4⟩
  · rw [(hc p hp).1, (hc p hp).2]; exact h2 p hp
  · rw [hQ c hc']; exact h3 c hc'
theorem ms_x_l2 {post : SX → Prop} (h5 : n ≤ 5) (h3 : J 3 ≠ 0) (hb : ∀ c x, x ∈ ST 3 c → x < 1000000)
    (K : ∀ u', ms_RX (n, room, slots, up, last, kept, B 3, D 3, ms_pt 25 (fun _ => true) (fun c => ms_ld (ST 3 c)) (fun _ => []), J, root, par, fin, mI, rI, B, D, L, ST) u' → post u') : ∀ d N k, ∀ (f_n f_room f_slots f_up f_last f_keptCount : Int32) (a_liveBalance a_liveDigest a_ring a_head a_count a_tokens a_rootOf a_parentOf a_finished a_markerIn a_reportIn a_recId a_recBalance a_recDigest a_recLength a_recAmount : Nat → Int32), k + d = n → d < N → ms_RX (n, room, slots, up, last, kept, ms_pt k (fun _ => true) (B 3) B0, ms_pt k (fun _ => true) (D 3) D0, fun _ => [], J, root, par, fin, mI, rI, B, D, L, ST) (f_n, f_room, f_slots, f_up, f_last, f_keptCount, a_liveBalance, a_liveDigest, a_ring, a_head, a_count, a_tokens, a_rootOf, a_parentOf, a_finished, a_markerIn, a_reportIn, a_recId, a_recBalance, a_recDigest, a_recLength, a_recAmount) → wX_loadNewest_2 post f_n f_room f_slots f_up f_last f_keptCount N (nI k) a_liveBalance a_liveDigest a_ring a_head a_count a_tokens a_rootOf a_parentOf a_finished a_markerIn a_reportIn a_recId a_recBalance a_recDigest a_recLength a_recAmount := by
  intro d
  induction d with
  | zero =>
    intro N k f_n f_room f_slots f_up f_last f_keptCount a_liveBalance a_liveDigest a_ring a_head a_count a_tokens a_rootOf a_parentOf a_finished a_markerIn a_reportIn a_recId a_recBalance a_recDigest a_recLength a_recAmount h1 hN H
    obtain ⟨N, rfl⟩ : ∃ M, N = M + 1 := ⟨N - 1, by omega⟩
    obtain rfl : k = n := by omega
    refine br_t (by rw [H.1.1]; exact nI_le (by omega) (by omega)) ⟨26, ms_x_l48 (B0 := B 3) (D0 := D 3) h3 hb K 25 26 0 _ _ _ _ _ _ _ _ _ _ _ _ _ _ _ _ _ _ _ _ _ _ (by omega) (by omega) ?_⟩
    rw [ms_pt0]
    exact ms_RX_c0 H (fun p hp => ⟨(ms_pt_y hp rfl).symm, (ms_pt_y hp rfl).symm⟩) (fun _ _ => rfl)
  | succ d ih =>
    intro N k f_n f_room f_slots f_up f_last f_keptCount a_liveBalance a_liveDigest a_ring a_head a_count a_tokens a_rootOf a_parentOf a_finished a_markerIn a_reportIn a_recId a_recBalance a_recDigest a_recLength a_recAmount h1 hN H
    obtain ⟨N, rfl⟩ : ∃ M, N = M + 1 := ⟨N - 1, by omega⟩
    have hE := H.2.2.2.2.2.2.2.1 3 k (by decide) (by omega) h3 (fun z => absurd z (by decide))
    have hE1 : a_recBalance (15 + k) = nI (B 3 k) := hE.1
    have hE2 : a_recDigest (15 + k) = D 3 k := hE.2
    have hin : vp_in (15 + nI k) 30 := by rw [ms_l15]; exact vp_in_nI (by omega) (by decide)
    have hin2 : vp_in (nI k) 5 := vp_in_nI (by omega) (by decide)
    refine br_f (by rw [H.1.1]; exact nI_ge (by omega) (by omega)) (And.intro hin (And.intro hin2 (nm_r (e' := upd a_liveBalance k (nI (B 3 k))) ?_ (And.intro hin (And.intro hin2 (nm_r (e' := upd a_liveDigest k (D 3 k)) ?_ (nm_r (nI_1 k) (ih N (k + 1) _ _ _ _ _ _ _ _ _ _ _ _ _ _ _ _ _ _ _ _ _ _ (by omega) (by omega) ?_))))))))
    · rw [ms_l15, nI_clamp (by omega), nI_clamp (by omega), hE1]
    · rw [ms_l15, nI_clamp (by omega), nI_clamp (by omega), hE2]
    · rw [ms_ptS_y rfl, ms_ptS_y rfl]
      exact ms_RX_live H rfl rfl
theorem ms_x_load {post : SX → Prop} {u : SX} (H : ms_RX (n, room, slots, up, last, kept, B0, D0, fun _ => [], J, root, par, fin, mI, rI, B, D, L, ST) u) (h5 : n ≤ 5) (h3 : J 3 ≠ 0) (hb : ∀ c x, x ∈ ST 3 c → x < 1000000)
    (K : ∀ u', ms_RX (n, room, slots, up, last, kept, B 3, D 3, ms_pt 25 (fun _ => true) (fun c => ms_ld (ST 3 c)) (fun _ => []), J, root, par, fin, mI, rI, B, D, L, ST) u' → post u') : wpX_loadNewest post u := by
  obtain ⟨f_n, f_room, f_slots, f_up, f_last, f_keptCount, a_liveBalance, a_liveDigest, a_ring, a_head, a_count, a_tokens, a_rootOf, a_parentOf, a_finished, a_markerIn, a_reportIn, a_recId, a_recBalance, a_recDigest, a_recLength, a_recAmount⟩ := u
  refine ⟨n + 1, ms_x_l2 (B0 := B0) (D0 := D0) h5 h3 hb K n (n + 1) 0 _ _ _ _ _ _ _ _ _ _ _ _ _ _ _ _ _ _ _ _ _ _ (by omega) (by omega) ?_⟩
  rw [ms_pt0, ms_pt0]; exact H
end
section
variable {f_n f_room f_slots f_up f_last f_kept : Int32} {a_ids a_bal a_dig a_len a_amt a_par a_reported a_count a_queue : Nat → Int32} {post : Int32 → SY → Prop}
theorem ms_y_r101 {J81 : Int32 → (Nat → Int32) → (Nat → Int32) → (Nat → Int32) → (Nat → Int32) → (Nat → Int32) → (Nat → Int32) → (Nat → Int32) → (Nat → Int32) → (Nat → Int32) → Prop} {c : Nat} {l : List Nat} (hc : c < 25) (hl : l.length ≤ 4) (hlen : a_len c = nI l.length) (hls : ms_ls l (c * 4) a_amt) :
    ∀ e N k (q : Nat → Int32), k + e = l.length → e < N → (∀ i, i < k → q (c * 10 + i) = nI (ms_nth l i * 4 + 1)) →
      (∀ q', (∀ i, i < l.length → q' (c * 10 + i) = nI (ms_nth l i * 4 + 1)) → (∀ i, (i < c * 10 ∨ c * 10 + 4 ≤ i) → q' i = q i) → J81 (nI (c + 1)) a_ids a_bal a_dig a_len a_amt a_par a_reported a_count q') → wY_restore_101 post J81 (nI c) f_n f_room f_slots f_up f_last f_kept N (nI k) a_ids a_bal a_dig a_len a_amt a_par a_reported a_count q := by
  intro e
  induction e with
  | zero =>
    intro N k q h1 hN hq K
    obtain ⟨N, rfl⟩ : ∃ M, N = M + 1 := ⟨N - 1, by omega⟩
    obtain rfl : k = l.length := by omega
    refine And.intro (vp_in_nI (by omega) (by decide)) (br_t ?_ (nm_r (nI_1 c) (K q hq (fun _ _ => rfl))))
    rw [nI_clamp (by omega), hlen]; exact nI_le (by omega) (by omega)
  | succ e ih =>
    intro N k q h1 hN hq K
    obtain ⟨N, rfl⟩ : ∃ M, N = M + 1 := ⟨N - 1, by omega⟩
    have e1 : nI c * 4 + nI k = nI (c * 4 + k) := by rw [ms_m4, nI_add]
    have e2 : nI c * 10 + nI k = nI (c * 10 + k) := by rw [ms_m10, nI_add]
    refine And.intro (vp_in_nI (by omega) (by decide)) (br_f ?_ (br_f (nI_ge (b := 4) (by omega) (by decide)) (And.intro ?_ (And.intro ?_ (nm_r (e' := upd q (c * 10 + k) (nI (ms_nth l k * 4 + 1))) ?_ (nm_r (nI_1 k) (ih N (k + 1) _ (by omega) (by omega) (fun i hi => ?_) (fun q' h1' h2' => K q' h1' (fun i hi => ?_)))))))))
    · rw [nI_clamp (by omega), hlen]; exact nI_ge (by omega) (by omega)
    · rw [e1]; exact vp_in_nI (by omega) (by decide)
    · rw [e2]; exact vp_in_nI (by omega) (by decide)
    · rw [e1, e2, nI_clamp (by omega), nI_clamp (by omega), hls k (by omega), ms_m4, nI_1]
    · by_cases e : i = k
      · rw [e, pk_us]
      · rw [pk_un (by omega)]; exact hq i (by omega)
    · rw [h2' i hi, pk_un (by omega)]
theorem ms_y_r81 {L : Nat → List Nat} (hL : ∀ c, c < 25 → (L c).length ≤ 4 ∧ a_len c = nI (L c).length ∧ ms_ls (L c) (c * 4) a_amt)
    (K : ∀ cn q, (∀ c, c < 25 → cn c = nI (L c).length ∧ ∀ i, i < (L c).length → q (c * 10 + i) = nI (ms_nth (L c) i * 4 + 1)) → post (a_ids 4) (f_n, f_room, f_slots, 1, f_last, f_kept, a_ids, a_bal, a_dig, a_len, a_amt, a_par, a_reported, cn, q)) :
    ∀ d N k (cn q : Nat → Int32), k + d = 25 → d < N → (∀ c, c < k → cn c = nI (L c).length ∧ ∀ i, i < (L c).length → q (c * 10 + i) = nI (ms_nth (L c) i * 4 + 1)) → wY_restore_81 post f_n f_room f_slots f_up f_last f_kept N (nI k) a_ids a_bal a_dig a_len a_amt a_par a_reported cn q := by
  intro d
  induction d with
  | zero =>
    intro N k cn q h1 hN hq
    obtain ⟨N, rfl⟩ : ∃ M, N = M + 1 := ⟨N - 1, by omega⟩
    obtain rfl : k = 25 := by omega
    exact br_t (nI_le (a := 25) (by omega) (by omega)) (K cn q hq)
  | succ d ih =>
    intro N k cn q h1 hN hq
    obtain ⟨N, rfl⟩ : ∃ M, N = M + 1 := ⟨N - 1, by omega⟩
    obtain ⟨q1, q2, q3⟩ := hL k (by omega)
    refine br_f (nI_ge (b := 25) (by omega) (by decide)) (And.intro (vp_in_nI (by omega) (by decide)) (And.intro (vp_in_nI (by omega) (by decide)) (nm_r (e' := upd cn k (nI (L k).length)) ?_ ⟨(L k).length + 1, ?_⟩)))
    · rw [nI_clamp (by omega), q2]
    · refine ms_y_r101 (a_count := upd cn k (nI (L k).length)) (by omega) q1 q2 q3 (L k).length _ 0 q (by omega) (Nat.lt_succ_self _) (fun i hi => absurd hi (Nat.not_lt_zero _)) (fun q' hq1 hq2 => ?_)
      refine ih N (k + 1) (upd cn k (nI (L k).length)) q' (by omega) (by omega) (fun c hc => ?_)
      by_cases e : c = k
      · subst e; rw [pk_us]; exact ⟨rfl, hq1⟩
      · rw [pk_un e]
        have := hq c (by omega)
        have hl := (hL c (by omega)).1
        refine ⟨this.1, fun i hi => ?_⟩
        rw [hq2 _ (by omega)]; exact this.2 i hi
end
section
variable {n : Nat} {room : Nat} {slots : Nat} {up : Bool} {last : Nat} {kept : Nat} {B0 : Nat → Nat} {D0 : Nat → Int32} {Q : Nat → List Nat} {J : Nat → Nat} {root : Nat → Nat} {par : Nat → Nat → Nat} {fin : Nat → Nat → Bool} {mI : Nat → Nat → Bool} {rI : Nat → Nat → Bool} {B : Nat → Nat → Nat} {D : Nat → Nat → Int32} {L : Nat → Nat → List Nat} {ST : Nat → Nat → List Nat}
theorem ms_y_load {post : Int32 → SY → Prop} {L0 : Nat → List Nat} {f_n f_room f_slots f_up f_last f_kept : Int32} {a_ids a_bal a_dig a_len a_amt a_par a_reported a_count a_queue : Nat → Int32} (H : ms_RY (n, room, slots, up, last, kept, B0, D0, Q, J, root, par, fin, mI, rI, B, D, L, ST) L0 (f_n, f_room, f_slots, f_up, f_last, f_kept, a_ids, a_bal, a_dig, a_len, a_amt, a_par, a_reported, a_count, a_queue)) (h3 : J 3 ≠ 0)
    (K : ∀ v', ms_RY (n, room, slots, true, last, kept, B 3, D 3, fun c => ms_ld (L 3 c), J, root, par, fin, mI, rI, B, D, L, ST) (L 3) v' → post (ms_enc (J 3)) v') : wY_restore_73 post f_n f_room f_slots f_up f_last f_kept a_ids a_bal a_dig a_len a_amt a_par a_reported a_count a_queue := by
  obtain ⟨⟨h1, h2, h3', h4, h5, h6⟩, hQ, hI, hp, hP0, hPr⟩ := H
  have hp3 := hPr 3 (by decide) h3
  unfold wY_restore_73
  refine ms_y_copy (s := 4) (d := 0) (by decide) (by decide) (by decide) rfl rfl ⟨26, ?_⟩
  have hPc : ms_PL 0 (B 3) (D 3) (L 3) (ms_blk a_bal (0 * 5) (4 * 5) 5) (ms_blk a_dig (0 * 5) (4 * 5) 5) (ms_blk a_len (0 * 25) (4 * 25) 25) (ms_blk a_amt (0 * 100) (4 * 100) 100) := ms_PL_copy hp3
  refine ms_y_r81 (L := L 3) (fun c hc => ?_) (fun cn q hq => ?_) 25 26 0 a_count a_queue (by omega) (by omega) (fun c hc => absurd hc (Nat.not_lt_zero _))
  · have := hPc.2 c hc
    rw [Nat.zero_mul, Nat.zero_add] at this
    exact this
  · have hid : upd a_ids 0 (a_ids 4) 4 = ms_enc (J 3) := by
      rw [pk_un (by decide)]; exact hI 3 (by decide)
    show post (upd a_ids 0 (a_ids 4) 4) _
    rw [hid]
    refine K _ ?_
    refine ⟨⟨h1, h2, h3', rfl, h5, h6⟩, fun c hc => ?_, fun r hr => ?_, hp, hPc, fun r hr hJr => ms_PL_copy_o (hPr r hr hJr) (by omega)⟩
    · have hl := (hPc.2 c hc).1
      rw [ms_ld_len]
      refine ⟨by omega, (hq c hc).1, fun i hi => ?_⟩
      rw [ms_ld_len] at hi
      rw [ms_ld_nth _ _ hi]; exact (hq c hc).2 i hi
    · rw [pk_un (by omega)]; exact hI r hr
theorem ms_Inv_load (h : ms_Inv (n, room, slots, up, last, kept, B0, D0, Q, J, root, par, fin, mI, rI, B, D, L, ST)) (hu : up = false) : ms_Inv (n, room, slots, true, last, kept, B 3, D 3, fun c => ms_ld (L 3 c), J, root, par, fin, mI, rI, B, D, L, ST) := by
  obtain ⟨i0, iA, iQ, iJ, iP, iS, iK, iD⟩ := h
  have k1 := i0.2.2.2.2.2.2.2.1
  obtain ⟨j0, j1, jA, jS⟩ := (iK 0 (by decide)).1 k1
  have e : (fun c => ms_tk (ms_ld (L 3 c))) = L 3 := by
    funext c
    exact ms_ld_tk _
  refine ⟨i0, by rw [e]; exact jA, ⟨fun c g => ?_, fun c x hx => Or.inl (ms_ld_mem _ _ hx)⟩, iJ, iP, fun s hs hJ => absurd (iD hu s hs) hJ, iK, fun z => absurd z (by decide)⟩
  show ms_ld (L 3 c) = []
  rw [show L 3 c = [] from jA.2.1 c g]; rfl
end
theorem i_vc_restore {k : Nat} {u : SX} {v : SY} (I : i_Rel k u v) (hk : k + 5 ≤ 2564) (v1 : Int32) : wpX_restore (fun r u' => wpY_restore (fun r' v' => r' = r ∧ i_Rel (k + 5) u' v') v v1) u v1 := by
  obtain ⟨⟨n, room, slots, up, last, kept, B0, D0, Q, J, root, par, fin, mI, rI, B, D, L, ST⟩, hI, HX, HY⟩ := id I
  obtain ⟨f_n, f_room, f_slots, f_up, f_last, f_keptCount, a_liveBalance, a_liveDigest, a_ring, a_head, a_count, a_tokens, a_rootOf, a_parentOf, a_finished, a_markerIn, a_reportIn, a_recId, a_recBalance, a_recDigest, a_recLength, a_recAmount⟩ := u
  obtain ⟨y1, y2, y3, y4, y5, y6, y7, y8, y9, y10, y11, y12, y13, y14, y15⟩ := v
  replace HY : ms_RY (n, room, slots, up, last, kept, B0, D0, Q, J, root, par, fin, mI, rI, B, D, L, ST) (fun c => ms_tk (Q c)) (y1, y2, y3, y4, y5, y6, y7, y8, y9, y10, y11, y12, y13, y14, y15) := HY
  obtain ⟨⟨xn, xr, xs, xu, xl, xk⟩, xB, xQ, xI, xR, xP, xM, xE, xS⟩ := id HX
  obtain ⟨⟨yn, yr, ys, yu, yl, yk⟩, yQ, yI, yP, yL, yE⟩ := id HY
  have h5 := hI.1.2.1
  have hJb := ms_Inv_J hI
  have hfor := fun b => @ms_Inv_forget n room slots up last kept B0 D0 Q J root par fin mI rI B D L ST b hI
  obtain ⟨n2, _, r1, r4, s1, s3, hl9, k1, k3⟩ := hI.1
  have iK := hI.2.2.2.2.2.2.1
  cases hu : up with
  | true => exact br_f (by rw [xu, hu]; decide) (br_f (by rw [yu, hu]; decide) ⟨rfl, I⟩)
  | false =>
    have yu' : y4 = 0 := by rw [yu, hu]; rfl
    refine br_t (by rw [xu, hu]; rfl) ?_
    by_cases h0 : v1 < 0
    · exact br_t h0 (br_t yu' (br_t h0 ⟨rfl, I⟩))
    · obtain ⟨b, hb, rfl⟩ := nI_of h0
      refine br_f h0 ?_
      by_cases hlt : b < kept
      · have hIf := hfor b hu hlt
        have hIl := ms_Inv_load hIf hu
        have j3 := (hIf.2.2.2.2.2.2.1 0 (by decide)).1 (by omega)
        have jJ : ms_dr b 0 J 3 ≠ 0 := j3.1
        have jA : ms_A n room (ms_dr b (B 3) B 3) (ms_dr b (L 3) L 3) := j3.2.2.1
        have jS : ∀ c, ms_dr b (ST 3) ST 3 c = ms_dr b (L 3) L 3 c := j3.2.2.2
        have jb : ∀ c x, x ∈ ms_dr b (ST 3) ST 3 c → x < 1000000 := by
          intro c x hx
          rw [jS c] at hx
          by_cases g : ms_gd n c
          · have h1 := ms_tot_L (B := ms_dr b (B 3) B 3) (L := ms_dr b (L 3) L 3) (ms_gd_lt h5 g) hx
            have h2 := jA.2.2.2
            omega
          · rw [jA.2.1 c g] at hx; exact absurd hx (List.not_mem_nil)
        refine br_t (by rw [xk, nI_ltI hb (by omega)]; exact hlt) (ms_x_forget HX h5 hlt k3 (fun i hi hh => (iK i hi).2 hh) rfl (fun u1 H1 => ?_))
        obtain ⟨z0, z1, z2, z3, z4, z5, z6, z7, z8, z9, z10, z11, z12, z13, z14, z15, z16, z17, z18, z19, z20, z21⟩ := u1
        refine ms_x_clear H1 h5 (fun u2 H2 => ?_)
        obtain ⟨z0, z1, z2, z3, z4, z5, z6, z7, z8, z9, z10, z11, z12, z13, z14, z15, z16, z17, z18, z19, z20, z21⟩ := u2
        refine ms_x_load H2 h5 jJ jb (fun u3 H3 => ?_)
        obtain ⟨f_n, f_room, f_slots, f_up, f_last, f_keptCount, a_liveBalance, a_liveDigest, a_ring, a_head, a_count, a_tokens, a_rootOf, a_parentOf, a_finished, a_markerIn, a_reportIn, a_recId, a_recBalance, a_recDigest, a_recLength, a_recAmount⟩ := u3
        have hid : a_recId 3 = ms_enc (ms_dr b 0 J 3) := H3.2.2.2.1 3 (by decide)
        show wpY_restore (fun r' v' => r' = a_recId 3 ∧ i_Rel (k + 5) (f_n, f_room, f_slots, 1, f_last, f_keptCount, a_liveBalance, a_liveDigest, a_ring, a_head, a_count, a_tokens, a_rootOf, a_parentOf, a_finished, a_markerIn, a_reportIn, a_recId, a_recBalance, a_recDigest, a_recLength, a_recAmount) v') _ _
        rw [hid]
        refine br_t yu' (br_f h0 (br_t (by rw [yk, nI_ltI hb (by omega)]; exact hlt) ?_))
        refine ms_y_forget (b := b) HY hlt k3 ?_
        intro w1 w2 w3 w4 w5 w6 w7 w8 w9 w10 w11 w12 w13 w14 w15 H4
        refine ms_y_load H4 jJ (fun v' H5 => ⟨rfl, _, hIl, ?_, ms_RY_to H5 ?_⟩)
        · have hQe : ∀ c, c < 25 → (fun c => ms_ld (ms_dr b (L 3) L 3 c)) c = ms_pt 25 (fun _ => true) (fun c => ms_ld (ms_dr b (ST 3) ST 3 c)) (fun _ => []) c := by
            intro c hc
            rw [ms_pt_y hc rfl, jS c]
          obtain ⟨⟨c1, c2, c3, c4, c5, c6⟩, hh⟩ := ms_RX_c0 (Q' := fun c => ms_ld (ms_dr b (L 3) L 3 c)) H3 (fun p hp => ⟨rfl, rfl⟩) hQe
          exact ⟨⟨c1, c2, c3, rfl, c5, c6⟩, hh⟩
        · funext c
          exact (ms_ld_tk _).symm
      · refine br_f (by rw [xk, nI_ltI hb (by omega)]; exact hlt) (br_t yu' (br_f h0 (br_f ?_ ⟨rfl, I⟩)))
        rw [yk, nI_ltI hb (by omega)]; exact hlt
end
section
/-! the constructors -/
theorem ms_clamp (lo hi : Nat) (hl : lo ≤ hi) (hh : hi < 2 ^ 31) (p : Int32) : ∃ k, lo ≤ k ∧ k ≤ hi ∧ (∀ (post : Int32 → Prop) (u : SX), post (nI k) → wpX_clamp post u p (nI lo) (nI hi)) ∧ (∀ (post : Int32 → Prop) (v : SY), post (nI k) → wpY_clamp post v p (nI lo) (nI hi)) := by
  by_cases h1 : nI lo ≤ p
  · by_cases h2 : p ≤ nI hi
    · have hnn : ¬ p < 0 := fun z => by
        have := Int32.lt_of_lt_of_le z (Int32.le_trans (nI_pos' (n := lo) (by omega)) h1)
        exact Int32.lt_irrefl this
      obtain ⟨j, hj, rfl⟩ := nI_of hnn
      have h1' := (nI_leI (by omega) hj).mp h1
      have h2' := (nI_leI hj hh).mp h2
      refine ⟨j, h1', h2', fun post u hp => ?_, fun post v hp => ?_⟩
      · obtain ⟨f_n, f_room, f_slots, f_up, f_last, f_keptCount, a_liveBalance, a_liveDigest, a_ring, a_head, a_count, a_tokens, a_rootOf, a_parentOf, a_finished, a_markerIn, a_reportIn, a_recId, a_recBalance, a_recDigest, a_recLength, a_recAmount⟩ := u
        exact br_t h1 (br_t h2 hp)
      · obtain ⟨f_n, f_room, f_slots, f_up, f_last, f_kept, a_ids, a_bal, a_dig, a_len, a_amt, a_par, a_reported, a_count, a_queue⟩ := v
        exact br_t h1 (br_t h2 hp)
    · refine ⟨hi, hl, Nat.le_refl _, fun post u hp => ?_, fun post v hp => ?_⟩
      · obtain ⟨f_n, f_room, f_slots, f_up, f_last, f_keptCount, a_liveBalance, a_liveDigest, a_ring, a_head, a_count, a_tokens, a_rootOf, a_parentOf, a_finished, a_markerIn, a_reportIn, a_recId, a_recBalance, a_recDigest, a_recLength, a_recAmount⟩ := u
        exact br_t h1 (br_f h2 hp)
      · obtain ⟨f_n, f_room, f_slots, f_up, f_last, f_kept, a_ids, a_bal, a_dig, a_len, a_amt, a_par, a_reported, a_count, a_queue⟩ := v
        exact br_t h1 (br_f h2 hp)
  · refine ⟨lo, Nat.le_refl _, hl, fun post u hp => ?_, fun post v hp => ?_⟩
    · obtain ⟨f_n, f_room, f_slots, f_up, f_last, f_keptCount, a_liveBalance, a_liveDigest, a_ring, a_head, a_count, a_tokens, a_rootOf, a_parentOf, a_finished, a_markerIn, a_reportIn, a_recId, a_recBalance, a_recDigest, a_recLength, a_recAmount⟩ := u
      exact br_f h1 hp
    · obtain ⟨f_n, f_room, f_slots, f_up, f_last, f_kept, a_ids, a_bal, a_dig, a_len, a_amt, a_par, a_reported, a_count, a_queue⟩ := v
      exact br_f h1 hp
theorem ms_fill_z {a : Nat → Int32} {k : Nat} {w : Int32} (h : k < 2 ^ 31) : upd (ms_fill a 0 k w) (nI k).toNatClampNeg w = ms_fill a 0 (k + 1) w := by
  have := ms_fillS a 0 k w
  rw [Nat.zero_add] at this
  rw [nI_clamp h, this]
section
variable {f_n f_room f_slots f_up f_last f_keptCount : Int32} {a_liveBalance a_liveDigest a_ring a_head a_count a_tokens a_rootOf a_parentOf a_finished a_markerIn a_reportIn a_recId a_recBalance a_recDigest a_recLength a_recAmount : Nat → Int32} {post : SX → Prop} {x5 : Int32} {n : Nat}
theorem ms_x_i204 (hn : f_n = nI n) (h5 : n ≤ 5) (hp : post (f_n, f_room, f_slots, 1, 0, 1, ms_fill a_liveBalance 0 n x5, a_liveDigest, a_ring, a_head, a_count, a_tokens, a_rootOf, a_parentOf, a_finished, a_markerIn, a_reportIn, upd a_recId 3 0, ms_fill a_recBalance 15 n x5, a_recDigest, a_recLength, a_recAmount)) :
    ∀ d N k, k + d = n → d < N → wX_init_204 post x5 f_n f_room f_slots f_up f_last f_keptCount N (nI k) (ms_fill a_liveBalance 0 k x5) a_liveDigest a_ring a_head a_count a_tokens a_rootOf a_parentOf a_finished a_markerIn a_reportIn a_recId (ms_fill a_recBalance 15 k x5) a_recDigest a_recLength a_recAmount := by
  intro d
  induction d with
  | zero =>
    intro N k h1 hN
    obtain ⟨N, rfl⟩ : ∃ M, N = M + 1 := ⟨N - 1, by omega⟩
    obtain rfl : k = n := by omega
    exact br_t (by rw [hn]; exact nI_le (by omega) (by omega)) (nm_e hp)
  | succ d ih =>
    intro N k h1 hN
    obtain ⟨N, rfl⟩ : ∃ M, N = M + 1 := ⟨N - 1, by omega⟩
    refine br_f (by rw [hn]; exact nI_ge (by omega) (by omega)) (And.intro (vp_in_nI (by omega) (by decide)) (nm_r (ms_fill_z (by omega)) (And.intro ?_ (nm_r (e' := ms_fill a_recBalance 15 (k + 1) x5) ?_ (nm_r (nI_1 k) (ih N _ (by omega) (by omega)))))))
    · rw [ms_l15]; exact vp_in_nI (by omega) (by decide)
    · rw [ms_l15, nI_clamp (by omega), ms_fillS]
theorem ms_x_i180 (hn : f_n = nI n) (h5 : n ≤ 5) (hp : post (f_n, f_room, f_slots, 1, 0, 1, ms_fill a_liveBalance 0 n x5, a_liveDigest, a_ring, a_head, a_count, a_tokens, a_rootOf, a_parentOf, a_finished, a_markerIn, a_reportIn, upd (ms_fill a_recId 0 6 (-1)) 3 0, ms_fill a_recBalance 15 n x5, a_recDigest, a_recLength, a_recAmount)) :
    ∀ d N k, k + d = 6 → d < N → wX_init_180 post x5 f_n f_room f_slots f_up f_last f_keptCount N (nI k) a_liveBalance a_liveDigest a_ring a_head a_count a_tokens a_rootOf a_parentOf a_finished a_markerIn a_reportIn (ms_fill a_recId 0 k (-1)) a_recBalance a_recDigest a_recLength a_recAmount := by
  intro d
  induction d with
  | zero =>
    intro N k h1 hN
    obtain ⟨N, rfl⟩ : ∃ M, N = M + 1 := ⟨N - 1, by omega⟩
    obtain rfl : k = 6 := by omega
    refine br_t (nI_le (a := 6) (by omega) (by omega)) ⟨n + 1, ?_⟩
    have := ms_x_i204 (f_up := f_up) (f_last := f_last) (f_keptCount := f_keptCount) (a_recId := ms_fill a_recId 0 6 (-1)) hn h5 hp n (n + 1) 0 (by omega) (by omega)
    rw [ms_fill0, ms_fill0] at this; exact this
  | succ d ih =>
    intro N k h1 hN
    obtain ⟨N, rfl⟩ : ∃ M, N = M + 1 := ⟨N - 1, by omega⟩
    exact br_f (nI_ge (b := 6) (by omega) (by decide)) (And.intro (vp_in_nI (by omega) (by decide)) (nm_r (ms_fill_z (by omega)) (nm_r (nI_1 k) (ih N _ (by omega) (by omega)))))
end
section
variable {f_n f_room f_slots f_up f_last f_kept : Int32} {a_ids a_bal a_dig a_len a_amt a_par a_reported a_count a_queue : Nat → Int32} {post : SY → Prop} {x5 : Int32} {n : Nat}
theorem ms_y_i151 (hn : f_n = nI n) (h5 : n ≤ 5) (hp : post (f_n, f_room, f_slots, 1, 0, 1, upd (upd a_ids 4 (a_ids 0)) 4 0, ms_blk (ms_fill a_bal 0 n x5) (4 * 5) (0 * 5) 5, ms_blk a_dig (4 * 5) (0 * 5) 5, ms_blk a_len (4 * 25) (0 * 25) 25, ms_blk a_amt (4 * 100) (0 * 100) 100, a_par, a_reported, a_count, a_queue)) :
    ∀ d N k, k + d = n → d < N → wY_init_151 post x5 f_n f_room f_slots f_up f_last f_kept N (nI k) a_ids (ms_fill a_bal 0 k x5) a_dig a_len a_amt a_par a_reported a_count a_queue := by
  intro d
  induction d with
  | zero =>
    intro N k h1 hN
    obtain ⟨N, rfl⟩ : ∃ M, N = M + 1 := ⟨N - 1, by omega⟩
    obtain rfl : k = n := by omega
    exact br_t (by rw [hn]; exact nI_le (by omega) (by omega)) (ms_y_copy (s := 0) (d := 4) (by decide) (by decide) (by decide) rfl rfl (nm_e hp))
  | succ d ih =>
    intro N k h1 hN
    obtain ⟨N, rfl⟩ : ∃ M, N = M + 1 := ⟨N - 1, by omega⟩
    exact br_f (by rw [hn]; exact nI_ge (by omega) (by omega)) (And.intro (vp_in_nI (by omega) (by decide)) (nm_r (ms_fill_z (by omega)) (nm_r (nI_1 k) (ih N _ (by omega) (by omega)))))
theorem ms_y_i127 (hn : f_n = nI n) (h5 : n ≤ 5) (hp : post (f_n, f_room, f_slots, 1, 0, 1, upd (upd (ms_fill a_ids 0 7 (-1)) 4 (ms_fill a_ids 0 7 (-1) 0)) 4 0, ms_blk (ms_fill a_bal 0 n x5) (4 * 5) (0 * 5) 5, ms_blk a_dig (4 * 5) (0 * 5) 5, ms_blk a_len (4 * 25) (0 * 25) 25, ms_blk a_amt (4 * 100) (0 * 100) 100, a_par, a_reported, a_count, a_queue)) :
    ∀ d N k, k + d = 7 → d < N → wY_init_127 post x5 f_n f_room f_slots f_up f_last f_kept N (nI k) (ms_fill a_ids 0 k (-1)) a_bal a_dig a_len a_amt a_par a_reported a_count a_queue := by
  intro d
  induction d with
  | zero =>
    intro N k h1 hN
    obtain ⟨N, rfl⟩ : ∃ M, N = M + 1 := ⟨N - 1, by omega⟩
    obtain rfl : k = 7 := by omega
    refine br_t (nI_le (a := 7) (by omega) (by omega)) ⟨n + 1, ?_⟩
    have := ms_y_i151 (f_up := f_up) (f_last := f_last) (f_kept := f_kept) (a_ids := ms_fill a_ids 0 7 (-1)) hn h5 hp n (n + 1) 0 (by omega) (by omega)
    rw [ms_fill0] at this; exact this
  | succ d ih =>
    intro N k h1 hN
    obtain ⟨N, rfl⟩ : ∃ M, N = M + 1 := ⟨N - 1, by omega⟩
    exact br_f (nI_ge (b := 7) (by omega) (by decide)) (And.intro (vp_in_nI (by omega) (by decide)) (nm_r (ms_fill_z (by omega)) (nm_r (nI_1 k) (ih N _ (by omega) (by omega)))))
end
def ms_A0 (n room slots x : Nat) : ms_S := (n, room, slots, true, 0, 1, fun p => if p < n then x else 0, fun _ => 0, fun _ => [], fun r => if r = 3 then 1 else 0, fun _ => 0, fun _ _ => 1, fun _ _ => false, fun _ _ => false, fun _ _ => false, fun _ p => if p < n then x else 0, fun _ _ => 0, fun _ _ => [], fun _ _ => [])
theorem ms_Inv0 {n room slots x : Nat} (hn : 2 ≤ n ∧ n ≤ 5) (hr : 1 ≤ room ∧ room ≤ 4) (hs : 1 ≤ slots ∧ slots ≤ 3) (hx : x ≤ 1000) : ms_Inv (ms_A0 n room slots x) := by
  have hA : ms_A n room (fun p => if p < n then x else 0) (fun _ => []) := by
    refine ⟨fun p hp _ => if_neg (by omega), fun _ _ => rfl, fun _ => Nat.zero_le _, ?_⟩
    have hb : ∀ p, (if p < n then x else 0) ≤ 1000 := by
      intro p
      by_cases e : p < n
      · rw [if_pos e]; exact hx
      · rw [if_neg e]; omega
    show 0 + (if 0 < n then x else 0) + (if 1 < n then x else 0) + (if 2 < n then x else 0) + (if 3 < n then x else 0) + (if 4 < n then x else 0) + 0 ≤ 5000
    have b0 := hb 0
    have b1 := hb 1
    have b2 := hb 2
    have b3 := hb 3
    have b4 := hb 4
    omega
  have hz : ∀ s, s < 3 → (if s = 3 then 1 else 0) = 0 := fun s h => if_neg (by omega)
  refine ⟨⟨hn.1, hn.2, hr.1, hr.2, hs.1, hs.2, by decide, by decide, by decide⟩, hA, ⟨fun _ _ => rfl, fun c x hx => absurd hx (List.not_mem_nil)⟩, fun s h hJ => absurd (hz s h) hJ, fun _ _ _ _ => show 1 ≤ 5 by decide, fun s h hJ => absurd (hz s h) hJ, fun i hi => ⟨fun h1 => ?_, fun h1 => ?_⟩, fun z => absurd z (by decide)⟩
  · obtain rfl : i = 0 := by omega
    exact ⟨show (1 : Nat) ≠ 0 by decide, show 1 ≤ 100 by decide, hA, fun _ => rfl⟩
  · show (if 3 + i = 3 then 1 else 0) = 0
    rw [if_neg (by omega)]
theorem ms_RX0 {n room slots x : Nat} (hn : n ≤ 5) : ms_RX (ms_A0 n room slots x) (nI n, nI room, nI slots, 1, 0, 1, ms_fill (fun _ => 0) 0 n (nI x), fun _ => 0, fun _ => 0, fun _ => 0, fun _ => 0, fun _ => 0, fun _ => 0, fun _ => 0, fun _ => 0, fun _ => 0, fun _ => 0, upd (ms_fill (fun _ => 0) 0 6 (-1)) 3 0, ms_fill (fun _ => 0) 15 n (nI x), fun _ => 0, fun _ => 0, fun _ => 0) := by
  refine ⟨⟨rfl, rfl, rfl, rfl, rfl, rfl⟩, fun p hp => ⟨?_, rfl⟩, fun c hc => ⟨Nat.zero_le _, rfl, rfl, 0, by decide, rfl, fun i hi => absurd hi (Nat.not_lt_zero _)⟩, fun r hr => ?_, fun s hs hJ => ?_, fun s p hs hp => ⟨rfl, rfl⟩, fun s c hs hc => ⟨rfl, rfl⟩, fun r p hr hp hJ _ => ?_, fun r c hr hc hJ => ⟨Nat.zero_le _, rfl, fun i hi => absurd hi (Nat.not_lt_zero _)⟩⟩
  · show ms_fill (fun _ => 0) 0 n (nI x) p = nI (if p < n then x else 0)
    rw [ms_fill_at hp, if_pos hp]
  · show upd (ms_fill (fun _ => 0) 0 6 (-1)) 3 0 r = ms_enc (if r = 3 then 1 else 0)
    by_cases e : r = 3
    · subst e; rfl
    · rw [pk_un e, if_neg e, ms_fill_at hr]; rfl
  · have : (if s = 3 then 1 else 0) = 0 := if_neg (by omega)
    exact absurd this hJ
  · have hr3 : r = 3 := by
      refine Classical.byContradiction fun z => hJ ?_
      show (if r = 3 then 1 else 0) = 0
      rw [if_neg z]
    subst hr3
    refine ⟨?_, rfl⟩
    show ms_fill (fun _ => 0) 15 n (nI x) (15 + p) = nI (if p < n then x else 0)
    rw [ms_fill_in hp, if_pos hp]
theorem ms_RY00 {n room slots x : Nat} (hn : n ≤ 5) : ms_RY0 (ms_A0 n room slots x) (nI n, nI room, nI slots, 1, 0, 1, upd (upd (ms_fill (fun _ => 0) 0 7 (-1)) 4 (ms_fill (fun _ => 0) 0 7 (-1) 0)) 4 0, ms_blk (ms_fill (fun _ => 0) 0 n (nI x)) (4 * 5) (0 * 5) 5, ms_blk (fun _ => 0) (4 * 5) (0 * 5) 5, ms_blk (fun _ => 0) (4 * 25) (0 * 25) 25, ms_blk (fun _ => 0) (4 * 100) (0 * 100) 100, fun _ => 0, fun _ => 0, fun _ => 0, fun _ => 0) := by
  have hP : ms_PL 0 (fun p => if p < n then x else 0) (fun _ => 0) (fun _ => []) (ms_fill (fun _ => 0) 0 n (nI x)) (fun _ => 0) (fun _ => 0) (fun _ => 0) := by
    refine ⟨fun p hp => ⟨?_, rfl⟩, fun c hc => ⟨Nat.zero_le _, rfl, fun i hi => absurd hi (Nat.not_lt_zero _)⟩⟩
    rw [Nat.zero_mul, Nat.zero_add]
    by_cases e : p < n
    · rw [ms_fill_at e]
      show nI x = nI (if p < n then x else 0)
      rw [if_pos e]
    · rw [ms_fill_out (by omega)]
      show 0 = nI (if p < n then x else 0)
      rw [if_neg e]; rfl
  refine ⟨⟨rfl, rfl, rfl, rfl, rfl, rfl⟩, fun c hc => ⟨Nat.zero_le _, rfl, fun i hi => absurd hi (Nat.not_lt_zero _)⟩, fun r hr => ?_, fun s p hs hp => ⟨rfl, rfl⟩, ms_PL_copy_o hP (by decide), fun r hr hJ => ?_⟩
  · show upd (upd (ms_fill (fun _ => 0) 0 7 (-1)) 4 (ms_fill (fun _ => 0) 0 7 (-1) 0)) 4 0 (r + 1) = ms_enc (if r = 3 then 1 else 0)
    by_cases e : r = 3
    · subst e; rfl
    · rw [pk_un (by omega), pk_un (by omega), if_neg e, ms_fill_at (by omega)]; rfl
  · have hr3 : r = 3 := by
      refine Classical.byContradiction fun z => hJ ?_
      show (if r = 3 then 1 else 0) = 0
      rw [if_neg z]
    subst hr3
    exact ms_PL_copy hP
theorem i_vc0 (k0 : Int32) (k1 : Int32) (k2 : Int32) (k3 : Int32) : wpX_init (fun u => wpY_init (fun v => i_Rel 4 u v) k0 k1 k2 k3) k0 k1 k2 k3 := by
  obtain ⟨n, hn1, hn2, xn, yn⟩ := ms_clamp 2 5 (by decide) (by decide) k0
  obtain ⟨room, hr1, hr2, xr, yr⟩ := ms_clamp 1 4 (by decide) (by decide) k2
  obtain ⟨slots, hs1, hs2, xs, ys⟩ := ms_clamp 1 3 (by decide) (by decide) k3
  obtain ⟨x, hx1, hx2, xx, yx⟩ := ms_clamp 1 1000 (by decide) (by decide) k1
  unfold wpX_init
  refine xn _ _ (xr _ _ (xs _ _ (xx _ _ ⟨7, ?_⟩)))
  have kx := ms_x_i180 (post := fun u => wpY_init (fun v => i_Rel 4 u v) k0 k1 k2 k3) (x5 := nI x) (n := n) (f_n := nI n) (f_room := nI room) (f_slots := nI slots) (f_up := 0) (f_last := 0) (f_keptCount := 0) (a_liveBalance := fun _ => 0) (a_liveDigest := fun _ => 0) (a_ring := fun _ => 0) (a_head := fun _ => 0) (a_count := fun _ => 0) (a_tokens := fun _ => 0) (a_rootOf := fun _ => 0) (a_parentOf := fun _ => 0) (a_finished := fun _ => 0) (a_markerIn := fun _ => 0) (a_reportIn := fun _ => 0) (a_recId := fun _ => 0) (a_recBalance := fun _ => 0) (a_recDigest := fun _ => 0) (a_recLength := fun _ => 0) (a_recAmount := fun _ => 0) rfl hn2 ?_ 6 7 0 (by omega) (by omega)
  · rw [ms_fill0] at kx; exact kx
  · unfold wpY_init
    refine yn _ _ (yr _ _ (ys _ _ (yx _ _ ⟨8, ?_⟩)))
    have ky := ms_y_i127 (post := fun v => i_Rel 4 (nI n, nI room, nI slots, 1, 0, 1, ms_fill (fun _ => 0) 0 n (nI x), fun _ => 0, fun _ => 0, fun _ => 0, fun _ => 0, fun _ => 0, fun _ => 0, fun _ => 0, fun _ => 0, fun _ => 0, fun _ => 0, upd (ms_fill (fun _ => 0) 0 6 (-1)) 3 0, ms_fill (fun _ => 0) 15 n (nI x), fun _ => 0, fun _ => 0, fun _ => 0) v) (x5 := nI x) (n := n) (f_n := nI n) (f_room := nI room) (f_slots := nI slots) (f_up := 0) (f_last := 0) (f_kept := 0) (a_ids := fun _ => 0) (a_bal := fun _ => 0) (a_dig := fun _ => 0) (a_len := fun _ => 0) (a_amt := fun _ => 0) (a_par := fun _ => 0) (a_reported := fun _ => 0) (a_count := fun _ => 0) (a_queue := fun _ => 0) rfl hn2 ?_ 7 8 0 (by omega) (by omega)
    · rw [ms_fill0] at ky; exact ky
    · exact ⟨ms_A0 n room slots x, ms_Inv0 ⟨hn1, hn2⟩ ⟨hr1, hr2⟩ ⟨hs1, hs2⟩ hx2, ms_RX0 hn2, ms_RY00 hn2⟩
end
