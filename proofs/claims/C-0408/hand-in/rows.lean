section
theorem pk_us {f : Nat → Int32} {k : Nat} {x : Int32} : upd f k x k = x := if_pos rfl
theorem pk_un {f : Nat → Int32} {k j : Nat} {x : Int32} (h : j ≠ k) : upd f k x j = f j := if_neg h
theorem pk_sub {a b : Nat} (h : b ≤ a) : nI a - nI b = nI (a - b) := by
  obtain ⟨c, rfl⟩ : ∃ c, a = c + b := ⟨a - b, by omega⟩
  rw [← nI_add, Int32.add_sub_cancel, Nat.add_sub_cancel]
theorem pk_m1 (n : Nat) : nI (n + 1) + (-1) = nI n := by
  rw [← nI_1, Int32.add_assoc, show (1 : Int32) + (-1) = 0 from rfl, Int32.add_zero]
theorem pk_mul (a b : Nat) : nI a * nI b = nI (a * b) := (Int32.ofNat_mul a b).symm
theorem pk_div {a d : Nat} (ha : a < 2 ^ 31) (h0 : 0 < d) (hd : d < 2 ^ 31) : nI a / nI d = nI (a / d) := by
  apply Int32.toInt_inj.mp
  rw [lg_idiv_nonneg (by rw [nI_toInt ha]; omega) (by rw [nI_toInt hd]; omega), nI_toInt ha, nI_toInt hd, nI_toInt (Nat.lt_of_le_of_lt (Nat.div_le_self a d) ha)]
  first | rfl | exact (Int.natCast_ediv _ _).symm
theorem pk_rem {a d : Nat} (ha : a < 2 ^ 31) (h0 : 0 < d) (hd : d < 2 ^ 31) : nI a - nI a / nI d * nI d = nI (a % d) := by
  rw [pk_div ha h0 hd, pk_mul, pk_sub (Nat.div_mul_le_self a d)]
  exact congrArg nI (by have := Nat.div_add_mod' a d; omega)
theorem pk_le {x y : Int32} {A B : Prop} (a b : Nat) (f : a ≤ b → A) (g : b < a → B) (hx : x = nI a := by rfl) (hy : y = nI b := by rfl) (ha : a < 2 ^ 31 := by omega) (hb : b < 2 ^ 31 := by omega) : (x ≤ y → A) ∧ (¬ x ≤ y → B) := by
  subst hx hy
  rw [nI_leI ha hb]
  exact ⟨f, fun z => g (by omega)⟩
theorem pk_lt {x y : Int32} {A B : Prop} (a b : Nat) (f : a < b → A) (g : b ≤ a → B) (hx : x = nI a := by rfl) (hy : y = nI b := by rfl) (ha : a < 2 ^ 31 := by omega) (hb : b < 2 ^ 31 := by omega) : (x < y → A) ∧ (¬ x < y → B) := by
  subst hx hy
  rw [nI_ltI ha hb]
  exact ⟨f, fun z => g (by omega)⟩
theorem pk_eq {x y : Int32} {A B : Prop} (a b : Nat) (f : a = b → A) (g : a ≠ b → B) (hx : x = nI a := by rfl) (hy : y = nI b := by rfl) (ha : a < 2 ^ 31 := by omega) (hb : b < 2 ^ 31 := by omega) : (x = y → A) ∧ (¬ x = y → B) := by
  subst hx hy
  rw [nI_eq ha hb]
  exact ⟨f, g⟩
theorem pk_in {x : Int32} (n N : Nat) (h : n < N) (hx : x = nI n := by rfl) (hN : N < 2 ^ 31 := by omega) : vp_in x N := by
  subst hx
  exact vp_in_nI h hN
theorem pk_cl {x : Int32} (n : Nat) (hx : x = nI n := by rfl) (h : n < 2 ^ 31 := by omega) : x.toNatClampNeg = n := by
  subst hx
  exact nI_clamp h
theorem pk_tn {n : Nat} (h : n < 2 ^ 32) : (nI n).toBitVec.toNat = n := Nat.mod_eq_of_lt h
def bt (x : Int32) (i : Nat) : Bool := x.toBitVec.getLsbD i
theorem b_ext {x y : Int32} (h : ∀ i, i < 32 → bt x i = bt y i) : x = y := Int32.toBitVec_inj.mp (BitVec.eq_of_getLsbD_eq (fun i hi => h i hi))
theorem b_or (x y : Int32) (i : Nat) : bt (x ||| y) i = (bt x i || bt y i) := by unfold bt; rw [Int32.toBitVec_or, BitVec.getLsbD_or]
theorem b_and (x y : Int32) (i : Nat) : bt (x &&& y) i = (bt x i && bt y i) := by unfold bt; rw [Int32.toBitVec_and, BitVec.getLsbD_and]
theorem b_big {x : Int32} {i : Nat} (h : 32 ≤ i) : bt x i = false := BitVec.getLsbD_of_ge _ _ h
theorem b_0 (i : Nat) : bt 0 i = false := BitVec.getLsbD_zero
theorem s_l : ∀ n, n < 32 → ((nI n &&& 31).toBitVec.smod 32).toNat = n := by decide +kernel
theorem b_shl (n : Nat) (hn : n < 32) (x : Int32) {i : Nat} (hi : i < 32) : bt (x <<< (nI n &&& 31)) i = (decide (n ≤ i) && bt x (i - n)) := by
  unfold bt
  rw [Int32.toBitVec_shiftLeft]
  show (x.toBitVec <<< ((nI n &&& 31).toBitVec.smod 32).toNat).getLsbD i = _
  rw [s_l n hn, BitVec.getLsbD_shiftLeft]
  rcases Nat.lt_or_ge i n with h | h
  · simp [h, Nat.not_le.mpr h]
  · simp [hi, h, Nat.not_lt.mpr h]
theorem b_sshr (n : Nat) (hn : n < 32) (x : Int32) {i : Nat} (hi : i < 32) : bt (x >>> (nI n &&& 31)) i = if n + i < 32 then bt x (n + i) else bt x 31 := by
  unfold bt
  rw [Int32.toBitVec_shiftRight]
  show (x.toBitVec.sshiftRight ((nI n &&& 31).toBitVec.smod 32).toNat).getLsbD i = _
  rw [s_l n hn, BitVec.getLsbD_sshiftRight, BitVec.msb_eq_getLsbD_last]
  simp [hi]
end
section
/-! ints as Int32, bits, indices -/
def ds_i (z : Int) : Int32 := Int32.ofInt z
theorem ds_ia (a b : Int) : ds_i a + ds_i b = ds_i (a + b) := (Int32.ofInt_add a b).symm
theorem ds_is (a b : Int) : ds_i a - ds_i b = ds_i (a - b) := (Int32.ofInt_sub a b).symm
theorem ds_im (a b : Int) : ds_i a * ds_i b = ds_i (a * b) := (Int32.ofInt_mul a b).symm
theorem ds_ineg (a : Int) : -ds_i a = ds_i (-a) := (Int32.ofInt_neg a).symm
theorem ds_it (x : Int32) : ds_i x.toInt = x := Int32.ofInt_toInt x
theorem ds_iN (n : Nat) : nI n = ds_i (n : Int) := Int32.ofInt_eq_ofNat.symm
theorem ds_ti {z : Int} (h1 : -2147483648 ≤ z) (h2 : z < 2147483648) : (ds_i z).toInt = z := Int32.toInt_ofInt_of_le h1 h2
theorem ds_ile {a b : Int} (ha : -2147483648 ≤ a) (ha2 : a < 2147483648) (hb : -2147483648 ≤ b) (hb2 : b < 2147483648) : ds_i a ≤ ds_i b ↔ a ≤ b := by
  rw [Int32.le_iff_toInt_le, ds_ti ha ha2, ds_ti hb hb2]
theorem ds_ilt {a b : Int} (ha : -2147483648 ≤ a) (ha2 : a < 2147483648) (hb : -2147483648 ≤ b) (hb2 : b < 2147483648) : ds_i a < ds_i b ↔ a < b := by
  rw [Int32.lt_iff_toInt_lt, ds_ti ha ha2, ds_ti hb hb2]
theorem ds_ieq {a b : Int} (ha : -2147483648 ≤ a) (ha2 : a < 2147483648) (hb : -2147483648 ≤ b) (hb2 : b < 2147483648) : ds_i a = ds_i b ↔ a = b := by
  rw [← Int32.toInt_inj, ds_ti ha ha2, ds_ti hb hb2]
/-- branches by ints -/
theorem ds_ble {x y : Int32} {A B : Prop} (a b : Int) (f : a ≤ b → A) (g : b < a → B) (hx : x = ds_i a) (hy : y = ds_i b) (ha : -2147483648 ≤ a ∧ a < 2147483648) (hb : -2147483648 ≤ b ∧ b < 2147483648) : (x ≤ y → A) ∧ (¬ x ≤ y → B) := by
  subst hx hy
  rw [ds_ile ha.1 ha.2 hb.1 hb.2]
  exact ⟨f, fun z => g (by omega)⟩
theorem ds_blt {x y : Int32} {A B : Prop} (a b : Int) (f : a < b → A) (g : b ≤ a → B) (hx : x = ds_i a) (hy : y = ds_i b) (ha : -2147483648 ≤ a ∧ a < 2147483648) (hb : -2147483648 ≤ b ∧ b < 2147483648) : (x < y → A) ∧ (¬ x < y → B) := by
  subst hx hy
  rw [ds_ilt ha.1 ha.2 hb.1 hb.2]
  exact ⟨f, fun z => g (by omega)⟩
theorem ds_beq {x y : Int32} {A B : Prop} (a b : Int) (f : a = b → A) (g : a ≠ b → B) (hx : x = ds_i a) (hy : y = ds_i b) (ha : -2147483648 ≤ a ∧ a < 2147483648) (hb : -2147483648 ≤ b ∧ b < 2147483648) : (x = y → A) ∧ (¬ x = y → B) := by
  subst hx hy
  rw [ds_ieq ha.1 ha.2 hb.1 hb.2]
  exact ⟨f, g⟩
/-- arrays of ints -/
def ds_A (R : Nat → Int) : Nat → Int32 := fun j => ds_i (R j)
def ds_pu (R : Nat → Int) (k : Nat) (v : Int) : Nat → Int := fun j => if j = k then v else R j
theorem ds_pu_s {R : Nat → Int} {k : Nat} {v : Int} : ds_pu R k v k = v := if_pos rfl
theorem ds_pu_n {R : Nat → Int} {k j : Nat} {v : Int} (h : j ≠ k) : ds_pu R k v j = R j := if_neg h
theorem ds_upd (R : Nat → Int) (k : Nat) (v : Int) : upd (ds_A R) k (ds_i v) = ds_A (ds_pu R k v) := by
  funext j
  unfold upd ds_A ds_pu
  by_cases h : j = k
  · rw [if_pos h, if_pos h]
  · rw [if_neg h, if_neg h]
theorem ds_Aof (a : Nat → Int32) : a = ds_A (fun j => (a j).toInt) := by
  funext j
  exact (ds_it _).symm
/-- bits -/
theorem ds_b1 : ∀ j, j < 32 → bt 1 j = decide (j = 0) := by decide +kernel
theorem ds_bit (x : Int32) {i : Nat} (hi : i < 32) : (x >>> (nI i &&& 31)) &&& 1 = if bt x i = true then 1 else 0 := by
  apply b_ext
  intro j hj
  rw [b_and, ds_b1 j hj]
  by_cases h : j = 0
  · subst h
    rw [b_sshr i hi x hj, if_pos (by omega), Nat.add_zero]
    cases bt x i <;> decide
  · rw [decide_eq_false h, Bool.and_false]
    cases bt x i
    · rw [if_neg (by decide), b_0]
    · rw [if_pos rfl, ds_b1 j hj, decide_eq_false h]
theorem ds_bset (x : Int32) {v i : Nat} (hv : v < 32) (hi : i < 32) : bt (x ||| ((1 : Int32) <<< (nI v &&& 31))) i = (bt x i || decide (i = v)) := by
  rw [b_or, b_shl v hv 1 hi]
  congr 1
  by_cases h : v ≤ i
  · rw [ds_b1 (i - v) (by omega), decide_eq_true h, Bool.true_and]
    by_cases h2 : i = v
    · rw [decide_eq_true h2, decide_eq_true (by omega)]
    · rw [decide_eq_false h2, decide_eq_false (by omega)]
  · rw [decide_eq_false h, Bool.false_and, decide_eq_false (by omega)]
theorem ds_bnI (M : Nat) {i : Nat} (hi : i < 32) : bt (nI M) i = M.testBit i := by
  show (BitVec.ofNat 32 M).getLsbD i = _
  rw [BitVec.getLsbD_ofNat, decide_eq_true hi, Bool.true_and]
/-- a mask whose bits from n on are none is nI of a number below 2^n -/
theorem ds_mask {x : Int32} {n : Nat} (h : ∀ i, n ≤ i → i < 32 → bt x i = false) : ∃ M, M < 2 ^ n ∧ x = nI M := by
  refine ⟨x.toBitVec.toNat, Nat.lt_pow_two_of_testBit _ (fun i hi => ?_), ?_⟩
  · rcases Nat.lt_or_ge i 32 with z | z
    · exact h i hi z
    · exact b_big (x := x) z
  · apply Int32.toBitVec_inj.1
    show x.toBitVec = BitVec.ofNat 32 x.toBitVec.toNat
    simp
theorem ds_shn : ∀ n, n < 11 → ((1 : Int32) <<< (nI n &&& 31)) = nI (2 ^ n) := by decide +kernel
/-- indices -/
theorem ds_e10 (u v : Nat) : nI u * 10 + nI v = nI (u * 10 + v) := by rw [show (10 : Int32) = nI 10 from rfl, pk_mul, nI_add]
theorem ds_e12 (u v : Nat) : nI u * 12 + nI v = nI (u * 12 + v) := by rw [show (12 : Int32) = nI 12 from rfl, pk_mul, nI_add]
theorem ds_e11 (u : Nat) : nI u * 12 + 11 = nI (u * 12 + 11) := by rw [show (11 : Int32) = nI 11 from rfl, ds_e12]
theorem ds_e120 (u : Nat) : 120 + nI u = nI (120 + u) := by rw [show (120 : Int32) = nI 120 from rfl, nI_add]
theorem ds_c10 {u v : Nat} (hu : u < 10) (hv : v < 10) : (nI u * 10 + nI v).toNatClampNeg = u * 10 + v := by rw [ds_e10, nI_clamp (by omega)]
theorem ds_c12 {u v : Nat} (hu : u < 12) (hv : v < 12) : (nI u * 12 + nI v).toNatClampNeg = u * 12 + v := by rw [ds_e12, nI_clamp (by omega)]
theorem ds_c11 {u : Nat} (hu : u < 12) : (nI u * 12 + 11).toNatClampNeg = u * 12 + 11 := by rw [ds_e11, nI_clamp (by omega)]
theorem ds_c120 {u : Nat} (hu : u < 12) : (120 + nI u).toNatClampNeg = 10 * 12 + u := by rw [ds_e120, nI_clamp (by omega)]
theorem ds_v10 {u v : Nat} (hu : u < 10) (hv : v < 10) : vp_in (nI u * 10 + nI v) 100 := by rw [ds_e10]; exact vp_in_nI (by omega) (by omega)
theorem ds_v12 {u v : Nat} (hu : u < 12) (hv : v < 12) : vp_in (nI u * 12 + nI v) 144 := by rw [ds_e12]; exact vp_in_nI (by omega) (by omega)
theorem ds_v11 {u : Nat} (hu : u < 12) : vp_in (nI u * 12 + 11) 144 := by rw [ds_e11]; exact vp_in_nI (by omega) (by omega)
theorem ds_v120 {u : Nat} (hu : u < 12) : vp_in (120 + nI u) 144 := by rw [ds_e120]; exact vp_in_nI (by omega) (by omega)
end
section
/-! sums of ints over 0 .. n-1 -/
def ds_sm (f : Nat → Int) : Nat → Int
  | 0 => 0
  | n + 1 => ds_sm f n + f n
theorem ds_sm_c {f g : Nat → Int} : ∀ {n : Nat}, (∀ j, j < n → f j = g j) → ds_sm f n = ds_sm g n := by
  intro n
  induction n with
  | zero => intro _; rfl
  | succ n ih =>
    intro h
    show ds_sm f n + f n = ds_sm g n + g n
    rw [ih (fun j hj => h j (by omega)), h n (by omega)]
theorem ds_sm_a (f g : Nat → Int) : ∀ n : Nat, ds_sm (fun j => f j + g j) n = ds_sm f n + ds_sm g n := by
  intro n
  induction n with
  | zero => rfl
  | succ n ih =>
    show ds_sm (fun j => f j + g j) n + (f n + g n) = (ds_sm f n + f n) + (ds_sm g n + g n)
    rw [ih]; omega
theorem ds_sm_s (f g : Nat → Int) : ∀ n : Nat, ds_sm (fun j => f j - g j) n = ds_sm f n - ds_sm g n := by
  intro n
  induction n with
  | zero => rfl
  | succ n ih =>
    show ds_sm (fun j => f j - g j) n + (f n - g n) = (ds_sm f n + f n) - (ds_sm g n + g n)
    rw [ih]; omega
theorem ds_sm_m (c : Int) (f : Nat → Int) : ∀ n : Nat, ds_sm (fun j => c * f j) n = c * ds_sm f n := by
  intro n
  induction n with
  | zero => show (0 : Int) = c * 0; omega
  | succ n ih =>
    show ds_sm (fun j => c * f j) n + c * f n = c * (ds_sm f n + f n)
    rw [ih, Int.mul_add]
theorem ds_sm_le {f g : Nat → Int} : ∀ {n : Nat}, (∀ j, j < n → f j ≤ g j) → ds_sm f n ≤ ds_sm g n := by
  intro n
  induction n with
  | zero => intro _; exact Int.le_refl _
  | succ n ih =>
    intro h
    show ds_sm f n + f n ≤ ds_sm g n + g n
    have h1 := ih (fun j hj => h j (by omega))
    have h2 := h n (by omega)
    omega
theorem ds_sm_lt {f g : Nat → Int} : ∀ {n k : Nat}, (∀ j, j < n → f j ≤ g j) → k < n → f k + 1 ≤ g k → ds_sm f n + 1 ≤ ds_sm g n := by
  intro n
  induction n with
  | zero => intro k _ hk; omega
  | succ n ih =>
    intro k h hk hs
    show ds_sm f n + f n + 1 ≤ ds_sm g n + g n
    have h2 := h n (by omega)
    by_cases hkn : k = n
    · subst hkn
      have h1 := ds_sm_le (f := f) (g := g) (n := k) (fun j hj => h j (by omega))
      omega
    · have h1 := ih (k := k) (fun j hj => h j (by omega)) (by omega) hs
      omega
theorem ds_sm_k (c : Int) : ∀ n : Nat, ds_sm (fun _ => c) n = n * c := by
  intro n
  induction n with
  | zero => show (0 : Int) = ((0 : Nat) : Int) * c; simp
  | succ n ih =>
    show ds_sm (fun _ => c) n + c = ((n + 1 : Nat) : Int) * c
    rw [ih, Int.natCast_succ, Int.add_mul, Int.one_mul]
theorem ds_sm_0 {f : Nat → Int} {n : Nat} (h : ∀ j, j < n → f j = 0) : ds_sm f n = 0 := by
  rw [ds_sm_c (g := fun _ => 0) h, ds_sm_k]; simp
theorem ds_sm_ge {f : Nat → Int} {n : Nat} (h : ∀ j, j < n → 0 ≤ f j) : 0 ≤ ds_sm f n := by
  have := ds_sm_le (f := fun _ => 0) (g := f) (n := n) h
  rw [ds_sm_k] at this
  simpa using this
theorem ds_sm_ub {f : Nat → Int} {n : Nat} {c : Int} (h : ∀ j, j < n → f j ≤ c) : ds_sm f n ≤ n * c := by
  have := ds_sm_le (f := f) (g := fun _ => c) (n := n) h
  rwa [ds_sm_k] at this
theorem ds_sm_one {f : Nat → Int} : ∀ {n k : Nat}, (∀ j, j < n → 0 ≤ f j) → k < n → f k ≤ ds_sm f n := by
  intro n
  induction n with
  | zero => intro k _ hk; omega
  | succ n ih =>
    intro k h hk
    show f k ≤ ds_sm f n + f n
    by_cases hkn : k = n
    · subst hkn
      have := ds_sm_ge (f := f) (n := k) (fun j hj => h j (by omega))
      omega
    · have h1 := ih (k := k) (fun j hj => h j (by omega)) (by omega)
      have := h n (by omega)
      omega
/-- one place changed -/
theorem ds_sm_p (f : Nat → Int) (k : Nat) (v : Int) : ∀ n : Nat, ds_sm (fun j => if j = k then v else f j) n = ds_sm f n + (if k < n then v - f k else 0) := by
  intro n
  induction n with
  | zero => rfl
  | succ n ih =>
    show ds_sm (fun j => if j = k then v else f j) n + (if n = k then v else f n) = ds_sm f n + f n + (if k < n + 1 then v - f k else 0)
    rw [ih]
    by_cases h : n = k
    · subst h
      rw [if_neg (by omega), if_pos rfl, if_pos (by omega)]; omega
    · rw [if_neg h]
      by_cases h2 : k < n
      · rw [if_pos h2, if_pos (by omega)]; omega
      · rw [if_neg h2, if_neg (by omega)]; omega
/-- nothing from m on -/
theorem ds_sm_cut {f : Nat → Int} {m : Nat} : ∀ {n : Nat}, m ≤ n → (∀ j, m ≤ j → j < n → f j = 0) → ds_sm f n = ds_sm f m := by
  intro n
  induction n with
  | zero => intro hm _; have : m = 0 := by omega
            subst this; rfl
  | succ n ih =>
    intro hm h
    by_cases e : m = n + 1
    · subst e; rfl
    · show ds_sm f n + f n = ds_sm f m
      rw [ih (by omega) (fun j h1 h2 => h j h1 (by omega)), h n (by omega) (by omega)]; omega
theorem ds_sm_x (f : Nat → Nat → Int) (m : Nat) : ∀ n : Nat, ds_sm (fun i => ds_sm (fun j => f i j) m) n = ds_sm (fun j => ds_sm (fun i => f i j) n) m := by
  intro n
  induction n with
  | zero => exact (ds_sm_0 (fun j _ => rfl)).symm
  | succ n ih =>
    show ds_sm (fun i => ds_sm (fun j => f i j) m) n + ds_sm (fun j => f n j) m = ds_sm (fun j => ds_sm (fun i => f i j) n + f n j) m
    rw [ih, ds_sm_a]
/-- a symmetric square with nothing on its diagonal is twice its triangle -/
theorem ds_sm_sq {f : Nat → Nat → Int} : ∀ {n : Nat}, (∀ i j, i < n → j < n → f i j = f j i) → (∀ i, i < n → f i i = 0) → ds_sm (fun i => ds_sm (fun j => f i j) n) n = 2 * ds_sm (fun i => ds_sm (fun j => f i j) i) n := by
  intro n
  induction n with
  | zero => intro _ _; rfl
  | succ n ih =>
    intro hs hd
    show ds_sm (fun i => ds_sm (fun j => f i j) n + f i n) n + (ds_sm (fun j => f n j) n + f n n) = 2 * (ds_sm (fun i => ds_sm (fun j => f i j) i) n + ds_sm (fun j => f n j) n)
    rw [ds_sm_a, ih (fun i j hi hj => hs i j (by omega) (by omega)) (fun i hi => hd i (by omega)), hd n (by omega), ds_sm_c (f := fun i => f i n) (g := fun j => f n j) (fun j hj => hs j n (by omega) (by omega))]
    omega
theorem ds_sm_12 {f : Nat → Int} {n : Nat} (hn : n ≤ 10) (h : ∀ j, n ≤ j → j < 10 → f j = 0) : ds_sm f 12 = ds_sm f n + f 10 + f 11 := by
  show ds_sm f 10 + f 10 + f 11 = _
  rw [ds_sm_cut hn h]
end
section
/-! the network's residuals R (index 12 * from + to), cuts, a push, pushes along a way -/
def ds_nd (n a : Nat) : Prop := a < n ∨ 10 ≤ a
def ds_b (b : Bool) : Int := if b = true then 1 else 0
def ds_cut (R : Nat → Int) (A : Nat → Bool) : Int := ds_sm (fun x => ds_sm (fun y => if A x = true ∧ A y = false then R (x * 12 + y) else 0) 12) 12
theorem ds_cut_c {R R' : Nat → Int} {A : Nat → Bool} (h : ∀ x y, x < 12 → y < 12 → R (x * 12 + y) = R' (x * 12 + y)) : ds_cut R A = ds_cut R' A := by
  apply ds_sm_c
  intro x hx
  apply ds_sm_c
  intro y hy
  show (if A x = true ∧ A y = false then R (x * 12 + y) else 0) = (if A x = true ∧ A y = false then R' (x * 12 + y) else 0)
  rw [h x y hx hy]
theorem ds_cut_pu {R : Nat → Int} {A : Nat → Bool} {x y : Nat} {v : Int} (hx : x < 12) (hy : y < 12) : ds_cut (ds_pu R (x * 12 + y) v) A = ds_cut R A + (if A x = true ∧ A y = false then v - R (x * 12 + y) else 0) := by
  have h1 : ∀ a, a < 12 → ds_sm (fun b => if A a = true ∧ A b = false then ds_pu R (x * 12 + y) v (a * 12 + b) else 0) 12 = (fun a => if a = x then ds_sm (fun b => if A x = true ∧ A b = false then R (x * 12 + b) else 0) 12 + (if A x = true ∧ A y = false then v - R (x * 12 + y) else 0) else ds_sm (fun b => if A a = true ∧ A b = false then R (a * 12 + b) else 0) 12) a := by
    intro a ha
    try dsimp only
    by_cases e : a = x
    · subst e
      rw [if_pos rfl]
      rw [ds_sm_c (g := fun b => if b = y then (if A a = true ∧ A y = false then v else 0) else (fun b => if A a = true ∧ A b = false then R (a * 12 + b) else 0) b)]
      · rw [ds_sm_p, if_pos hy]
        try dsimp only
        by_cases z : A a = true ∧ A y = false
        · rw [if_pos z, if_pos z, if_pos z]
        · rw [if_neg z, if_neg z, if_neg z]; rfl
      · intro b hb
        try dsimp only
        by_cases e2 : b = y
        · subst e2
          rw [if_pos rfl, ds_pu_s]
        · rw [if_neg e2, ds_pu_n (by omega)]
    · rw [if_neg e]
      apply ds_sm_c
      intro b hb
      try dsimp only
      rw [ds_pu_n (by omega)]
  unfold ds_cut
  rw [ds_sm_c h1, ds_sm_p, if_pos hx]
  omega
def ds_push (R : Nat → Int) (x y : Nat) (d : Int) : Nat → Int := ds_pu (ds_pu R (x * 12 + y) (R (x * 12 + y) - d)) (y * 12 + x) (ds_pu R (x * 12 + y) (R (x * 12 + y) - d) (y * 12 + x) + d)
theorem ds_push_f {R : Nat → Int} {x y : Nat} {d : Int} (hx : x < 12) (hy : y < 12) (h : x ≠ y) : ds_push R x y d (x * 12 + y) = R (x * 12 + y) - d := by
  unfold ds_push
  rw [ds_pu_n (by omega), ds_pu_s]
theorem ds_push_b {R : Nat → Int} {x y : Nat} {d : Int} (hx : x < 12) (hy : y < 12) (h : x ≠ y) : ds_push R x y d (y * 12 + x) = R (y * 12 + x) + d := by
  unfold ds_push
  rw [ds_pu_s, ds_pu_n (by omega)]
theorem ds_push_n {R : Nat → Int} {x y a b : Nat} {d : Int} (hx : x < 12) (hy : y < 12) (ha : a < 12) (hb : b < 12) (h1 : ¬ (a = x ∧ b = y)) (h2 : ¬ (a = y ∧ b = x)) : ds_push R x y d (a * 12 + b) = R (a * 12 + b) := by
  unfold ds_push
  rw [ds_pu_n (by omega), ds_pu_n (by omega)]
theorem ds_cut_push {R : Nat → Int} {A : Nat → Bool} {x y : Nat} {d : Int} (hx : x < 12) (hy : y < 12) (h : x ≠ y) : ds_cut (ds_push R x y d) A = ds_cut R A - d * (ds_b (A x) - ds_b (A y)) := by
  unfold ds_push
  rw [ds_cut_pu hy hx, ds_cut_pu hx hy]
  unfold ds_b
  cases hA : A x <;> cases hB : A y <;> simp <;> omega
/-- k pushes of d along p 0, p 1, .., p k, from p k to p 0 -/
def ds_pp (R : Nat → Int) (p : Nat → Nat) (d : Int) : Nat → Nat → Int
  | 0 => R
  | k + 1 => ds_push (ds_pp R p d k) (p (k + 1)) (p k) d
/-- a way: from p 0 = 11 back to p L = 10, its labels e exact -/
def ds_pth (n : Nat) (R : Nat → Int) (ac : Nat → Int32) (e : Nat → Nat) (L : Nat) (p : Nat → Nat) : Prop :=
  p 0 = 11 ∧ p L = 10 ∧ L ≤ 11 ∧ (∀ i, i ≤ L → p i < 12 ∧ ds_nd n (p i) ∧ e (p i) + i = L) ∧ (∀ i, i < L → p i ≠ 10 ∧ ac (p i) = nI (p (i + 1)) ∧ 0 < R (p (i + 1) * 12 + p i))
def ds_ok (n : Nat) (R : Nat → Int) : Prop := ∀ a b, a < 12 → b < 12 → 0 ≤ R (a * 12 + b) ∧ R (a * 12 + b) + R (b * 12 + a) ≤ 1000000 ∧ (¬ ds_nd n a ∨ ¬ ds_nd n b → R (a * 12 + b) = 0)
def ds_val (R : Nat → Int) (e : Nat → Nat) : Prop := ∀ a b, a < 12 → b < 12 → 0 < R (a * 12 + b) → e b ≤ e a + 1
def ds_adm (R : Nat → Int) (e : Nat → Nat) : Int := ds_sm (fun x => ds_sm (fun y => if 0 < R (x * 12 + y) ∧ e y = e x + 1 then 1 else 0) 12) 12
theorem ds_adm_0 (R : Nat → Int) (e : Nat → Nat) : 0 ≤ ds_adm R e := by
  apply ds_sm_ge
  intro x hx
  apply ds_sm_ge
  intro y hy
  try dsimp only
  split <;> omega
theorem ds_adm_144 (R : Nat → Int) (e : Nat → Nat) : ds_adm R e ≤ 144 := by
  have := ds_sm_ub (n := 12) (c := 12) (f := fun x => ds_sm (fun y => if 0 < R (x * 12 + y) ∧ e y = e x + 1 then 1 else 0) 12) (by
    intro x hx
    have := ds_sm_ub (n := 12) (c := 1) (f := fun y => if 0 < R (x * 12 + y) ∧ e y = e x + 1 then 1 else 0) (by
      intro y hy
      try dsimp only
      split <;> omega)
    exact this)
  exact this
theorem ds_adm_z (R : Nat → Int) : ds_adm R (fun _ => 0) = 0 := by
  apply ds_sm_0
  intro x hx
  apply ds_sm_0
  intro y hy
  try dsimp only
  rw [if_neg (by omega)]
theorem ds_adm_lt {R R' : Nat → Int} {e : Nat → Nat} {x0 y0 : Nat} (h : ∀ a b, a < 12 → b < 12 → e b = e a + 1 → 0 < R' (a * 12 + b) → 0 < R (a * 12 + b)) (hx : x0 < 12) (hy : y0 < 12) (h0 : e y0 = e x0 + 1) (h1 : 0 < R (x0 * 12 + y0)) (h2 : R' (x0 * 12 + y0) ≤ 0) : ds_adm R' e + 1 ≤ ds_adm R e := by
  have key : ∀ a, a < 12 → ∀ b, b < 12 → (fun b => (if 0 < R' (a * 12 + b) ∧ e b = e a + 1 then 1 else 0 : Int)) b ≤ (fun b => (if 0 < R (a * 12 + b) ∧ e b = e a + 1 then 1 else 0 : Int)) b := by
    intro a ha b hb
    try dsimp only
    by_cases z : 0 < R' (a * 12 + b) ∧ e b = e a + 1
    · rw [if_pos z, if_pos ⟨h a b ha hb z.2 z.1, z.2⟩]; omega
    · rw [if_neg z]
      split <;> omega
  unfold ds_adm
  apply ds_sm_lt (k := x0)
  · intro a ha
    exact ds_sm_le (key a ha)
  · exact hx
  · apply ds_sm_lt (k := y0)
    · exact key x0 hx
    · exact hy
    · try dsimp only
      rw [if_neg (by omega), if_pos ⟨h1, h0⟩]; omega
section
variable {n : Nat} {R : Nat → Int} {ac : Nat → Int32} {e : Nat → Nat} {L : Nat} {p : Nat → Nat} {d : Int}
theorem ds_inj (H : ds_pth n R ac e L p) {i j : Nat} (hi : i ≤ L) (hj : j ≤ L) (h : p i = p j) : i = j := by
  obtain ⟨_, _, _, h4, _⟩ := H
  have h1 := (h4 i hi).2.2
  have h2 := (h4 j hj).2.2
  rw [h] at h1
  omega
theorem ds_ppn (H : ds_pth n R ac e L p) : ∀ k, k ≤ L → ∀ a b, a < 12 → b < 12 → (∀ j, j < k → ¬ (a = p (j + 1) ∧ b = p j) ∧ ¬ (a = p j ∧ b = p (j + 1))) → ds_pp R p d k (a * 12 + b) = R (a * 12 + b) := by
  intro k
  induction k with
  | zero => intro _ a b _ _ _; rfl
  | succ k ih =>
    intro hk a b ha hb h
    have h4 := H.2.2.2.1
    show ds_push (ds_pp R p d k) (p (k + 1)) (p k) d (a * 12 + b) = _
    rw [ds_push_n (h4 (k + 1) hk).1 (h4 k (by omega)).1 ha hb (h k (by omega)).1 (h k (by omega)).2]
    exact ih (by omega) a b ha hb (fun j hj => h j (by omega))
theorem ds_ppf (H : ds_pth n R ac e L p) : ∀ k, k ≤ L → ∀ j, j < k → ds_pp R p d k (p (j + 1) * 12 + p j) = R (p (j + 1) * 12 + p j) - d ∧ ds_pp R p d k (p j * 12 + p (j + 1)) = R (p j * 12 + p (j + 1)) + d := by
  intro k
  induction k with
  | zero => intro _ j hj; omega
  | succ k ih =>
    intro hk j hj
    have h4 := H.2.2.2.1
    have a1 := (h4 (k + 1) hk).1
    have a2 := (h4 k (by omega)).1
    have a3 := (h4 (j + 1) (by omega)).1
    have a4 := (h4 j (by omega)).1
    have ne : p (k + 1) ≠ p k := fun z => by have := ds_inj H hk (by omega) z; omega
    by_cases ejk : j = k
    · subst ejk
      constructor
      · show ds_push (ds_pp R p d j) (p (j + 1)) (p j) d (p (j + 1) * 12 + p j) = _
        rw [ds_push_f a1 a2 ne, ds_ppn H j (by omega) _ _ a1 a2]
        intro i hi
        refine ⟨fun z => ?_, fun z => ?_⟩
        · have := ds_inj H (by omega) (by omega) z.2; omega
        · have := ds_inj H (by omega) (by omega) z.1; omega
      · show ds_push (ds_pp R p d j) (p (j + 1)) (p j) d (p j * 12 + p (j + 1)) = _
        rw [ds_push_b a1 a2 ne, ds_ppn H j (by omega) _ _ a2 a1]
        intro i hi
        refine ⟨fun z => ?_, fun z => ?_⟩
        · have := ds_inj H (by omega) (by omega) z.2; omega
        · have := ds_inj H (by omega) (by omega) z.1; omega
    · have n1 : ¬ (p (j + 1) = p (k + 1) ∧ p j = p k) := fun z => by have := ds_inj H (by omega) (by omega) z.2; omega
      have n2 : ¬ (p (j + 1) = p k ∧ p j = p (k + 1)) := fun z => by have := ds_inj H (by omega) (by omega) z.2; omega
      have I := ih (by omega) j (by omega)
      constructor
      · show ds_push (ds_pp R p d k) (p (k + 1)) (p k) d (p (j + 1) * 12 + p j) = _
        rw [ds_push_n a1 a2 a3 a4 n1 n2]
        exact I.1
      · show ds_push (ds_pp R p d k) (p (k + 1)) (p k) d (p j * 12 + p (j + 1)) = _
        rw [ds_push_n a1 a2 a4 a3 (fun z => n2 ⟨z.2, z.1⟩) (fun z => n1 ⟨z.2, z.1⟩)]
        exact I.2
theorem ds_ppcut (H : ds_pth n R ac e L p) (A : Nat → Bool) : ∀ k, k ≤ L → ds_cut (ds_pp R p d k) A = ds_cut R A - d * (ds_b (A (p k)) - ds_b (A (p 0))) := by
  intro k
  induction k with
  | zero => intro _; show ds_cut R A = _; rw [Int.sub_self, Int.mul_zero, Int.sub_zero]
  | succ k ih =>
    intro hk
    have h4 := H.2.2.2.1
    have ne : p (k + 1) ≠ p k := fun z => by have := ds_inj H hk (by omega) z; omega
    show ds_cut (ds_push (ds_pp R p d k) (p (k + 1)) (p k) d) A = _
    rw [ds_cut_push (h4 (k + 1) hk).1 (h4 k (by omega)).1 ne, ih (by omega)]
    rw [Int.mul_sub, Int.mul_sub, Int.mul_sub]
    omega
/-- every pair is one of the way's, forth or back, or none of them -/
theorem ds_ppc (a b k : Nat) : (∃ j, j < k ∧ a = p (j + 1) ∧ b = p j) ∨ (∃ j, j < k ∧ a = p j ∧ b = p (j + 1)) ∨ (∀ j, j < k → ¬ (a = p (j + 1) ∧ b = p j) ∧ ¬ (a = p j ∧ b = p (j + 1))) := by
  by_cases h : ∃ j, j < k ∧ a = p (j + 1) ∧ b = p j
  · exact Or.inl h
  · by_cases h2 : ∃ j, j < k ∧ a = p j ∧ b = p (j + 1)
    · exact Or.inr (Or.inl h2)
    · exact Or.inr (Or.inr (fun j hj => ⟨fun z => h ⟨j, hj, z⟩, fun z => h2 ⟨j, hj, z⟩⟩))
theorem ds_pp_ok (H : ds_pth n R ac e L p) (K : ds_ok n R) (hd : 0 < d) (hm : ∀ i, i < L → d ≤ R (p (i + 1) * 12 + p i)) : ds_ok n (ds_pp R p d L) := by
  have h4 := H.2.2.2.1
  intro a b ha hb
  have k1 := K a b ha hb
  have k2 := K b a hb ha
  rcases ds_ppc (p := p) a b L with ⟨j, hj, e1, e2⟩ | ⟨j, hj, e1, e2⟩ | h
  · have f := ds_ppf (d := d) H L (Nat.le_refl L) j hj
    have m := hm j hj
    subst e1 e2
    rw [f.1, f.2]
    refine ⟨by omega, by omega, fun z => ?_⟩
    rcases z with z | z
    · exact absurd (h4 _ (by omega)).2.1 z
    · exact absurd (h4 _ (by omega)).2.1 z
  · have f := ds_ppf (d := d) H L (Nat.le_refl L) j hj
    have m := hm j hj
    subst e1 e2
    rw [f.1, f.2]
    refine ⟨by omega, by omega, fun z => ?_⟩
    rcases z with z | z
    · exact absurd (h4 _ (by omega)).2.1 z
    · exact absurd (h4 _ (by omega)).2.1 z
  · rw [ds_ppn H L (Nat.le_refl L) a b ha hb h, ds_ppn H L (Nat.le_refl L) b a hb ha (fun j hj => ⟨fun z => (h j hj).2 ⟨z.2, z.1⟩, fun z => (h j hj).1 ⟨z.2, z.1⟩⟩)]
    exact k1
theorem ds_pp_val (H : ds_pth n R ac e L p) (V : ds_val R e) : ds_val (ds_pp R p d L) e := by
  have h4 := H.2.2.2.1
  intro a b ha hb hp
  rcases ds_ppc (p := p) a b L with ⟨j, hj, e1, e2⟩ | ⟨j, hj, e1, e2⟩ | h
  · have l1 := (h4 j (by omega)).2.2
    have l2 := (h4 (j + 1) (by omega)).2.2
    subst e1 e2
    omega
  · have l1 := (h4 j (by omega)).2.2
    have l2 := (h4 (j + 1) (by omega)).2.2
    subst e1 e2
    omega
  · rw [ds_ppn H L (Nat.le_refl L) a b ha hb h] at hp
    exact V a b ha hb hp
theorem ds_pp_adm (H : ds_pth n R ac e L p) (hd : 0 < d) (hm : ∃ i, i < L ∧ d = R (p (i + 1) * 12 + p i)) : ds_adm (ds_pp R p d L) e + 1 ≤ ds_adm R e := by
  have h4 := H.2.2.2.1
  obtain ⟨i, hi, ei⟩ := hm
  have f := ds_ppf (d := d) H L (Nat.le_refl L) i hi
  have l1 := (h4 i (by omega)).2.2
  have l2 := (h4 (i + 1) (by omega)).2.2
  apply ds_adm_lt (x0 := p (i + 1)) (y0 := p i)
  · intro a b ha hb hab hp
    rcases ds_ppc (p := p) a b L with ⟨j, hj, e1, e2⟩ | ⟨j, hj, e1, e2⟩ | h
    · have f := ds_ppf (d := d) H L (Nat.le_refl L) j hj
      subst e1 e2
      omega
    · have l1 := (h4 j (by omega)).2.2
      have l2 := (h4 (j + 1) (by omega)).2.2
      subst e1 e2
      omega
    · rw [ds_ppn H L (Nat.le_refl L) a b ha hb h] at hp
      exact hp
  · exact (h4 (i + 1) (by omega)).1
  · exact (h4 i (by omega)).1
  · omega
  · omega
  · rw [f.1]; omega
end
end
section
/-! weights, sizes, values; the network of a price; its cuts -/
def ds_wt (n : Nat) (p ex : Nat → Int) (S : Nat → Bool) : Int := ds_sm (fun u => if S u = true then ex u + ds_sm (fun v => if S v = true then p (u * 10 + v) else 0) u else 0) n
def ds_kz (n : Nat) (S : Nat → Bool) : Int := ds_sm (fun u => if S u = true then 1 else 0) n
def ds_vl (n : Nat) (g c : Int) (p ex : Nat → Int) (S : Nat → Bool) : Int := g * ds_wt n p ex S - c * ds_kz n S
def ds_al (n : Nat) (m : Nat → Int32) (S : Nat → Bool) : Prop := ∀ u, u < n → (S u = true → m u ≠ 2) ∧ (S u = false → m u ≠ 1)
/-- what the relation keeps of the weights -/
def ds_gr (n : Nat) (p ex : Nat → Int) : Prop := 1 ≤ n ∧ n ≤ 10 ∧ (∀ j, 0 ≤ p j ∧ p j ≤ 20) ∧ (∀ j, 0 ≤ ex j ∧ ex j ≤ 20) ∧ (∀ u v, u < 10 → v < 10 → p (u * 10 + v) = p (v * 10 + u)) ∧ (∀ u, u < 10 → p (u * 10 + u) = 0)
theorem ds_wt_c {n : Nat} {p ex : Nat → Int} {S T : Nat → Bool} (h : ∀ u, u < n → S u = T u) : ds_wt n p ex S = ds_wt n p ex T := by
  apply ds_sm_c
  intro u hu
  try dsimp only
  rw [h u hu, ds_sm_c (f := fun v => if S v = true then p (u * 10 + v) else 0) (g := fun v => if T v = true then p (u * 10 + v) else 0)]
  intro v hv
  try dsimp only
  rw [h v (by omega)]
theorem ds_kz_c {n : Nat} {S T : Nat → Bool} (h : ∀ u, u < n → S u = T u) : ds_kz n S = ds_kz n T := by
  apply ds_sm_c
  intro u hu
  try dsimp only
  rw [h u hu]
theorem ds_vl_c {n : Nat} {g c : Int} {p ex : Nat → Int} {S T : Nat → Bool} (h : ∀ u, u < n → S u = T u) : ds_vl n g c p ex S = ds_vl n g c p ex T := by
  unfold ds_vl
  rw [ds_wt_c h, ds_kz_c h]
theorem ds_al_c {n : Nat} {m : Nat → Int32} {S T : Nat → Bool} (h : ∀ u, u < n → S u = T u) (a : ds_al n m S) : ds_al n m T := by
  intro u hu
  rw [← h u hu]
  exact a u hu
theorem ds_kz_b (n : Nat) (S : Nat → Bool) : 0 ≤ ds_kz n S ∧ ds_kz n S ≤ n := by
  constructor
  · apply ds_sm_ge
    intro j _
    try dsimp only
    split <;> omega
  · have := ds_sm_ub (n := n) (c := 1) (f := fun u => if S u = true then 1 else 0) (by intro j _; (try dsimp only); split <;> omega)
    rw [Int.mul_one] at this
    exact this
theorem ds_wt_b {n : Nat} {p ex : Nat → Int} (G : ds_gr n p ex) (S : Nat → Bool) : 0 ≤ ds_wt n p ex S ∧ ds_wt n p ex S ≤ 2200 := by
  obtain ⟨h1, h2, hp, he, _, _⟩ := G
  constructor
  · apply ds_sm_ge
    intro j _
    try dsimp only
    have := ds_sm_ge (n := j) (f := fun v => if S v = true then p (j * 10 + v) else 0) (by
      intro v _; (try dsimp only); have := hp (j * 10 + v); split <;> omega)
    have := he j
    split <;> omega
  · have := ds_sm_ub (n := n) (c := 220) (f := fun u => if S u = true then ex u + ds_sm (fun v => if S v = true then p (u * 10 + v) else 0) u else 0) (by
      intro j hj
      try dsimp only
      have := ds_sm_ub (n := j) (c := 20) (f := fun v => if S v = true then p (j * 10 + v) else 0) (by
        intro v _; (try dsimp only); have := hp (j * 10 + v); split <;> omega)
      have := he j
      split <;> omega)
    unfold ds_wt
    omega
theorem ds_wt_0 {n : Nat} {p ex : Nat → Int} {S : Nat → Bool} (h : ∀ u, u < n → S u = false) : ds_wt n p ex S = 0 := by
  apply ds_sm_0
  intro j hj
  try dsimp only
  rw [h j hj, if_neg (by decide)]
theorem ds_kz_0 {n : Nat} {S : Nat → Bool} : ds_kz n S = 0 ↔ ∀ u, u < n → S u = false := by
  constructor
  · intro h u hu
    have := ds_sm_one (f := fun u => if S u = true then 1 else 0) (n := n) (k := u) (by intro j _; (try dsimp only); split <;> omega) hu
    (try dsimp only at this)
    unfold ds_kz at h
    cases hS : S u
    · rfl
    · rw [if_pos hS] at this; omega
  · intro h
    apply ds_sm_0
    intro j hj
    try dsimp only
    rw [h j hj, if_neg (by decide)]
/-- a set within another of the same size is the same -/
theorem ds_kz_sub {n : Nat} {S T : Nat → Bool} (h : ∀ u, u < n → S u = true → T u = true) : ds_kz n S ≤ ds_kz n T ∧ (ds_kz n T ≤ ds_kz n S → ∀ u, u < n → S u = T u) := by
  have hj : ∀ j, j < n → (fun u => if S u = true then (1 : Int) else 0) j ≤ (fun u => if T u = true then (1 : Int) else 0) j := by
    intro j hj
    try dsimp only
    cases hS : S j
    · rw [if_neg (by decide)]; split <;> omega
    · rw [if_pos rfl, if_pos (h j hj hS)]; omega
  refine ⟨ds_sm_le hj, fun hle u hu => ?_⟩
  cases hS : S u
  · cases hT : T u
    · rfl
    · have := ds_sm_lt (k := u) hj hu (by (try dsimp only); rw [hS, hT, if_neg (by decide), if_pos rfl]; omega)
      unfold ds_kz at hle
      omega
  · rw [h u hu hS]
/-- a vertex's own amount -/
def ds_am (n : Nat) (g c : Int) (p ex : Nat → Int) (u : Nat) : Int := 2 * g * ex u - 2 * c + ds_sm (fun v => g * p (u * 10 + v)) n
def ds_net (n : Nat) (g c : Int) (p ex : Nat → Int) (m : Nat → Int32) (x y : Nat) : Int :=
  if x < n then (if y < n then g * p (x * 10 + y) else if y = 11 then (if m x = 2 then 1000000 else if ds_am n g c p ex x ≤ 0 then -ds_am n g c p ex x else 0) else 0)
  else if x = 10 then (if y < n then (if m y = 1 then 1000000 else if ds_am n g c p ex y ≤ 0 then 0 else ds_am n g c p ex y) else 0) else 0
def ds_isn (n : Nat) (g c : Int) (p ex : Nat → Int) (m : Nat → Int32) (R : Nat → Int) : Prop := ∀ x y, x < 12 → y < 12 → R (x * 12 + y) = ds_net n g c p ex m x y
section
variable {n : Nat} {g c : Int} {p ex : Nat → Int} {m : Nat → Int32} {R : Nat → Int} {A : Nat → Bool}
theorem ds_net_i {x y : Nat} (hx : x < n) (hy : y < n) : ds_net n g c p ex m x y = g * p (x * 10 + y) := by unfold ds_net; rw [if_pos hx, if_pos hy]
theorem ds_net_t {x : Nat} (hn : n ≤ 10) (hx : x < n) : ds_net n g c p ex m x 11 = if m x = 2 then 1000000 else if ds_am n g c p ex x ≤ 0 then -ds_am n g c p ex x else 0 := by unfold ds_net; rw [if_pos hx, if_neg (by omega), if_pos rfl]
theorem ds_net_s {y : Nat} (hn : n ≤ 10) (hy : y < n) : ds_net n g c p ex m 10 y = if m y = 1 then 1000000 else if ds_am n g c p ex y ≤ 0 then 0 else ds_am n g c p ex y := by unfold ds_net; rw [if_neg (by omega), if_pos rfl, if_pos hy]
theorem ds_net_x {x y : Nat} (hx : n ≤ x) (h : x ≠ 10) : ds_net n g c p ex m x y = 0 := by unfold ds_net; rw [if_neg (by omega), if_neg h]
theorem ds_net_y {x y : Nat} (hy : n ≤ y) (h : y ≠ 11) : ds_net n g c p ex m x y = 0 := by
  have hy' : ¬ y < n := by omega
  unfold ds_net
  simp [hy', h]
theorem ds_net_st (hn : n ≤ 10) : ds_net n g c p ex m 10 11 = 0 := by unfold ds_net; rw [if_neg (by omega), if_pos rfl, if_neg (by omega)]
theorem ds_gp (G : ds_gr n p ex) (hg : 1 ≤ g) (hg2 : g ≤ 20) (j : Nat) : 0 ≤ g * p j ∧ g * p j ≤ 400 := by
  obtain ⟨_, _, hp, _⟩ := G
  refine ⟨Int.mul_nonneg (by omega) (hp j).1, ?_⟩
  have h1 : g * p j ≤ g * 20 := Int.mul_le_mul_of_nonneg_left (hp j).2 (by omega)
  omega
theorem ds_ge (G : ds_gr n p ex) (hg : 1 ≤ g) (hg2 : g ≤ 20) (j : Nat) : 0 ≤ g * ex j ∧ g * ex j ≤ 400 := by
  obtain ⟨_, _, _, hp, _⟩ := G
  refine ⟨Int.mul_nonneg (by omega) (hp j).1, ?_⟩
  have h1 : g * ex j ≤ g * 20 := Int.mul_le_mul_of_nonneg_left (hp j).2 (by omega)
  omega
theorem ds_am_b (G : ds_gr n p ex) (hg : 1 ≤ g) (hg2 : g ≤ 20) (hc : 0 ≤ c) (hc2 : c ≤ 2000) (u : Nat) : -4000 ≤ ds_am n g c p ex u ∧ ds_am n g c p ex u ≤ 4800 := by
  have h1 := ds_sm_ge (n := n) (f := fun v => g * p (u * 10 + v)) (fun j _ => (ds_gp G hg hg2 _).1)
  have h2 := ds_sm_ub (n := n) (c := 400) (f := fun v => g * p (u * 10 + v)) (fun j _ => (ds_gp G hg hg2 _).2)
  have h3 := ds_ge G hg hg2 u
  have h4 := G.2.1
  unfold ds_am
  rw [Int.mul_assoc]
  omega
theorem ds_isn_ok (G : ds_gr n p ex) (hg : 1 ≤ g) (hg2 : g ≤ 20) (hc : 0 ≤ c) (hc2 : c ≤ 2000) (N : ds_isn n g c p ex m R) : ds_ok n R := by
  have hn := G.2.1
  have nn : ∀ x y, 0 ≤ ds_net n g c p ex m x y := by
    intro x y
    have h1 := (ds_gp G hg hg2 (x * 10 + y)).1
    have h2 := ds_am_b G hg hg2 hc hc2 x
    have h3 := ds_am_b G hg hg2 hc hc2 y
    unfold ds_net
    repeat' split
    all_goals omega
  have ub : ∀ x y, ds_net n g c p ex m x y ≤ 1000000 ∧ (x < n → y < n → ds_net n g c p ex m x y ≤ 400) := by
    intro x y
    have h1 := (ds_gp G hg hg2 (x * 10 + y)).2
    have h2 := ds_am_b G hg hg2 hc hc2 x
    have h3 := ds_am_b G hg hg2 hc hc2 y
    refine ⟨?_, fun hx hy => ?_⟩
    · unfold ds_net
      repeat' split
      all_goals omega
    · rw [ds_net_i hx hy]; exact h1
  intro a b ha hb
  rw [N a b ha hb, N b a hb ha]
  refine ⟨nn a b, ?_, fun z => ?_⟩
  · by_cases h1 : a < n
    · by_cases h2 : b < n
      · have := (ub a b).2 h1 h2
        have := (ub b a).2 h2 h1
        omega
      · have := (ub a b).1
        have := (ub b a).1
        by_cases h3 : b = 11
        · rw [ds_net_x (x := b) (by omega) (by omega)]; omega
        · rw [ds_net_y (y := b) (by omega) h3]; omega
    · have := (ub a b).1
      have := (ub b a).1
      by_cases h3 : a = 11
      · rw [ds_net_x (x := a) (by omega) (by omega)]; omega
      · rw [ds_net_y (y := a) (by omega) h3]; omega
  · unfold ds_nd at z
    rcases z with z | z
    · exact ds_net_x (by omega) (by omega)
    · exact ds_net_y (by omega) (by omega)
/-- a cut's capacity, vertex by vertex -/
theorem ds_cut_1 (hn : n ≤ 10) (N : ds_isn n g c p ex m R) (hs : A 10 = true) (ht : A 11 = false) : ds_cut R A = ds_sm (fun x => ds_sm (fun y => if A x = true ∧ A y = false then g * p (x * 10 + y) else 0) n + (if A x = true then ds_net n g c p ex m x 11 else ds_net n g c p ex m 10 x)) n := by
  have e1 : ds_cut R A = ds_sm (fun x => ds_sm (fun y => if A x = true ∧ A y = false then ds_net n g c p ex m x y else 0) 12) 12 := by
    apply ds_sm_c
    intro x hx
    apply ds_sm_c
    intro y hy
    try dsimp only
    rw [N x y hx hy]
  have in0 : ∀ x, ds_sm (fun y => if A x = true ∧ A y = false then ds_net n g c p ex m x y else 0) 12 = ds_sm (fun y => if A x = true ∧ A y = false then ds_net n g c p ex m x y else 0) n + (if A x = true then ds_net n g c p ex m x 11 else 0) := by
    intro x
    rw [ds_sm_12 hn]
    · rw [hs, ht]
      rw [if_neg (by intro z; exact absurd z.2 (by decide))]
      by_cases h : A x = true
      · rw [if_pos ⟨h, rfl⟩, if_pos h]; omega
      · rw [if_neg (fun z => h z.1), if_neg h]; omega
    · intro j h1 h2
      try dsimp only
      rw [ds_net_y h1 (by omega)]
      split <;> rfl
  rw [e1, ds_sm_c (fun x _ => in0 x), ds_sm_12 hn]
  · rw [hs, ht, ds_net_st hn]
    have z11 : ds_sm (fun y => if false = true ∧ A y = false then ds_net n g c p ex m 11 y else 0) n + (if false = true then ds_net n g c p ex m 11 11 else 0) = 0 := by
      rw [if_neg (by decide), ds_sm_0]
      · rfl
      · intro j _; (try dsimp only); rw [if_neg (by intro z; exact absurd z.1 (by decide))]
    rw [z11, if_pos rfl, Int.add_zero, Int.add_zero, ← ds_sm_a]
    apply ds_sm_c
    intro x hx
    try dsimp only
    rw [ds_sm_c (f := fun y => if A x = true ∧ A y = false then ds_net n g c p ex m x y else 0) (g := fun y => if A x = true ∧ A y = false then g * p (x * 10 + y) else 0) (fun y hy => by (try dsimp only); rw [ds_net_i hx hy])]
    cases hA : A x
    · rw [if_neg (by decide), if_pos ⟨rfl, rfl⟩, if_neg (by decide)]; omega
    · rw [if_pos rfl, if_neg (by intro z; exact absurd z.2 (by decide)), if_pos rfl]; omega
  · intro j h1 h2
    try dsimp only
    rw [ds_net_x h1 (by omega), ds_sm_0]
    · split <;> rfl
    · intro y _; (try dsimp only); rw [ds_net_x h1 (by omega)]; split <;> rfl
def ds_mx (z : Int) : Int := if z ≤ 0 then 0 else z
/-- .. of an allowed set: a constant less twice the set's value -/
theorem ds_cut_2 (G : ds_gr n p ex) (N : ds_isn n g c p ex m R) (hs : A 10 = true) (ht : A 11 = false) (al : ds_al n m A) : ds_cut R A = ds_sm (fun x => ds_mx (ds_am n g c p ex x)) n - 2 * ds_vl n g c p ex A := by
  obtain ⟨h1, hn, hp, he, hsy, hdg⟩ := G
  rw [ds_cut_1 hn N hs ht]
  have e1 : ∀ x, x < n → ds_sm (fun y => if A x = true ∧ A y = false then g * p (x * 10 + y) else 0) n + (if A x = true then ds_net n g c p ex m x 11 else ds_net n g c p ex m 10 x) = ds_mx (ds_am n g c p ex x) - (2 * (g * (if A x = true then ex x else 0)) - 2 * (c * (if A x = true then 1 else 0)) + g * ds_sm (fun y => if A x = true ∧ A y = true then p (x * 10 + y) else 0) n) := by
    intro x hx
    cases hA : A x
    · have hm := (al x hx).2 hA
      rw [if_neg (by decide), if_neg (by decide), if_neg (by decide), ds_net_s hn hx, if_neg hm]
      rw [ds_sm_0 (f := fun y => if false = true ∧ A y = false then g * p (x * 10 + y) else 0) (by intro y _; (try dsimp only); rw [if_neg (by intro z; exact absurd z.1 (by decide))])]
      rw [ds_sm_0 (f := fun y => if false = true ∧ A y = true then p (x * 10 + y) else 0) (by intro y _; (try dsimp only); rw [if_neg (by intro z; exact absurd z.1 (by decide))])]
      unfold ds_mx
      omega
    · have hm := (al x hx).1 hA
      rw [if_pos rfl, if_pos rfl, if_pos rfl, ds_net_t hn hx, if_neg hm]
      have e2 : ds_sm (fun y => g * p (x * 10 + y)) n = ds_sm (fun y => if true = true ∧ A y = false then g * p (x * 10 + y) else 0) n + g * ds_sm (fun y => if true = true ∧ A y = true then p (x * 10 + y) else 0) n := by
        rw [← ds_sm_m, ← ds_sm_a]
        apply ds_sm_c
        intro y hy
        try dsimp only
        cases hB : A y
        · rw [if_pos ⟨rfl, rfl⟩, if_neg (by intro z; exact absurd z.2 (by decide))]; omega
        · rw [if_neg (by intro z; exact absurd z.2 (by decide)), if_pos ⟨rfl, rfl⟩]; omega
      have e3 : ds_am n g c p ex x = 2 * (g * ex x) - 2 * c + ds_sm (fun y => g * p (x * 10 + y)) n := by unfold ds_am; rw [Int.mul_assoc]
      generalize ds_am n g c p ex x = a at *
      generalize ds_sm (fun y => if true = true ∧ A y = false then g * p (x * 10 + y) else 0) n = s1 at *
      generalize g * ds_sm (fun y => if true = true ∧ A y = true then p (x * 10 + y) else 0) n = s2 at *
      unfold ds_mx
      rw [Int.mul_one]
      split <;> omega
  rw [ds_sm_c e1, ds_sm_s, ds_sm_a, ds_sm_s, ds_sm_m, ds_sm_m, ds_sm_m, ds_sm_m, ds_sm_m]
  have e2 : ds_sm (fun x => ds_sm (fun y => if A x = true ∧ A y = true then p (x * 10 + y) else 0) n) n = 2 * ds_sm (fun x => ds_sm (fun y => if A x = true ∧ A y = true then p (x * 10 + y) else 0) x) n := by
    apply ds_sm_sq
    · intro i j hi hj
      try dsimp only
      rw [hsy i j (by omega) (by omega)]
      by_cases z : A i = true ∧ A j = true
      · rw [if_pos z, if_pos ⟨z.2, z.1⟩]
      · rw [if_neg z, if_neg (fun w => z ⟨w.2, w.1⟩)]
    · intro i hi
      try dsimp only
      rw [hdg i (by omega)]
      split <;> rfl
  have e3 : ds_wt n p ex A = ds_sm (fun x => if A x = true then ex x else 0) n + ds_sm (fun x => ds_sm (fun y => if A x = true ∧ A y = true then p (x * 10 + y) else 0) x) n := by
    unfold ds_wt
    rw [← ds_sm_a]
    apply ds_sm_c
    intro x hx
    try dsimp only
    cases hA : A x
    · rw [if_neg (by decide), if_neg (by decide), ds_sm_0]
      · rfl
      · intro y _; (try dsimp only); rw [if_neg (by intro z; exact absurd z.1 (by decide))]
    · rw [if_pos rfl, if_pos rfl]
      congr 1
      apply ds_sm_c
      intro y hy
      try dsimp only
      by_cases z : A y = true
      · rw [if_pos z, if_pos ⟨rfl, z⟩]
      · rw [if_neg z, if_neg (fun w => z w.2)]
  unfold ds_vl ds_kz
  rw [e2, e3, Int.mul_add]
  generalize ds_sm (fun x => ds_sm (fun y => if A x = true ∧ A y = true then p (x * 10 + y) else 0) x) n = T
  rw [show g * (2 * T) = 2 * (g * T) from by rw [← Int.mul_assoc, Int.mul_comm g 2, Int.mul_assoc]]
  generalize g * T = gT
  generalize g * ds_sm (fun x => if A x = true then ex x else 0) n = gE
  generalize c * ds_sm (fun x => if A x = true then 1 else 0) n = cK
  omega
/-- a set that isn't allowed has an endless edge in its cut -/
theorem ds_cut_3 (G : ds_gr n p ex) (hg : 1 ≤ g) (hg2 : g ≤ 20) (hc : 0 ≤ c) (hc2 : c ≤ 2000) (N : ds_isn n g c p ex m R) (hs : A 10 = true) (ht : A 11 = false) (al : ds_cut R A < 1000000) : ds_al n m A := by
  have hn := G.2.1
  rw [ds_cut_1 hn N hs ht] at al
  have nn : ∀ x, x < n → 0 ≤ (fun x => ds_sm (fun y => if A x = true ∧ A y = false then g * p (x * 10 + y) else 0) n + (if A x = true then ds_net n g c p ex m x 11 else ds_net n g c p ex m 10 x)) x := by
    intro x hx
    try dsimp only
    have h1 := ds_sm_ge (n := n) (f := fun y => if A x = true ∧ A y = false then g * p (x * 10 + y) else 0) (by
      intro y _; (try dsimp only); have := (ds_gp G hg hg2 (x * 10 + y)).1; split <;> omega)
    have h2 := ds_am_b G hg hg2 hc hc2 x
    rw [ds_net_t hn hx, ds_net_s hn hx]
    repeat' split
    all_goals omega
  intro u hu
  have h1 := ds_sm_one nn hu
  (try dsimp only at h1)
  have h2 := ds_sm_ge (n := n) (f := fun y => if A u = true ∧ A y = false then g * p (u * 10 + y) else 0) (by
      intro y _; (try dsimp only); have := (ds_gp G hg hg2 (u * 10 + y)).1; split <;> omega)
  rw [ds_net_t hn hu, ds_net_s hn hu] at h1
  constructor
  · intro hA hm
    rw [if_pos hA, if_pos hm] at h1
    omega
  · intro hA hm
    rw [if_neg (c := A u = true) (by rw [hA]; decide), if_pos hm] at h1
    omega
theorem ds_vl_b (G : ds_gr n p ex) (hg : 1 ≤ g) (hg2 : g ≤ 20) (hc : 0 ≤ c) (hc2 : c ≤ 2000) (S : Nat → Bool) : -20000 ≤ ds_vl n g c p ex S ∧ ds_vl n g c p ex S ≤ 44000 := by
  have w := ds_wt_b G S
  have k := ds_kz_b n S
  have hn := G.2.1
  have a1 : 0 ≤ g * ds_wt n p ex S := Int.mul_nonneg (by omega) w.1
  have a2 : g * ds_wt n p ex S ≤ 20 * 2200 := Int.mul_le_mul hg2 w.2 w.1 (by omega)
  have a3 : 0 ≤ c * ds_kz n S := Int.mul_nonneg hc k.1
  have a4 : c * ds_kz n S ≤ 2000 * 10 := Int.mul_le_mul hc2 (by omega) k.1 (by omega)
  unfold ds_vl
  omega
theorem ds_cut_4 (G : ds_gr n p ex) (hg : 1 ≤ g) (hg2 : g ≤ 20) (hc : 0 ≤ c) (hc2 : c ≤ 2000) (N : ds_isn n g c p ex m R) (hs : A 10 = true) (ht : A 11 = false) (al : ds_al n m A) : ds_cut R A < 1000000 := by
  rw [ds_cut_2 G N hs ht al]
  have hn := G.2.1
  have v := ds_vl_b G hg hg2 hc hc2 A
  have k := ds_sm_ub (n := n) (c := 4800) (f := fun x => ds_mx (ds_am n g c p ex x)) (by
    intro x _
    have := ds_am_b G hg hg2 hc hc2 x
    try dsimp only
    unfold ds_mx
    split <;> omega)
  omega
/-- a set of vertices with the source -/
def ds_st (B : Nat → Bool) : Nat → Bool := fun z => if z = 10 then true else if z = 11 then false else B z
theorem ds_st_c {B : Nat → Bool} (hn : n ≤ 10) : ∀ u, u < n → ds_st B u = B u := by
  intro u hu
  unfold ds_st
  rw [if_neg (by omega), if_neg (by omega)]
/-- THE CUT: the sink's side T grown backwards in the last residuals -/
theorem ds_fin {R0 : Nat → Int} {K : Int} {S : Nat → Bool} (G : ds_gr n p ex) (hg : 1 ≤ g) (hg2 : g ≤ 20) (hc : 0 ≤ c) (hc2 : c ≤ 2000) (N : ds_isn n g c p ex m R0)
    (ok : ds_ok n R) (hv : ∀ A : Nat → Bool, A 10 = true → A 11 = false → ds_cut R A = ds_cut R0 A - K)
    (s1 : S 10 = true) (s2 : S 11 = false) (cl : ∀ x y, x < 12 → y < 12 → ds_nd n x → S y = false → 0 < R (x * 12 + y) → S x = false)
    (le : ∀ P : Nat → Prop, P 11 → (∀ x y, x < 12 → y < 12 → P y → 0 < R (x * 12 + y) → P x) → ∀ z, z < 12 → S z = false → P z) :
    ds_al n m S ∧ ∀ B : Nat → Bool, ds_al n m B → ds_vl n g c p ex B ≤ ds_vl n g c p ex S ∧ (ds_vl n g c p ex B = ds_vl n g c p ex S → ∀ u, u < n → B u = true → S u = true) := by
  have hn := G.2.1
  have z0 : ds_cut R S = 0 := by
    apply ds_sm_0
    intro x hx
    apply ds_sm_0
    intro y hy
    try dsimp only
    by_cases h : S x = true ∧ S y = false
    · rw [if_pos h]
      have o := ok x y hx hy
      by_cases nx : ds_nd n x
      · by_cases q : 0 < R (x * 12 + y)
        · have := cl x y hx hy nx h.2 q
          rw [h.1] at this
          exact absurd this (by decide)
        · omega
      · exact o.2.2 (Or.inl nx)
    · rw [if_neg h]
  have nn : ∀ A : Nat → Bool, 0 ≤ ds_cut R A := by
    intro A
    apply ds_sm_ge
    intro x hx
    apply ds_sm_ge
    intro y hy
    try dsimp only
    have := (ok x y hx hy).1
    split <;> omega
  have mn : ∀ A : Nat → Bool, A 10 = true → A 11 = false → ds_cut R0 S ≤ ds_cut R0 A := by
    intro A h1 h2
    have a1 := hv A h1 h2
    have a2 := hv S s1 s2
    have a3 := nn A
    omega
  have pin : ds_al n m (ds_st (fun u => decide (m u = 1))) := by
    intro u hu
    rw [ds_st_c hn u hu]
    refine ⟨fun h h2 => ?_, fun h => of_decide_eq_false h⟩
    have := of_decide_eq_true h
    rw [this] at h2
    exact absurd h2 (by decide)
  have alS : ds_al n m S := by
    apply ds_cut_3 G hg hg2 hc hc2 N s1 s2
    have h1 := ds_cut_4 G hg hg2 hc hc2 N (A := ds_st (fun u => decide (m u = 1))) rfl rfl pin
    have h2 := mn (ds_st (fun u => decide (m u = 1))) rfl rfl
    omega
  refine ⟨alS, fun B alB => ?_⟩
  have alB' : ds_al n m (ds_st B) := ds_al_c (fun u hu => (ds_st_c hn u hu).symm) alB
  have m1 := mn (ds_st B) rfl rfl
  have c1 := ds_cut_2 G N s1 s2 alS
  have c2 := ds_cut_2 G N (A := ds_st B) rfl rfl alB'
  rw [ds_vl_c (S := ds_st B) (T := B) (ds_st_c hn)] at c2
  refine ⟨by omega, fun heq u hu hB => ?_⟩
  have a1 := hv (ds_st B) rfl rfl
  have a2 := hv S s1 s2
  have zB : ds_cut R (ds_st B) = 0 := by omega
  have out : ∀ x y, x < 12 → y < 12 → ds_st B x = true → ds_st B y = false → ¬ 0 < R (x * 12 + y) := by
    intro x y hx hy h1 h2 h3
    have i1 : ∀ a, a < 12 → ∀ b, b < 12 → 0 ≤ (fun b => if ds_st B a = true ∧ ds_st B b = false then R (a * 12 + b) else 0) b := by
      intro a ha b hb
      try dsimp only
      have := (ok a b ha hb).1
      split <;> omega
    have j1 := ds_sm_one (i1 x hx) hy
    have j2 := ds_sm_one (f := fun x => ds_sm (fun y => if ds_st B x = true ∧ ds_st B y = false then R (x * 12 + y) else 0) 12) (n := 12) (fun a ha => ds_sm_ge (i1 a ha)) hx
    (try dsimp only at j1 j2)
    rw [if_pos ⟨h1, h2⟩] at j1
    unfold ds_cut at zB
    omega
  have hS := le (fun z => z < 12 → ds_st B z = false) (fun _ => rfl) (by
    intro x y hx hy hP hR _
    cases q : ds_st B x
    · rfl
    · exact absurd hR (out x y hx hy q (hP hy)))
  cases q : S u
  · have := hS u (by omega) q (by omega)
    rw [ds_st_c hn u hu, hB] at this
    exact absurd this (by decide)
  · rfl
end
end
section
/-! the forward search, in plain Lean -/
def ds_rc (ac : Nat → Int32) (z : Nat) : Prop := 0 ≤ (ac z).toInt
def ds_bfs (n : Nat) (R : Nat → Int) (ac aq : Nat → Int32) (d q : Nat → Nat) (e : Nat) : Prop :=
  1 ≤ e ∧ q 0 = 10 ∧ d 10 = 0 ∧ ds_sm (fun z => if 0 ≤ (ac z).toInt then 1 else 0) 12 = e ∧
  (∀ j, j < e → q j < 12 ∧ aq j = nI (q j) ∧ ds_nd n (q j) ∧ ds_rc ac (q j) ∧ d (q j) ≤ j) ∧
  (∀ z, z < 12 → ds_rc ac z → ∃ j, j < e ∧ q j = z) ∧
  (∀ j k, j ≤ k → k < e → d (q j) ≤ d (q k)) ∧
  (∀ z, z < 12 → ds_rc ac z → z ≠ 10 → ∃ x, x < 12 ∧ ac z = nI x ∧ ds_rc ac x ∧ 0 < R (x * 12 + z) ∧ d z = d x + 1)
def ds_bcl (n : Nat) (R : Nat → Int) (ac : Nat → Int32) (d : Nat → Nat) (x y : Nat) : Prop := ∀ b, b < y → ds_nd n b → 0 < R (x * 12 + b) → ds_rc ac b ∧ d b ≤ d x + 1
def ds_bfi (n : Nat) (R : Nat → Int) (ac aq : Nat → Int32) (d q : Nat → Nat) (e i x y : Nat) : Prop :=
  ds_bfs n R ac aq d q e ∧ i < e ∧ q i = x ∧ (∀ j, j < e → d (q j) ≤ d x + 1) ∧ (∀ j, j < i → ds_bcl n R ac d (q j) 12) ∧ ds_bcl n R ac d x y
def ds_bfo (n : Nat) (R : Nat → Int) (ac aq : Nat → Int32) (d q : Nat → Nat) (e i : Nat) : Prop :=
  ds_bfs n R ac aq d q e ∧ i ≤ e ∧ (i < e → ∀ j, j < e → d (q j) ≤ d (q i) + 1) ∧ (∀ j, j < i → ds_bcl n R ac d (q j) 12)
theorem ds_cnt_ub (ac : Nat → Int32) : ds_sm (fun z => if 0 ≤ (ac z).toInt then 1 else 0) 12 ≤ 12 :=
  ds_sm_ub (n := 12) (c := 1) (f := fun z => if 0 ≤ (ac z).toInt then 1 else 0) (by intro j _; (try dsimp only); split <;> omega)
theorem ds_bfs_e {n : Nat} {R : Nat → Int} {ac aq : Nat → Int32} {d q : Nat → Nat} {e : Nat} (h : ds_bfs n R ac aq d q e) : e ≤ 12 := by
  have h1 := h.2.2.2.1
  have h2 := ds_cnt_ub ac
  omega
theorem ds_rc_n {ac : Nat → Int32} {z x : Nat} (h : ac z = nI x) (hx : x < 12) : ds_rc ac z := by
  unfold ds_rc
  rw [h, nI_toInt (by omega)]
  omega
theorem ds_rc_s {ac : Nat → Int32} {y x : Nat} (hx : x < 12) : ds_rc (upd ac y (nI x)) y := ds_rc_n pk_us hx
theorem ds_rc_u {ac : Nat → Int32} {y x z : Nat} (hx : x < 12) (h : ds_rc ac z) : ds_rc (upd ac y (nI x)) z := by
  by_cases e : z = y
  · subst e; exact ds_rc_s hx
  · unfold ds_rc
    rw [pk_un e]
    exact h
theorem ds_rc_1 {ac : Nat → Int32} {z : Nat} (h : ds_rc ac z) : (if 0 ≤ (ac z).toInt then (1 : Int) else 0) = 1 := if_pos h
theorem ds_rc_0 {ac : Nat → Int32} {z : Nat} (h : ¬ ds_rc ac z) : (if 0 ≤ (ac z).toInt then (1 : Int) else 0) = 0 := if_neg h
section
variable {n : Nat} {R : Nat → Int} {ac aq : Nat → Int32} {d q : Nat → Nat} {e i x y : Nat}
theorem ds_bfi_skip (h : ds_bfi n R ac aq d q e i x y) (hy : y < 12) (h2 : ¬ ds_nd n y ∨ ¬ 0 < R (x * 12 + y) ∨ ds_rc ac y) : ds_bfi n R ac aq d q e i x (y + 1) := by
  obtain ⟨B, h3, h4, h5, h6, h7⟩ := h
  refine ⟨B, h3, h4, h5, h6, ?_⟩
  intro b hb nb rb
  by_cases eb : b = y
  · subst eb
    rcases h2 with h2 | h2 | h2
    · exact absurd nb h2
    · exact absurd rb h2
    · obtain ⟨j, hj, ej⟩ := B.2.2.2.2.2.1 b hy h2
      have := h5 j hj
      rw [ej] at this
      exact ⟨h2, this⟩
  · exact h7 b (by omega) nb rb
theorem ds_bfi_add (h : ds_bfi n R ac aq d q e i x y) (hy : y < 12) (ny : ds_nd n y) (ry : 0 < R (x * 12 + y)) (cy : ¬ ds_rc ac y) :
    e < 12 ∧ ds_bfi n R (upd ac y (nI x)) (upd aq e (nI y)) (fun z => if z = y then d x + 1 else d z) (fun j => if j = e then y else q j) (e + 1) i x (y + 1) := by
  obtain ⟨⟨b1, b2, b3, b4, b5, b6, b7, b8⟩, h3, h4, h5, h6, h7⟩ := h
  have hx : x < 12 := by rw [← h4]; exact (b5 i h3).1
  have ne : ∀ j, j < e → q j ≠ y := fun j hj z => cy (z ▸ (b5 j hj).2.2.2.1)
  have n10 : (10 : Nat) ≠ y := by rw [← b2]; exact ne 0 (by omega)
  have nx : x ≠ y := by rw [← h4]; exact ne i h3
  have cnt : ds_sm (fun z => if 0 ≤ (upd ac y (nI x) z).toInt then 1 else 0) 12 = ((e + 1 : Nat) : Int) := by
    rw [ds_sm_c (g := fun z => if z = y then 1 else (fun z => if 0 ≤ (ac z).toInt then 1 else 0) z)]
    · rw [ds_sm_p, if_pos hy, b4]
      (try dsimp only)
      rw [ds_rc_0 cy]
      omega
    · intro z hz
      (try dsimp only)
      by_cases ez : z = y
      · subst ez
        rw [if_pos rfl, ds_rc_1 (ds_rc_s hx)]
      · rw [if_neg ez, pk_un ez]
  have e12 : e < 12 := by
    have := ds_cnt_ub (upd ac y (nI x))
    omega
  have dq : ∀ j, j < e → (fun z => if z = y then d x + 1 else d z) ((fun j => if j = e then y else q j) j) = d (q j) := by
    intro j hj
    (try dsimp only)
    rw [if_neg (show ¬ j = e by omega), if_neg (ne j hj)]
  have dqe : (fun z => if z = y then d x + 1 else d z) ((fun j => if j = e then y else q j) e) = d x + 1 := by
    (try dsimp only)
    rw [if_pos rfl, if_pos rfl]
  have qj : ∀ j, j < e → (fun j => if j = e then y else q j) j = q j := by
    intro j hj
    (try dsimp only)
    rw [if_neg (by omega)]
  have qe : (fun j => if j = e then y else q j) e = y := if_pos rfl
  have dx : (fun z => if z = y then d x + 1 else d z) x = d x := if_neg nx
  have dz : ∀ z, z ≠ y → (fun z => if z = y then d x + 1 else d z) z = d z := fun z hz => if_neg hz
  have dy : (fun z => if z = y then d x + 1 else d z) y = d x + 1 := if_pos rfl
  refine ⟨e12, ⟨?_, ?_, ?_, cnt, ?_, ?_, ?_, ?_⟩, by omega, ?_, ?_, ?_, ?_⟩
  · omega
  · rw [qj 0 (by omega)]; exact b2
  · rw [dz 10 n10]; exact b3
  · intro j hj
    by_cases ej : j = e
    · subst ej
      rw [dqe, qe]
      have := (b5 i h3).2.2.2.2
      rw [h4] at this
      exact ⟨hy, pk_us, ny, ds_rc_s hx, by omega⟩
    · have := b5 j (by omega)
      rw [dq j (by omega), qj j (by omega), pk_un ej]
      exact ⟨this.1, this.2.1, this.2.2.1, ds_rc_u hx this.2.2.2.1, this.2.2.2.2⟩
  · intro z hz rz
    by_cases ez : z = y
    · exact ⟨e, by omega, by rw [qe, ez]⟩
    · have rz' : ds_rc ac z := by
        unfold ds_rc at rz
        rw [pk_un ez] at rz
        exact rz
      obtain ⟨j, hj, ej⟩ := b6 z hz rz'
      exact ⟨j, by omega, by rw [qj j hj]; exact ej⟩
  · intro j k hjk hk
    by_cases ek : k = e
    · subst ek
      rw [dqe]
      by_cases ej : j = k
      · subst ej; rw [dqe]; omega
      · rw [dq j (by omega)]
        exact h5 j (by omega)
    · rw [dq j (by omega), dq k (by omega)]
      exact b7 j k hjk (by omega)
  · intro z hz rz z10
    by_cases ez : z = y
    · subst ez
      refine ⟨x, hx, pk_us, ds_rc_u hx ?_, ry, ?_⟩
      · rw [← h4]; exact (b5 i h3).2.2.2.1
      · rw [dy, dx]
    · have rz' : ds_rc ac z := by
        unfold ds_rc at rz
        rw [pk_un ez] at rz
        exact rz
      obtain ⟨w, hw, a1, a2, a3, a4⟩ := b8 z hz rz' z10
      refine ⟨w, hw, by rw [pk_un ez]; exact a1, ds_rc_u hx a2, a3, ?_⟩
      have wy : w ≠ y := fun q => cy (q ▸ a2)
      rw [dz z ez, dz w wy]; exact a4
  · rw [qj i h3]; exact h4
  · intro j hj
    rw [dx]
    by_cases ej : j = e
    · subst ej; rw [dqe]; omega
    · rw [dq j (by omega)]; exact h5 j (by omega)
  · intro j hj b hb nb rb
    rw [qj j (by omega)] at rb ⊢
    have := h6 j hj b hb nb rb
    have by' : b ≠ y := fun q => cy (q ▸ this.1)
    rw [dz b by', dz (q j) (ne j (by omega))]
    exact ⟨ds_rc_u hx this.1, this.2⟩
  · intro b hb nb rb
    rw [dx]
    by_cases eb : b = y
    · subst eb
      rw [dy]
      exact ⟨ds_rc_s hx, by omega⟩
    · have := h7 b (by omega) nb rb
      rw [dz b eb]
      exact ⟨ds_rc_u hx this.1, this.2⟩
theorem ds_bfi_in (h : ds_bfo n R ac aq d q e i) (hi : i < e) : ds_bfi n R ac aq d q e i (q i) 0 := ⟨h.1, hi, rfl, h.2.2.1 hi, h.2.2.2, fun b hb => by omega⟩
theorem ds_bfi_out (h : ds_bfi n R ac aq d q e i x 12) : ds_bfo n R ac aq d q e (i + 1) := by
  obtain ⟨B, h3, h4, h5, h6, h7⟩ := h
  refine ⟨B, by omega, fun hi j hj => ?_, fun j hj => ?_⟩
  · have a1 := h5 j hj
    have a2 := B.2.2.2.2.2.2.1 i (i + 1) (by omega) hi
    rw [h4] at a2
    omega
  · by_cases ej : j = i
    · subst ej; rw [h4]; exact h7
    · exact h6 j (by omega)
/-- the search begins -/
theorem ds_bfo_0 (h : ∀ j, j < 12 → ac j = -1) : ds_bfo n R (upd ac 10 10) (upd aq 0 10) (fun _ => 0) (fun _ => 10) 1 0 := by
  have m1 : (-1 : Int32).toInt = -1 := by decide
  have t10 : (10 : Int32).toInt = 10 := by decide
  have r10 : ds_rc (upd ac 10 10) 10 := by
    unfold ds_rc
    rw [pk_us, t10]; omega
  have nr : ∀ z, z < 12 → z ≠ 10 → ¬ ds_rc (upd ac 10 10) z := by
    intro z hz h10
    unfold ds_rc
    rw [pk_un h10, h z hz, m1]; omega
  refine ⟨⟨by omega, rfl, rfl, ?_, ?_, ?_, ?_, ?_⟩, by omega, ?_, ?_⟩
  · rw [ds_sm_c (g := fun z => if z = 10 then 1 else (fun _ => 0) z)]
    · rw [ds_sm_p, if_pos (by omega), ds_sm_0 (fun _ _ => rfl)]
      rfl
    · intro z hz
      (try dsimp only)
      by_cases ez : z = 10
      · subst ez
        rw [if_pos rfl, ds_rc_1 r10]
      · rw [if_neg ez, ds_rc_0 (nr z hz ez)]
  · intro j hj
    have : j = 0 := by omega
    subst this
    exact ⟨by decide, pk_us, Or.inr (Nat.le_refl 10), r10, Nat.le_refl 0⟩
  · intro z hz rz
    by_cases ez : z = 10
    · exact ⟨0, by omega, ez.symm⟩
    · exact absurd rz (nr z hz ez)
  · intro j k _ _; exact Nat.le_refl _
  · intro z hz rz z10; exact absurd rz (nr z hz z10)
  · intro _ j _; (try dsimp only); omega
  · intro j hj; omega
/-- what it leaves -/
def ds_way (n : Nat) (R : Nat → Int) (ac : Nat → Int32) (d : Nat → Nat) : Prop :=
  d 10 = 0 ∧ (∀ z, z < 12 → ds_rc ac z → ds_nd n z ∧ d z ≤ 11 ∧ (z ≠ 10 → ∃ x, x < 12 ∧ ac z = nI x ∧ ds_rc ac x ∧ 0 < R (x * 12 + z) ∧ d z = d x + 1)) ∧ ds_val R d
def ds_clo (R : Nat → Int) (ac : Nat → Int32) : Prop := ds_rc ac 10 ∧ ∀ a b, a < 12 → b < 12 → ds_rc ac a → 0 < R (a * 12 + b) → ds_rc ac b
theorem ds_bfo_end (K : ds_ok n R) (h : ds_bfo n R ac aq d q e e) : (∃ D, ds_way n R ac D) ∧ ds_clo R ac := by
  obtain ⟨B, _, _, h6⟩ := h
  have e12 := ds_bfs_e B
  obtain ⟨b1, b2, b3, b4, b5, b6, b7, b8⟩ := B
  have r10 : ds_rc ac 10 := by rw [← b2]; exact (b5 0 (by omega)).2.2.2.1
  have ext : ∃ D : Nat → Nat, (∀ z, ds_rc ac z → D z = d z) ∧ (∀ z, ¬ ds_rc ac z → D z = 100) := by
    refine ⟨fun z => if 0 ≤ (ac z).toInt then d z else 100, fun z hz => if_pos hz, fun z hz => if_neg hz⟩
  obtain ⟨D, D1, D2⟩ := ext
  have dn : ∀ z, z < 12 → ds_rc ac z → d z ≤ 11 := by
    intro z hz rz
    obtain ⟨j, hj, ej⟩ := b6 z hz rz
    have := (b5 j hj).2.2.2.2
    rw [ej] at this
    omega
  have cl : ∀ a b, a < 12 → b < 12 → ds_rc ac a → 0 < R (a * 12 + b) → ds_rc ac b ∧ d b ≤ d a + 1 := by
    intro a b ha hb ra rb
    obtain ⟨j, hj, ej⟩ := b6 a ha ra
    have nb : ds_nd n b := by
      rcases Classical.em (ds_nd n b) with z | z
      · exact z
      · have := (K a b ha hb).2.2 (Or.inr z)
        omega
    have := h6 j hj b hb nb (by rw [ej]; exact rb)
    rw [ej] at this
    exact this
  refine ⟨⟨D, ?_, ?_, ?_⟩, r10, fun a b ha hb ra rb => (cl a b ha hb ra rb).1⟩
  · rw [D1 10 r10]; exact b3
  · intro z hz rz
    refine ⟨?_, ?_, fun z10 => ?_⟩
    · obtain ⟨j, hj, ej⟩ := b6 z hz rz
      rw [← ej]; exact (b5 j hj).2.2.1
    · rw [D1 z rz]; exact dn z hz rz
    · obtain ⟨x, hx, a1, a2, a3, a4⟩ := b8 z hz rz z10
      exact ⟨x, hx, a1, a2, a3, by rw [D1 z rz, D1 x a2]; exact a4⟩
  · intro a b ha hb hR
    rcases Classical.em (ds_rc ac a) with ra | ra
    · obtain ⟨rb, db⟩ := cl a b ha hb ra hR
      rw [D1 a ra, D1 b rb]; exact db
    · rw [D2 a ra]
      rcases Classical.em (ds_rc ac b) with rb | rb
      · rw [D1 b rb]
        have := dn b hb rb
        omega
      · rw [D2 b rb]; omega
end
/-- the way itself, for labels E that are valid and at the sink no less -/
theorem ds_way_pth {n : Nat} {R : Nat → Int} {ac : Nat → Int32} {d E : Nat → Nat} (W : ds_way n R ac d) (h11 : ds_rc ac 11) (V : ds_val R E) (E0 : E 10 = 0) (E1 : d 11 ≤ E 11) : ∃ p, ds_pth n R ac E (d 11) p := by
  obtain ⟨w0, w1, _⟩ := W
  have le : ∀ k z, z < 12 → ds_rc ac z → d z = k → E z ≤ k := by
    intro k
    induction k with
    | zero =>
      intro z hz rz hk
      by_cases z10 : z = 10
      · subst z10; omega
      · obtain ⟨x, _, _, _, _, h⟩ := (w1 z hz rz).2.2 z10
        omega
    | succ k ih =>
      intro z hz rz hk
      by_cases z10 : z = 10
      · subst z10; omega
      · obtain ⟨x, hx, _, rx, px, h⟩ := (w1 z hz rz).2.2 z10
        have := ih x hx rx (by omega)
        have := V x z hx hz px
        omega
  have pe : ∃ p : Nat → Nat, p 0 = 11 ∧ ∀ i, p (i + 1) = (ac (p i)).toNatClampNeg :=
    ⟨fun i => Nat.rec 11 (fun _ z => (ac z).toNatClampNeg) i, rfl, fun i => rfl⟩
  obtain ⟨p, p0, ps⟩ := pe
  have st : ∀ i, i ≤ d 11 → p i < 12 ∧ ds_rc ac (p i) ∧ d (p i) + i = d 11 ∧ d (p i) ≤ E (p i) := by
    intro i
    induction i with
    | zero => intro _; rw [p0]; exact ⟨by omega, h11, by omega, E1⟩
    | succ i ih =>
      intro hi
      obtain ⟨a1, a2, a3, a4⟩ := ih (by omega)
      have n10 : p i ≠ 10 := fun z => by rw [z] at a3; omega
      obtain ⟨x, hx, ex, rx, px, h⟩ := (w1 _ a1 a2).2.2 n10
      have pi : p (i + 1) = x := by rw [ps, ex, nI_clamp (by omega)]
      have := V x _ hx a1 px
      rw [pi]
      exact ⟨hx, rx, by omega, by omega⟩
  refine ⟨p, p0, ?_, (w1 11 (by omega) h11).2.1, ?_, ?_⟩
  · obtain ⟨a1, a2, a3, a4⟩ := st (d 11) (Nat.le_refl _)
    by_cases z10 : p (d 11) = 10
    · exact z10
    · obtain ⟨x, _, _, _, _, h⟩ := (w1 _ a1 a2).2.2 z10
      omega
  · intro i hi
    obtain ⟨a1, a2, a3, a4⟩ := st i hi
    have := le _ _ a1 a2 rfl
    exact ⟨a1, (w1 _ a1 a2).1, by omega⟩
  · intro i hi
    obtain ⟨a1, a2, a3, a4⟩ := st i (by omega)
    have n10 : p i ≠ 10 := fun z => by rw [z] at a3; omega
    obtain ⟨x, hx, ex, rx, px, h⟩ := (w1 _ a1 a2).2.2 n10
    have pi : p (i + 1) = x := by rw [ps, ex, nI_clamp (by omega)]
    rw [pi]
    exact ⟨n10, ex, px⟩
/-- labels valid for R are no more than the search's at the sink -/
theorem ds_way_le {n : Nat} {R : Nat → Int} {ac : Nat → Int32} {d E : Nat → Nat} (W : ds_way n R ac d) (h11 : ds_rc ac 11) (V : ds_val R E) (E0 : E 10 = 0) : E 11 ≤ d 11 := by
  obtain ⟨w0, w1, _⟩ := W
  have le : ∀ k z, z < 12 → ds_rc ac z → d z = k → E z ≤ k := by
    intro k
    induction k with
    | zero =>
      intro z hz rz hk
      by_cases z10 : z = 10
      · subst z10; omega
      · obtain ⟨x, _, _, _, _, h⟩ := (w1 z hz rz).2.2 z10
        omega
    | succ k ih =>
      intro z hz rz hk
      by_cases z10 : z = 10
      · subst z10; omega
      · obtain ⟨x, hx, _, rx, px, h⟩ := (w1 z hz rz).2.2 z10
        have := ih x hx rx (by omega)
        have := V x z hx hz px
        omega
  exact le _ 11 (by omega) h11 rfl
end
section
/-! findWay walked -/
section
variable {n : Nat} {R : Nat → Int} {fc ft fb fs : Int32} {ap ae am ah : Nat → Int32}
theorem ds_isNode {post : Int32 → Prop} {ar ac aq : Nat → Int32} {y : Nat} (hn : n ≤ 10) (hy : y < 12) (h1 : ds_nd n y → post 1) (h0 : ¬ ds_nd n y → post 0) : wpX_isNode post (nI n, fc, ft, fb, fs, ap, ae, am, ar, ac, aq, ah) (nI y) := by
  unfold wpX_isNode
  refine pk_lt y n (fun z => h1 (Or.inl z)) (fun z => ?_)
  refine pk_lt y 10 (fun w => h0 (fun q => ?_)) (fun w => h1 (Or.inr w))
  rcases q with q | q <;> omega
theorem ds_fw2 {post : Int32 → SX → Prop} {ar aq : Nat → Int32} : ∀ k i (ac : Nat → Int32), i ≤ 12 → 12 - i < k → (∀ j, j < i → ac j = -1) →
    (∀ ac', (∀ j, j < 12 → ac' j = -1) → ∃ n42, wX_findWay_42 post (nI n) fc ft fb fs n42 1 0 ap ae am ar (upd ac' 10 10) (upd aq 0 10) ah) →
    wX_findWay_2 post (nI n) fc ft fb fs k (nI i) ap ae am ar ac aq ah := by
  intro k
  induction k with
  | zero => intro i ac hi hk; omega
  | succ k ih =>
    intro i ac hi hk h H
    refine pk_le 12 i (fun z => ?_) (fun z => ?_)
    · refine nm_e (nm_e (H ac (fun j hj => h j (by omega))))
    · refine ⟨vp_in_nI (by omega) (by omega), nm_e (nm_r (nI_1 i) ?_)⟩
      rw [nI_clamp (by omega)]
      refine ih (i + 1) _ (by omega) (by omega) (fun j hj => ?_) H
      by_cases e : j = i
      · subst e; exact pk_us
      · rw [pk_un e]; exact h j (by omega)
theorem ds_fw63 {post : Int32 → SX → Prop} {J : Int32 → Int32 → (Nat → Int32) → (Nat → Int32) → (Nat → Int32) → (Nat → Int32) → (Nat → Int32) → (Nat → Int32) → (Nat → Int32) → Prop} {i x : Nat} (hn : n ≤ 10) (K : ds_ok n R) :
    ∀ k y e (ac aq : Nat → Int32) (d q : Nat → Nat), y ≤ 12 → 12 - y < k → ds_bfi n R ac aq d q e i x y →
    (∀ e' ac' aq' d' q', ds_bfi n R ac' aq' d' q' e' i x 12 → J (nI e') (nI (i + 1)) ap ae am (ds_A R) ac' aq' ah) →
    wX_findWay_63 post J (nI i) (nI x) (nI n) fc ft fb fs k (nI e) (nI y) ap ae am (ds_A R) ac aq ah := by
  intro k
  induction k with
  | zero => intro y e ac aq d q hy hk; omega
  | succ k ih =>
    intro y e ac aq d q hy hk B H
    have he := ds_bfs_e B.1
    have hx : x < 12 := by rw [← B.2.2.1]; exact (B.1.2.2.2.2.1 i B.2.1).1
    refine pk_le 12 y (fun z => ?_) (fun z => ?_)
    · refine nm_r (nI_1 i) ?_
      have : y = 12 := by omega
      subst this
      exact H e ac aq d q B
    · refine ds_isNode hn z (fun ny => ?_) (fun ny => ?_)
      · refine br_f (by decide) ⟨vp_in_nI (by omega) (by omega), ?_⟩
        rw [nI_clamp (by omega)]
        refine br_c (fun h => ?_) (fun h => ?_)
        · refine nm_r (nI_1 y) (ih (y + 1) e ac aq d q (by omega) (by omega) (ds_bfi_skip B z (Or.inr (Or.inr ?_))) H)
          rw [Int32.le_iff_toInt_le] at h
          exact h
        · have cy : ¬ ds_rc ac y := by
            intro w
            apply h
            rw [Int32.le_iff_toInt_le]
            exact w
          refine ⟨ds_v12 hx z, ?_⟩
          rw [ds_c12 hx z]
          have o := K x y hx z
          refine ds_ble (R (x * 12 + y)) 0 (fun h => ?_) (fun h => ?_) rfl rfl ⟨by omega, ?_⟩ (by omega)
          · exact nm_r (nI_1 y) (ih (y + 1) e ac aq d q (by omega) (by omega) (ds_bfi_skip B z (Or.inr (Or.inl (by omega)))) H)
          · obtain ⟨e12, B'⟩ := ds_bfi_add B z ny h cy
            refine ⟨vp_in_nI (by omega) (by omega), nm_e ⟨vp_in_nI e12 (by omega), nm_e (nm_r (nI_1 e) (nm_r (nI_1 y) ?_))⟩⟩
            rw [nI_clamp (by omega)]
            exact ih (y + 1) (e + 1) _ _ _ _ (by omega) (by omega) B' H
          · have o2 := K y x z hx
            omega
      · refine br_t rfl (nm_r (nI_1 y) (ih (y + 1) e ac aq d q (by omega) (by omega) (ds_bfi_skip B z (Or.inl ny)) H))
theorem ds_fw42 {post : Int32 → SX → Prop} (hn : n ≤ 10) (K : ds_ok n R) :
    ∀ k i e (ac aq : Nat → Int32) (d q : Nat → Nat), 12 - i < k → ds_bfo n R ac aq d q e i →
    (∀ e' ac' aq' d' q', ds_bfo n R ac' aq' d' q' e' e' → wX_findWay_135 post (nI n) fc ft fb fs ap ae am (ds_A R) ac' aq' ah) →
    wX_findWay_42 post (nI n) fc ft fb fs k (nI e) (nI i) ap ae am (ds_A R) ac aq ah := by
  intro k
  induction k with
  | zero => intro i e ac aq d q hk; omega
  | succ k ih =>
    intro i e ac aq d q hk B H
    have he := ds_bfs_e B.1
    have hi := B.2.1
    refine pk_le e i (fun z => ?_) (fun z => ?_)
    · have : i = e := by omega
      subst this
      exact H i ac aq d q B
    · refine pk_le 12 i (fun w => by omega) (fun w => ?_)
      refine ⟨vp_in_nI (by omega) (by omega), nm_r (e' := nI (q i)) ?_ ⟨13, ?_⟩⟩
      · rw [nI_clamp (by omega)]
        exact (B.1.2.2.2.2.1 i z).2.1
      · exact ds_fw63 (i := i) (x := q i) hn K 13 0 e ac aq d q (by omega) (by omega) (ds_bfi_in B z) (fun e' ac' aq' d' q' B' => ih (i + 1) e' ac' aq' d' q' (by omega) (ds_bfi_out B') H)
theorem ds_findWay {post : Int32 → SX → Prop} {ac aq : Nat → Int32} (hn : n ≤ 10) (K : ds_ok n R)
    (H : ∀ ac' aq', (∃ D, ds_way n R ac' D) → ds_clo R ac' → (ds_rc ac' 11 → post 1 (nI n, fc, ft, fb, fs, ap, ae, am, ds_A R, ac', aq', ah)) ∧ (¬ ds_rc ac' 11 → post 0 (nI n, fc, ft, fb, fs, ap, ae, am, ds_A R, ac', aq', ah))) :
    wpX_findWay post (nI n, fc, ft, fb, fs, ap, ae, am, ds_A R, ac, aq, ah) := by
  unfold wpX_findWay
  refine ⟨13, ds_fw2 13 0 ac (by omega) (by omega) (fun j hj => by omega) (fun ac' h => ⟨13, ?_⟩)⟩
  refine ds_fw42 hn K 13 0 1 _ _ _ _ (by omega) (ds_bfo_0 h) (fun e' ac' aq' d' q' B => ?_)
  obtain ⟨W, C⟩ := ds_bfo_end K B
  have H' := H ac' aq' W C
  have z0 : (0 : Int32).toInt = 0 := by decide
  refine br_c (fun h => H'.2 ?_) (fun h => H'.1 ?_)
  · rw [Int32.lt_iff_toInt_lt, z0] at h
    unfold ds_rc
    omega
  · rw [Int32.lt_iff_toInt_lt, z0] at h
    unfold ds_rc
    omega
end
end
section
/-! sendAlong walked -/
def ds_hit (R : Nat → Int) (p : Nat → Nat) (rm : Int) (i : Nat) : Prop := ∃ j, j < i ∧ rm = R (p (j + 1) * 12 + p j)
section
variable {n : Nat} {R : Nat → Int} {fn fc ft fb fs : Int32} {ap ae am ac aq ah : Nat → Int32} {e : Nat → Nat} {L : Nat} {p : Nat → Nat}
theorem ds_sa71 {post : SX → Prop} {rm : Int} (H : ds_pth n R ac e L p) (P : post (fn, fc, ft, fb, fs, ap, ae, am, ds_A (ds_pp R p rm L), ac, aq, ah)) :
    ∀ k i, i ≤ L → L - i < k → wX_sendAlong_71 post (ds_i rm) fn fc ft fb fs k (nI (p i)) (nI i) ap ae am (ds_A (ds_pp R p rm i)) ac aq ah := by
  obtain ⟨p0, pL, hL, h4, h5⟩ := H
  intro k
  induction k with
  | zero => intro i _ hk; omega
  | succ k ih =>
    intro i hi hk
    have hp := (h4 i hi).1
    refine pk_le 12 i (fun z => by omega) (fun z => ?_)
    refine pk_eq (p i) 10 (fun w => ?_) (fun w => ?_)
    · have : i = L := by
        by_cases q : i = L
        · exact q
        · exact absurd w (h5 i (by omega)).1
      subst this
      exact P
    · have hlt : i < L := by
        by_cases q : i = L
        · rw [q] at w; exact absurd pL w
        · omega
      have hp1 := (h4 (i + 1) (by omega)).1
      refine ⟨vp_in_nI hp (by omega), nm_r (e' := nI (p (i + 1))) (by rw [nI_clamp (by omega)]; exact (h5 i hlt).2.1) ⟨ds_v12 hp1 hp, ds_v12 hp1 hp, ?_⟩⟩
      refine nm_r (e' := ds_A (ds_pu (ds_pp R p rm i) (p (i + 1) * 12 + p i) (ds_pp R p rm i (p (i + 1) * 12 + p i) - rm))) ?_ ⟨ds_v12 hp hp1, ds_v12 hp hp1, ?_⟩
      · rw [ds_c12 hp1 hp, ← ds_upd, ← ds_is]
        rfl
      · refine nm_r (e' := ds_A (ds_pp R p rm (i + 1))) ?_ (nm_r (nI_1 i) (ih (i + 1) (by omega) (by omega)))
        rw [ds_c12 hp hp1]
        show _ = ds_A (ds_push (ds_pp R p rm i) (p (i + 1)) (p i) rm)
        exact (congrArg (upd _ _) (ds_ia _ _)).trans (ds_upd _ _ _)
theorem ds_sa8 {post : SX → Prop} (H : ds_pth n R ac e L p) (K : ds_ok n R)
    (P : ∀ rm, 0 < rm → (∀ j, j < L → rm ≤ R (p (j + 1) * 12 + p j)) → (∃ j, j < L ∧ rm = R (p (j + 1) * 12 + p j)) → post (fn, fc, ft, fb, fs, ap, ae, am, ds_A (ds_pp R p rm L), ac, aq, ah)) :
    ∀ k i rm, i ≤ L → L - i < k → 0 < rm → rm ≤ 2000000 → (i = 0 → rm = 2000000) → (∀ j, j < i → rm ≤ R (p (j + 1) * 12 + p j)) → (0 < i → ds_hit R p rm i) →
    wX_sendAlong_8 post fn fc ft fb fs ap ae am (ds_A R) ac aq ah k (ds_i rm) (nI (p i)) (nI i) := by
  have HH := H
  obtain ⟨p0, pL, hL, h4, h5⟩ := H
  have L0 : 0 < L := by
    rcases Nat.eq_zero_or_pos L with z | z
    · rw [z, p0] at pL; omega
    · exact z
  intro k
  induction k with
  | zero => intro i rm _ hk; omega
  | succ k ih =>
    intro i rm hi hk r0 r1 r2 r3 r4
    have hp := (h4 i hi).1
    refine pk_le 12 i (fun z => by omega) (fun z => ?_)
    refine pk_eq (p i) 10 (fun w => ?_) (fun w => ?_)
    · have : i = L := by
        by_cases q : i = L
        · exact q
        · exact absurd w (h5 i (by omega)).1
      subst this
      refine ⟨i + 1, ?_⟩
      have := ds_sa71 (fn := fn) (fc := fc) (ft := ft) (fb := fb) (fs := fs) (ap := ap) (ae := ae) (am := am) (aq := aq) (ah := ah) HH (P rm r0 r3 (r4 L0)) (i + 1) 0 (by omega) (by omega)
      rw [p0] at this
      exact this
    · have hlt : i < L := by
        by_cases q : i = L
        · rw [q] at w; exact absurd pL w
        · omega
      have hp1 := (h4 (i + 1) (by omega)).1
      have k1 := K _ _ hp1 hp
      have k2 := K _ _ hp hp1
      have k3 := (h5 i hlt).2.2
      refine ⟨vp_in_nI hp (by omega), nm_r (e' := nI (p (i + 1))) (by rw [nI_clamp (by omega)]; exact (h5 i hlt).2.1) ⟨ds_v12 hp1 hp, ?_⟩⟩
      rw [ds_c12 hp1 hp]
      refine ds_ble rm (R (p (i + 1) * 12 + p i)) (fun z => ?_) (fun z => ?_) rfl rfl (by omega) (by omega)
      · refine nm_r (nI_1 i) (ih (i + 1) rm (by omega) (by omega) r0 r1 (fun h => absurd h (Nat.succ_ne_zero i)) ?_ ?_)
        · intro j hj
          by_cases ej : j = i
          · subst ej; exact z
          · exact r3 j (by omega)
        · intro _
          rcases Nat.eq_zero_or_pos i with i0 | i0
          · have := r2 i0; omega
          · obtain ⟨j, hj, ej⟩ := r4 i0
            exact ⟨j, by omega, ej⟩
      · refine ⟨ds_v12 hp1 hp, nm_e (nm_r (nI_1 i) (ih (i + 1) (R (p (i + 1) * 12 + p i)) (by omega) (by omega) k3 (by omega) (fun h => absurd h (Nat.succ_ne_zero i)) ?_ ?_))⟩
        · intro j hj
          by_cases ej : j = i
          · subst ej; exact Int.le_refl _
          · have := r3 j (by omega); omega
        · intro _
          exact ⟨i, Nat.lt_succ_self i, rfl⟩
theorem ds_sendAlong {post : SX → Prop} (H : ds_pth n R ac e L p) (K : ds_ok n R)
    (P : ∀ rm, 0 < rm → (∀ j, j < L → rm ≤ R (p (j + 1) * 12 + p j)) → (∃ j, j < L ∧ rm = R (p (j + 1) * 12 + p j)) → post (fn, fc, ft, fb, fs, ap, ae, am, ds_A (ds_pp R p rm L), ac, aq, ah)) :
    wpX_sendAlong post (fn, fc, ft, fb, fs, ap, ae, am, ds_A R, ac, aq, ah) := by
  have := ds_sa8 H K P (L + 1) 0 2000000 (by omega) (by omega) (by omega) (by omega) (fun _ => rfl) (fun j hj => by omega) (fun h => by omega)
  rw [H.1] at this
  exact ⟨L + 1, this⟩
end
end
section
/-! the backward search, in plain Lean -/
def ds_bk (R : Nat → Int) (ah aq : Nat → Int32) (q : Nat → Nat) (e : Nat) : Prop :=
  1 ≤ e ∧ ah 11 ≠ 0 ∧ ds_sm (fun z => if ah z = 0 then 0 else 1) 12 = e ∧
  (∀ j, j < e → q j < 12 ∧ aq j = nI (q j) ∧ ah (q j) ≠ 0) ∧
  (∀ z, z < 12 → ah z ≠ 0 → ∃ j, j < e ∧ q j = z) ∧
  (∀ P : Nat → Prop, P 11 → (∀ x y, x < 12 → y < 12 → P y → 0 < R (x * 12 + y) → P x) → ∀ z, z < 12 → ah z ≠ 0 → P z)
def ds_kcl (n : Nat) (R : Nat → Int) (ah : Nat → Int32) (y x : Nat) : Prop := ∀ a, a < x → ds_nd n a → 0 < R (a * 12 + y) → ah a ≠ 0
def ds_bki (n : Nat) (R : Nat → Int) (ah aq : Nat → Int32) (q : Nat → Nat) (e i y x : Nat) : Prop :=
  ds_bk R ah aq q e ∧ i < e ∧ q i = y ∧ (∀ j, j < i → ds_kcl n R ah (q j) 12) ∧ ds_kcl n R ah y x
def ds_bko (n : Nat) (R : Nat → Int) (ah aq : Nat → Int32) (q : Nat → Nat) (e i : Nat) : Prop :=
  ds_bk R ah aq q e ∧ i ≤ e ∧ (∀ j, j < i → ds_kcl n R ah (q j) 12)
theorem ds_knt_ub (ah : Nat → Int32) : ds_sm (fun z => if ah z = 0 then 0 else 1) 12 ≤ 12 :=
  ds_sm_ub (n := 12) (c := 1) (f := fun z => if ah z = 0 then 0 else 1) (by intro j _; (try dsimp only); split <;> omega)
theorem ds_bk_e {R : Nat → Int} {ah aq : Nat → Int32} {q : Nat → Nat} {e : Nat} (h : ds_bk R ah aq q e) : e ≤ 12 := by
  have h1 := h.2.2.1
  have h2 := ds_knt_ub ah
  omega
theorem ds_h1 {ah : Nat → Int32} {y z : Nat} (h : ah z ≠ 0) : upd ah y 1 z ≠ 0 := by
  by_cases e : z = y
  · subst e; rw [pk_us]; decide
  · rw [pk_un e]; exact h
section
variable {n : Nat} {R : Nat → Int} {ah aq : Nat → Int32} {q : Nat → Nat} {e i x y : Nat}
theorem ds_bki_skip (h : ds_bki n R ah aq q e i y x) (h2 : ¬ ds_nd n x ∨ ¬ 0 < R (x * 12 + y) ∨ ah x ≠ 0) : ds_bki n R ah aq q e i y (x + 1) := by
  obtain ⟨B, h3, h4, h6, h7⟩ := h
  refine ⟨B, h3, h4, h6, ?_⟩
  intro b hb nb rb
  by_cases eb : b = x
  · subst eb
    rcases h2 with h2 | h2 | h2
    · exact absurd nb h2
    · exact absurd rb h2
    · exact h2
  · exact h7 b (by omega) nb rb
theorem ds_bki_add (h : ds_bki n R ah aq q e i y x) (hx : x < 12) (rx : 0 < R (x * 12 + y)) (cx : ah x = 0) :
    e < 12 ∧ ds_bki n R (upd ah x 1) (upd aq e (nI x)) (fun j => if j = e then x else q j) (e + 1) i y (x + 1) := by
  obtain ⟨⟨b1, b2, b3, b4, b5, b6⟩, h3, h4, h6, h7⟩ := h
  have hy : y < 12 := by rw [← h4]; exact (b4 i h3).1
  have cnt : ds_sm (fun z => if upd ah x 1 z = 0 then 0 else 1) 12 = ((e + 1 : Nat) : Int) := by
    rw [ds_sm_c (g := fun z => if z = x then 1 else (fun z => if ah z = 0 then 0 else 1) z)]
    · rw [ds_sm_p, if_pos hx, b3]
      (try dsimp only)
      rw [if_pos cx]
      omega
    · intro z hz
      (try dsimp only)
      by_cases ez : z = x
      · subst ez
        rw [if_pos rfl, pk_us, if_neg (by decide)]
      · rw [if_neg ez, pk_un ez]
  have e12 : e < 12 := by
    have := ds_knt_ub (upd ah x 1)
    omega
  have qj : ∀ j, j < e → (fun j => if j = e then x else q j) j = q j := by
    intro j hj
    exact if_neg (by omega)
  have qe : (fun j => if j = e then x else q j) e = x := if_pos rfl
  refine ⟨e12, ⟨?_, ?_, cnt, ?_, ?_, ?_⟩, by omega, ?_, ?_, ?_⟩
  · omega
  · exact ds_h1 b2
  · intro j hj
    by_cases ej : j = e
    · subst ej
      rw [qe]
      exact ⟨hx, pk_us, by rw [pk_us]; decide⟩
    · have := b4 j (by omega)
      rw [qj j (by omega), pk_un ej]
      exact ⟨this.1, this.2.1, ds_h1 this.2.2⟩
  · intro z hz rz
    by_cases ez : z = x
    · exact ⟨e, by omega, by rw [qe, ez]⟩
    · rw [pk_un ez] at rz
      obtain ⟨j, hj, ej⟩ := b5 z hz rz
      exact ⟨j, by omega, by rw [qj j hj]; exact ej⟩
  · intro P P1 P2 z hz rz
    by_cases ez : z = x
    · subst ez
      refine P2 z y hz hy (b6 P P1 P2 y hy ?_) rx
      rw [← h4]; exact (b4 i h3).2.2
    · rw [pk_un ez] at rz
      exact b6 P P1 P2 z hz rz
  · rw [qj i h3]; exact h4
  · intro j hj b hb nb rb
    rw [qj j (by omega)] at rb
    exact ds_h1 (h6 j hj b hb nb rb)
  · intro b hb nb rb
    by_cases eb : b = x
    · subst eb
      rw [pk_us]; decide
    · exact ds_h1 (h7 b (by omega) nb rb)
theorem ds_bki_in (h : ds_bko n R ah aq q e i) (hi : i < e) : ds_bki n R ah aq q e i (q i) 0 := ⟨h.1, hi, rfl, h.2.2, fun b hb => by omega⟩
theorem ds_bki_out (h : ds_bki n R ah aq q e i y 12) : ds_bko n R ah aq q e (i + 1) := by
  obtain ⟨B, h3, h4, h6, h7⟩ := h
  refine ⟨B, by omega, fun j hj => ?_⟩
  by_cases ej : j = i
  · subst ej; rw [h4]; exact h7
  · exact h6 j (by omega)
theorem ds_bko_0 (h : ∀ j, j < 12 → ah j = if j = 11 then 1 else 0) : ds_bko n R ah (upd aq 0 11) (fun _ => 11) 1 0 := by
  have h11 : ah 11 = 1 := h 11 (by omega)
  have n11 : ah 11 ≠ 0 := by rw [h11]; decide
  have nr : ∀ z, z < 12 → ah z ≠ 0 → z = 11 := by
    intro z hz hh
    by_cases e : z = 11
    · exact e
    · rw [h z hz, if_neg e] at hh
      exact absurd rfl hh
  refine ⟨⟨by omega, n11, ?_, ?_, ?_, ?_⟩, by omega, ?_⟩
  · rw [ds_sm_c (g := fun z => if z = 11 then 1 else (fun _ => 0) z)]
    · rw [ds_sm_p, if_pos (by omega), ds_sm_0 (fun _ _ => rfl)]
      rfl
    · intro z hz
      (try dsimp only)
      by_cases ez : z = 11
      · subst ez
        rw [if_pos rfl, if_neg n11]
      · rw [if_neg ez, h z hz, if_neg ez, if_pos rfl]
  · intro j hj
    have : j = 0 := by omega
    subst this
    exact ⟨by decide, pk_us, n11⟩
  · intro z hz rz
    exact ⟨0, by omega, (nr z hz rz).symm⟩
  · intro P P1 _ z hz rz
    rw [nr z hz rz]; exact P1
  · intro j hj; omega
theorem ds_bko_end (h : ds_bko n R ah aq q e e) : ah 11 ≠ 0 ∧ (∀ x y, x < 12 → y < 12 → ds_nd n x → ah y ≠ 0 → 0 < R (x * 12 + y) → ah x ≠ 0) ∧ (∀ P : Nat → Prop, P 11 → (∀ x y, x < 12 → y < 12 → P y → 0 < R (x * 12 + y) → P x) → ∀ z, z < 12 → ah z ≠ 0 → P z) := by
  obtain ⟨⟨b1, b2, b3, b4, b5, b6⟩, _, h6⟩ := h
  refine ⟨b2, ?_, b6⟩
  intro x y hx hy nx ry rx
  obtain ⟨j, hj, ej⟩ := b5 y hy ry
  exact h6 j hj x hx nx (by rw [ej]; exact rx)
end
/-- one round: labels and a way, exact for them; the measure no more -/
theorem ds_step {n : Nat} {R : Nat → Int} {ac : Nat → Int32} {D E : Nat → Nat} (W : ds_way n R ac D) (h11 : ds_rc ac 11) (V : ds_val R E) (E0 : E 10 = 0) :
    ∃ (F : Nat → Nat) (p : Nat → Nat), F 10 = 0 ∧ F 11 ≤ 11 ∧ ds_val R F ∧ ds_pth n R ac F (D 11) p ∧ (12 - (F 11 : Int)) * 145 + ds_adm R F ≤ (12 - (E 11 : Int)) * 145 + ds_adm R E := by
  have h1 := ds_way_le W h11 V E0
  have h2 := (W.2.1 11 (by omega) h11).2.1
  by_cases h : D 11 ≤ E 11
  · obtain ⟨p, P⟩ := ds_way_pth W h11 V E0 h
    exact ⟨E, p, E0, by omega, V, P, Int.le_refl _⟩
  · obtain ⟨p, P⟩ := ds_way_pth W h11 W.2.2 W.1 (Nat.le_refl _)
    have a1 := ds_adm_144 R D
    have a2 := ds_adm_0 R E
    exact ⟨D, p, W.1, h2, W.2.2, P, by omega⟩
end
section
/-! cut's own loops walked -/
section
variable {n : Nat} {fc ft fb fs : Int32} {ap ae am : Nat → Int32}
/-- the last loop: the set's bits -/
theorem ds_ct198 {post : SX → Prop} {ar ac aq ah : Nat → Int32} (hn : n ≤ 10)
    (P : ∀ cs, (∀ i, i < 32 → bt cs i = decide (i < n ∧ ah i = 0)) → post (nI n, cs, ft, fb, fs, ap, ae, am, ar, ac, aq, ah)) :
    ∀ k v cs, v ≤ n → n - v < k → (∀ i, i < 32 → bt cs i = decide (i < v ∧ ah i = 0)) → wX_cut_198 post (nI n) ft fb fs ap ae am ar ac aq ah k (nI v) cs := by
  intro k
  induction k with
  | zero => intro v cs _ hk; omega
  | succ k ih =>
    intro v cs hv hk h
    refine pk_le n v (fun z => ?_) (fun z => ?_)
    · have : v = n := by omega
      subst this
      exact P cs h
    · refine ⟨vp_in_nI (by omega) (by omega), ?_⟩
      rw [nI_clamp (by omega)]
      refine br_c (fun a0 => ?_) (fun a0 => ?_)
      · refine nm_e (nm_r (nI_1 v) (ih (v + 1) _ (by omega) (by omega) (fun i hi => ?_)))
        rw [ds_bset cs (by omega) hi, h i hi]
        by_cases e : i = v
        · subst e
          rw [decide_eq_true (rfl : i = i), Bool.or_true, decide_eq_true ⟨by omega, a0⟩]
        · rw [decide_eq_false e, Bool.or_false]
          congr 1
          exact propext ⟨fun w => ⟨by omega, w.2⟩, fun w => ⟨by omega, w.2⟩⟩
      · refine nm_r (nI_1 v) (ih (v + 1) _ (by omega) (by omega) (fun i hi => ?_))
        rw [h i hi]
        congr 1
        refine propext ⟨fun w => ⟨by omega, w.2⟩, fun w => ⟨?_, w.2⟩⟩
        by_cases e : i = v
        · subst e; exact absurd w.2 a0
        · omega
theorem ds_ct116 {R : Nat → Int} {post : SX → Prop} {ac : Nat → Int32} {J : Int32 → Int32 → (Nat → Int32) → (Nat → Int32) → (Nat → Int32) → (Nat → Int32) → (Nat → Int32) → (Nat → Int32) → (Nat → Int32) → Prop} {i y : Nat} (hn : n ≤ 10) (K : ds_ok n R) :
    ∀ k x e (ah aq : Nat → Int32) (q : Nat → Nat), x ≤ 12 → 12 - x < k → ds_bki n R ah aq q e i y x →
    (∀ e' ah' aq' q', ds_bki n R ah' aq' q' e' i y 12 → J (nI e') (nI (i + 1)) ap ae am (ds_A R) ac aq' ah') →
    wX_cut_116 post J (nI i) (nI y) (nI n) fc ft fb fs k (nI e) (nI x) ap ae am (ds_A R) ac aq ah := by
  intro k
  induction k with
  | zero => intro x e ah aq q hx hk; omega
  | succ k ih =>
    intro x e ah aq q hx hk B H
    have he := ds_bk_e B.1
    have hy : y < 12 := by rw [← B.2.2.1]; exact (B.1.2.2.2.1 i B.2.1).1
    refine pk_le 12 x (fun z => ?_) (fun z => ?_)
    · refine nm_r (nI_1 i) ?_
      have : x = 12 := by omega
      subst this
      exact H e ah aq q B
    · refine ds_isNode hn z (fun nx => ?_) (fun nx => ?_)
      · refine br_f (by decide) ⟨vp_in_nI (by omega) (by omega), ?_⟩
        rw [nI_clamp (by omega)]
        refine br_c (fun h => ?_) (fun h => ?_)
        · refine ⟨ds_v12 z hy, ?_⟩
          rw [ds_c12 z hy]
          have o := K x y z hy
          have o2 := K y x hy z
          refine ds_ble (R (x * 12 + y)) 0 (fun h2 => ?_) (fun h2 => ?_) rfl rfl ⟨by omega, by omega⟩ (by omega)
          · exact nm_r (nI_1 x) (ih (x + 1) e ah aq q (by omega) (by omega) (ds_bki_skip B (Or.inr (Or.inl (by omega)))) H)
          · obtain ⟨e12, B'⟩ := ds_bki_add B z h2 h
            refine ⟨vp_in_nI (by omega) (by omega), nm_e ⟨vp_in_nI e12 (by omega), nm_e (nm_r (nI_1 e) (nm_r (nI_1 x) ?_))⟩⟩
            rw [nI_clamp (by omega)]
            exact ih (x + 1) (e + 1) _ _ _ (by omega) (by omega) B' H
        · exact nm_r (nI_1 x) (ih (x + 1) e ah aq q (by omega) (by omega) (ds_bki_skip B (Or.inr (Or.inr h))) H)
      · exact br_t rfl (nm_r (nI_1 x) (ih (x + 1) e ah aq q (by omega) (by omega) (ds_bki_skip B (Or.inl nx)) H))
theorem ds_ct90 {R : Nat → Int} {post : SX → Prop} {ac : Nat → Int32} (hn : n ≤ 10) (K : ds_ok n R)
    (H : ∀ e' ah' aq' q', ds_bko n R ah' aq' q' e' e' → ∃ n198, wX_cut_198 post (nI n) ft fb fs ap ae am (ds_A R) ac aq' ah' n198 0 0) :
    ∀ k i e (ah aq : Nat → Int32) (q : Nat → Nat), 12 - i < k → ds_bko n R ah aq q e i →
    wX_cut_90 post (nI n) fc ft fb fs k (nI e) (nI i) ap ae am (ds_A R) ac aq ah := by
  intro k
  induction k with
  | zero => intro i e ah aq q hk; omega
  | succ k ih =>
    intro i e ah aq q hk B
    have he := ds_bk_e B.1
    have hi := B.2.1
    refine pk_le e i (fun z => ?_) (fun z => ?_)
    · have : i = e := by omega
      subst this
      exact H i ah aq q B
    · refine pk_le 12 i (fun w => by omega) (fun w => ?_)
      refine ⟨vp_in_nI (by omega) (by omega), nm_r (e' := nI (q i)) ?_ ⟨13, ?_⟩⟩
      · rw [nI_clamp (by omega)]
        exact (B.1.2.2.2.1 i z).2.1
      · exact ds_ct116 (i := i) (y := q i) hn K 13 0 e ah aq q (by omega) (by omega) (ds_bki_in B z) (fun e' ah' aq' q' B' => ih (i + 1) e' ah' aq' q' (by omega) (ds_bki_out B'))
theorem ds_ct44 {post : SX → Prop} {ar ac aq : Nat → Int32}
    (H : ∀ ah', (∀ j, j < 12 → ah' j = if j = 11 then 1 else 0) → ∃ n90, wX_cut_90 post (nI n) fc ft fb fs n90 1 0 ap ae am ar ac (upd aq 0 11) ah') :
    ∀ k i (ah : Nat → Int32), i ≤ 12 → 12 - i < k → (∀ j, j < i → ah j = if j = 11 then 1 else 0) →
    wX_cut_44 post (nI n) fc ft fb fs k (nI i) ap ae am ar ac aq ah := by
  intro k
  induction k with
  | zero => intro i ah hi hk; omega
  | succ k ih =>
    intro i ah hi hk h
    refine pk_le 12 i (fun z => ?_) (fun z => ?_)
    · exact nm_e (H ah (fun j hj => h j (by omega)))
    · refine pk_eq i 11 (fun w => ?_) (fun w => ?_)
      · refine ⟨vp_in_nI (by omega) (by omega), nm_e (nm_r (nI_1 i) ?_)⟩
        rw [nI_clamp (by omega)]
        refine ih (i + 1) _ (by omega) (by omega) (fun j hj => ?_)
        by_cases e : j = i
        · subst e; rw [pk_us, if_pos w]; rfl
        · rw [pk_un e]; exact h j (by omega)
      · refine ⟨vp_in_nI (by omega) (by omega), nm_e (nm_r (nI_1 i) ?_)⟩
        rw [nI_clamp (by omega)]
        refine ih (i + 1) _ (by omega) (by omega) (fun j hj => ?_)
        by_cases e : j = i
        · subst e; rw [pk_us, if_neg w]; rfl
        · rw [pk_un e]; exact h j (by omega)
/-- the rounds -/
theorem ds_ct14 {post : SX → Prop} {R0 : Nat → Int} {ah : Nat → Int32} (hn : n ≤ 10)
    (H : ∀ R ac aq K, ds_ok n R → (∀ A : Nat → Bool, A 10 = true → A 11 = false → ds_cut R A = ds_cut R0 A - K) → ds_clo R ac → ¬ ds_rc ac 11 → ∃ n44, wX_cut_44 post (nI n) fc ft fb fs n44 0 ap ae am (ds_A R) ac aq ah) :
    ∀ (k i : Nat) (R : Nat → Int) (ac aq : Nat → Int32) (E : Nat → Nat) (K : Int) (r : Int32), ds_ok n R → ds_val R E → E 10 = 0 → E 11 ≤ 11 → (i : Int) + ((12 - (E 11 : Int)) * 145 + ds_adm R E) ≤ 1740 →
    (∀ A : Nat → Bool, A 10 = true → A 11 = false → ds_cut R A = ds_cut R0 A - K) → (∃ D, ds_way n R ac D) → ds_clo R ac → 1740 - i < k → ((r = 1 ∧ ds_rc ac 11) ∨ (r = 0 ∧ ¬ ds_rc ac 11)) →
    wX_cut_14 post k r (nI i) (nI n) fc ft fb fs ap ae am (ds_A R) ac aq ah := by
  intro k
  induction k with
  | zero => intro i R ac aq E K r _ _ _ _ _ _ _ _ hk; omega
  | succ k ih =>
    intro i R ac aq E K r ok V E0 E1 mu cu W C hk hr
    have a0 := ds_adm_0 R E
    refine pk_le 4000 i (fun z => by omega) (fun z => ?_)
    rcases hr with ⟨r1, h11⟩ | ⟨r0, h11⟩
    · subst r1
      refine br_f (by decide) ?_
      obtain ⟨D, W⟩ := W
      obtain ⟨F, p, F0, F1, VF, P, le⟩ := ds_step W h11 V E0
      refine ds_sendAlong P ok (fun rm m1 m2 m3 => ?_)
      have ok' := ds_pp_ok P ok m1 m2
      have V' := ds_pp_val (d := rm) P VF
      have ad := ds_pp_adm P m1 m3
      have ad0 := ds_adm_0 (ds_pp R p rm (D 11)) F
      have cu' : ∀ A : Nat → Bool, A 10 = true → A 11 = false → ds_cut (ds_pp R p rm (D 11)) A = ds_cut R0 A - (K + rm) := by
        intro A A1 A2
        rw [ds_ppcut P A (D 11) (Nat.le_refl _), P.1, P.2.1, A1, A2, cu A A1 A2]
        unfold ds_b
        rw [if_pos rfl, if_neg (by decide)]
        omega
      refine ds_findWay hn ok' (fun ac' aq' W' C' => ⟨fun h => ?_, fun h => ?_⟩)
      · exact nm_r (nI_1 i) (ih (i + 1) _ ac' aq' F (K + rm) 1 ok' V' F0 F1 (by omega) cu' W' C' (by omega) (Or.inl ⟨rfl, h⟩))
      · exact nm_r (nI_1 i) (ih (i + 1) _ ac' aq' F (K + rm) 0 ok' V' F0 F1 (by omega) cu' W' C' (by omega) (Or.inr ⟨rfl, h⟩))
    · subst r0
      refine br_t rfl ?_
      exact H R ac aq K ok cu C h11
end
end
section
/-! buildNetwork walked -/
/-- rows below u are done -/
def ds_nu (n : Nat) (g c : Int) (p ex : Nat → Int) (m : Nat → Int32) (R : Nat → Int) (u : Nat) : Prop :=
  ∀ x y, x < 12 → y < 12 → R (x * 12 + y) = if x < u ∨ (x = 10 ∧ y < u) then ds_net n g c p ex m x y else 0
/-- .. and of row u the places below v -/
def ds_nv (n : Nat) (g c : Int) (p ex : Nat → Int) (m : Nat → Int32) (R : Nat → Int) (u v : Nat) : Prop :=
  ∀ x y, x < 12 → y < 12 → R (x * 12 + y) = if x < u ∨ (x = 10 ∧ y < u) then ds_net n g c p ex m x y else if x = u ∧ y < v then g * p (u * 10 + y) else 0
section
variable {n : Nat} {g c : Int} {p ex : Nat → Int} {m : Nat → Int32} {R R' : Nat → Int} {u v : Nat}
theorem ds_nu_in (h : ds_nu n g c p ex m R u) : ds_nv n g c p ex m R u 0 := by
  intro x y hx hy
  rw [h x y hx hy]
  by_cases z : x < u ∨ (x = 10 ∧ y < u)
  · rw [if_pos z, if_pos z]
  · rw [if_neg z, if_neg z, if_neg (by omega)]
theorem ds_nv_s (h : ds_nv n g c p ex m R u v) (hu : u < 10) (hv : v < 10) : ds_nv n g c p ex m (ds_pu R (u * 12 + v) (g * p (u * 10 + v))) u (v + 1) := by
  intro x y hx hy
  by_cases e : x = u ∧ y = v
  · obtain ⟨rfl, rfl⟩ := e
    rw [ds_pu_s, if_neg (by omega), if_pos (by omega)]
  · rw [ds_pu_n (by omega), h x y hx hy]
    by_cases z : x < u ∨ (x = 10 ∧ y < u)
    · rw [if_pos z, if_pos z]
    · rw [if_neg z, if_neg z]
      by_cases w : x = u ∧ y < v
      · rw [if_pos w, if_pos (by omega)]
      · rw [if_neg w, if_neg (by omega)]
theorem ds_nv_out (hn : n ≤ 10) (hu : u < n) (h : ds_nv n g c p ex m R u n) (ht : R' (u * 12 + 11) = ds_net n g c p ex m u 11) (hs : R' (10 * 12 + u) = ds_net n g c p ex m 10 u)
    (ho : ∀ j, j ≠ u * 12 + 11 → j ≠ 10 * 12 + u → R' j = R j) : ds_nu n g c p ex m R' (u + 1) := by
  intro x y hx hy
  by_cases e1 : x = u ∧ y = 11
  · obtain ⟨rfl, rfl⟩ := e1
    rw [ht, if_pos (by omega)]
  · by_cases e2 : x = 10 ∧ y = u
    · obtain ⟨rfl, rfl⟩ := e2
      rw [hs, if_pos (by omega)]
    · rw [ho _ (by omega) (by omega), h x y hx hy]
      by_cases z : x < u ∨ (x = 10 ∧ y < u)
      · rw [if_pos z, if_pos (by omega)]
      · rw [if_neg z]
        by_cases w : x = u ∧ y < n
        · rw [if_pos w, if_pos (by omega)]
          obtain ⟨rfl, w⟩ := w
          rw [ds_net_i hu w]
        · rw [if_neg w]
          by_cases q : x = u
          · subst q
            rw [if_pos (by omega), ds_net_y (by omega) (by omega)]
          · rw [if_neg (by omega)]
theorem ds_nu_end (hn : n ≤ 10) (h : ds_nu n g c p ex m R n) : ds_isn n g c p ex m R := by
  intro x y hx hy
  rw [h x y hx hy]
  by_cases z : x < n ∨ (x = 10 ∧ y < n)
  · rw [if_pos z]
  · rw [if_neg z]
    by_cases x10 : x = 10
    · subst x10
      unfold ds_net
      rw [if_neg (by omega), if_pos rfl, if_neg (by omega)]
    · rw [ds_net_x (by omega) x10]
end
section
variable {n : Nat} {g c : Int} {p ex : Nat → Int} {m : Nat → Int32} {fc ft fb fs : Int32} {ac aq ah : Nat → Int32}
theorem ds_bn166 {post : SX → Prop} {J : Int32 → (Nat → Int32) → (Nat → Int32) → (Nat → Int32) → (Nat → Int32) → (Nat → Int32) → (Nat → Int32) → (Nat → Int32) → Prop} {x1 x2 : Int32} {u : Nat} {R : Nat → Int} (hu : u < 10)
    (H : ∀ R', (m u = 2 → R' (u * 12 + 11) = 1000000) → (m u ≠ 2 → R' (u * 12 + 11) = R (u * 12 + 11)) → (∀ j, j ≠ u * 12 + 11 → R' j = R j) → J (nI (u + 1)) (ds_A p) (ds_A ex) m (ds_A R') ac aq ah) :
    wX_buildNetwork_166 post J x1 x2 (nI u) (nI n) fc ft fb fs (ds_A p) (ds_A ex) m (ds_A R) ac aq ah := by
  unfold wX_buildNetwork_166
  refine ⟨vp_in_nI hu (by omega), ?_⟩
  rw [nI_clamp (by omega)]
  refine br_c (fun h => ?_) (fun h => ?_)
  · refine ⟨ds_v11 (by omega), nm_r (e' := ds_A (ds_pu R (u * 12 + 11) 1000000)) ?_ (nm_r (nI_1 u) (H _ (fun _ => ds_pu_s) (fun z => absurd h z) (fun j hj => ds_pu_n hj)))⟩
    rw [ds_c11 (by omega)]
    exact ds_upd R _ 1000000
  · exact nm_r (nI_1 u) (H R (fun z => absurd z h) (fun _ => rfl) (fun j hj => rfl))
theorem ds_bn145 {post : SX → Prop} {J : Int32 → (Nat → Int32) → (Nat → Int32) → (Nat → Int32) → (Nat → Int32) → (Nat → Int32) → (Nat → Int32) → (Nat → Int32) → Prop} {x1 x2 : Int32} {u : Nat} {R : Nat → Int} (hu : u < 10)
    (H : ∀ R', (m u = 2 → R' (u * 12 + 11) = 1000000) → (m u ≠ 2 → R' (u * 12 + 11) = R (u * 12 + 11)) → (m u = 1 → R' (10 * 12 + u) = 1000000) → (m u ≠ 1 → R' (10 * 12 + u) = R (10 * 12 + u)) → (∀ j, j ≠ u * 12 + 11 → j ≠ 10 * 12 + u → R' j = R j) → J (nI (u + 1)) (ds_A p) (ds_A ex) m (ds_A R') ac aq ah) :
    wX_buildNetwork_145 post J x1 x2 (nI u) (nI n) fc ft fb fs (ds_A p) (ds_A ex) m (ds_A R) ac aq ah := by
  unfold wX_buildNetwork_145
  refine ⟨vp_in_nI hu (by omega), ?_⟩
  rw [nI_clamp (by omega)]
  refine br_c (fun h => ?_) (fun h => ?_)
  · refine ⟨ds_v120 (by omega), nm_r (e' := ds_A (ds_pu R (10 * 12 + u) 1000000)) ?_ (ds_bn166 hu (fun R' a1 a2 a3 => H R' a1 (fun z => ?_) (fun _ => ?_) (fun z => absurd h z) (fun j j1 j2 => ?_)))⟩
    · rw [ds_c120 (by omega)]
      exact ds_upd R _ 1000000
    · rw [a2 z, ds_pu_n (by omega)]
    · rw [a3 _ (by omega), ds_pu_s]
    · rw [a3 j j1, ds_pu_n j2]
  · exact ds_bn166 hu (fun R' a1 a2 a3 => H R' a1 a2 (fun z => absurd z h) (fun _ => a3 _ (by omega)) (fun j j1 j2 => a3 j j1))
theorem ds_bn51 {post : SX → Prop} {J : Int32 → (Nat → Int32) → (Nat → Int32) → (Nat → Int32) → (Nat → Int32) → (Nat → Int32) → (Nat → Int32) → (Nat → Int32) → Prop} {u : Nat} (G : ds_gr n p ex) (hg : 1 ≤ g) (hg2 : g ≤ 20) (hc : 0 ≤ c) (hc2 : c ≤ 2000) (hu : u < n)
    (H : ∀ R', ds_nu n g c p ex m R' (u + 1) → J (nI (u + 1)) (ds_A p) (ds_A ex) m (ds_A R') ac aq ah) :
    ∀ (k v : Nat) (R : Nat → Int), v ≤ n → n - v < k → ds_nv n g c p ex m R u v →
    wX_buildNetwork_51 post J (ds_i g) (ds_i c) (nI u) (nI n) fc ft fb fs k (ds_i (2 * g * ex u - 2 * c + ds_sm (fun v => g * p (u * 10 + v)) v)) (nI v) (ds_A p) (ds_A ex) m (ds_A R) ac aq ah := by
  have hn := G.2.1
  intro k
  induction k with
  | zero => intro v R _ hk; omega
  | succ k ih =>
    intro v R hv hk N
    refine pk_le n v (fun z => ?_) (fun z => ?_)
    · have : v = n := by omega
      subst this
      have ab := ds_am_b G hg hg2 hc hc2 u
      have a11 : R (u * 12 + 11) = 0 := by rw [N u 11 (by omega) (by omega), if_neg (by omega), if_neg (by omega)]
      have a10 : R (10 * 12 + u) = 0 := by rw [N 10 u (by omega) (by omega), if_neg (by omega), if_neg (by omega)]
      refine ds_ble (ds_am v g c p ex u) 0 (fun h => ?_) (fun h => ?_) rfl rfl (by omega) (by omega)
      · refine ⟨ds_v11 (by omega), nm_r (e' := ds_A (ds_pu R (u * 12 + 11) (-ds_am v g c p ex u))) ?_ (ds_bn145 (by omega) (fun R' b1 b2 b3 b4 b5 => H R' (ds_nv_out hn hu N ?_ ?_ (fun j j1 j2 => ?_))))⟩
        · rw [ds_c11 (by omega)]
          exact (congrArg (upd _ _) (ds_ineg _)).trans (ds_upd _ _ _)
        · rw [ds_net_t hn hu]
          by_cases m2 : m u = 2
          · rw [b1 m2, if_pos m2]
          · rw [b2 m2, if_neg m2, if_pos h, ds_pu_s]
        · rw [ds_net_s hn hu]
          by_cases m1 : m u = 1
          · rw [b3 m1, if_pos m1]
          · rw [b4 m1, if_neg m1, if_pos h, ds_pu_n (by omega), a10]
        · rw [b5 j j1 j2, ds_pu_n j1]
      · refine ⟨ds_v120 (by omega), nm_r (e' := ds_A (ds_pu R (10 * 12 + u) (ds_am v g c p ex u))) ?_ (ds_bn145 (by omega) (fun R' b1 b2 b3 b4 b5 => H R' (ds_nv_out hn hu N ?_ ?_ (fun j j1 j2 => ?_))))⟩
        · rw [ds_c120 (by omega)]
          exact ds_upd _ _ _
        · rw [ds_net_t hn hu]
          by_cases m2 : m u = 2
          · rw [b1 m2, if_pos m2]
          · rw [b2 m2, if_neg m2, if_neg (by omega), ds_pu_n (by omega), a11]
        · rw [ds_net_s hn hu]
          by_cases m1 : m u = 1
          · rw [b3 m1, if_pos m1]
          · rw [b4 m1, if_neg m1, if_neg (by omega), ds_pu_s]
        · rw [b5 j j1 j2, ds_pu_n j2]
    · have hu10 : u < 10 := by omega
      have hv10 : v < 10 := by omega
      refine ⟨ds_v10 hu10 hv10, nm_r (e' := ds_i (2 * g * ex u - 2 * c + ds_sm (fun v => g * p (u * 10 + v)) (v + 1))) ?_ ⟨ds_v10 hu10 hv10, ds_v12 (by omega) (by omega), nm_r (e' := ds_A (ds_pu R (u * 12 + v) (g * p (u * 10 + v)))) ?_ (nm_r (nI_1 v) (ih (v + 1) _ (by omega) (by omega) (ds_nv_s N hu10 hv10)))⟩⟩
      · rw [ds_c10 hu10 hv10]
        show ds_i _ + ds_i g * ds_i (p (u * 10 + v)) = ds_i (_ + (ds_sm (fun v => g * p (u * 10 + v)) v + g * p (u * 10 + v)))
        rw [ds_im, ds_ia, Int.add_assoc]
      · rw [ds_c10 hu10 hv10, ds_c12 (by omega) (by omega)]
        exact (congrArg (upd _ _) (ds_im _ _)).trans (ds_upd _ _ _)
theorem ds_bn24 {post : SX → Prop} (G : ds_gr n p ex) (hg : 1 ≤ g) (hg2 : g ≤ 20) (hc : 0 ≤ c) (hc2 : c ≤ 2000)
    (H : ∀ R', ds_isn n g c p ex m R' → post (nI n, fc, ft, fb, fs, ds_A p, ds_A ex, m, ds_A R', ac, aq, ah)) :
    ∀ (k u : Nat) (R : Nat → Int), u ≤ n → n - u < k → ds_nu n g c p ex m R u →
    wX_buildNetwork_24 post (ds_i g) (ds_i c) (nI n) fc ft fb fs k (nI u) (ds_A p) (ds_A ex) m (ds_A R) ac aq ah := by
  have hn := G.2.1
  intro k
  induction k with
  | zero => intro u R _ hk; omega
  | succ k ih =>
    intro u R hu hk N
    refine pk_le n u (fun z => ?_) (fun z => ?_)
    · have : u = n := by omega
      subst this
      exact H R (ds_nu_end hn N)
    · refine ⟨vp_in_nI (by omega) (by omega), nm_r (e' := ds_i (2 * g * ex u - 2 * c + ds_sm (fun v => g * p (u * 10 + v)) 0)) ?_ ⟨n + 1, ?_⟩⟩
      · rw [nI_clamp (by omega)]
        show ds_i 2 * ds_i g * ds_i (ex u) - ds_i 2 * ds_i c = ds_i (_ + 0)
        rw [ds_im, ds_im, ds_im, ds_is, Int.add_zero]
      · exact ds_bn51 G hg hg2 hc hc2 z (fun R' N' => ih (u + 1) R' (by omega) (by omega) N') (n + 1) 0 R (by omega) (by omega) (ds_nu_in N)
theorem ds_bn2 {post : SX → Prop} {x1 x2 : Int32}
    (H : ∀ R', (∀ j, j < 144 → R' j = 0) → ∃ n24, wX_buildNetwork_24 post x1 x2 (nI n) fc ft fb fs n24 0 (ds_A p) (ds_A ex) m (ds_A R') ac aq ah) :
    ∀ (k i : Nat) (R : Nat → Int), i ≤ 144 → 144 - i < k → (∀ j, j < i → R j = 0) →
    wX_buildNetwork_2 post x1 x2 (nI n) fc ft fb fs k (nI i) (ds_A p) (ds_A ex) m (ds_A R) ac aq ah := by
  intro k
  induction k with
  | zero => intro i R _ hk; omega
  | succ k ih =>
    intro i R hi hk h
    refine pk_le 144 i (fun z => ?_) (fun z => ?_)
    · exact H R (fun j hj => h j (by omega))
    · refine ⟨vp_in_nI (by omega) (by omega), nm_r (e' := ds_A (ds_pu R i 0)) ?_ (nm_r (nI_1 i) (ih (i + 1) _ (by omega) (by omega) (fun j hj => ?_)))⟩
      · rw [nI_clamp (by omega)]
        exact ds_upd R _ 0
      · by_cases e : j = i
        · subst e; exact ds_pu_s
        · rw [ds_pu_n e]; exact h j (by omega)
theorem ds_build {post : SX → Prop} {ar : Nat → Int32} (G : ds_gr n p ex) (hg : 1 ≤ g) (hg2 : g ≤ 20) (hc : 0 ≤ c) (hc2 : c ≤ 2000)
    (H : ∀ R', ds_isn n g c p ex m R' → post (nI n, fc, ft, fb, fs, ds_A p, ds_A ex, m, ds_A R', ac, aq, ah)) :
    wpX_buildNetwork post (nI n, fc, ft, fb, fs, ds_A p, ds_A ex, m, ar, ac, aq, ah) (ds_i g) (ds_i c) := by
  unfold wpX_buildNetwork
  rw [ds_Aof ar]
  refine ⟨145, ds_bn2 (fun R' h => ⟨n + 1, ?_⟩) 145 0 _ (by omega) (by omega) (fun j hj => by omega)⟩
  refine ds_bn24 G hg hg2 hc hc2 H (n + 1) 0 R' (by omega) (by omega) ?_
  intro x y hx hy
  rw [h _ (by omega), if_neg (by omega)]
/-- THE CUT walked: the largest allowed set of greatest value -/
def ds_best (n : Nat) (g c : Int) (p ex : Nat → Int) (m : Nat → Int32) (S : Nat → Bool) : Prop :=
  ds_al n m S ∧ ∀ B : Nat → Bool, ds_al n m B → ds_vl n g c p ex B ≤ ds_vl n g c p ex S ∧ (ds_vl n g c p ex B = ds_vl n g c p ex S → ∀ u, u < n → B u = true → S u = true)
theorem ds_cutX {post : SX → Prop} {ar : Nat → Int32} (G : ds_gr n p ex) (hg : 1 ≤ g) (hg2 : g ≤ 20) (hc : 0 ≤ c) (hc2 : c ≤ 2000)
    (H : ∀ cs ar' ac' aq' ah', (∀ i, n ≤ i → i < 32 → bt cs i = false) → ds_best n g c p ex m (bt cs) → post (nI n, cs, ft, fb, fs, ds_A p, ds_A ex, m, ar', ac', aq', ah')) :
    wpX_cut post (nI n, fc, ft, fb, fs, ds_A p, ds_A ex, m, ar, ac, aq, ah) (ds_i g) (ds_i c) := by
  have hn := G.2.1
  unfold wpX_cut
  refine ds_build G hg hg2 hc hc2 (fun R0 N => ?_)
  have ok0 := ds_isn_ok G hg hg2 hc hc2 N
  have main : ∀ (ac aq : Nat → Int32) (r : Int32), (∃ D, ds_way n R0 ac D) → ds_clo R0 ac → ((r = 1 ∧ ds_rc ac 11) ∨ (r = 0 ∧ ¬ ds_rc ac 11)) → ∃ n14, wX_cut_14 post n14 r 0 (nI n) fc ft fb fs (ds_A p) (ds_A ex) m (ds_A R0) ac aq ah := by
    intro ac aq r W C hr
    refine ⟨1741, ds_ct14 (R0 := R0) hn ?_ 1741 0 R0 ac aq (fun _ => 0) 0 r ok0 (fun a b _ _ _ => Nat.zero_le _) rfl (by omega) ?_ (fun A _ _ => by omega) W C (by omega) hr⟩
    · intro R ac aq K ok hv C h11
      refine ⟨13, ds_ct44 (fun ah1 h1 => ⟨13, ?_⟩) 13 0 ah (by omega) (by omega) (fun j hj => by omega)⟩
      refine ds_ct90 hn ok (fun e ah2 aq2 q B => ⟨n + 1, ?_⟩) 13 0 1 ah1 _ (fun _ => 11) (by omega) (ds_bko_0 h1)
      obtain ⟨e1, e2, e3⟩ := ds_bko_end B
      refine ds_ct198 hn (fun cs hcs => ?_) (n + 1) 0 0 (by omega) (by omega) (fun i hi => ?_)
      · have cb : ∀ u, u < n → (fun z => decide (ah2 z = 0)) u = bt cs u := by
          intro u hu
          rw [hcs u (by omega)]
          (try dsimp only)
          congr 1
          exact propext ⟨fun w => ⟨hu, w⟩, fun w => w.2⟩
        have s10 : ah2 10 = 0 := by
          rcases Classical.em (ah2 10 = 0) with z | z
          · exact z
          · have := e3 (fun z => ¬ ds_rc ac z) h11 (fun x y hx hy py rx px => py (C.2 x y hx hy px rx)) 10 (by omega) z
            exact absurd C.1 this
        have F := ds_fin (S := fun z => decide (ah2 z = 0)) G hg hg2 hc hc2 N ok hv (decide_eq_true s10) (decide_eq_false e1)
          (fun x y hx hy nx sy rx => decide_eq_false (e2 x y hx hy nx (of_decide_eq_false sy) rx))
          (fun P P1 P2 z hz sz => e3 P P1 P2 z hz (of_decide_eq_false sz))
        refine H cs _ _ _ _ (fun i h1 h2 => ?_) ⟨ds_al_c cb F.1, fun B hB => ?_⟩
        · rw [hcs i h2, decide_eq_false (by omega)]
        · have F2 := F.2 B hB
          rw [ds_vl_c cb] at F2
          exact ⟨F2.1, fun h u hu hb => by rw [← cb u hu]; exact F2.2 h u hu hb⟩
      · rw [b_0, decide_eq_false (by omega)]
    · rw [ds_adm_z]
      (try dsimp only)
      omega
  refine ds_findWay hn ok0 (fun ac' aq' W C => ⟨fun h => ?_, fun h => ?_⟩)
  · exact main ac' aq' 1 W C (Or.inl ⟨rfl, h⟩)
  · exact main ac' aq' 0 W C (Or.inr ⟨rfl, h⟩)
end
end
section
/-! weight, members, size, allowed, gcd, common walked -/
/-- the weight as the component sums it: pairs from the lower vertex up -/
def ds_wx (n : Nat) (p ex : Nat → Int) (S : Nat → Bool) : Int := ds_sm (fun u => if S u = true then ex u + ds_sm (fun v => if u < v ∧ S v = true then p (u * 10 + v) else 0) n else 0) n
theorem ds_wx_eq {n : Nat} {p ex : Nat → Int} (G : ds_gr n p ex) (S : Nat → Bool) : ds_wx n p ex S = ds_wt n p ex S := by
  obtain ⟨_, hn, _, _, hsy, _⟩ := G
  have e1 : ds_wx n p ex S = ds_sm (fun u => if S u = true then ex u else 0) n + ds_sm (fun u => ds_sm (fun v => if u < v ∧ S u = true ∧ S v = true then p (u * 10 + v) else 0) n) n := by
    unfold ds_wx
    rw [← ds_sm_a]
    apply ds_sm_c
    intro u hu
    (try dsimp only)
    cases hS : S u
    · rw [if_neg (by decide), if_neg (by decide), ds_sm_0]
      · rfl
      · intro v _; (try dsimp only); rw [if_neg (by intro z; exact absurd z.2.1 (by decide))]
    · rw [if_pos rfl, if_pos rfl]
      congr 1
      apply ds_sm_c
      intro v hv
      (try dsimp only)
      by_cases z : u < v ∧ S v = true
      · rw [if_pos z, if_pos ⟨z.1, rfl, z.2⟩]
      · rw [if_neg z, if_neg (fun w => z ⟨w.1, w.2.2⟩)]
  have e2 : ds_wt n p ex S = ds_sm (fun u => if S u = true then ex u else 0) n + ds_sm (fun v => ds_sm (fun u => if u < v ∧ S u = true ∧ S v = true then p (u * 10 + v) else 0) n) n := by
    unfold ds_wt
    rw [← ds_sm_a]
    apply ds_sm_c
    intro v hv
    (try dsimp only)
    rw [ds_sm_cut (f := fun u => if u < v ∧ S u = true ∧ S v = true then p (u * 10 + v) else 0) (m := v) (n := n) (by omega) (by intro j h1 h2; (try dsimp only); rw [if_neg (by omega)])]
    cases hS : S v
    · rw [if_neg (by decide), if_neg (by decide), ds_sm_0]
      · rfl
      · intro u _; (try dsimp only); rw [if_neg (by intro z; exact absurd z.2.2 (by decide))]
    · rw [if_pos rfl, if_pos rfl]
      congr 1
      apply ds_sm_c
      intro u hu
      (try dsimp only)
      rw [hsy v u (by omega) (by omega)]
      by_cases z : S u = true
      · rw [if_pos z, if_pos ⟨hu, z, rfl⟩]
      · rw [if_neg z, if_neg (fun w => z w.2.1)]
  rw [e1, e2, ds_sm_x]
theorem ds_bit1 {x : Int32} {i : Nat} {A B : Prop} (hi : i < 32) (f : bt x i = true → A) (g : bt x i = false → B) : (((x >>> (nI i &&& 31)) &&& 1) = 1 → A) ∧ (¬ ((x >>> (nI i &&& 31)) &&& 1) = 1 → B) := by
  rw [ds_bit x hi]
  cases h : bt x i
  · rw [if_neg (by decide)]
    exact br_f (by decide) (g h)
  · rw [if_pos rfl]
    exact br_t rfl (f h)
theorem ds_bit0 {x : Int32} {i : Nat} {A B : Prop} (hi : i < 32) (f : bt x i = false → A) (g : bt x i = true → B) : (((x >>> (nI i &&& 31)) &&& 1) = 0 → A) ∧ (¬ ((x >>> (nI i &&& 31)) &&& 1) = 0 → B) := by
  rw [ds_bit x hi]
  cases h : bt x i
  · rw [if_neg (by decide)]
    exact br_t rfl (f h)
  · rw [if_pos rfl]
    exact br_f (by decide) (g h)
section
variable {n : Nat} {p ex : Nat → Int} {m : Nat → Int32} {fc ft fb fs : Int32} {ar ac aq ah : Nat → Int32}
theorem ds_xw37 {post : Int32 → Prop} {J : Int32 → Int32 → Prop} {x : Int32} {u : Nat} (hn : n ≤ 10) (hu : u < n) {z0 : Int}
    (H : J (ds_i (z0 + ds_sm (fun v => if u < v ∧ bt x v = true then p (u * 10 + v) else 0) n)) (nI (u + 1))) :
    ∀ k v, u < v → v ≤ n → n - v < k → wX_weight_37 post J x (nI u) (nI n) fc ft fb fs (ds_A p) (ds_A ex) m ar ac aq ah k (ds_i (z0 + ds_sm (fun v => if u < v ∧ bt x v = true then p (u * 10 + v) else 0) v)) (nI v) := by
  intro k
  induction k with
  | zero => intro v _ _ hk; omega
  | succ k ih =>
    intro v huv hv hk
    refine pk_le n v (fun z => ?_) (fun z => ?_)
    · have : v = n := by omega
      subst this
      exact nm_r (nI_1 u) H
    · have I := ih (v + 1) (by omega) (by omega) (by omega)
      refine ds_bit1 (by omega) (fun hb => ?_) (fun hb => ?_)
      · refine ⟨ds_v10 (by omega) (by omega), nm_r (e' := ds_i (z0 + ds_sm (fun v => if u < v ∧ bt x v = true then p (u * 10 + v) else 0) (v + 1))) ?_ (nm_r (nI_1 v) I)⟩
        rw [ds_c10 (by omega) (by omega)]
        show ds_i _ + ds_i _ = ds_i (z0 + (ds_sm (fun v => if u < v ∧ bt x v = true then p (u * 10 + v) else 0) v + (if u < v ∧ bt x v = true then p (u * 10 + v) else 0)))
        rw [if_pos ⟨huv, hb⟩, ds_ia, Int.add_assoc]
      · refine nm_r (nI_1 v) ?_
        have e : ds_sm (fun v => if u < v ∧ bt x v = true then p (u * 10 + v) else 0) (v + 1) = ds_sm (fun v => if u < v ∧ bt x v = true then p (u * 10 + v) else 0) v := by
          show _ + (if u < v ∧ bt x v = true then p (u * 10 + v) else 0) = _
          rw [if_neg (by rw [hb]; intro w; exact absurd w.2 (by decide)), Int.add_zero]
        rw [e] at I
        exact I
theorem ds_xw4 {post : Int32 → Prop} {x : Int32} (hn : n ≤ 10) (H : post (ds_i (ds_wx n p ex (bt x)))) :
    ∀ k u, u ≤ n → n - u < k → wX_weight_4 post x (nI n) fc ft fb fs (ds_A p) (ds_A ex) m ar ac aq ah k (ds_i (ds_sm (fun u => if bt x u = true then ex u + ds_sm (fun v => if u < v ∧ bt x v = true then p (u * 10 + v) else 0) n else 0) u)) (nI u) := by
  intro k
  induction k with
  | zero => intro u _ hk; omega
  | succ k ih =>
    intro u hu hk
    refine pk_le n u (fun z => ?_) (fun z => ?_)
    · have : u = n := by omega
      subst this
      exact H
    · have I := ih (u + 1) (by omega) (by omega)
      refine ds_bit0 (by omega) (fun hb => ?_) (fun hb => ?_)
      · refine nm_r (nI_1 u) ?_
        have e : ds_sm (fun u => if bt x u = true then ex u + ds_sm (fun v => if u < v ∧ bt x v = true then p (u * 10 + v) else 0) n else 0) (u + 1) = ds_sm (fun u => if bt x u = true then ex u + ds_sm (fun v => if u < v ∧ bt x v = true then p (u * 10 + v) else 0) n else 0) u := by
          show _ + (if bt x u = true then ex u + ds_sm (fun v => if u < v ∧ bt x v = true then p (u * 10 + v) else 0) n else 0) = _
          rw [hb, if_neg (by decide), Int.add_zero]
        rw [e] at I
        exact I
      · refine ⟨vp_in_nI (by omega) (by omega), nm_r (e' := ds_i (ds_sm (fun u => if bt x u = true then ex u + ds_sm (fun v => if u < v ∧ bt x v = true then p (u * 10 + v) else 0) n else 0) u + ex u)) ?_ (nm_r (nI_1 u) ⟨n + 1, ?_⟩)⟩
        · rw [nI_clamp (by omega)]
          exact ds_ia _ _
        · have e : ds_sm (fun v => if u < v ∧ bt x v = true then p (u * 10 + v) else 0) (u + 1) = 0 := ds_sm_0 (by
            intro j hj
            (try dsimp only)
            rw [if_neg (by omega)])
          have := ds_xw37 (post := post) (J := wX_weight_4 post x (nI n) fc ft fb fs (ds_A p) (ds_A ex) m ar ac aq ah k) (x := x) (fc := fc) (ft := ft) (fb := fb) (fs := fs) (m := m) (ar := ar) (ac := ac) (aq := aq) (ah := ah) (ex := ex) (p := p) hn z (z0 := ds_sm (fun u => if bt x u = true then ex u + ds_sm (fun v => if u < v ∧ bt x v = true then p (u * 10 + v) else 0) n else 0) u + ex u) (by
              have e2 : ds_sm (fun u => if bt x u = true then ex u + ds_sm (fun v => if u < v ∧ bt x v = true then p (u * 10 + v) else 0) n else 0) (u + 1) = ds_sm (fun u => if bt x u = true then ex u + ds_sm (fun v => if u < v ∧ bt x v = true then p (u * 10 + v) else 0) n else 0) u + ex u + ds_sm (fun v => if u < v ∧ bt x v = true then p (u * 10 + v) else 0) n := by
                show _ + (if bt x u = true then ex u + ds_sm (fun v => if u < v ∧ bt x v = true then p (u * 10 + v) else 0) n else 0) = _
                rw [if_pos hb, Int.add_assoc]
              rw [← e2]
              exact I) (n + 1) (u + 1) (by omega) (by omega) (by omega)
          rw [e, Int.add_zero] at this
          exact this
theorem ds_weightX {post : Int32 → Prop} {x : Int32} (G : ds_gr n p ex) (H : post (ds_i (ds_wt n p ex (bt x)))) : wpX_weight post (nI n, fc, ft, fb, fs, ds_A p, ds_A ex, m, ar, ac, aq, ah) x := by
  unfold wpX_weight
  refine ⟨n + 1, ds_xw4 G.2.1 ?_ (n + 1) 0 (by omega) (by omega)⟩
  rw [ds_wx_eq G]
  exact H
theorem ds_xm4 {post : Int32 → Prop} {x : Int32} (H : post (ds_i (ds_kz 10 (bt x)))) :
    ∀ k u, u ≤ 10 → 10 - u < k → wX_members_4 post x k (ds_i (ds_kz u (bt x))) (nI u) := by
  intro k
  induction k with
  | zero => intro u _ hk; omega
  | succ k ih =>
    intro u hu hk
    refine pk_le 10 u (fun z => ?_) (fun z => ?_)
    · have : u = 10 := by omega
      subst this
      exact H
    · refine nm_r (e' := ds_i (ds_kz (u + 1) (bt x))) ?_ (nm_r (nI_1 u) (ih (u + 1) (by omega) (by omega)))
      rw [ds_bit x (by omega)]
      show _ = ds_i (ds_kz u (bt x) + (if bt x u = true then 1 else 0))
      rw [← ds_ia]
      cases bt x u <;> rfl
theorem ds_membersX {post : Int32 → Prop} {x : Int32} (hn : n ≤ 10) (hx : ∀ i, n ≤ i → i < 32 → bt x i = false) (H : post (ds_i (ds_kz n (bt x)))) : wpX_members post x := by
  refine ⟨11, ds_xm4 ?_ 11 0 (by omega) (by omega)⟩
  have e : ds_kz 10 (bt x) = ds_kz n (bt x) := ds_sm_cut hn (by
    intro j h1 h2
    (try dsimp only)
    rw [hx j h1 (by omega), if_neg (by decide)])
  rw [e]
  exact H
end
/-! the reference's -/
/-- its table holds the pairs off the diagonal, the bonuses on it -/
def ds_tw (p ex : Nat → Int) (w : Nat → Int32) : Prop := ∀ u v, u < 10 → v < 10 → w (u * 10 + v) = if u = v then ds_i (ex u) else ds_i (p (u * 10 + v))
section
variable {n : Nat} {p ex : Nat → Int} {m w : Nat → Int32}
theorem ds_yw15 {post : Int32 → Prop} {J : Int32 → Int32 → Prop} {x : Int32} {u : Nat} (hn : n ≤ 10) (hu : u < n) (T : ds_tw p ex w) {z0 : Int}
    (H : J (ds_i (z0 + (if bt x u = true then ex u + ds_sm (fun v => if bt x v = true then p (u * 10 + v) else 0) u else 0))) (nI (u + 1))) :
    ∀ k v, v ≤ u → u + 1 - v < k → wY_weight_15 post J x (nI u) (nI n) w m k (ds_i (z0 + (if bt x u = true then ds_sm (fun v => if bt x v = true then p (u * 10 + v) else 0) v else 0))) (nI v) := by
  intro k
  induction k with
  | zero => intro v _ hk; omega
  | succ k ih =>
    intro v hv hk
    have stp : ∀ (z : Int), (v < u → z = z0 + (if bt x u = true then ds_sm (fun v => if bt x v = true then p (u * 10 + v) else 0) (v + 1) else 0)) → (v = u → z = z0 + (if bt x u = true then ex u + ds_sm (fun v => if bt x v = true then p (u * 10 + v) else 0) u else 0)) → wY_weight_15 post J x (nI u) (nI n) w m k (ds_i z) (nI (v + 1)) := by
      intro z h1 h2
      by_cases e : v = u
      · subst e
        rw [h2 rfl]
        have hk' : 0 < k := by omega
        obtain ⟨k', rfl⟩ : ∃ k', k = k' + 1 := ⟨k - 1, by omega⟩
        refine pk_lt v (v + 1) (fun _ => nm_r (nI_1 v) H) (fun q => by omega)
      · rw [h1 (by omega)]
        exact ih (v + 1) (by omega) (by omega)
    refine pk_lt u v (fun z => by omega) (fun z => ?_)
    refine ds_bit1 (by omega) (fun hb => ?_) (fun hb => ?_)
    · refine ds_bit1 (by omega) (fun hc => ?_) (fun hc => ?_)
      · refine ⟨ds_v10 (by omega) (by omega), nm_r (e' := ds_i (z0 + ds_sm (fun v => if bt x v = true then p (u * 10 + v) else 0) v + (if u = v then ex u else p (u * 10 + v)))) ?_ (nm_r (nI_1 v) (stp _ (fun q => ?_) (fun q => ?_)))⟩
        · rw [ds_c10 (by omega) (by omega), T u v (by omega) (by omega), if_pos hb]
          split <;> exact ds_ia _ _
        · rw [if_neg (show ¬ u = v by omega), if_pos hb]
          show _ = z0 + (ds_sm (fun v => if bt x v = true then p (u * 10 + v) else 0) v + (if bt x v = true then p (u * 10 + v) else 0))
          rw [if_pos hc, Int.add_assoc]
        · subst q
          rw [if_pos rfl, if_pos hb]
          omega
      · refine nm_r (nI_1 v) (stp _ (fun q => ?_) (fun q => ?_))
        · rw [if_pos hb, if_pos hb]
          show _ = z0 + (ds_sm (fun v => if bt x v = true then p (u * 10 + v) else 0) v + (if bt x v = true then p (u * 10 + v) else 0))
          rw [hc, if_neg (show ¬ false = true by decide), Int.add_zero]
        · subst q
          rw [hb] at hc
          exact absurd hc (by decide)
    · refine nm_r (nI_1 v) (stp _ (fun q => ?_) (fun q => ?_))
      · rw [hb, if_neg (by decide), if_neg (by decide)]
      · rw [hb, if_neg (by decide), if_neg (by decide)]
theorem ds_yw4 {post : Int32 → Prop} {x : Int32} (hn : n ≤ 10) (T : ds_tw p ex w) (H : post (ds_i (ds_wt n p ex (bt x)))) :
    ∀ k u, u ≤ n → n - u < k → wY_weight_4 post x (nI n) w m k (ds_i (ds_wt u p ex (bt x))) (nI u) := by
  intro k
  induction k with
  | zero => intro u _ hk; omega
  | succ k ih =>
    intro u hu hk
    refine pk_le n u (fun z => ?_) (fun z => ?_)
    · have : u = n := by omega
      subst this
      exact H
    · refine ⟨u + 2, ?_⟩
      have := ds_yw15 (post := post) (J := wY_weight_4 post x (nI n) w m k) (m := m) (x := x) hn z T (z0 := ds_wt u p ex (bt x)) (ih (u + 1) (by omega) (by omega)) (u + 2) 0 (by omega) (by omega)
      have e : ds_wt u p ex (bt x) + (if bt x u = true then ds_sm (fun v => if bt x v = true then p (u * 10 + v) else 0) 0 else 0) = ds_wt u p ex (bt x) := by
        have : ds_sm (fun v => if bt x v = true then p (u * 10 + v) else 0) 0 = 0 := rfl
        rw [this]
        split <;> omega
      rw [e] at this
      exact this
theorem ds_weightY {post : Int32 → Prop} {x : Int32} (hn : n ≤ 10) (T : ds_tw p ex w) (H : post (ds_i (ds_wt n p ex (bt x)))) : wpY_weight post (nI n, w, m) x :=
  ⟨n + 1, ds_yw4 hn T H (n + 1) 0 (by omega) (by omega)⟩
theorem ds_ys4 {post : Int32 → Prop} {x : Int32} (hn : n ≤ 10) (H : post (ds_i (ds_kz n (bt x)))) :
    ∀ k u, u ≤ n → n - u < k → wY_size_4 post x (nI n) w m k (ds_i (ds_kz u (bt x))) (nI u) := by
  intro k
  induction k with
  | zero => intro u _ hk; omega
  | succ k ih =>
    intro u hu hk
    refine pk_le n u (fun z => ?_) (fun z => ?_)
    · have : u = n := by omega
      subst this
      exact H
    · refine nm_r (e' := ds_i (ds_kz (u + 1) (bt x))) ?_ (nm_r (nI_1 u) (ih (u + 1) (by omega) (by omega)))
      rw [ds_bit x (by omega)]
      show _ = ds_i (ds_kz u (bt x) + (if bt x u = true then 1 else 0))
      rw [← ds_ia]
      cases bt x u <;> rfl
theorem ds_sizeY {post : Int32 → Prop} {x : Int32} (hn : n ≤ 10) (H : post (ds_i (ds_kz n (bt x)))) : wpY_size post (nI n, w, m) x :=
  ⟨n + 1, ds_ys4 hn H (n + 1) 0 (by omega) (by omega)⟩
theorem ds_yal {post : Int32 → Prop} {x : Int32} (hn : n ≤ 10) (H1 : ds_al n m (bt x) → post 1) (H0 : ¬ ds_al n m (bt x) → post 0) :
    ∀ k u, u ≤ n → n - u < k → ds_al u m (bt x) → wY_allowed_2 post x (nI n) w m k (nI u) := by
  intro k
  induction k with
  | zero => intro u _ hk; omega
  | succ k ih =>
    intro u hu hk A
    refine pk_le n u (fun z => ?_) (fun z => ?_)
    · have : u = n := by omega
      subst this
      exact H1 A
    · refine ds_bit1 (by omega) (fun hb => ?_) (fun hb => ?_)
      · unfold wY_allowed_24
        refine br_f (by decide) ⟨vp_in_nI (by omega) (by omega), ?_⟩
        rw [nI_clamp (by omega)]
        refine br_c (fun h => H0 (fun a => (a u z).1 hb h)) (fun h => ?_)
        unfold wY_allowed_39
        refine br_f (by decide) (nm_r (nI_1 u) (ih (u + 1) (by omega) (by omega) ?_))
        refine lt_s A ⟨fun _ => h, fun q => ?_⟩
        rw [hb] at q
        exact absurd q (by decide)
      · unfold wY_allowed_24
        refine br_t rfl ?_
        unfold wY_allowed_39
        refine br_t rfl ⟨vp_in_nI (by omega) (by omega), ?_⟩
        rw [nI_clamp (by omega)]
        refine br_c (fun h => H0 (fun a => (a u z).2 hb h)) (fun h => ?_)
        refine nm_r (nI_1 u) (ih (u + 1) (by omega) (by omega) ?_)
        refine lt_s A ⟨fun q => ?_, fun _ => h⟩
        rw [hb] at q
        exact absurd q (by decide)
theorem ds_allowedY {post : Int32 → Prop} {x : Int32} (hn : n ≤ 10) (H1 : ds_al n m (bt x) → post 1) (H0 : ¬ ds_al n m (bt x) → post 0) : wpY_allowed post (nI n, w, m) x :=
  ⟨n + 1, ds_yal hn H1 H0 (n + 1) 0 (by omega) (by omega) (fun u hu => absurd hu (Nat.not_lt_zero u))⟩
end
end
section
/-! gcd, common, densities, solve -/
theorem ds_wt_ub {n : Nat} {p ex : Nat → Int} (G : ds_gr n p ex) (S : Nat → Bool) : ds_wt n p ex S ≤ 1100 := by
  obtain ⟨h1, h2, hp, he, _, _⟩ := G
  have a : ds_wt n p ex S ≤ ds_sm (fun u => 20 + 20 * (u : Int)) n := by
    apply ds_sm_le
    intro j hj
    (try dsimp only)
    have := ds_sm_ub (n := j) (c := 20) (f := fun v => if S v = true then p (j * 10 + v) else 0) (by
      intro v _; (try dsimp only); have := hp (j * 10 + v); split <;> omega)
    have := he j
    split <;> omega
  have b : ∀ n, n < 11 → ds_sm (fun u => 20 + 20 * (u : Int)) n ≤ 1100 := by decide +kernel
  exact Int.le_trans a (b n (by omega))
theorem ds_xgcd {post : Int32 → Prop} : ∀ (k a b i : Nat), a < 2 ^ 31 → b + i ≤ 30 → b < k → post (nI (Nat.gcd a b)) → wX_gcd_7 post k (nI a) (nI b) (nI i) := by
  intro k
  induction k with
  | zero => intro a b i _ _ hk; omega
  | succ k ih =>
    intro a b i ha hi hk H
    refine pk_le 40 i (fun z => by omega) (fun z => ?_)
    refine pk_le b 0 (fun w => ?_) (fun w => ?_)
    · have : b = 0 := by omega
      subst this
      rw [Nat.gcd_zero_right] at H
      exact H
    · have hl := Nat.mod_lt a w
      refine ⟨nI_ne0 w (by omega), nm_r (pk_rem ha w (by omega)) (nm_r (nI_1 i) (ih b (a % b) (i + 1) (by omega) (by omega) (by omega) ?_))⟩
      rw [Nat.gcd_comm b, ← Nat.gcd_rec, Nat.gcd_comm]
      exact H
theorem ds_gcdX {post : Int32 → Prop} {a b : Nat} (ha : a < 2 ^ 31) (hb : b ≤ 10) (H : post (nI (Nat.gcd a b))) : wpX_gcd post (nI a) (nI b) :=
  ⟨b + 1, ds_xgcd (b + 1) a b 0 ha (by omega) (by omega) H⟩
theorem ds_ycom {post : Int32 → Prop} {fn : Int32} {w m : Nat → Int32} {a b : Nat} (ha : a < 2 ^ 31) (hb : b ≤ 10) (b0 : 0 < b) (H : post (nI (Nat.gcd a b))) :
    ∀ k d, 1 ≤ d → d ≤ 10 → d ≤ k → Nat.gcd a b ≤ d → wY_common_16 post (nI a) (nI b) fn w m k (nI d) := by
  have g0 : 0 < Nat.gcd a b := Nat.gcd_pos_of_pos_right a b0
  intro k
  induction k with
  | zero => intro d _ _ hk; omega
  | succ k ih =>
    intro d h1 h2 hk hg
    refine pk_le d 1 (fun z => ?_) (fun z => ?_)
    · have : Nat.gcd a b = 1 := by omega
      rw [this] at H
      exact H
    · have d0 : 0 < d := by omega
      have nx : nI d + (-1) = nI (d - 1) := by
        have := pk_m1 (d - 1)
        rw [Nat.sub_add_cancel h1] at this
        exact this
      refine ⟨nI_ne0 d0 (by omega), ?_⟩
      rw [pk_rem ha d0 (by omega), pk_rem (show b < 2 ^ 31 by omega) d0 (by omega)]
      have lt1 := Nat.mod_lt a d0
      have lt2 := Nat.mod_lt b d0
      refine pk_eq (a % d) 0 (fun e1 => ?_) (fun e1 => ?_)
      · refine ⟨nI_ne0 d0 (by omega), ?_⟩
        refine pk_eq (b % d) 0 (fun e2 => ?_) (fun e2 => ?_)
        · have dv := Nat.dvd_gcd (Nat.dvd_of_mod_eq_zero e1) (Nat.dvd_of_mod_eq_zero e2)
          have := Nat.le_of_dvd g0 dv
          have : Nat.gcd a b = d := by omega
          rw [this] at H
          exact H
        · refine nm_r nx (ih (d - 1) (by omega) (by omega) (by omega) ?_)
          have : Nat.gcd a b ≠ d := fun q => e2 (Nat.mod_eq_zero_of_dvd (q ▸ Nat.gcd_dvd_right a b))
          omega
      · refine nm_r nx (ih (d - 1) (by omega) (by omega) (by omega) ?_)
        have : Nat.gcd a b ≠ d := fun q => e1 (Nat.mod_eq_zero_of_dvd (q ▸ Nat.gcd_dvd_left a b))
        omega
/-- the reduced fraction is the fraction's own -/
theorem ds_red {a b a' b' : Nat} (hb : 0 < b) (hb' : 0 < b') (h : a * b' = a' * b) : a / Nat.gcd a b = a' / Nat.gcd a' b' ∧ b / Nat.gcd a b = b' / Nat.gcd a' b' := by
  have g0 : 0 < Nat.gcd a b := Nat.gcd_pos_of_pos_right a hb
  have g1 : 0 < Nat.gcd a' b' := Nat.gcd_pos_of_pos_right a' hb'
  have k1 := Nat.div_mul_cancel (Nat.gcd_dvd_left a b)
  have k2 := Nat.div_mul_cancel (Nat.gcd_dvd_right a b)
  have k3 := Nat.div_mul_cancel (Nat.gcd_dvd_left a' b')
  have k4 := Nat.div_mul_cancel (Nat.gcd_dvd_right a' b')
  have c1 : Nat.Coprime (a / Nat.gcd a b) (b / Nat.gcd a b) := Nat.coprime_div_gcd_div_gcd g0
  have c2 : Nat.Coprime (a' / Nat.gcd a' b') (b' / Nat.gcd a' b') := Nat.coprime_div_gcd_div_gcd g1
  generalize a / Nat.gcd a b = x at *
  generalize b / Nat.gcd a b = y at *
  generalize a' / Nat.gcd a' b' = x' at *
  generalize b' / Nat.gcd a' b' = y' at *
  generalize Nat.gcd a b = g at *
  generalize Nat.gcd a' b' = g' at *
  subst k1 k2 k3 k4
  have e : x * y' = x' * y := by
    have q : (g * g') * (x * y') = (g * g') * (x' * y) := by
      have : x * g * (y' * g') = x' * g' * (y * g) := h
      calc (g * g') * (x * y') = x * g * (y' * g') := by ac_rfl
        _ = x' * g' * (y * g) := this
        _ = (g * g') * (x' * y) := by ac_rfl
    exact Nat.eq_of_mul_eq_mul_left (Nat.mul_pos g0 g1) q
  have y0 : 0 < y := Nat.pos_of_mul_pos_right hb
  have d1 : y ∣ y' := c1.symm.dvd_of_dvd_mul_left (e ▸ Nat.dvd_mul_left y x')
  have d2 : y' ∣ y := c2.symm.dvd_of_dvd_mul_left (e ▸ Nat.dvd_mul_left y' x)
  have ey : y = y' := Nat.dvd_antisymm d1 d2
  subst ey
  exact ⟨Nat.eq_of_mul_eq_mul_right y0 e, rfl⟩
/-- a set's weight and size as naturals, and its reduced density -/
def ds_W (n : Nat) (p ex : Nat → Int) (S : Nat → Bool) : Nat := (ds_wt n p ex S).toNat
def ds_N (n : Nat) (S : Nat → Bool) : Nat := (ds_kz n S).toNat
def ds_top (n : Nat) (p ex : Nat → Int) (S : Nat → Bool) : Nat := ds_W n p ex S / Nat.gcd (ds_W n p ex S) (ds_N n S)
def ds_bot (n : Nat) (p ex : Nat → Int) (S : Nat → Bool) : Nat := ds_N n S / Nat.gcd (ds_W n p ex S) (ds_N n S)
theorem ds_WI {n : Nat} {p ex : Nat → Int} (G : ds_gr n p ex) (S : Nat → Bool) : ((ds_W n p ex S : Nat) : Int) = ds_wt n p ex S := Int.toNat_of_nonneg (ds_wt_b G S).1
theorem ds_NI (n : Nat) (S : Nat → Bool) : ((ds_N n S : Nat) : Int) = ds_kz n S := Int.toNat_of_nonneg (ds_kz_b n S).1
theorem ds_wtI {n : Nat} {p ex : Nat → Int} (G : ds_gr n p ex) (S : Nat → Bool) : ds_i (ds_wt n p ex S) = nI (ds_W n p ex S) := by rw [ds_iN, ds_WI G]
theorem ds_kzI (n : Nat) (S : Nat → Bool) : ds_i (ds_kz n S) = nI (ds_N n S) := by rw [ds_iN, ds_NI]
section
variable {n : Nat} {p ex : Nat → Int}
theorem ds_W_b (G : ds_gr n p ex) (S : Nat → Bool) : ds_W n p ex S ≤ 1100 := by
  have := ds_wt_ub G S
  have := ds_WI G S
  omega
theorem ds_N_b (hn : n ≤ 10) (S : Nat → Bool) : ds_N n S ≤ 10 := by
  have := (ds_kz_b n S).2
  have := ds_NI n S
  omega
/-- what top and bottom are -/
theorem ds_tb (G : ds_gr n p ex) {S : Nat → Bool} (h : 1 ≤ ds_kz n S) : 1 ≤ ds_bot n p ex S ∧ ds_bot n p ex S ≤ 10 ∧ ds_top n p ex S ≤ 1100 ∧ ∃ g : Int, 1 ≤ g ∧ g * (ds_bot n p ex S : Int) = ds_kz n S ∧ g * (ds_top n p ex S : Int) = ds_wt n p ex S := by
  have n1 : 1 ≤ ds_N n S := by have := ds_NI n S; omega
  have g0 : 0 < Nat.gcd (ds_W n p ex S) (ds_N n S) := Nat.gcd_pos_of_pos_right _ n1
  have k1 := Nat.div_mul_cancel (Nat.gcd_dvd_left (ds_W n p ex S) (ds_N n S))
  have k2 := Nat.div_mul_cancel (Nat.gcd_dvd_right (ds_W n p ex S) (ds_N n S))
  have w := ds_W_b G S
  have q := ds_N_b G.2.1 S
  refine ⟨Nat.div_pos (Nat.le_of_dvd n1 (Nat.gcd_dvd_right _ _)) g0, Nat.le_trans (Nat.div_le_self _ _) q, Nat.le_trans (Nat.div_le_self _ _) w, ((Nat.gcd (ds_W n p ex S) (ds_N n S) : Nat) : Int), by omega, ?_, ?_⟩
  · rw [← ds_NI, ← Int.natCast_mul, Nat.mul_comm]
    exact congrArg Int.ofNat k2
  · rw [← ds_WI G, ← Int.natCast_mul, Nat.mul_comm]
    exact congrArg Int.ofNat k1
/-- the value at a set's own density, by its sign -/
theorem ds_vs (G : ds_gr n p ex) {S : Nat → Bool} (h : 1 ≤ ds_kz n S) (B : Nat → Bool) :
    (ds_vl n (ds_bot n p ex S) (ds_top n p ex S) p ex B ≤ 0 ↔ ds_wt n p ex B * ds_kz n S ≤ ds_wt n p ex S * ds_kz n B) ∧ (ds_vl n (ds_bot n p ex S) (ds_top n p ex S) p ex B = 0 ↔ ds_wt n p ex B * ds_kz n S = ds_wt n p ex S * ds_kz n B) := by
  obtain ⟨_, _, _, g, g1, e1, e2⟩ := ds_tb G h
  have e : g * ds_vl n (ds_bot n p ex S) (ds_top n p ex S) p ex B = ds_wt n p ex B * ds_kz n S - ds_wt n p ex S * ds_kz n B := by
    unfold ds_vl
    rw [Int.mul_sub, ← Int.mul_assoc, ← Int.mul_assoc, e1, e2, Int.mul_comm (ds_kz n S)]
  generalize ds_vl n (ds_bot n p ex S) (ds_top n p ex S) p ex B = v at e
  generalize ds_wt n p ex B * ds_kz n S = x at *
  generalize ds_wt n p ex S * ds_kz n B = y at *
  have s1 : v ≤ 0 → g * v ≤ 0 := fun z => Int.mul_nonpos_of_nonneg_of_nonpos (by omega) z
  have s2 : 0 < v → 0 < g * v := fun z => Int.mul_pos (by omega) z
  have s3 : v < 0 → g * v < 0 := fun z => Int.mul_neg_of_pos_of_neg (by omega) z
  constructor
  · constructor
    · intro z; have := s1 z; omega
    · intro z
      by_cases q : 0 < v
      · have := s2 q; omega
      · omega
  · constructor
    · intro z
      rw [z, Int.mul_zero] at e
      omega
    · intro z
      by_cases q : 0 < v
      · have := s2 q; omega
      · by_cases q2 : v < 0
        · have := s3 q2; omega
        · omega
end
end
section
/-! the price rises from cut to cut -/
def ds_inv (n : Nat) (p ex : Nat → Int) (m : Nat → Int32) (S : Nat → Bool) : Prop :=
  ds_al n m S ∧ 1 ≤ ds_kz n S ∧ ∀ B : Nat → Bool, ds_al n m B → ds_wt n p ex S * ds_kz n B < ds_wt n p ex B * ds_kz n S → ds_kz n B < ds_kz n S
def ds_sol (n : Nat) (p ex : Nat → Int) (m : Nat → Int32) (S C : Nat → Bool) : Prop :=
  ds_al n m S ∧ 1 ≤ ds_kz n S ∧ (∀ B : Nat → Bool, ds_al n m B → ds_wt n p ex B * ds_kz n S ≤ ds_wt n p ex S * ds_kz n B) ∧ ds_al n m C ∧ ds_wt n p ex C * ds_kz n S = ds_wt n p ex S * ds_kz n C ∧
  ∀ B : Nat → Bool, ds_al n m B → ds_wt n p ex B * ds_kz n S = ds_wt n p ex S * ds_kz n B → ∀ u, u < n → B u = true → C u = true
theorem ds_dkx {b t wB kB wC kC : Int} (hb : 1 ≤ b) (hkC : 0 ≤ kC) (hV : 0 < b * wC - t * kC) (hle : b * wB - t * kB ≤ b * wC - t * kC) (hd : wC * kB < wB * kC) : kB < kC := by
  by_cases hk : kB < kC
  · exact hk
  · exfalso
    have h1 : kC * (b * wB - t * kB) ≤ kC * (b * wC - t * kC) := Int.mul_le_mul_of_nonneg_left hle hkC
    have h2 : kC * (b * wC - t * kC) ≤ kB * (b * wC - t * kC) := Int.mul_le_mul_of_nonneg_right (by omega) (by omega)
    have h3 : b * (wC * kB + 1) ≤ b * (wB * kC) := Int.mul_le_mul_of_nonneg_left (by omega) (by omega)
    have e1 : kC * (b * wB - t * kB) = b * (wB * kC) - t * (kB * kC) := by
      rw [Int.mul_sub]
      congr 1 <;> ac_rfl
    have e2 : kB * (b * wC - t * kC) = b * (wC * kB) - t * (kB * kC) := by
      rw [Int.mul_sub]
      congr 1 <;> ac_rfl
    rw [Int.mul_add, Int.mul_one] at h3
    omega
section
variable {n : Nat} {p ex : Nat → Int} {m : Nat → Int32}
theorem ds_dka (G : ds_gr n p ex) {S C : Nat → Bool} (I : ds_inv n p ex m S) (B : ds_best n (ds_bot n p ex S) (ds_top n p ex S) p ex m C) (h : ds_vl n (ds_bot n p ex S) (ds_top n p ex S) p ex C ≤ 0) : ds_sol n p ex m S C := by
  obtain ⟨i1, i2, i3⟩ := I
  obtain ⟨b1, b2⟩ := B
  have s0 : ds_vl n (ds_bot n p ex S) (ds_top n p ex S) p ex S = 0 := (ds_vs G i2 S).2.mpr rfl
  have c0 : ds_vl n (ds_bot n p ex S) (ds_top n p ex S) p ex C = 0 := by
    have := (b2 S i1).1
    omega
  refine ⟨i1, i2, fun B hB => ?_, b1, (ds_vs G i2 C).2.mp c0, fun B hB e => ?_⟩
  · have := (b2 B hB).1
    exact (ds_vs G i2 B).1.mp (by omega)
  · have := (ds_vs G i2 B).2.mpr e
    exact (b2 B hB).2 (by omega)
theorem ds_dkb (G : ds_gr n p ex) {S C : Nat → Bool} (I : ds_inv n p ex m S) (B : ds_best n (ds_bot n p ex S) (ds_top n p ex S) p ex m C) (h : 0 < ds_vl n (ds_bot n p ex S) (ds_top n p ex S) p ex C) : ds_inv n p ex m C ∧ ds_kz n C < ds_kz n S := by
  obtain ⟨i1, i2, i3⟩ := I
  obtain ⟨b1, b2⟩ := B
  have k0 := (ds_kz_b n C).1
  have k1 : 1 ≤ ds_kz n C := by
    by_cases q : ds_kz n C = 0
    · have w := ds_wt_0 (p := p) (ex := ex) (ds_kz_0.mp q)
      unfold ds_vl at h
      rw [q, w, Int.mul_zero, Int.mul_zero] at h
      omega
    · omega
  refine ⟨⟨b1, k1, fun B hB hd => ?_⟩, i3 C b1 ?_⟩
  · have t := (ds_tb G i2).1
    exact ds_dkx (b := (ds_bot n p ex S : Int)) (t := (ds_top n p ex S : Int)) (by omega) k0 h (b2 B hB).1 hd
  · have := (ds_vs G i2 C).1
    by_cases q : ds_wt n p ex C * ds_kz n S ≤ ds_wt n p ex S * ds_kz n C
    · have := this.mpr q
      omega
    · omega
end
section
variable {n : Nat} {p ex : Nat → Int} {m : Nat → Int32}
theorem ds_takeX {post : SX → Prop} {x fc ft fb fs : Int32} {ar ac aq ah : Nat → Int32} (G : ds_gr n p ex) (hx : ∀ i, n ≤ i → i < 32 → bt x i = false) (h1 : 1 ≤ ds_kz n (bt x))
    (H : post (nI n, fc, ds_i (ds_top n p ex (bt x) : Int), ds_i (ds_bot n p ex (bt x) : Int), x, ds_A p, ds_A ex, m, ar, ac, aq, ah)) :
    wpX_takeDensity post (nI n, fc, ft, fb, fs, ds_A p, ds_A ex, m, ar, ac, aq, ah) x := by
  have hW := ds_W_b G (bt x)
  have hN := ds_N_b G.2.1 (bt x)
  have n1 : 1 ≤ ds_N n (bt x) := by have := ds_NI n (bt x); omega
  have g0 : 0 < Nat.gcd (ds_W n p ex (bt x)) (ds_N n (bt x)) := Nat.gcd_pos_of_pos_right _ n1
  have g1 := Nat.gcd_le_right (ds_W n p ex (bt x)) n1
  rw [← ds_iN, ← ds_iN] at H
  unfold ds_top ds_bot at H
  unfold wpX_takeDensity
  refine ds_weightX G ?_
  refine ds_membersX G.2.1 hx ?_
  rw [ds_wtI G, ds_kzI]
  refine ds_gcdX (by omega) hN ?_
  refine pk_le (Nat.gcd (ds_W n p ex (bt x)) (ds_N n (bt x))) 1 (fun z => ?_) (fun z => ?_)
  · have e : Nat.gcd (ds_W n p ex (bt x)) (ds_N n (bt x)) = 1 := by omega
    rw [e, Nat.div_one, Nat.div_one] at H
    exact H
  · exact ⟨nI_ne0 g0 (by omega), nm_r (pk_div (by omega) g0 (by omega)) ⟨nI_ne0 g0 (by omega), nm_r (pk_div (by omega) g0 (by omega)) H⟩⟩
theorem ds_valX {post : Int32 → Prop} {g c : Int} {x fc ft fb fs : Int32} {ar ac aq ah : Nat → Int32} (G : ds_gr n p ex) (hx : ∀ i, n ≤ i → i < 32 → bt x i = false)
    (H : post (ds_i (ds_vl n g c p ex (bt x)))) : wpX_valueOf post (nI n, fc, ft, fb, fs, ds_A p, ds_A ex, m, ar, ac, aq, ah) x (ds_i g) (ds_i c) := by
  unfold wpX_valueOf
  refine ds_weightX G ?_
  refine ds_membersX G.2.1 hx ?_
  rw [ds_im, ds_im, ds_is]
  exact H
theorem ds_sv49 {post : Int32 → SX → Prop} (G : ds_gr n p ex)
    (H : ∀ x cs fc ar ac aq ah, (∀ i, n ≤ i → i < 32 → bt cs i = false) → ds_sol n p ex m (bt x) (bt cs) → post 1 (nI n, fc, ds_i (ds_top n p ex (bt x) : Int), ds_i (ds_bot n p ex (bt x) : Int), cs, ds_A p, ds_A ex, m, ar, ac, aq, ah)) :
    ∀ (k i : Nat) (x fc fs : Int32) (ar ac aq ah : Nat → Int32), ds_inv n p ex m (bt x) → (i : Int) + ds_kz n (bt x) ≤ 10 → 12 ≤ k + i →
    wX_solve_49 post k 1 (nI i) (nI n) fc (ds_i (ds_top n p ex (bt x) : Int)) (ds_i (ds_bot n p ex (bt x) : Int)) fs (ds_A p) (ds_A ex) m ar ac aq ah := by
  intro k
  induction k with
  | zero => intro i x fc fs ar ac aq ah I hi hk; have := I.2.1; omega
  | succ k ih =>
    intro i x fc fs ar ac aq ah I hi hk
    have k1 := I.2.1
    obtain ⟨t1, t2, t3, _⟩ := ds_tb G I.2.1
    refine pk_le 64 i (fun z => by omega) (fun z => ?_)
    refine br_f (by decide) ?_
    refine ds_cutX G (by omega) (by omega) (by omega) (by omega) (fun cs ar' ac' aq' ah' hb best => ?_)
    refine ds_valX G hb ?_
    have vb := ds_vl_b G (g := (ds_bot n p ex (bt x) : Int)) (c := (ds_top n p ex (bt x) : Int)) (by omega) (by omega) (by omega) (by omega) (bt cs)
    refine ds_ble _ 0 (fun h => ?_) (fun h => ?_) rfl rfl (by omega) (by omega)
    · unfold wX_solve_99
      refine br_t rfl (nm_r (nI_1 i) ?_)
      obtain ⟨k', rfl⟩ : ∃ k', k = k' + 1 := ⟨k - 1, by omega⟩
      refine pk_le 64 (i + 1) (fun z => by omega) (fun z => ?_)
      exact br_t rfl (H x cs _ _ _ _ _ hb (ds_dka G I best h))
    · unfold wX_solve_99
      obtain ⟨I', lt⟩ := ds_dkb G I best h
      refine br_f (by decide) (ds_takeX G hb I'.2.1 (nm_r (nI_1 i) ?_))
      exact ih (i + 1) cs _ _ _ _ _ _ I' (by omega) (by omega)
theorem ds_sv4 {post : Int32 → SX → Prop} {fc ft fb fs : Int32} {ar ac aq ah : Nat → Int32} (G : ds_gr n p ex)
    (H0 : (∀ u, u < n → m u = 2) → post 0 (nI n, fc, ft, fb, fs, ds_A p, ds_A ex, m, ar, ac, aq, ah))
    (H : ∀ x cs fc ar ac aq ah, (∀ i, n ≤ i → i < 32 → bt cs i = false) → ds_sol n p ex m (bt x) (bt cs) → post 1 (nI n, fc, ds_i (ds_top n p ex (bt x) : Int), ds_i (ds_bot n p ex (bt x) : Int), cs, ds_A p, ds_A ex, m, ar, ac, aq, ah)) :
    ∀ (k u : Nat) (x : Int32), u ≤ n → n - u < k → (∀ i, i < 32 → bt x i = decide (i < u ∧ m i ≠ 2)) → wX_solve_4 post (nI n) fc ft fb fs (ds_A p) (ds_A ex) m ar ac aq ah k x (nI u) := by
  have hn := G.2.1
  intro k
  induction k with
  | zero => intro u x _ hk; omega
  | succ k ih =>
    intro u x hu hk h
    refine pk_le n u (fun z => ?_) (fun z => ?_)
    · have : u = n := by omega
      subst this
      refine br_c (fun x0 => H0 (fun v hv => ?_)) (fun x0 => ?_)
      · have := h v (by omega)
        rw [x0, b_0] at this
        rcases Classical.em (m v = 2) with q | q
        · exact q
        · exact absurd ⟨hv, q⟩ (of_decide_eq_false this.symm)
      · have hx : ∀ i, u ≤ i → i < 32 → bt x i = false := by
          intro i h1 h2
          rw [h i h2]
          exact decide_eq_false (by omega)
        have al : ds_al u m (bt x) := by
          intro v hv
          rw [h v (by omega)]
          refine ⟨fun q => (of_decide_eq_true q).2, fun q => ?_⟩
          have q' := of_decide_eq_false q
          intro m1
          exact q' ⟨hv, by rw [m1]; decide⟩
        have kb := (ds_kz_b u (bt x)).1
        have k1 : 1 ≤ ds_kz u (bt x) := by
          by_cases q : ds_kz u (bt x) = 0
          · exfalso
            have q' := ds_kz_0.mp q
            apply x0
            apply b_ext
            intro i hi
            rw [b_0]
            by_cases w : i < u
            · exact q' i w
            · exact hx i (by omega) hi
          · omega
        have I : ds_inv u p ex m (bt x) := by
          refine ⟨al, k1, fun B hB hd => ?_⟩
          have sub : ∀ v, v < u → B v = true → bt x v = true := by
            intro v hv hb
            rw [h v (by omega)]
            exact decide_eq_true ⟨hv, (hB v hv).1 hb⟩
          obtain ⟨s1, s2⟩ := ds_kz_sub sub
          by_cases q : ds_kz u B < ds_kz u (bt x)
          · exact q
          · exfalso
            have e := s2 (by omega)
            rw [ds_wt_c e, ds_kz_c e] at hd
            omega
        have kn := (ds_kz_b u (bt x)).2
        exact ds_takeX G hx k1 ⟨12, ds_sv49 G H 12 0 x _ _ _ _ _ _ I (by omega) (by omega)⟩
    · refine ⟨vp_in_nI (by omega) (by omega), ?_⟩
      rw [nI_clamp (by omega)]
      refine br_c (fun a0 => ?_) (fun a0 => ?_)
      · refine nm_r (nI_1 u) (ih (u + 1) _ (by omega) (by omega) (fun i hi => ?_))
        rw [h i hi]
        congr 1
        refine propext ⟨fun w => ⟨by omega, w.2⟩, fun w => ⟨?_, w.2⟩⟩
        by_cases e : i = u
        · subst e; exact absurd a0 w.2
        · omega
      · refine nm_e (nm_r (nI_1 u) (ih (u + 1) _ (by omega) (by omega) (fun i hi => ?_)))
        rw [ds_bset x (by omega) hi, h i hi]
        by_cases e : i = u
        · subst e
          rw [decide_eq_true (rfl : i = i), Bool.or_true, decide_eq_true ⟨by omega, a0⟩]
        · rw [decide_eq_false e, Bool.or_false]
          congr 1
          exact propext ⟨fun w => ⟨by omega, w.2⟩, fun w => ⟨by omega, w.2⟩⟩
theorem ds_solveX {post : Int32 → SX → Prop} {fc ft fb fs : Int32} {ar ac aq ah : Nat → Int32} (G : ds_gr n p ex)
    (H0 : (∀ u, u < n → m u = 2) → post 0 (nI n, fc, ft, fb, fs, ds_A p, ds_A ex, m, ar, ac, aq, ah))
    (H : ∀ x cs fc ar ac aq ah, (∀ i, n ≤ i → i < 32 → bt cs i = false) → ds_sol n p ex m (bt x) (bt cs) → post 1 (nI n, fc, ds_i (ds_top n p ex (bt x) : Int), ds_i (ds_bot n p ex (bt x) : Int), cs, ds_A p, ds_A ex, m, ar, ac, aq, ah)) :
    wpX_solve post (nI n, fc, ft, fb, fs, ds_A p, ds_A ex, m, ar, ac, aq, ah) := by
  unfold wpX_solve
  refine ⟨n + 1, ds_sv4 G H0 H (n + 1) 0 0 (by omega) (by omega) (fun i hi => ?_)⟩
  rw [b_0, decide_eq_false (by omega)]
end
end
section
/-! the reference's loops over all masks -/
theorem ds_p2 {n : Nat} (hn : n ≤ 10) : 2 ^ n ≤ 1024 := Nat.pow_le_pow_right (by decide) hn
/-- every set of vertices has its mask -/
theorem ds_setmask {n : Nat} (hn : n ≤ 10) (S : Nat → Bool) : ∃ M, M < 2 ^ n ∧ ∀ u, u < n → bt (nI M) u = S u := by
  have key : ∀ k, k ≤ n → ∃ x : Int32, ∀ i, i < 32 → bt x i = (decide (i < k) && S i) := by
    intro k
    induction k with
    | zero => intro _; exact ⟨0, fun i hi => by rw [b_0, decide_eq_false (by omega), Bool.false_and]⟩
    | succ k ih =>
      intro hk
      obtain ⟨x, hx⟩ := ih (by omega)
      cases hS : S k
      · refine ⟨x, fun i hi => ?_⟩
        rw [hx i hi]
        by_cases e : i = k
        · subst e; rw [hS, Bool.and_false, Bool.and_false]
        · by_cases l : i < k
          · rw [decide_eq_true l, decide_eq_true (by omega)]
          · rw [decide_eq_false l, decide_eq_false (by omega)]
      · refine ⟨x ||| ((1 : Int32) <<< (nI k &&& 31)), fun i hi => ?_⟩
        rw [ds_bset x (by omega) hi, hx i hi]
        by_cases e : i = k
        · subst e; rw [hS, decide_eq_true (rfl : i = i), Bool.or_true, decide_eq_true (by omega), Bool.true_and]
        · rw [decide_eq_false e, Bool.or_false]
          by_cases l : i < k
          · rw [decide_eq_true l, decide_eq_true (by omega)]
          · rw [decide_eq_false l, decide_eq_false (by omega)]
  obtain ⟨x, hx⟩ := key n (Nat.le_refl n)
  obtain ⟨M, hM, e⟩ := ds_mask (x := x) (n := n) (fun i h1 h2 => by rw [hx i h2, decide_eq_false (by omega), Bool.false_and])
  refine ⟨M, hM, fun u hu => ?_⟩
  rw [← e, hx u (by omega), decide_eq_true hu, Bool.true_and]
theorem ds_hi {n M : Nat} (hM : M < 2 ^ n) {i : Nat} (h1 : n ≤ i) (h2 : i < 32) : bt (nI M) i = false := by
  rw [ds_bnI M h2]
  exact Nat.testBit_lt_two_pow (Nat.lt_of_lt_of_le hM (Nat.pow_le_pow_right (by decide) h1))
theorem ds_mk {n M : Nat} (hn : n ≤ 10) (h1 : 1 ≤ M) (hM : M < 2 ^ n) : 1 ≤ ds_kz n (bt (nI M)) := by
  have k0 := (ds_kz_b n (bt (nI M))).1
  by_cases q : ds_kz n (bt (nI M)) = 0
  · exfalso
    have q' := ds_kz_0.mp q
    have p2 := ds_p2 hn
    have z : nI M = 0 := by
      apply b_ext
      intro i hi
      rw [b_0]
      by_cases w : i < n
      · exact q' i w
      · exact ds_hi hM (by omega) hi
    exact nI_ne0 h1 (by omega) z
  · omega
theorem ds_frac {a' k' a k an kn : Int} (hk : 0 < k) (h1 : a' * k ≤ a * k') (h2 : a * kn ≤ an * k) (hk' : 0 ≤ k') (hkn : 0 ≤ kn) : a' * kn ≤ an * k' := by
  have s1 : (a' * k) * kn ≤ (a * k') * kn := Int.mul_le_mul_of_nonneg_right h1 hkn
  have s2 : (a * kn) * k' ≤ (an * k) * k' := Int.mul_le_mul_of_nonneg_right h2 hk'
  have e1 : (a' * k) * kn = k * (a' * kn) := by ac_rfl
  have e2 : (a * k') * kn = (a * kn) * k' := by ac_rfl
  have e3 : (an * k) * k' = k * (an * k') := by ac_rfl
  rw [e1, e2] at s1
  rw [e3] at s2
  exact Int.le_of_mul_le_mul_left (Int.le_trans s1 s2) hk
theorem ds_prod {n : Nat} {p ex : Nat → Int} (G : ds_gr n p ex) (A B : Nat → Bool) : 0 ≤ ds_wt n p ex A * ds_kz n B ∧ ds_wt n p ex A * ds_kz n B ≤ 11000 := by
  have w := ds_wt_b G A
  have w2 := ds_wt_ub G A
  have k := ds_kz_b n B
  have hn := G.2.1
  refine ⟨Int.mul_nonneg w.1 k.1, ?_⟩
  have : ds_wt n p ex A * ds_kz n B ≤ 1100 * 10 := Int.mul_le_mul w2 (by omega) k.1 (by omega)
  omega
def ds_one (n : Nat) (p ex : Nat → Int) (m : Nat → Int32) (M K : Nat) : Prop :=
  (M = 0 ∧ ∀ M', 1 ≤ M' → M' < K → ¬ ds_al n m (bt (nI M'))) ∨
  (1 ≤ M ∧ M < K ∧ ds_al n m (bt (nI M)) ∧ ∀ M', 1 ≤ M' → M' < K → ds_al n m (bt (nI M')) → ds_wt n p ex (bt (nI M')) * ds_kz n (bt (nI M)) ≤ ds_wt n p ex (bt (nI M)) * ds_kz n (bt (nI M')))
section
variable {n : Nat} {p ex : Nat → Int} {m w : Nat → Int32}
theorem ds_one_skip {M K : Nat} (h : ds_one n p ex m M K) (a : ¬ ds_al n m (bt (nI K))) : ds_one n p ex m M (K + 1) := by
  rcases h with ⟨h1, h2⟩ | ⟨h1, h2, h3, h4⟩
  · refine Or.inl ⟨h1, fun M' l1 l2 => ?_⟩
    by_cases e : M' = K
    · subst e; exact a
    · exact h2 M' l1 (by omega)
  · refine Or.inr ⟨h1, by omega, h3, fun M' l1 l2 a' => ?_⟩
    by_cases e : M' = K
    · subst e; exact absurd a' a
    · exact h4 M' l1 (by omega) a'
theorem ds_one_first {K : Nat} (hK : 1 ≤ K) (h : ds_one n p ex m 0 K) (a : ds_al n m (bt (nI K))) : ds_one n p ex m K (K + 1) := by
  rcases h with ⟨h1, h2⟩ | ⟨h1, h2, h3, h4⟩
  · refine Or.inr ⟨hK, by omega, a, fun M' l1 l2 a' => ?_⟩
    by_cases e : M' = K
    · subst e; exact Int.le_refl _
    · exact absurd a' (h2 M' l1 (by omega))
  · omega
theorem ds_one_keep {M K : Nat} (hM : M ≠ 0) (h : ds_one n p ex m M K) (le : ds_wt n p ex (bt (nI K)) * ds_kz n (bt (nI M)) ≤ ds_wt n p ex (bt (nI M)) * ds_kz n (bt (nI K))) : ds_one n p ex m M (K + 1) := by
  rcases h with ⟨h1, h2⟩ | ⟨h1, h2, h3, h4⟩
  · exact absurd h1 hM
  · refine Or.inr ⟨h1, by omega, h3, fun M' l1 l2 a' => ?_⟩
    by_cases e : M' = K
    · subst e; exact le
    · exact h4 M' l1 (by omega) a'
theorem ds_one_new {M K : Nat} (hn : n ≤ 10) (hK : K < 2 ^ n) (hM : M ≠ 0) (h : ds_one n p ex m M K) (a : ds_al n m (bt (nI K))) (lt : ds_wt n p ex (bt (nI M)) * ds_kz n (bt (nI K)) < ds_wt n p ex (bt (nI K)) * ds_kz n (bt (nI M))) : ds_one n p ex m K (K + 1) := by
  rcases h with ⟨h1, h2⟩ | ⟨h1, h2, h3, h4⟩
  · exact absurd h1 hM
  · refine Or.inr ⟨by omega, by omega, a, fun M' l1 l2 a' => ?_⟩
    by_cases e : M' = K
    · subst e; exact Int.le_refl _
    · have k1 := ds_mk hn h1 (by omega)
      exact ds_frac (by omega) (h4 M' l1 (by omega) a') (by omega) (ds_kz_b _ _).1 (ds_kz_b _ _).1
theorem ds_yo9 {post : Int32 → Prop} (G : ds_gr n p ex) (T : ds_tw p ex w) (H : ∀ M, ds_one n p ex m M (2 ^ n) → post (nI M)) :
    ∀ (k K M : Nat) (x2 x3 : Int32), 1 ≤ K → K ≤ 2 ^ n → 2 ^ n - K < k → M < 2 ^ n → ds_one n p ex m M K → (M ≠ 0 → x2 = ds_i (ds_wt n p ex (bt (nI M))) ∧ x3 = ds_i (ds_kz n (bt (nI M)))) →
    wY_oneDensest_9 post (nI n) w m k (nI M) x2 x3 (nI K) := by
  have hn := G.2.1
  have p2 := ds_p2 hn
  intro k
  induction k with
  | zero => intro K M x2 x3 _ _ hk; omega
  | succ k ih =>
    intro K M x2 x3 k1 k2 hk hM O hx
    refine pk_le (2 ^ n) K (fun z => ?_) (fun z => ?_) (ds_shn n (by omega)) rfl
    · have : K = 2 ^ n := by omega
      subst this
      exact H M O
    · refine ds_allowedY hn (fun a => ?_) (fun a => ?_)
      · refine br_f (by decide) (ds_weightY hn T (ds_sizeY hn ?_))
        refine pk_eq M 0 (fun e => ?_) (fun e => ?_)
        · unfold wY_oneDensest_60
          subst e
          exact nm_r (nI_1 K) (ih (K + 1) K _ _ (by omega) (by omega) (by omega) z (ds_one_first k1 O a) (fun _ => ⟨rfl, rfl⟩))
        · obtain ⟨e2, e3⟩ := hx e
          have q1 := ds_prod G (bt (nI K)) (bt (nI M))
          have q2 := ds_prod G (bt (nI M)) (bt (nI K))
          refine ds_ble _ _ (fun le => ?_) (fun lt => ?_) (by rw [e3, ds_im]) (by rw [e2, ds_im]) (by omega) (by omega)
          · exact nm_r (nI_1 K) (ih (K + 1) M x2 x3 (by omega) (by omega) (by omega) hM (ds_one_keep e O le) hx)
          · unfold wY_oneDensest_60
            exact nm_r (nI_1 K) (ih (K + 1) K _ _ (by omega) (by omega) (by omega) z (ds_one_new hn z e O a lt) (fun _ => ⟨rfl, rfl⟩))
      · exact br_t rfl (nm_r (nI_1 K) (ih (K + 1) M x2 x3 (by omega) (by omega) (by omega) hM (ds_one_skip O a) hx))
/-- a densest set -/
def ds_dn (n : Nat) (p ex : Nat → Int) (m : Nat → Int32) (S : Nat → Bool) : Prop :=
  ds_al n m S ∧ 1 ≤ ds_kz n S ∧ ∀ B : Nat → Bool, ds_al n m B → ds_wt n p ex B * ds_kz n S ≤ ds_wt n p ex S * ds_kz n B
theorem ds_oneY {post : Int32 → Prop} (G : ds_gr n p ex) (T : ds_tw p ex w) (H0 : (∀ B : Nat → Bool, ds_al n m B → ds_kz n B = 0) → post 0)
    (H1 : ∀ M, 1 ≤ M → M < 2 ^ n → ds_dn n p ex m (bt (nI M)) → post (nI M)) : wpY_oneDensest post (nI n, w, m) := by
  have hn := G.2.1
  have p2 := ds_p2 hn
  have p0 : 0 < 2 ^ n := Nat.two_pow_pos n
  unfold wpY_oneDensest
  refine ⟨2 ^ n + 1, ds_yo9 G T (fun M O => ?_) (2 ^ n + 1) 1 0 0 1 (by omega) p0 (by omega) p0 (Or.inl ⟨rfl, fun M' l1 l2 => by omega⟩) (fun z => absurd rfl z)⟩
  rcases O with ⟨h1, h2⟩ | ⟨h1, h2, h3, h4⟩
  · subst h1
    refine H0 (fun B aB => ?_)
    obtain ⟨M, hM, e⟩ := ds_setmask hn B
    rcases Nat.eq_zero_or_pos M with M0 | M0
    · subst M0
      refine ds_kz_0.mpr (fun u hu => ?_)
      rw [← e u hu]
      exact b_0 u
    · exact absurd (ds_al_c (fun u hu => (e u hu).symm) aB) (h2 M M0 hM)
  · refine H1 M h1 h2 ⟨h3, ds_mk hn h1 h2, fun B aB => ?_⟩
    obtain ⟨M', hM', e⟩ := ds_setmask hn B
    rw [← ds_wt_c e, ← ds_kz_c e]
    rcases Nat.eq_zero_or_pos M' with M0 | M0
    · subst M0
      rw [ds_wt_0 (S := bt (nI 0)) (fun u _ => b_0 u), (ds_kz_0 (S := bt (nI 0))).mpr (fun u _ => b_0 u), Int.zero_mul, Int.mul_zero]
      exact Int.le_refl _
    · exact h4 M' M0 hM' (ds_al_c (fun u hu => (e u hu).symm) aB)
theorem ds_commonY {post : Int32 → Prop} {x : Int32} (G : ds_gr n p ex) (T : ds_tw p ex w) (h1 : 1 ≤ ds_kz n (bt x)) (H : post (nI (Nat.gcd (ds_W n p ex (bt x)) (ds_N n (bt x))))) : wpY_common post (nI n, w, m) x := by
  have hn := G.2.1
  have hW := ds_W_b G (bt x)
  have hN := ds_N_b hn (bt x)
  have n1 : 0 < ds_N n (bt x) := by have := ds_NI n (bt x); omega
  have g1 := Nat.gcd_le_right (ds_W n p ex (bt x)) n1
  unfold wpY_common
  refine ds_weightY hn T (ds_sizeY hn ?_)
  rw [ds_wtI G, ds_kzI]
  exact ⟨10, ds_ycom (by omega) hN n1 H 10 10 (by omega) (by omega) (by omega) (by omega)⟩
/-- a union of masks, as the loops build it -/
def ds_or (Q : Nat → Prop) (x : Int32) (K : Nat) : Prop := ∀ i, i < 32 → (bt x i = true ↔ ∃ M, M < K ∧ Q M ∧ bt (nI M) i = true)
theorem ds_or_0 {Q : Nat → Prop} : ds_or Q 0 0 := by
  intro i hi
  rw [b_0]
  exact ⟨fun z => absurd z (by decide), fun ⟨M, hM, _⟩ => by omega⟩
theorem ds_or_1 {Q : Nat → Prop} : ds_or Q 0 1 := by
  intro i hi
  rw [b_0]
  refine ⟨fun z => absurd z (by decide), fun ⟨M, hM, _, h⟩ => ?_⟩
  have : M = 0 := by omega
  subst this
  have : bt (nI 0) i = false := b_0 i
  rw [this] at h
  exact absurd h (by decide)
theorem ds_or_y {Q : Nat → Prop} {x : Int32} {K : Nat} (h : ds_or Q x K) (q : Q K) : ds_or Q (x ||| nI K) (K + 1) := by
  intro i hi
  rw [b_or, Bool.or_eq_true, h i hi]
  constructor
  · rintro (⟨M, hM, h1, h2⟩ | h1)
    · exact ⟨M, by omega, h1, h2⟩
    · exact ⟨K, by omega, q, h1⟩
  · rintro ⟨M, hM, h1, h2⟩
    by_cases e : M = K
    · subst e; exact Or.inr h2
    · exact Or.inl ⟨M, by omega, h1, h2⟩
theorem ds_or_n {Q : Nat → Prop} {x : Int32} {K : Nat} (h : ds_or Q x K) (q : ¬ Q K) : ds_or Q x (K + 1) := by
  intro i hi
  rw [h i hi]
  constructor
  · rintro ⟨M, hM, h1, h2⟩
    exact ⟨M, by omega, h1, h2⟩
  · rintro ⟨M, hM, h1, h2⟩
    by_cases e : M = K
    · subst e; exact absurd h1 q
    · exact ⟨M, by omega, h1, h2⟩
/-- the union is the largest -/
theorem ds_or_end {Q : Nat → Prop} {x cs : Int32} (h : ds_or Q x (2 ^ n)) (hc : ∀ i, n ≤ i → i < 32 → bt cs i = false) (q : ∀ M, M < 2 ^ n → cs = nI M → Q M)
    (s : ∀ M, M < 2 ^ n → Q M → ∀ u, u < n → bt (nI M) u = true → bt cs u = true) : x = cs := by
  apply b_ext
  intro i hi
  have hi' := h i hi
  cases hx : bt x i
  · cases hb : bt cs i
    · rfl
    · obtain ⟨M, hM, e⟩ := ds_mask hc
      have := hi'.mpr ⟨M, hM, q M hM e, by rw [← e]; exact hb⟩
      rw [hx] at this
      exact absurd this (by decide)
  · obtain ⟨M, hM, h1, h2⟩ := hi'.mp hx
    by_cases w : i < n
    · exact (s M hM h1 i w h2).symm
    · rw [ds_hi hM (by omega) hi] at h2
      exact absurd h2 (by decide)
theorem ds_yd23 {post : Int32 → Prop} {S : Nat → Bool} (G : ds_gr n p ex) (T : ds_tw p ex w)
    (H : ∀ x, ds_or (fun M => ds_al n m (bt (nI M)) ∧ ds_wt n p ex (bt (nI M)) * ds_kz n S = ds_wt n p ex S * ds_kz n (bt (nI M))) x (2 ^ n) → post x) :
    ∀ (k K : Nat) (x : Int32), K ≤ 2 ^ n → 2 ^ n - K < k → ds_or (fun M => ds_al n m (bt (nI M)) ∧ ds_wt n p ex (bt (nI M)) * ds_kz n S = ds_wt n p ex S * ds_kz n (bt (nI M))) x K →
    wY_densest_23 post (ds_i (ds_wt n p ex S)) (ds_i (ds_kz n S)) (nI n) w m k x (nI K) := by
  have hn := G.2.1
  have p2 := ds_p2 hn
  intro k
  induction k with
  | zero => intro K x _ hk; omega
  | succ k ih =>
    intro K x k2 hk O
    refine pk_le (2 ^ n) K (fun z => ?_) (fun z => ?_) (ds_shn n (by omega)) rfl
    · have : K = 2 ^ n := by omega
      subst this
      exact H x O
    · refine ds_allowedY hn (fun a => ?_) (fun a => ?_)
      · refine br_f (by decide) (ds_weightY hn T (ds_sizeY hn ?_))
        have q1 := ds_prod G (bt (nI K)) S
        have q2 := ds_prod G S (bt (nI K))
        refine ds_beq _ _ (fun e => ?_) (fun e => ?_) (by rw [ds_im]) (by rw [ds_im]) (by omega) (by omega)
        · exact nm_e (nm_r (nI_1 K) (ih (K + 1) _ (by omega) (by omega) (ds_or_y O ⟨a, e⟩)))
        · exact nm_r (nI_1 K) (ih (K + 1) x (by omega) (by omega) (ds_or_n O (fun q => e q.2)))
      · exact br_t rfl (nm_r (nI_1 K) (ih (K + 1) x (by omega) (by omega) (ds_or_n O (fun q => a q.1))))
theorem ds_ye18 {post : Int32 → Prop} {g c : Int} (G : ds_gr n p ex) (T : ds_tw p ex w) (hg : 1 ≤ g) (hg2 : g ≤ 20) (hc : 0 ≤ c) (hc2 : c ≤ 2000)
    (H : ∀ b : Int, (∀ M, M < 2 ^ n → ds_al n m (bt (nI M)) → ds_vl n g c p ex (bt (nI M)) ≤ b) → (b = -1000000 ∨ ∃ M, M < 2 ^ n ∧ ds_al n m (bt (nI M)) ∧ ds_vl n g c p ex (bt (nI M)) = b) → post (ds_i b)) :
    ∀ (k K : Nat) (b : Int), K ≤ 2 ^ n → 2 ^ n - K < k → -1000000 ≤ b → b ≤ 44000 → (∀ M, M < K → ds_al n m (bt (nI M)) → ds_vl n g c p ex (bt (nI M)) ≤ b) → (b = -1000000 ∨ ∃ M, M < K ∧ ds_al n m (bt (nI M)) ∧ ds_vl n g c p ex (bt (nI M)) = b) →
    wY_excess_18 post (ds_i g) (ds_i c) (nI n) w m k (ds_i b) (nI K) := by
  have hn := G.2.1
  have p2 := ds_p2 hn
  intro k
  induction k with
  | zero => intro K b _ hk; omega
  | succ k ih =>
    intro K b k2 hk b1 b2 O1 O2
    refine pk_le (2 ^ n) K (fun z => ?_) (fun z => ?_) (ds_shn n (by omega)) rfl
    · have : K = 2 ^ n := by omega
      subst this
      exact H b O1 O2
    · have O2' : ∀ q : Int, q = b → (q = -1000000 ∨ ∃ M, M < K + 1 ∧ ds_al n m (bt (nI M)) ∧ ds_vl n g c p ex (bt (nI M)) = q) := by
        intro q e
        subst e
        rcases O2 with h | ⟨M, h1, h2, h3⟩
        · exact Or.inl h
        · exact Or.inr ⟨M, Nat.lt_succ_of_lt h1, h2, h3⟩
      refine ds_allowedY hn (fun a => ?_) (fun a => ?_)
      · refine br_f (by decide) (ds_weightY hn T (ds_sizeY hn ?_))
        have vb := ds_vl_b G hg hg2 hc hc2 (bt (nI K))
        refine nm_r (e' := ds_i (ds_vl n g c p ex (bt (nI K)))) (by rw [ds_im, ds_im, ds_is]; rfl) ?_
        refine ds_ble _ _ (fun le => ?_) (fun lt => ?_) rfl rfl (by clear O2'; omega) (by clear O2'; omega)
        · refine nm_r (nI_1 K) (ih (K + 1) b (by clear O2'; omega) (by clear O2'; omega) b1 b2 (fun M hM aM => ?_) (O2' b rfl))
          by_cases e : M = K
          · subst e; exact le
          · exact O1 M (by clear O2'; omega) aM
        · refine nm_r (nI_1 K) (ih (K + 1) _ (by clear O2'; omega) (by clear O2'; omega) (by clear O2'; omega) (by clear O2'; omega) (fun M hM aM => ?_) (Or.inr ⟨K, Nat.lt_succ_self K, a, rfl⟩))
          by_cases e : M = K
          · subst e; exact Int.le_refl _
          · have := O1 M (by clear O2'; omega) aM
            clear O2'
            omega
      · refine br_t rfl (nm_r (nI_1 K) (ih (K + 1) b (by clear O2'; omega) (by clear O2'; omega) b1 b2 (fun M hM aM => ?_) (O2' b rfl)))
        by_cases e : M = K
        · subst e; exact absurd aM a
        · exact O1 M (by clear O2'; omega) aM
theorem ds_badY {post : Int32 → Prop} {v1 v2 : Int32} (h0 : (1 ≤ v1.toInt ∧ v1.toInt ≤ 20 ∧ 0 ≤ v2.toInt ∧ v2.toInt ≤ 2000) → post 0) (h1 : ¬ (1 ≤ v1.toInt ∧ v1.toInt ≤ 20 ∧ 0 ≤ v2.toInt ∧ v2.toInt ≤ 2000) → post 1) : wpY_badPrice post (nI n, w, m) v1 v2 := by
  have t1 : (1 : Int32).toInt = 1 := by decide
  have t20 : (20 : Int32).toInt = 20 := by decide
  have t0 : (0 : Int32).toInt = 0 := by decide
  have t2000 : (2000 : Int32).toInt = 2000 := by decide
  unfold wpY_badPrice
  rw [Int32.lt_iff_toInt_lt, Int32.lt_iff_toInt_lt, Int32.lt_iff_toInt_lt, Int32.le_iff_toInt_le, t1, t20, t0, t2000]
  refine ⟨fun a => h1 (by omega), fun a => ⟨fun b => h1 (by omega), fun b => ⟨fun c => h1 (by omega), fun c => ⟨fun d => h0 (by omega), fun d => h1 (by omega)⟩⟩⟩⟩
theorem ds_badX {post : Int32 → Prop} {v1 v2 : Int32} (h0 : (1 ≤ v1.toInt ∧ v1.toInt ≤ 20 ∧ 0 ≤ v2.toInt ∧ v2.toInt ≤ 2000) → post 0) (h1 : ¬ (1 ≤ v1.toInt ∧ v1.toInt ≤ 20 ∧ 0 ≤ v2.toInt ∧ v2.toInt ≤ 2000) → post 1) : wpX_badPrice post v1 v2 := by
  have t1 : (1 : Int32).toInt = 1 := by decide
  have t20 : (20 : Int32).toInt = 20 := by decide
  have t0 : (0 : Int32).toInt = 0 := by decide
  have t2000 : (2000 : Int32).toInt = 2000 := by decide
  unfold wpX_badPrice
  rw [Int32.lt_iff_toInt_lt, Int32.lt_iff_toInt_lt, Int32.lt_iff_toInt_lt, Int32.le_iff_toInt_le, t1, t20, t0, t2000]
  refine ⟨fun a => h1 (by omega), fun a => ⟨fun b => h1 (by omega), fun b => ⟨fun c => h1 (by omega), fun c => ⟨fun d => h0 (by omega), fun d => h1 (by omega)⟩⟩⟩⟩
/-- the reference's excess is the best set's value -/
theorem ds_excY {post : Int32 → Prop} {g c : Int} {C : Nat → Bool} (G : ds_gr n p ex) (T : ds_tw p ex w) (hg : 1 ≤ g) (hg2 : g ≤ 20) (hc : 0 ≤ c) (hc2 : c ≤ 2000) (B : ds_best n g c p ex m C)
    (H : post (ds_i (ds_vl n g c p ex C))) : wpY_excess post (nI n, w, m) (ds_i g) (ds_i c) := by
  have hn := G.2.1
  have p2 := ds_p2 hn
  have p0 : 0 < 2 ^ n := Nat.two_pow_pos n
  unfold wpY_excess
  refine ds_badY (fun _ => ?_) (fun z => ?_)
  · refine br_t rfl ⟨2 ^ n + 1, ?_⟩
    refine ds_ye18 G T hg hg2 hc hc2 (fun b h1 h2 => ?_) (2 ^ n + 1) 0 (-1000000) (by omega) (by omega) (by omega) (by omega) (fun M hM => absurd hM (Nat.not_lt_zero M)) (Or.inl rfl)
    have e : ds_vl n g c p ex C = b := by
      have vb := ds_vl_b G hg hg2 hc hc2 C
      obtain ⟨M, hM, eM⟩ := ds_setmask hn C
      have l1 := h1 M hM (ds_al_c (fun u hu => (eM u hu).symm) B.1)
      rw [ds_vl_c eM] at l1
      rcases h2 with h2 | ⟨M', _, a', e'⟩
      · omega
      · have := (B.2 _ a').1
        omega
    rw [← e]
    exact H
  · rw [ds_ti (by omega) (by omega), ds_ti (by omega) (by omega)] at z
    omega
theorem ds_yes24 {post : Int32 → Prop} {g c : Int} {b : Int} (G : ds_gr n p ex) (T : ds_tw p ex w) (hg : 1 ≤ g) (hg2 : g ≤ 20) (hc : 0 ≤ c) (hc2 : c ≤ 2000) (hb : -20000 ≤ b ∧ b ≤ 44000)
    (H : ∀ x, ds_or (fun M => ds_al n m (bt (nI M)) ∧ ds_vl n g c p ex (bt (nI M)) = b) x (2 ^ n) → post x) :
    ∀ (k K : Nat) (x : Int32), K ≤ 2 ^ n → 2 ^ n - K < k → ds_or (fun M => ds_al n m (bt (nI M)) ∧ ds_vl n g c p ex (bt (nI M)) = b) x K →
    wY_excessSet_24 post (ds_i g) (ds_i c) (ds_i b) (nI n) w m k x (nI K) := by
  have hn := G.2.1
  have p2 := ds_p2 hn
  intro k
  induction k with
  | zero => intro K x _ hk; omega
  | succ k ih =>
    intro K x k2 hk O
    refine pk_le (2 ^ n) K (fun z => ?_) (fun z => ?_) (ds_shn n (by omega)) rfl
    · have : K = 2 ^ n := by omega
      subst this
      exact H x O
    · refine ds_allowedY hn (fun a => ?_) (fun a => ?_)
      · refine br_f (by decide) (ds_weightY hn T (ds_sizeY hn ?_))
        have vb := ds_vl_b G hg hg2 hc hc2 (bt (nI K))
        refine nm_r (e' := ds_i (ds_vl n g c p ex (bt (nI K)))) (by rw [ds_im, ds_im, ds_is]; rfl) ?_
        refine ds_beq _ _ (fun e => ?_) (fun e => ?_) rfl rfl (by omega) (by omega)
        · exact nm_e (nm_r (nI_1 K) (ih (K + 1) _ (by omega) (by omega) (ds_or_y O ⟨a, e⟩)))
        · exact nm_r (nI_1 K) (ih (K + 1) x (by omega) (by omega) (ds_or_n O (fun q => e q.2)))
      · exact br_t rfl (nm_r (nI_1 K) (ih (K + 1) x (by omega) (by omega) (ds_or_n O (fun q => a q.1))))
end
end
section
/-! the relation, and what is owed -/
/-- the relation at the head of a turn: the same number of vertices and modes; the reference's table holds the pairs off the diagonal and the bonuses on it -/
def i_Rel (_k : Nat) (u : SX) (v : SY) : Prop :=
  ∃ (n : Nat) (p ex : Nat → Int) (m w : Nat → Int32) (fc ft fb fs : Int32) (ar ac aq ah : Nat → Int32), ds_gr n p ex ∧ ds_tw p ex w ∧ u = (nI n, fc, ft, fb, fs, ds_A p, ds_A ex, m, ar, ac, aq, ah) ∧ v = (nI n, w, m)
theorem ds_rel {k n : Nat} {p ex : Nat → Int} {m w : Nat → Int32} {fc ft fb fs : Int32} {ar ac aq ah : Nat → Int32} (G : ds_gr n p ex) (T : ds_tw p ex w) : i_Rel k (nI n, fc, ft, fb, fs, ds_A p, ds_A ex, m, ar, ac, aq, ah) (nI n, w, m) :=
  ⟨n, p, ex, m, w, fc, ft, fb, fs, ar, ac, aq, ah, G, T, rfl, rfl⟩
theorem ds_el {k : Nat} {u : SX} {v : SY} {P : SX → SY → Prop} (I : i_Rel k u v)
    (h : ∀ (n : Nat) (p ex : Nat → Int) (m w : Nat → Int32) (fc ft fb fs : Int32) (ar ac aq ah : Nat → Int32), ds_gr n p ex → ds_tw p ex w → P (nI n, fc, ft, fb, fs, ds_A p, ds_A ex, m, ar, ac, aq, ah) (nI n, w, m)) : P u v := by
  obtain ⟨n, p, ex, m, w, fc, ft, fb, fs, ar, ac, aq, ah, G, T, hu, hv⟩ := I
  subst hu hv
  exact h n p ex m w fc ft fb fs ar ac aq ah G T
theorem i_up {k : Nat} {u : SX} {v : SY} (h : i_Rel k u v) : i_Rel (k + 4) u v := h
theorem ds_rel0 {n : Nat} (h1 : 1 ≤ n) (h2 : n ≤ 10) : i_Rel 1 (nI n, 0, 0, 0, 0, (fun _ => 0), (fun _ => 0), (fun _ => 0), (fun _ => 0), (fun _ => 0), (fun _ => 0), (fun _ => 0)) (nI n, (fun _ => 0), (fun _ => 0)) := by
  have e : (fun _ => 0 : Nat → Int32) = ds_A (fun _ => 0) := rfl
  refine ⟨n, fun _ => 0, fun _ => 0, fun _ => 0, fun _ => 0, 0, 0, 0, 0, fun _ => 0, fun _ => 0, fun _ => 0, fun _ => 0, ⟨h1, h2, fun j => by (try dsimp only); omega, fun j => by (try dsimp only); omega, fun u v _ _ => rfl, fun u _ => rfl⟩, ?_, ?_, rfl⟩
  · intro u v _ _
    split <;> rfl
  · rw [← e]
theorem i_vc0 (k0 : Int32) : wpX_init (fun u => wpY_init (fun v => i_Rel 1 u v) k0) k0 := by
  have t1 : (1 : Int32).toInt = 1 := by decide
  have t10 : (10 : Int32).toInt = 10 := by decide
  refine br_c (fun h1 => ?_) (fun h1 => ?_)
  · refine br_c (fun h2 => ?_) (fun h2 => ?_)
    · refine br_t h1 (br_t h2 ?_)
      have g1 := h1
      have g2 := h2
      rw [Int32.le_iff_toInt_le, t1] at g1
      rw [Int32.le_iff_toInt_le, t10] at g2
      have e : k0 = nI k0.toInt.toNat := by
        apply Int32.toInt_inj.mp
        rw [nI_toInt (by omega)]
        omega
      rw [e]
      exact ds_rel0 (by omega) (by omega)
    · refine br_t h1 (br_f h2 ?_)
      exact ds_rel0 (n := 10) (by omega) (by omega)
  · refine br_t (by decide) (br_f h1 (br_t (by decide) ?_))
    exact ds_rel0 (n := 1) (by omega) (by omega)
section
variable {n : Nat} {p ex : Nat → Int} {m w : Nat → Int32}
theorem ds_vx {post : Int32 → Prop} {fc ft fb fs v1 : Int32} {ap ae ar ac aq ah : Nat → Int32} (hn : n ≤ 10) (h0 : (∃ j, j < n ∧ v1 = nI j) → post 0) (h1 : (¬ ∃ j, j < n ∧ v1 = nI j) → post 1) : wpX_bad post (nI n, fc, ft, fb, fs, ap, ae, m, ar, ac, aq, ah) v1 := by
  unfold wpX_bad
  refine br_c (fun z => h1 (fun ⟨j, hj, e⟩ => ?_)) (fun z => ?_)
  · rw [e] at z
    exact nI_pos (by omega) z
  · obtain ⟨j, hj, e⟩ := nI_of z
    subst e
    refine pk_lt j n (fun q => h0 ⟨j, q, rfl⟩) (fun q => h1 (fun ⟨i, hi, e⟩ => ?_))
    rw [nI_eq hj (by omega)] at e
    omega
theorem ds_vy {post : Int32 → Prop} {v1 : Int32} (hn : n ≤ 10) (h0 : (∃ j, j < n ∧ v1 = nI j) → post 0) (h1 : (¬ ∃ j, j < n ∧ v1 = nI j) → post 1) : wpY_bad post (nI n, w, m) v1 := by
  unfold wpY_bad
  refine br_c (fun z => h1 (fun ⟨j, hj, e⟩ => ?_)) (fun z => ?_)
  · rw [e] at z
    exact nI_pos (by omega) z
  · obtain ⟨j, hj, e⟩ := nI_of z
    subst e
    refine pk_lt j n (fun q => h0 ⟨j, q, rfl⟩) (fun q => h1 (fun ⟨i, hi, e⟩ => ?_))
    rw [nI_eq hj (by omega)] at e
    omega
theorem ds_gr_e {a b : Nat} {z : Int} (G : ds_gr n p ex) (T : ds_tw p ex w) (ha : a < 10) (hb : b < 10) (ne : a ≠ b) (hz : 0 ≤ z ∧ z ≤ 20) :
    ds_gr n (ds_pu (ds_pu p (a * 10 + b) z) (b * 10 + a) z) ex ∧ ds_tw (ds_pu (ds_pu p (a * 10 + b) z) (b * 10 + a) z) ex (upd (upd w (a * 10 + b) (ds_i z)) (b * 10 + a) (ds_i z)) := by
  obtain ⟨h1, h2, h3, h4, h5, h6⟩ := G
  refine ⟨⟨h1, h2, fun j => ?_, h4, fun u v hu hv => ?_, fun u hu => ?_⟩, fun u v hu hv => ?_⟩
  · have := h3 j
    unfold ds_pu
    split
    · exact hz
    · split
      · exact hz
      · exact this
  · by_cases c1 : u = a ∧ v = b
    · obtain ⟨rfl, rfl⟩ := c1
      rw [ds_pu_n (by omega), ds_pu_s, ds_pu_s]
    · by_cases c2 : u = b ∧ v = a
      · obtain ⟨rfl, rfl⟩ := c2
        rw [ds_pu_s, ds_pu_n (by omega), ds_pu_s]
      · rw [ds_pu_n (by omega), ds_pu_n (by omega), ds_pu_n (by omega), ds_pu_n (by omega)]
        exact h5 u v hu hv
  · rw [ds_pu_n (by omega), ds_pu_n (by omega)]
    exact h6 u hu
  · by_cases c1 : u = a ∧ v = b
    · obtain ⟨rfl, rfl⟩ := c1
      rw [pk_un (by omega), pk_us, if_neg ne, ds_pu_n (by omega), ds_pu_s]
    · by_cases c2 : u = b ∧ v = a
      · obtain ⟨rfl, rfl⟩ := c2
        rw [pk_us, if_neg (fun q => ne q.symm), ds_pu_s]
      · rw [pk_un (by omega), pk_un (by omega), ds_pu_n (by omega), ds_pu_n (by omega)]
        exact T u v hu hv
theorem ds_gr_b {a : Nat} {z : Int} (G : ds_gr n p ex) (T : ds_tw p ex w) (ha : a < 10) (hz : 0 ≤ z ∧ z ≤ 20) :
    ds_gr n p (ds_pu ex a z) ∧ ds_tw p (ds_pu ex a z) (upd w (a * 10 + a) (ds_i z)) := by
  obtain ⟨h1, h2, h3, h4, h5, h6⟩ := G
  refine ⟨⟨h1, h2, h3, fun j => ?_, h5, h6⟩, fun u v hu hv => ?_⟩
  · have := h4 j
    unfold ds_pu
    split
    · exact hz
    · exact this
  · by_cases c1 : u = a ∧ v = a
    · obtain ⟨rfl, rfl⟩ := c1
      rw [pk_us, if_pos rfl, ds_pu_s]
    · rw [pk_un (by omega), T u v hu hv]
      by_cases e : u = v
      · rw [if_pos e, if_pos e, ds_pu_n (by omega)]
      · rw [if_neg e, if_neg e]
end
theorem i_vc_edge {k : Nat} {u : SX} {v : SY} (I : i_Rel k u v) (hk : k + 4 ≤ 2049) (v1 : Int32) (v2 : Int32) (v3 : Int32) : wpX_edge (fun r u' => wpY_edge (fun r' v' => r' = r ∧ i_Rel (k + 4) u' v') v v1 v2 v3) u v1 v2 v3 := by
  refine ds_el (P := fun u v => wpX_edge (fun r u' => wpY_edge (fun r' v' => r' = r ∧ i_Rel (k + 4) u' v') v v1 v2 v3) u v1 v2 v3) I ?_
  intro n p ex m w fc ft fb fs ar ac aq ah G T
  have hn := G.2.1
  have t0 : (0 : Int32).toInt = 0 := by decide
  have t20 : (20 : Int32).toInt = 20 := by decide
  have R0 := ds_rel (k := k + 4) (m := m) (fc := fc) (ft := ft) (fb := fb) (fs := fs) (ar := ar) (ac := ac) (aq := aq) (ah := ah) G T
  unfold wpX_edge wpY_edge
  refine ds_vx hn (fun b1 => br_t rfl ?_) (fun b1 => br_f (by decide) (ds_vy hn (fun c1 => absurd c1 b1) (fun c1 => br_f (by decide) ⟨rfl, R0⟩)))
  refine ds_vx hn (fun b2 => br_t rfl ?_) (fun b2 => br_f (by decide) (ds_vy hn (fun c1 => br_t rfl (ds_vy hn (fun c2 => absurd c2 b2) (fun c2 => br_f (by decide) ⟨rfl, R0⟩))) (fun c1 => absurd b1 c1)))
  refine br_c (fun e => ?_) (fun e => ?_)
  · exact ds_vy hn (fun _ => br_t rfl (ds_vy hn (fun _ => br_t rfl (br_t e ⟨rfl, R0⟩)) (fun c => absurd b2 c))) (fun c => absurd b1 c)
  · refine br_c (fun e3 => ?_) (fun e3 => ?_)
    · exact ds_vy hn (fun _ => br_t rfl (ds_vy hn (fun _ => br_t rfl (br_f e (br_t e3 ⟨rfl, R0⟩))) (fun c => absurd b2 c))) (fun c => absurd b1 c)
    · refine br_c (fun e4 => ?_) (fun e4 => ?_)
      · obtain ⟨a, ha, ea⟩ := b1
        obtain ⟨b, hb, eb⟩ := b2
        subst ea eb
        have ne : a ≠ b := fun q => e (by rw [q])
        have z1 := e3
        have z2 := e4
        rw [Int32.lt_iff_toInt_lt, t0] at z1
        rw [Int32.le_iff_toInt_le, t20] at z2
        obtain ⟨G', T'⟩ := ds_gr_e (z := v3.toInt) (a := a) (b := b) G T (by omega) (by omega) ne ⟨by omega, by omega⟩
        rw [ds_it] at T'
        have va := ds_v10 (u := a) (v := b) (by omega) (by omega)
        have vb := ds_v10 (u := b) (v := a) (by omega) (by omega)
        have ia := ds_c10 (u := a) (v := b) (by omega) (by omega)
        have ib := ds_c10 (u := b) (v := a) (by omega) (by omega)
        refine ⟨va, nm_r (e' := ds_i (p (a * 10 + b))) (by rw [ia]; rfl) ⟨va, nm_r (e' := ds_A (ds_pu p (a * 10 + b) v3.toInt)) ?_ ⟨vb, nm_r (e' := ds_A (ds_pu (ds_pu p (a * 10 + b) v3.toInt) (b * 10 + a) v3.toInt)) ?_ ?_⟩⟩⟩
        · rw [ia, ← ds_upd, ds_it]
        · rw [ib, ← ds_upd (ds_pu p (a * 10 + b) v3.toInt), ds_it]
        · refine ds_vy hn (fun _ => br_t rfl (ds_vy hn (fun _ => br_t rfl (br_f e (br_f e3 (br_t e4 ⟨va, nm_r (e' := ds_i (p (a * 10 + b))) ?_ ⟨va, nm_e ⟨vb, nm_e ⟨rfl, ?_⟩⟩⟩⟩)))) (fun c => absurd ⟨b, hb, rfl⟩ c))) (fun c => absurd ⟨a, ha, rfl⟩ c)
          · rw [ia, T a b (by omega) (by omega), if_neg ne]
          · rw [ia, ib]
            exact ds_rel G' T'
      · exact ds_vy hn (fun _ => br_t rfl (ds_vy hn (fun _ => br_t rfl (br_f e (br_f e3 (br_f e4 ⟨rfl, R0⟩)))) (fun c => absurd b2 c))) (fun c => absurd b1 c)
theorem i_vc_bonus {k : Nat} {u : SX} {v : SY} (I : i_Rel k u v) (hk : k + 4 ≤ 2049) (v1 : Int32) (v2 : Int32) : wpX_bonus (fun r u' => wpY_bonus (fun r' v' => r' = r ∧ i_Rel (k + 4) u' v') v v1 v2) u v1 v2 := by
  refine ds_el (P := fun u v => wpX_bonus (fun r u' => wpY_bonus (fun r' v' => r' = r ∧ i_Rel (k + 4) u' v') v v1 v2) u v1 v2) I ?_
  intro n p ex m w fc ft fb fs ar ac aq ah G T
  have hn := G.2.1
  have t0 : (0 : Int32).toInt = 0 := by decide
  have t20 : (20 : Int32).toInt = 20 := by decide
  have R0 := ds_rel (k := k + 4) (m := m) (fc := fc) (ft := ft) (fb := fb) (fs := fs) (ar := ar) (ac := ac) (aq := aq) (ah := ah) G T
  unfold wpX_bonus wpY_bonus
  refine ds_vx hn (fun b1 => br_t rfl ?_) (fun b1 => br_f (by decide) (ds_vy hn (fun c1 => absurd c1 b1) (fun c1 => br_f (by decide) ⟨rfl, R0⟩)))
  refine br_c (fun e3 => ?_) (fun e3 => ?_)
  · exact ds_vy hn (fun _ => br_t rfl (br_t e3 ⟨rfl, R0⟩)) (fun c => absurd b1 c)
  · refine br_c (fun e4 => ?_) (fun e4 => ?_)
    · obtain ⟨a, ha, ea⟩ := b1
      subst ea
      have z1 := e3
      have z2 := e4
      rw [Int32.lt_iff_toInt_lt, t0] at z1
      rw [Int32.le_iff_toInt_le, t20] at z2
      obtain ⟨G', T'⟩ := ds_gr_b (z := v2.toInt) (a := a) G T (by omega) ⟨by omega, by omega⟩
      rw [ds_it] at T'
      have va := ds_v10 (u := a) (v := a) (by omega) (by omega)
      have ia := ds_c10 (u := a) (v := a) (by omega) (by omega)
      have vx := vp_in_nI (n := a) (N := 10) (by omega) (by omega)
      refine ⟨vx, nm_r (e' := ds_i (ex a)) (by rw [nI_clamp (by omega)]; rfl) ⟨vx, nm_r (e' := ds_A (ds_pu ex a v2.toInt)) ?_ ?_⟩⟩
      · rw [nI_clamp (by omega), ← ds_upd, ds_it]
      · refine ds_vy hn (fun _ => br_t rfl (br_f e3 (br_t e4 ⟨va, nm_r (e' := ds_i (ex a)) ?_ ⟨va, nm_e ⟨rfl, ?_⟩⟩⟩))) (fun c => absurd ⟨a, ha, rfl⟩ c)
        · rw [ia, T a a (by omega) (by omega), if_pos rfl]
        · rw [ia]
          exact ds_rel G' T'
    · exact ds_vy hn (fun _ => br_t rfl (br_f e3 (br_f e4 ⟨rfl, R0⟩))) (fun c => absurd b1 c)
theorem i_vc_mode {k : Nat} {u : SX} {v : SY} (I : i_Rel k u v) (hk : k + 4 ≤ 2049) (v1 : Int32) (v2 : Int32) : wpX_mode (fun r u' => wpY_mode (fun r' v' => r' = r ∧ i_Rel (k + 4) u' v') v v1 v2) u v1 v2 := by
  refine ds_el (P := fun u v => wpX_mode (fun r u' => wpY_mode (fun r' v' => r' = r ∧ i_Rel (k + 4) u' v') v v1 v2) u v1 v2) I ?_
  intro n p ex m w fc ft fb fs ar ac aq ah G T
  have hn := G.2.1
  have R0 : ∀ m, i_Rel (k + 4) (nI n, fc, ft, fb, fs, ds_A p, ds_A ex, m, ar, ac, aq, ah) (nI n, w, m) := fun m => ds_rel G T
  unfold wpX_mode wpY_mode
  refine ds_vx hn (fun b1 => br_t rfl ?_) (fun b1 => br_f (by decide) (ds_vy hn (fun c1 => absurd c1 b1) (fun c1 => br_f (by decide) ⟨rfl, R0 m⟩)))
  refine br_c (fun e3 => ?_) (fun e3 => ?_)
  · exact ds_vy hn (fun _ => br_t rfl (br_t e3 ⟨rfl, R0 m⟩)) (fun c => absurd b1 c)
  · refine br_c (fun e4 => ?_) (fun e4 => ?_)
    · obtain ⟨a, ha, ea⟩ := b1
      subst ea
      have vx := vp_in_nI (n := a) (N := 10) (by omega) (by omega)
      exact ⟨vx, nm_e ⟨vx, nm_e (ds_vy hn (fun _ => br_t rfl (br_f e3 (br_t e4 ⟨vx, nm_e ⟨vx, nm_e ⟨rfl, R0 _⟩⟩⟩))) (fun c => absurd ⟨a, ha, rfl⟩ c))⟩⟩
    · exact ds_vy hn (fun _ => br_t rfl (br_f e3 (br_f e4 ⟨rfl, R0 m⟩))) (fun c => absurd b1 c)
theorem i_vc_weight {k : Nat} {u : SX} {v : SY} (I : i_Rel k u v) (hk : k + 4 ≤ 2049) (v1 : Int32) : wpX_weight (fun r => wpY_weight (fun r' => r' = r ∧ i_Rel (k + 4) u v) v v1) u v1 := by
  refine ds_el (P := fun u v => wpX_weight (fun r => wpY_weight (fun r' => r' = r ∧ i_Rel (k + 4) u v) v v1) u v1) I ?_
  intro n p ex m w fc ft fb fs ar ac aq ah G T
  exact ds_weightX G (ds_weightY G.2.1 T ⟨rfl, ds_rel G T⟩)
section
variable {n : Nat} {p ex : Nat → Int} {m w : Nat → Int32}
/-- no set on one side and a set on the other can't be -/
theorem ds_no1 {S : Nat → Bool} (h : ∀ u, u < n → m u = 2) (a : ds_al n m S) (k1 : 1 ≤ ds_kz n S) : False := by
  have : ds_kz n S = 0 := ds_kz_0.mpr (fun u hu => by
    cases q : S u
    · rfl
    · exact absurd (h u hu) ((a u hu).1 q))
  omega
theorem ds_same (G : ds_gr n p ex) {S B : Nat → Bool} (a : ds_dn n p ex m S) (b : ds_dn n p ex m B) : ds_top n p ex S = ds_top n p ex B ∧ ds_bot n p ex S = ds_bot n p ex B := by
  obtain ⟨a1, a2, a3⟩ := a
  obtain ⟨b1, b2, b3⟩ := b
  have e : ds_wt n p ex S * ds_kz n B = ds_wt n p ex B * ds_kz n S := by
    have := a3 B b1
    have := b3 S a1
    omega
  rw [← ds_WI G, ← ds_WI G, ← ds_NI, ← ds_NI, ← Int.natCast_mul, ← Int.natCast_mul] at e
  have n1 := ds_NI n S
  have n2 := ds_NI n B
  exact ds_red (by omega) (by omega) (Int.ofNat.inj e)
theorem ds_sol_dn {S C : Nat → Bool} (h : ds_sol n p ex m S C) : ds_dn n p ex m S := ⟨h.1, h.2.1, h.2.2.1⟩
/-- the reference's quotients -/
theorem ds_topY {post : Int32 → Prop} {x : Int32} (G : ds_gr n p ex) (T : ds_tw p ex w) (h1 : 1 ≤ ds_kz n (bt x)) (H : post (nI (ds_top n p ex (bt x)))) :
    wpY_weight (fun r_6 => (wpY_common (fun r_10 => (((r_10 ≤ 1 → (post r_6)) ∧ (¬ r_10 ≤ 1 → (¬ r_10 = 0 ∧ (post (r_6 / r_10))))))) (nI n, w, m) x)) (nI n, w, m) x := by
  have hW := ds_W_b G (bt x)
  have hN := ds_N_b G.2.1 (bt x)
  have n1 : 1 ≤ ds_N n (bt x) := by have := ds_NI n (bt x); omega
  have g0 : 0 < Nat.gcd (ds_W n p ex (bt x)) (ds_N n (bt x)) := Nat.gcd_pos_of_pos_right _ n1
  have g1 := Nat.gcd_le_right (ds_W n p ex (bt x)) n1
  refine ds_weightY G.2.1 T (ds_commonY G T h1 ?_)
  rw [ds_wtI G]
  unfold ds_top at H
  refine pk_le (Nat.gcd (ds_W n p ex (bt x)) (ds_N n (bt x))) 1 (fun z => ?_) (fun z => ?_)
  · have e : Nat.gcd (ds_W n p ex (bt x)) (ds_N n (bt x)) = 1 := by omega
    rw [e, Nat.div_one] at H
    exact H
  · refine ⟨nI_ne0 g0 (by omega), ?_⟩
    rw [pk_div (by omega) g0 (by omega)]
    exact H
theorem ds_botY {post : Int32 → Prop} {x : Int32} (G : ds_gr n p ex) (T : ds_tw p ex w) (h1 : 1 ≤ ds_kz n (bt x)) (H : post (nI (ds_bot n p ex (bt x)))) :
    wpY_size (fun r_6 => (wpY_common (fun r_10 => (((r_10 ≤ 1 → (post r_6)) ∧ (¬ r_10 ≤ 1 → (¬ r_10 = 0 ∧ (post (r_6 / r_10))))))) (nI n, w, m) x)) (nI n, w, m) x := by
  have hW := ds_W_b G (bt x)
  have hN := ds_N_b G.2.1 (bt x)
  have n1 : 1 ≤ ds_N n (bt x) := by have := ds_NI n (bt x); omega
  have g0 : 0 < Nat.gcd (ds_W n p ex (bt x)) (ds_N n (bt x)) := Nat.gcd_pos_of_pos_right _ n1
  have g1 := Nat.gcd_le_right (ds_W n p ex (bt x)) n1
  refine ds_sizeY G.2.1 (ds_commonY G T h1 ?_)
  rw [ds_kzI]
  unfold ds_bot at H
  refine pk_le (Nat.gcd (ds_W n p ex (bt x)) (ds_N n (bt x))) 1 (fun z => ?_) (fun z => ?_)
  · have e : Nat.gcd (ds_W n p ex (bt x)) (ds_N n (bt x)) = 1 := by omega
    rw [e, Nat.div_one] at H
    exact H
  · refine ⟨nI_ne0 g0 (by omega), ?_⟩
    rw [pk_div (by omega) g0 (by omega)]
    exact H
end
theorem i_vc_densityTop {k : Nat} {u : SX} {v : SY} (I : i_Rel k u v) (hk : k + 4 ≤ 2049) : wpX_densityTop (fun r u' => wpY_densityTop (fun r' => r' = r ∧ i_Rel (k + 4) u' v) v) u := by
  refine ds_el (P := fun u v => wpX_densityTop (fun r u' => wpY_densityTop (fun r' => r' = r ∧ i_Rel (k + 4) u' v) v) u) I ?_
  intro n p ex m w fc ft fb fs ar ac aq ah G T
  have hn := G.2.1
  have p2 := ds_p2 hn
  unfold wpX_densityTop wpY_densityTop
  refine ds_solveX G (fun z => ?_) (fun x cs fc ar ac aq ah hc S => ?_)
  · exact br_t rfl (ds_oneY G T (fun _ => br_t rfl ⟨rfl, ds_rel G T⟩) (fun M _ _ D => (ds_no1 z D.1 D.2.1).elim))
  · refine br_f (by decide) (ds_oneY G T (fun z => ?_) (fun M M1 M2 D => ?_))
    · have a := z _ S.1
      have b := S.2.1
      omega
    · refine br_f (nI_ne0 M1 (by omega)) (ds_topY G T D.2.1 ?_)
      rw [← (ds_same G (ds_sol_dn S) D).1, ds_iN]
      exact ⟨rfl, ds_rel G T⟩
theorem i_vc_densityBottom {k : Nat} {u : SX} {v : SY} (I : i_Rel k u v) (hk : k + 4 ≤ 2049) : wpX_densityBottom (fun r u' => wpY_densityBottom (fun r' => r' = r ∧ i_Rel (k + 4) u' v) v) u := by
  refine ds_el (P := fun u v => wpX_densityBottom (fun r u' => wpY_densityBottom (fun r' => r' = r ∧ i_Rel (k + 4) u' v) v) u) I ?_
  intro n p ex m w fc ft fb fs ar ac aq ah G T
  have hn := G.2.1
  have p2 := ds_p2 hn
  unfold wpX_densityBottom wpY_densityBottom
  refine ds_solveX G (fun z => ?_) (fun x cs fc ar ac aq ah hc S => ?_)
  · exact br_t rfl (ds_oneY G T (fun _ => br_t rfl ⟨rfl, ds_rel G T⟩) (fun M _ _ D => (ds_no1 z D.1 D.2.1).elim))
  · refine br_f (by decide) (ds_oneY G T (fun z => ?_) (fun M M1 M2 D => ?_))
    · have a := z _ S.1
      have b := S.2.1
      omega
    · refine br_f (nI_ne0 M1 (by omega)) (ds_botY G T D.2.1 ?_)
      rw [← (ds_same G (ds_sol_dn S) D).2, ds_iN]
      exact ⟨rfl, ds_rel G T⟩
theorem i_vc_densest {k : Nat} {u : SX} {v : SY} (I : i_Rel k u v) (hk : k + 4 ≤ 2049) : wpX_densest (fun r u' => wpY_densest (fun r' => r' = r ∧ i_Rel (k + 4) u' v) v) u := by
  refine ds_el (P := fun u v => wpX_densest (fun r u' => wpY_densest (fun r' => r' = r ∧ i_Rel (k + 4) u' v) v) u) I ?_
  intro n p ex m w fc ft fb fs ar ac aq ah G T
  have hn := G.2.1
  have p2 := ds_p2 hn
  have p0 : 0 < 2 ^ n := Nat.two_pow_pos n
  unfold wpX_densest wpY_densest
  refine ds_solveX G (fun z => ?_) (fun x cs fc ar ac aq ah hc S => ?_)
  · refine br_t rfl (ds_oneY G T (fun z => ?_) (fun M _ _ D => (ds_no1 z D.1 D.2.1).elim))
    refine ds_weightY hn T (ds_sizeY hn ⟨2 ^ n + 1, ds_yd23 (S := bt 0) G T (fun y O => ⟨?_, ds_rel G T⟩) (2 ^ n + 1) 1 0 p0 (by omega) ds_or_1⟩)
    apply b_ext
    intro i hi
    rw [b_0]
    cases q : bt y i
    · rfl
    · obtain ⟨M, hM, h1, h2⟩ := (O i hi).mp q
      by_cases l : i < n
      · rw [ds_kz_0.mp (z _ h1.1) i l] at h2
        exact absurd h2 (by decide)
      · rw [ds_hi hM (by omega) hi] at h2
        exact absurd h2 (by decide)
  · refine br_f (by decide) (ds_oneY G T (fun z => ?_) (fun M M1 M2 D => ?_))
    · have a := z _ S.1
      have b := S.2.1
      omega
    · refine ds_weightY hn T (ds_sizeY hn ⟨2 ^ n + 1, ds_yd23 (S := bt (nI M)) G T (fun y O => ⟨?_, ds_rel G T⟩) (2 ^ n + 1) 1 0 p0 (by omega) ds_or_1⟩)
      obtain ⟨s1, s2, s3, s4, s5, s6⟩ := S
      have eSM : ds_wt n p ex (bt x) * ds_kz n (bt (nI M)) = ds_wt n p ex (bt (nI M)) * ds_kz n (bt x) := by
        have := s3 _ D.1
        have := D.2.2 _ s1
        omega
      have kM := D.2.1
      have tr : ∀ B : Nat → Bool, ds_wt n p ex B * ds_kz n (bt x) = ds_wt n p ex (bt x) * ds_kz n B ↔ ds_wt n p ex B * ds_kz n (bt (nI M)) = ds_wt n p ex (bt (nI M)) * ds_kz n B := by
        intro B
        have kB := (ds_kz_b n B).1
        constructor
        · intro e
          have i1 := ds_frac (a' := ds_wt n p ex B) (k' := ds_kz n B) (a := ds_wt n p ex (bt x)) (k := ds_kz n (bt x)) (an := ds_wt n p ex (bt (nI M))) (kn := ds_kz n (bt (nI M))) (by omega) (by omega) (by omega) kB (by omega)
          have i2 := ds_frac (a' := ds_wt n p ex (bt (nI M))) (k' := ds_kz n (bt (nI M))) (a := ds_wt n p ex (bt x)) (k := ds_kz n (bt x)) (an := ds_wt n p ex B) (kn := ds_kz n B) (by omega) (by omega) (by omega) (by omega) kB
          omega
        · intro e
          have i1 := ds_frac (a' := ds_wt n p ex B) (k' := ds_kz n B) (a := ds_wt n p ex (bt (nI M))) (k := ds_kz n (bt (nI M))) (an := ds_wt n p ex (bt x)) (kn := ds_kz n (bt x)) (by omega) (by omega) (by omega) kB (by omega)
          have i2 := ds_frac (a' := ds_wt n p ex (bt x)) (k' := ds_kz n (bt x)) (a := ds_wt n p ex (bt (nI M))) (k := ds_kz n (bt (nI M))) (an := ds_wt n p ex B) (kn := ds_kz n B) (by omega) (by omega) (by omega) (by omega) kB
          omega
      refine ds_or_end O hc (fun M' hM' e => ?_) (fun M' hM' h => ?_)
      · rw [← e]
        exact ⟨s4, (tr _).mp s5⟩
      · exact s6 _ h.1 ((tr _).mpr h.2)
theorem i_vc_excess {k : Nat} {u : SX} {v : SY} (I : i_Rel k u v) (hk : k + 4 ≤ 2049) (v1 : Int32) (v2 : Int32) : wpX_excess (fun r u' => wpY_excess (fun r' => r' = r ∧ i_Rel (k + 4) u' v) v v1 v2) u v1 v2 := by
  refine ds_el (P := fun u v => wpX_excess (fun r u' => wpY_excess (fun r' => r' = r ∧ i_Rel (k + 4) u' v) v v1 v2) u v1 v2) I ?_
  intro n p ex m w fc ft fb fs ar ac aq ah G T
  unfold wpX_excess
  refine ds_badX (fun z => br_t rfl ?_) (fun z => br_f (by decide) ?_)
  · rw [← ds_it v1, ← ds_it v2]
    refine ds_cutX G z.1 z.2.1 z.2.2.1 z.2.2.2 (fun cs ar' ac' aq' ah' hc B => ?_)
    exact ds_valX G hc (ds_excY G T z.1 z.2.1 z.2.2.1 z.2.2.2 B ⟨rfl, ds_rel G T⟩)
  · unfold wpY_excess
    exact ds_badY (fun q => absurd q z) (fun _ => br_f (by decide) ⟨rfl, ds_rel G T⟩)
theorem i_vc_excessSet {k : Nat} {u : SX} {v : SY} (I : i_Rel k u v) (hk : k + 4 ≤ 2049) (v1 : Int32) (v2 : Int32) : wpX_excessSet (fun r u' => wpY_excessSet (fun r' => r' = r ∧ i_Rel (k + 4) u' v) v v1 v2) u v1 v2 := by
  refine ds_el (P := fun u v => wpX_excessSet (fun r u' => wpY_excessSet (fun r' => r' = r ∧ i_Rel (k + 4) u' v) v v1 v2) u v1 v2) I ?_
  intro n p ex m w fc ft fb fs ar ac aq ah G T
  have p0 : 0 < 2 ^ n := Nat.two_pow_pos n
  unfold wpX_excessSet wpY_excessSet
  refine ds_badX (fun z => br_t rfl ?_) (fun z => br_f (by decide) ?_)
  · have zz := z
    rw [← ds_it v1, ← ds_it v2]
    refine ds_cutX G z.1 z.2.1 z.2.2.1 z.2.2.2 (fun cs ar' ac' aq' ah' hc B => ?_)
    refine ds_badY (fun _ => br_t rfl ?_) (fun q => ?_)
    · refine ds_excY G T z.1 z.2.1 z.2.2.1 z.2.2.2 B ⟨2 ^ n + 1, ?_⟩
      refine ds_yes24 G T z.1 z.2.1 z.2.2.1 z.2.2.2 (ds_vl_b G z.1 z.2.1 z.2.2.1 z.2.2.2 _) (fun y O => ⟨?_, ds_rel G T⟩) (2 ^ n + 1) 0 0 (by omega) (by omega) ds_or_0
      refine ds_or_end O hc (fun M hM e => ?_) (fun M hM h => ?_)
      · rw [← e]
        exact ⟨B.1, rfl⟩
      · exact (B.2 _ h.1).2 h.2
    · rw [ds_it, ds_it] at q
      exact absurd zz q
  · exact ds_badY (fun q => absurd q z) (fun _ => br_f (by decide) ⟨rfl, ds_rel G T⟩)
end
