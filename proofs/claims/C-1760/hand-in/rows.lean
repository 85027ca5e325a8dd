section
/-! rows picked from kit/rows (starting texts) -/
def bt (x : Int32) (i : Nat) : Bool := x.toBitVec.getLsbD i
theorem b_ext {x y : Int32} (h : ∀ i, i < 32 → bt x i = bt y i) : x = y := Int32.toBitVec_inj.mp (BitVec.eq_of_getLsbD_eq (fun i hi => h i hi))
theorem b_or (x y : Int32) (i : Nat) : bt (x ||| y) i = (bt x i || bt y i) := by unfold bt; rw [Int32.toBitVec_or, BitVec.getLsbD_or]
theorem b_and (x y : Int32) (i : Nat) : bt (x &&& y) i = (bt x i && bt y i) := by unfold bt; rw [Int32.toBitVec_and, BitVec.getLsbD_and]
theorem b_xor (x y : Int32) (i : Nat) : bt (x ^^^ y) i = (bt x i ^^ bt y i) := by unfold bt; rw [Int32.toBitVec_xor, BitVec.getLsbD_xor]
theorem b_big {x : Int32} {i : Nat} (h : 32 ≤ i) : bt x i = false := BitVec.getLsbD_of_ge _ _ h
theorem b_m1 : ∀ i, i < 32 → bt (-1) i = true := by decide +kernel
theorem b_0 (i : Nat) : bt 0 i = false := BitVec.getLsbD_zero
theorem s_l : ∀ n, n < 32 → ((nI n &&& 31).toBitVec.smod 32).toNat = n := by decide +kernel
theorem b_shl (n : Nat) (hn : n < 32) (x : Int32) {i : Nat} (hi : i < 32) : bt (x <<< (nI n &&& 31)) i = (decide (n ≤ i) && bt x (i - n)) := by
  unfold bt
  rw [Int32.toBitVec_shiftLeft]
  show (x.toBitVec <<< ((nI n &&& 31).toBitVec.smod 32).toNat).getLsbD i = _
  rw [s_l n hn, BitVec.getLsbD_shiftLeft]
  rcases Nat.lt_or_ge i n with h | h
  · simp [h, Nat.not_le.mpr h]
  · simp [hi, h, Nat.not_lt.mpr h]
theorem b_sshr (n : Nat) (hn : n < 32) (x : Int32) {i : Nat} (hi : i < 32) : bt (x >>> (nI n &&& 31)) i = if n + i < 32 then bt x (n + i) else bt x 31 := by
  unfold bt
  rw [Int32.toBitVec_shiftRight]
  show (x.toBitVec.sshiftRight ((nI n &&& 31).toBitVec.smod 32).toNat).getLsbD i = _
  rw [s_l n hn, BitVec.getLsbD_sshiftRight, BitVec.msb_eq_getLsbD_last]
  simp [hi]
theorem pk_us {f : Nat → Int32} {k : Nat} {x : Int32} : upd f k x k = x := if_pos rfl
theorem pk_un {f : Nat → Int32} {k j : Nat} {x : Int32} (h : j ≠ k) : upd f k x j = f j := if_neg h
theorem pk_sub {a b : Nat} (h : b ≤ a) : nI a - nI b = nI (a - b) := by
  obtain ⟨c, rfl⟩ : ∃ c, a = c + b := ⟨a - b, by omega⟩
  rw [← nI_add, Int32.add_sub_cancel, Nat.add_sub_cancel]
theorem pk_mul (a b : Nat) : nI a * nI b = nI (a * b) := (Int32.ofNat_mul a b).symm
theorem pk_div {a d : Nat} (ha : a < 2 ^ 31) (h0 : 0 < d) (hd : d < 2 ^ 31) : nI a / nI d = nI (a / d) := by
  apply Int32.toInt_inj.mp
  rw [lg_idiv_nonneg (by rw [nI_toInt ha]; omega) (by rw [nI_toInt hd]; omega), nI_toInt ha, nI_toInt hd, nI_toInt (Nat.lt_of_le_of_lt (Nat.div_le_self a d) ha)]
  first | rfl | exact (Int.natCast_ediv _ _).symm
theorem pk_rem {a d : Nat} (ha : a < 2 ^ 31) (h0 : 0 < d) (hd : d < 2 ^ 31) : nI a - nI a / nI d * nI d = nI (a % d) := by
  rw [pk_div ha h0 hd, pk_mul, pk_sub (Nat.div_mul_le_self a d)]
  exact congrArg nI (by have := Nat.div_add_mod' a d; omega)
theorem pk_ix (x : Int32) {n : Nat} (hn : n < 2 ^ 31) : x < 0 ∨ nI n ≤ x ∨ ∃ j : Nat, j < n ∧ x = nI j := by
  by_cases h : x < 0
  · exact Or.inl h
  · obtain ⟨j, hj, rfl⟩ := nI_of h
    by_cases h2 : j < n
    · exact Or.inr (Or.inr ⟨j, h2, rfl⟩)
    · exact Or.inr (Or.inl (nI_le (by omega) hj))
theorem pk_le {x y : Int32} {A B : Prop} (a b : Nat) (f : a ≤ b → A) (g : b < a → B) (hx : x = nI a := by rfl) (hy : y = nI b := by rfl) (ha : a < 2 ^ 31 := by omega) (hb : b < 2 ^ 31 := by omega) : (x ≤ y → A) ∧ (¬ x ≤ y → B) := by
  subst hx hy
  rw [nI_leI ha hb]
  exact ⟨f, fun z => g (by omega)⟩
theorem pk_lt {x y : Int32} {A B : Prop} (a b : Nat) (f : a < b → A) (g : b ≤ a → B) (hx : x = nI a := by rfl) (hy : y = nI b := by rfl) (ha : a < 2 ^ 31 := by omega) (hb : b < 2 ^ 31 := by omega) : (x < y → A) ∧ (¬ x < y → B) := by
  subst hx hy
  rw [nI_ltI ha hb]
  exact ⟨f, fun z => g (by omega)⟩
theorem pk_eq {x y : Int32} {A B : Prop} (a b : Nat) (f : a = b → A) (g : a ≠ b → B) (hx : x = nI a := by rfl) (hy : y = nI b := by rfl) (ha : a < 2 ^ 31 := by omega) (hb : b < 2 ^ 31 := by omega) : (x = y → A) ∧ (¬ x = y → B) := by
  subst hx hy
  rw [nI_eq ha hb]
  exact ⟨f, g⟩
theorem pk_in {x : Int32} (n N : Nat) (h : n < N) (hx : x = nI n := by rfl) (hN : N < 2 ^ 31 := by omega) : vp_in x N := by
  subst hx
  exact vp_in_nI h hN
theorem pk_cl {x : Int32} (n : Nat) (hx : x = nI n := by rfl) (h : n < 2 ^ 31 := by omega) : x.toNatClampNeg = n := by
  subst hx
  exact nI_clamp h
theorem pk_tn {n : Nat} (h : n < 2 ^ 32) : (nI n).toBitVec.toNat = n := Nat.mod_eq_of_lt h
theorem pk_and (x : Int32) {m : Int32} (k : Nat) (hm : m.toBitVec.toNat = 2 ^ k - 1) : x &&& m = nI (x.toBitVec.toNat % 2 ^ k) := by
  apply Int32.toBitVec_inj.mp
  apply BitVec.eq_of_toNat_eq
  rw [Int32.toBitVec_and, BitVec.toNat_and, hm, Nat.and_two_pow_sub_one_eq_mod]
  show _ = (BitVec.ofNat 32 _).toNat
  rw [BitVec.toNat_ofNat]
  exact (Nat.mod_eq_of_lt (Nat.lt_of_le_of_lt (Nat.mod_le _ _) x.toBitVec.isLt)).symm
theorem pk_andN {n : Nat} (h : n < 2 ^ 32) {m : Int32} (k : Nat) (hm : m.toBitVec.toNat = 2 ^ k - 1) : nI n &&& m = nI (n % 2 ^ k) := by
  rw [pk_and _ k hm, pk_tn h]
theorem pk_vb (z : Int32) : vp_nar .byte z.toInt8.toInt32 = z.toInt8.toInt32 := by rw [vp_nar_byte]; simp
end
section
/-! basics: indices, bits, bytes, the formula, counts -/
theorem ec_up0 (a : Nat → Int32) (k : Nat) : upd a k (a k) = a := by
  funext j
  show (if j = k then a k else a j) = a j
  by_cases h : j = k
  · rw [if_pos h, h]
  · rw [if_neg h]
theorem ec_cl {i : Nat} (h : i < 12) : (nI i).toNatClampNeg = i := nI_clamp (by omega)
theorem ec_ge {i : Nat} (h : i < 12) : ¬ (12 : Int32) ≤ nI i := nI_ge (b := 12) h (by decide)
theorem ec_12 : (12 : Int32) ≤ nI 12 := nI_le (a := 12) (b := 12) (by decide) (by decide)
theorem ec_in {i : Nat} (h : i < 12) : vp_in (nI i) 12 := vp_in_nI h (by decide)
theorem ec_bj {y z : Bool} (h : y = true ↔ z = true) : y = z := by
  cases y <;> cases z <;> simp_all
theorem ec_nt {x : Bool} (h : ¬ x = true) : x = false := by cases x <;> simp_all
theorem ec_b1 (i : Nat) : bt 1 i = decide (i = 0) := by
  rcases Nat.lt_or_ge i 32 with h | h
  · exact (by decide +kernel : ∀ i, i < 32 → bt 1 i = decide (i = 0)) i h
  · rw [b_big h, decide_eq_false (by omega)]
theorem ec_and1 (y : Int32) : y &&& 1 = if bt y 0 = true then 1 else 0 := by
  apply b_ext
  intro i hi
  rw [b_and, ec_b1]
  by_cases h0 : i = 0
  · subst h0
    cases hb : bt y 0
    · rw [if_neg (by decide), b_0]; rfl
    · rw [if_pos rfl, ec_b1]; rfl
  · rw [decide_eq_false h0, Bool.and_false]
    split
    · rw [ec_b1, decide_eq_false h0]
    · rw [b_0]
theorem ec_sh0 (x : Int32) {w : Nat} (h : w < 12) : bt (x >>> (nI w &&& 31)) 0 = bt x w := by
  rw [b_sshr w (by omega) x (by omega), if_pos (by omega)]; rfl
theorem ec_tst (x : Int32) {w : Nat} (h : w < 12) : (x >>> (nI w &&& 31)) &&& 1 = if bt x w = true then 1 else 0 := by
  rw [ec_and1, ec_sh0 x h]
theorem ec_t0 {x : Int32} {w : Nat} (h : w < 12) (hb : bt x w = false) : (x >>> (nI w &&& 31)) &&& 1 = 0 := by
  rw [ec_tst x h, hb]; rfl
theorem ec_t1 {x : Int32} {w : Nat} (h : w < 12) (hb : bt x w = true) : (x >>> (nI w &&& 31)) &&& 1 = 1 := by
  rw [ec_tst x h, hb]; rfl
theorem ec_t0n {x : Int32} {w : Nat} (h : w < 12) (hb : bt x w = true) : ¬ (x >>> (nI w &&& 31)) &&& 1 = 0 := by
  rw [ec_t1 h hb]; decide
theorem ec_t1n {x : Int32} {w : Nat} (h : w < 12) (hb : bt x w = false) : ¬ (x >>> (nI w &&& 31)) &&& 1 = 1 := by
  rw [ec_t0 h hb]; decide
theorem ec_shl {w : Nat} (h : w < 12) (i : Nat) : bt ((1 : Int32) <<< (nI w &&& 31)) i = decide (i = w) := by
  rcases Nat.lt_or_ge i 32 with hi | hi
  · rw [b_shl w (by omega) 1 hi, ec_b1]
    by_cases e : i = w
    · subst e; simp
    · rw [decide_eq_false e]
      by_cases h2 : w ≤ i
      · rw [decide_eq_false (by omega : ¬ i - w = 0), Bool.and_false]
      · rw [decide_eq_false h2, Bool.false_and]
  · rw [b_big hi, decide_eq_false (by omega)]
theorem ec_msk (f : Int32) {w : Nat} (h : w < 12) (i : Nat) : bt (f &&& (((1 : Int32) <<< (nI w &&& 31)) ^^^ (-1))) i = (bt f i && !decide (i = w)) := by
  rcases Nat.lt_or_ge i 32 with hi | hi
  · rw [b_and, b_xor, ec_shl h, b_m1 i hi, Bool.xor_true]
  · rw [b_big hi, b_big hi, Bool.false_and]
theorem ec_zero {f : Int32} (h : ∀ i, bt f i = false) : f = 0 := by
  apply b_ext
  intro i _
  rw [h i, b_0]
theorem ec_some {f : Int32} (h : ¬ f = 0) : ∃ i, bt f i = true := by
  apply Classical.byContradiction
  intro hn
  apply h
  apply ec_zero
  intro i
  apply ec_nt
  intro hb
  exact hn ⟨i, hb⟩
theorem ec_i8 : ∀ k, k < 128 → (nI k).toInt8.toInt32 = nI k := by decide +kernel
theorem ec_by {k : Nat} (h : k < 128) : vp_nar .byte (nI k).toInt8.toInt32 = nI k := by
  rw [pk_vb, ec_i8 k h]
theorem ec_by0 : vp_nar .byte 0 = 0 := by rw [vp_nar_byte]; decide
/-! a value of a signal -/
def ec_r16 (x : Int32) : Prop := ∃ k : Nat, k < 16 ∧ x = nI k
theorem ec_nn (x : Int32) : x = nI x.toBitVec.toNat := by
  apply Int32.toBitVec_inj.1
  show x.toBitVec = BitVec.ofNat 32 x.toBitVec.toNat
  simp
theorem ec_rof {x : Int32} (h : x.toBitVec.toNat < 16) : ec_r16 x := ⟨_, h, ec_nn x⟩
theorem ec_rby {x : Int32} (h : ec_r16 x) : vp_nar .byte x.toInt8.toInt32 = x := by
  obtain ⟨k, hk, rfl⟩ := h
  exact ec_by (by omega)
def ec_fo (o p q : Int32) : Int32 := if o = 0 then p &&& q else if o = 1 then p ||| q else if o = 2 then p ^^^ q else if o = 3 then (p + q) &&& 15 else if o = 4 then (p - q) &&& 15 else if o = 5 then (if q ≤ p then 0 else 1) else if o = 6 then p else if o = 7 then 15 - p else if p = 0 then q else 15 - q
theorem ec_ta : ∀ a, a < 16 → ∀ b, b < 16 → (nI a &&& nI b).toBitVec.toNat < 16 := by decide +kernel
theorem ec_to : ∀ a, a < 16 → ∀ b, b < 16 → (nI a ||| nI b).toBitVec.toNat < 16 := by decide +kernel
theorem ec_tx : ∀ a, a < 16 → ∀ b, b < 16 → (nI a ^^^ nI b).toBitVec.toNat < 16 := by decide +kernel
theorem ec_tp : ∀ a, a < 16 → ∀ b, b < 16 → ((nI a + nI b) &&& 15).toBitVec.toNat < 16 := by decide +kernel
theorem ec_tm : ∀ a, a < 16 → ∀ b, b < 16 → ((nI a - nI b) &&& 15).toBitVec.toNat < 16 := by decide +kernel
theorem ec_tn : ∀ a, a < 16 → (15 - nI a).toBitVec.toNat < 16 := by decide +kernel
theorem ec_fr (o : Int32) {p q : Int32} (hp : ec_r16 p) (hq : ec_r16 q) : ec_r16 (ec_fo o p q) := by
  obtain ⟨a, ha, rfl⟩ := hp
  obtain ⟨b, hb, rfl⟩ := hq
  unfold ec_fo
  split
  · exact ec_rof (ec_ta a ha b hb)
  split
  · exact ec_rof (ec_to a ha b hb)
  split
  · exact ec_rof (ec_tx a ha b hb)
  split
  · exact ec_rof (ec_tp a ha b hb)
  split
  · exact ec_rof (ec_tm a ha b hb)
  split
  · split
    · exact ⟨0, by omega, rfl⟩
    · exact ⟨1, by omega, rfl⟩
  split
  · exact ⟨a, ha, rfl⟩
  split
  · exact ec_rof (ec_tn a ha)
  split
  · exact ⟨b, hb, rfl⟩
  · exact ec_rof (ec_tn b hb)
/-- the formula of signal w over the values va -/
def ec_fv (op sa sb va : Nat → Int32) (w : Nat) : Int32 := ec_fo (op w) (va (sa w).toNatClampNeg) (va (sb w).toNatClampNeg)
/-! indices held in arrays -/
def ec_R (a : Nat → Int32) : Prop := ∀ i, i < 12 → vp_in (a i) 12
theorem ec_Rn {a : Nat → Int32} (h : ec_R a) {i : Nat} (hi : i < 12) : ∃ j, j < 12 ∧ a i = nI j := vp_in_of (h i hi) (by decide)
theorem ec_Rl {a : Nat → Int32} (h : ec_R a) {i : Nat} (hi : i < 12) : (a i).toNatClampNeg < 12 := by
  obtain ⟨j, hj, e⟩ := ec_Rn h hi
  rw [e, ec_cl hj]; exact hj
theorem ec_Re {a : Nat → Int32} (h : ec_R a) {i : Nat} (hi : i < 12) : a i = nI (a i).toNatClampNeg := by
  obtain ⟨j, hj, e⟩ := ec_Rn h hi
  rw [e, ec_cl hj]
theorem ec_Ru {a : Nat → Int32} (h : ec_R a) (s : Nat) {x : Nat} (hx : x < 12) : ec_R (upd a s (nI x)) := by
  intro i hi
  by_cases e : i = s
  · rw [e, pk_us]; exact ec_in hx
  · rw [pk_un e]; exact h i hi
/-! counts -/
def ec_cn (p : Nat → Bool) : Nat → Nat
  | 0 => 0
  | n + 1 => ec_cn p n + (if p n = true then 1 else 0)
theorem ec_cn_le (p : Nat → Bool) : ∀ n, ec_cn p n ≤ n := by
  intro n
  induction n with
  | zero => exact Nat.le_refl 0
  | succ n ih =>
    show ec_cn p n + (if p n = true then 1 else 0) ≤ n + 1
    split <;> omega
theorem ec_cn_all (p : Nat → Bool) : ∀ n, ec_cn p n = n → ∀ j, j < n → p j = true := by
  intro n
  induction n with
  | zero => intro _ j hj; omega
  | succ n ih =>
    intro h j hj
    have hl := ec_cn_le p n
    have h' : ec_cn p n + (if p n = true then 1 else 0) = n + 1 := h
    by_cases hp : p n = true
    · rw [if_pos hp] at h'
      by_cases e : j = n
      · rw [e]; exact hp
      · exact ih (by omega) j (by omega)
    · rw [if_neg hp] at h'
      omega
theorem ec_cn_eq {p q : Nat → Bool} : ∀ n, (∀ j, j < n → p j = q j) → ec_cn p n = ec_cn q n := by
  intro n
  induction n with
  | zero => intro _; rfl
  | succ n ih =>
    intro h
    show ec_cn p n + (if p n = true then 1 else 0) = ec_cn q n + (if q n = true then 1 else 0)
    rw [ih (fun j hj => h j (by omega)), h n (by omega)]
theorem ec_cn_one {p q : Nat → Bool} {b : Nat} (hb : p b = false) (hq : ∀ j, j ≠ b → q j = p j) : ∀ n, b < n → ec_cn q n = ec_cn p n + (if q b = true then 1 else 0) := by
  intro n
  induction n with
  | zero => intro h; omega
  | succ n ih =>
    intro h
    show ec_cn q n + (if q n = true then 1 else 0) = ec_cn p n + (if p n = true then 1 else 0) + (if q b = true then 1 else 0)
    by_cases e : b = n
    · subst e
      rw [ec_cn_eq (p := q) (q := p) b (fun j hj => hq j (by omega)), hb]
      simp
    · rw [ih (by omega), hq n (by omega)]
      omega
theorem ec_cn_add {p q r : Nat → Bool} : ∀ n, (∀ j, j < n → p j = (q j || r j)) → (∀ j, j < n → q j = true → r j = false) → ec_cn p n = ec_cn q n + ec_cn r n := by
  intro n
  induction n with
  | zero => intro _ _; rfl
  | succ n ih =>
    intro h1 h2
    show ec_cn p n + (if p n = true then 1 else 0) = (ec_cn q n + (if q n = true then 1 else 0)) + (ec_cn r n + (if r n = true then 1 else 0))
    rw [ih (fun j hj => h1 j (by omega)) (fun j hj => h2 j (by omega)), h1 n (by omega)]
    have h3 := h2 n (by omega)
    cases hq : q n
    · simp; omega
    · rw [h3 hq]; simp; omega
theorem ec_cn_mono {p q : Nat → Bool} : ∀ n, (∀ j, j < n → p j = true → q j = true) → ec_cn p n ≤ ec_cn q n := by
  intro n
  induction n with
  | zero => intro _; exact Nat.le_refl 0
  | succ n ih =>
    intro h
    show ec_cn p n + (if p n = true then 1 else 0) ≤ ec_cn q n + (if q n = true then 1 else 0)
    have h1 := ih (fun j hj => h j (by omega))
    have h2 := h n (by omega)
    by_cases hp : p n = true
    · rw [if_pos hp, if_pos (h2 hp)]; omega
    · rw [if_neg hp]; omega
theorem ec_cn_lt {p q : Nat → Bool} {x : Nat} (hp : p x = false) (hq : q x = true) : ∀ n, x < n → (∀ j, j < n → p j = true → q j = true) → ec_cn p n < ec_cn q n := by
  intro n
  induction n with
  | zero => intro h; omega
  | succ n ih =>
    intro hx h
    show ec_cn p n + (if p n = true then 1 else 0) < ec_cn q n + (if q n = true then 1 else 0)
    by_cases e : x = n
    · subst e
      have h1 := ec_cn_mono (p := p) (q := q) x (fun j hj => h j (by omega))
      rw [hp, hq]; simp; omega
    · have h1 := ih (by omega) (fun j hj => h j (by omega))
      have h2 := h n (by omega)
      by_cases hpn : p n = true
      · rw [if_pos hpn, if_pos (h2 hpn)]; omega
      · rw [if_neg hpn]; omega
theorem ec_cn_ltn {p : Nat → Bool} {x : Nat} (hp : p x = false) {n : Nat} (hx : x < n) : ec_cn p n < n := by
  have h1 := ec_cn_lt (p := p) (q := fun _ => true) hp rfl n hx (fun _ _ _ => rfl)
  have h2 := ec_cn_le (fun _ => true) n
  omega
theorem ec_nIi {a b : Nat} (h : a = b) : nI a = nI b := by rw [h]
theorem ec_nI0 (a : Nat) : nI a + 0 = nI a := by rw [← nI_0, nI_add]; rfl
end
section
/-! the graph of the wires: edges, reach, ranks, levels -/
def ec_E (so sa sb : Nat → Int32) (t w : Nat) : Prop := w < 12 ∧ so w = 1 ∧ ((sa w).toNatClampNeg = t ∨ (sb w).toNatClampNeg = t)
def ec_T (so sa sb : Nat → Int32) (t w : Nat) : Prop := Relation.TransGen (ec_E so sa sb) t w
def ec_RK (so sa sb : Nat → Int32) (R : Nat → Nat) : Prop := ∀ w, w < 12 → so w = 1 → R (sa w).toNatClampNeg < R w ∧ R (sb w).toNatClampNeg < R w
def ec_LV (so sa sb : Nat → Int32) (L : Nat → Nat) : Prop := ∀ w, w < 12 → L w ≤ 11 ∧ (so w = 1 → L w = max (L (sa w).toNatClampNeg) (L (sb w).toNatClampNeg) + 1) ∧ (¬ so w = 1 → L w = 0)
def ec_LS (so sa sb ls : Nat → Int32) : Prop := ∀ t, t < 12 → ∀ i, bt (ls t) i = true ↔ ec_E so sa sb t i
def ec_LN (lv : Nat → Int32) (L : Nat → Nat) : Prop := ∀ w, w < 12 → lv w = nI (L w)
section
variable {so sa sb ya yb : Nat → Int32} {R L : Nat → Nat} {s t w x : Nat}
theorem ec_Tt {a b c : Nat} (h1 : ec_T so sa sb a b) (h2 : ec_T so sa sb b c) : ec_T so sa sb a c := by
  unfold ec_T at *
  induction h2 with
  | single h => exact Relation.TransGen.tail h1 h
  | tail _ h ih => exact Relation.TransGen.tail ih h
theorem ec_T1 (h : ec_E so sa sb t w) : ec_T so sa sb t w := Relation.TransGen.single h
theorem ec_T2 (h1 : ec_T so sa sb t x) (h : ec_E so sa sb x w) : ec_T so sa sb t w := Relation.TransGen.tail h1 h
theorem ec_Tc (h : ec_T so sa sb t w) : ec_E so sa sb t w ∨ ∃ x, ec_T so sa sb t x ∧ ec_E so sa sb x w := by
  unfold ec_T at h
  cases h with
  | single h => exact Or.inl h
  | tail h1 h => exact Or.inr ⟨_, h1, h⟩
theorem ec_Tl (h : ec_T so sa sb t w) : w < 12 := by
  rcases ec_Tc h with h | ⟨_, _, h⟩
  · exact h.1
  · exact h.1
theorem ec_Er (hR : ec_RK so sa sb R) (h : ec_E so sa sb t w) : R t < R w := by
  obtain ⟨hw, h1, h2⟩ := h
  have h3 := hR w hw h1
  rcases h2 with e | e
  · rw [← e]; exact h3.1
  · rw [← e]; exact h3.2
theorem ec_Tr (hR : ec_RK so sa sb R) (h : ec_T so sa sb t w) : R t < R w := by
  unfold ec_T at h
  induction h with
  | single h => exact ec_Er hR h
  | tail _ h ih => exact Nat.lt_trans ih (ec_Er hR h)
theorem ec_LR (hL : ec_LV so sa sb L) : ec_RK so sa sb L := by
  intro w hw h1
  have h := (hL w hw).2.1 h1
  omega
theorem ec_Es (hA : ec_R sa) (hB : ec_R sb) (h : ec_E so sa sb t w) : t < 12 := by
  obtain ⟨hw, _, h2⟩ := h
  rcases h2 with e | e
  · rw [← e]; exact ec_Rl hA hw
  · rw [← e]; exact ec_Rl hB hw
/-! any rank can be pressed below 12, and gives the levels -/
theorem ec_press (hA : ec_R sa) (hB : ec_R sb) (hR : ec_RK so sa sb R) : ∃ Q : Nat → Nat, ec_RK so sa sb Q ∧ ∀ w, w < 12 → Q w ≤ 11 := by
  have key : ∀ a w, a < 12 → R a < R w → ec_cn (fun j => decide (R j < R a)) 12 < ec_cn (fun j => decide (R j < R w)) 12 := by
    intro a w ha h
    apply ec_cn_lt (x := a) (decide_eq_false (by omega)) (decide_eq_true h) 12 ha
    intro j _ hj
    have := of_decide_eq_true hj
    exact decide_eq_true (by omega)
  refine ⟨fun w => ec_cn (fun j => decide (R j < R w)) 12, ?_, ?_⟩
  · intro w hw h1
    have h := hR w hw h1
    exact ⟨key _ w (ec_Rl hA hw) h.1, key _ w (ec_Rl hB hw) h.2⟩
  · intro w hw
    have h := ec_cn_ltn (p := fun j => decide (R j < R w)) (x := w) (decide_eq_false (by omega)) hw
    show ec_cn (fun j => decide (R j < R w)) 12 ≤ 11
    omega
def ec_lf (so sa sb : Nat → Int32) : Nat → Nat → Nat
  | 0 => fun _ => 0
  | n + 1 => fun w => if so w = 1 then max (ec_lf so sa sb n (sa w).toNatClampNeg) (ec_lf so sa sb n (sb w).toNatClampNeg) + 1 else 0
theorem ec_lf_s (n w : Nat) : ec_lf so sa sb (n + 1) w = if so w = 1 then max (ec_lf so sa sb n (sa w).toNatClampNeg) (ec_lf so sa sb n (sb w).toNatClampNeg) + 1 else 0 := rfl
theorem ec_lf_st (hA : ec_R sa) (hB : ec_R sb) (hR : ec_RK so sa sb R) : ∀ n w, w < 12 → R w < n → ec_lf so sa sb n w = ec_lf so sa sb (n + 1) w := by
  intro n
  induction n with
  | zero => intro w _ h; omega
  | succ n ih =>
    intro w hw h
    rw [ec_lf_s, ec_lf_s (n + 1)]
    by_cases h1 : so w = 1
    · have h2 := hR w hw h1
      rw [if_pos h1, if_pos h1, ih _ (ec_Rl hA hw) (by omega), ih _ (ec_Rl hB hw) (by omega)]
    · rw [if_neg h1, if_neg h1]
theorem ec_lf_le (hA : ec_R sa) (hB : ec_R sb) (hR : ec_RK so sa sb R) : ∀ n w, w < 12 → ec_lf so sa sb n w ≤ R w := by
  intro n
  induction n with
  | zero => intro w _; exact Nat.zero_le _
  | succ n ih =>
    intro w hw
    rw [ec_lf_s]
    by_cases h1 : so w = 1
    · have h2 := hR w hw h1
      have h3 := ih _ (ec_Rl hA hw)
      have h4 := ih _ (ec_Rl hB hw)
      rw [if_pos h1]
      omega
    · rw [if_neg h1]
      exact Nat.zero_le _
theorem ec_mk (hA : ec_R sa) (hB : ec_R sb) (hR : ec_RK so sa sb R) : ∃ L, ec_LV so sa sb L := by
  obtain ⟨Q, hQ, hQ11⟩ := ec_press hA hB hR
  refine ⟨ec_lf so sa sb 12, ?_⟩
  intro w hw
  refine ⟨Nat.le_trans (ec_lf_le hA hB hQ 12 w hw) (hQ11 w hw), ?_, ?_⟩
  · intro h1
    have h := hQ11 w hw
    rw [ec_lf_st hA hB hQ 12 w hw (by omega), ec_lf_s, if_pos h1]
  · intro h1
    rw [ec_lf_s 11, if_neg h1]
/-! a new definition: a wire whose sources do not hang on it; no wire -/
theorem ec_newW (hL : ec_LV so sa sb L) {a b : Nat} (ha : a < 12) (hb : b < 12)
    (h1 : ¬ (s = a ∨ ec_T so sa sb s a)) (h2 : ¬ (s = b ∨ ec_T so sa sb s b)) :
    ∃ R, ec_RK (upd so s 1) (upd sa s (nI a)) (upd sb s (nI b)) R := by
  classical
  have hR := ec_LR hL
  refine ⟨fun w => if w = s then 12 else if ec_T so sa sb s w then L w + 13 else L w, ?_⟩
  have hout : ∀ x, x < 12 → ¬ (s = x ∨ ec_T so sa sb s x) → (if x = s then 12 else if ec_T so sa sb s x then L x + 13 else L x) < 12 := by
    intro x hx hn
    rw [if_neg (fun e => hn (Or.inl e.symm)), if_neg (fun e => hn (Or.inr e))]
    have := (hL x hx).1
    omega
  have hed : ∀ x w, w ≠ s → ec_E so sa sb x w → (if x = s then 12 else if ec_T so sa sb s x then L x + 13 else L x) < (if w = s then 12 else if ec_T so sa sb s w then L w + 13 else L w) := by
    intro x w hw he
    have hlt := ec_Er hR he
    rw [if_neg hw]
    by_cases e : x = s
    · subst e
      rw [if_pos rfl, if_pos (ec_T1 he)]
      omega
    · rw [if_neg e]
      by_cases ht : ec_T so sa sb s x
      · rw [if_pos ht, if_pos (ec_T2 ht he)]
        omega
      · rw [if_neg ht]
        split <;> omega
  intro w hw h
  by_cases e : w = s
  · subst e
    rw [pk_us, pk_us, ec_cl ha, ec_cl hb]
    dsimp only
    rw [if_pos (rfl : w = w)]
    exact ⟨hout a ha h1, hout b hb h2⟩
  · rw [pk_un e] at h
    rw [pk_un e, pk_un e]
    exact ⟨hed _ w e ⟨hw, h, Or.inl rfl⟩, hed _ w e ⟨hw, h, Or.inr rfl⟩⟩
theorem ec_newN (hL : ec_LV so sa sb L) {k : Int32} (hk : ¬ k = 1) (p q : Int32) : ec_RK (upd so s k) (upd sa s p) (upd sb s q) L := by
  intro w hw h
  by_cases e : w = s
  · subst e
    rw [pk_us] at h
    exact absurd h hk
  · rw [pk_un e] at h
    rw [pk_un e, pk_un e]
    exact ec_LR hL w hw h
/-! the reference's sources: alike wherever a signal is no input -/
theorem ec_Eq (h : ∀ i, i < 12 → so i = 1 → sa i = ya i ∧ sb i = yb i) : ec_E so sa sb = ec_E so ya yb := by
  funext t w
  apply propext
  constructor
  · rintro ⟨hw, h1, h2⟩
    have e := h w hw h1
    exact ⟨hw, h1, by rw [← e.1, ← e.2]; exact h2⟩
  · rintro ⟨hw, h1, h2⟩
    have e := h w hw h1
    exact ⟨hw, h1, by rw [e.1, e.2]; exact h2⟩
theorem ec_Tq (h : ∀ i, i < 12 → so i = 1 → sa i = ya i ∧ sb i = yb i) : ec_T so sa sb = ec_T so ya yb := by
  funext t w
  unfold ec_T
  rw [ec_Eq h]
theorem ec_Lq (h : ∀ i, i < 12 → so i = 1 → sa i = ya i ∧ sb i = yb i) (hL : ec_LV so sa sb L) : ec_LV so ya yb L := by
  intro w hw
  have h1 := hL w hw
  refine ⟨h1.1, ?_, h1.2.2⟩
  intro h2
  have e := h w hw h2
  rw [← e.1, ← e.2]
  exact h1.2.1 h2
end
end
section
/-! the class: signals, clocks, formulas, put, hangingOn, leadsTo -/
section
variable {f lo : Int32} {so va op sa sb ck ls lv co : Nat → Int32} {L : Nat → Nat}
theorem ec_if {c : Prop} [Decidable c] {post : Int32 → Prop} {a b : Int32} {A B : Prop} (h : post (if c then a else b)) (k1 : post a → A) (k2 : post b → B) : (c → A) ∧ (¬ c → B) :=
  ⟨fun hc => k1 (by rwa [if_pos hc] at h), fun hc => k2 (by rwa [if_neg hc] at h)⟩
theorem ec_xfo {post : Int32 → Prop} {s : Nat} (hs : s < 12) (ha : vp_in (sa s) 12) (hb : vp_in (sb s) 12) (h : post (ec_fv op sa sb va s)) : wpX_formulaOf post (f, lo, so, va, op, sa, sb, ck, ls, lv, co) (nI s) := by
  unfold wpX_formulaOf
  dsimp only
  rw [ec_cl hs]
  unfold ec_fv ec_fo at h
  refine ⟨ec_in hs, ha, nm_e ⟨ec_in hs, hb, nm_e ⟨ec_in hs, nm_e ?_⟩⟩⟩
  exact ec_if h id fun h => ec_if h id fun h => ec_if h id fun h => ec_if h id fun h => ec_if h id fun h => ec_if h (fun h => ec_if h id id) fun h => ec_if h id fun h => ec_if h id fun h => ec_if h id id
theorem ec_xput {post : SX → Prop} {s : Nat} (hs : s < 12) {p : Int32} (hp : ec_r16 p) (h : post (if va s = p then f else f ||| ls s, lo, so, upd va s p, op, sa, sb, ck, ls, lv, co)) : wpX_put post (f, lo, so, va, op, sa, sb, ck, ls, lv, co) (nI s) p := by
  unfold wpX_put
  dsimp only
  rw [ec_cl hs]
  by_cases e : va s = p
  · rw [if_pos e, ← e, ec_up0] at h
    exact ⟨ec_in hs, br_t e h⟩
  · rw [if_neg e] at h
    refine ⟨ec_in hs, br_f e ⟨ec_in hs, nm_r (by rw [ec_rby hp]) ⟨ec_in hs, nm_e h⟩⟩⟩
/-! isSignal -/
theorem ec_xsg {post : Int32 → Prop} {p : Int32} (h0 : ¬ (∃ s, s < 12 ∧ p = nI s) → post 0) (h1 : ∀ s, s < 12 → p = nI s → post 1) : wpX_isSignal post (f, lo, so, va, op, sa, sb, ck, ls, lv, co) p := by
  unfold wpX_isSignal
  dsimp only
  rcases pk_ix p (n := 12) (by decide) with h | h | ⟨j, hj, e⟩
  · refine br_t h (h0 ?_)
    rintro ⟨s, hs, rfl⟩
    exact nI_pos (by omega) h
  · have hn : ¬ p < 0 := by
      rw [Int32.not_lt]
      exact Int32.le_trans (by decide) h
    have h11 : (11 : Int32) < p := by
      rw [Int32.lt_iff_toInt_lt]
      rw [Int32.le_iff_toInt_le, nI_toInt (by decide)] at h
      have : (11 : Int32).toInt = 11 := by decide
      omega
    refine br_f hn (br_t h11 (h0 ?_))
    rintro ⟨s, hs, rfl⟩
    rw [nI_leI (by decide) (by omega)] at h
    omega
  · subst e
    exact br_f (nI_pos (by omega)) (br_f (nI_nlt (a := 11) (b := j) (by omega) (by decide)) (h1 j hj rfl))
/-! isClock -/
def ec_ic (so ck : Nat → Int32) (p : Int32) (i : Nat) : Prop := ∃ r, i ≤ r ∧ r < 12 ∧ so r = 2 ∧ ck r = p
theorem ec_xic {p : Int32} : ∀ (d i : Nat), i + d = 12 → ∀ post : Int32 → Prop, (ec_ic so ck p i → post 1) → (¬ ec_ic so ck p i → post 0) → wX_isClock_2 post p f lo so va op sa sb ck ls lv co (d + 1) (nI i) := by
  intro d
  induction d with
  | zero =>
    intro i hi post _ h0
    have e : i = 12 := by omega
    subst e
    refine br_t ec_12 (h0 ?_)
    rintro ⟨r, h1, h2, _⟩
    omega
  | succ d ih =>
    intro i hi post h1 h0
    have hl : i < 12 := by omega
    have step : ¬ (so i = 2 ∧ ck i = p) → wX_isClock_2 post p f lo so va op sa sb ck ls lv co (d + 1) (nI (i + 1)) := by
      intro hn
      apply ih (i + 1) (by omega) post
      · rintro ⟨r, a, b, c⟩
        exact h1 ⟨r, by omega, b, c⟩
      · intro hno
        apply h0
        rintro ⟨r, a, b, c⟩
        by_cases e : r = i
        · subst e; exact hn c
        · exact hno ⟨r, by omega, b, c⟩
    rw [wX_isClock_2]
    simp only [ec_cl hl, nI_1]
    refine br_f (ec_ge hl) ⟨ec_in hl, ?_⟩
    by_cases h2 : so i = 2
    · refine br_t h2 ⟨ec_in hl, ?_⟩
      by_cases h3 : ck i = p
      · exact br_t h3 (h1 ⟨i, Nat.le_refl i, hl, h2, h3⟩)
      · exact br_f h3 (nm_e (step (fun z => h3 z.2)))
    · exact br_f h2 (nm_e (step (fun z => h2 z.1)))
theorem ec_xicl {post : Int32 → Prop} {p : Int32} (h1 : ec_ic so ck p 0 → post 1) (h0 : ¬ ec_ic so ck p 0 → post 0) : wpX_isClock post (f, lo, so, va, op, sa, sb, ck, ls, lv, co) p :=
  ⟨13, ec_xic 12 0 rfl post h1 h0⟩
/-! hangingOn -/
theorem ec_xh18 {s : Nat} (hls : ec_LS so sa sb ls) {st0 : Int32} : ∀ (d i : Nat) (st : Int32), i + d = 12 → (∀ j, bt st0 j = true → bt st j = true) → (∀ j, bt st j = true → ec_T so sa sb s j) → (∀ x, x < i → bt st0 x = true → ∀ j, ec_E so sa sb x j → bt st j = true) →
    ∃ st' : Int32, (∀ j, bt st0 j = true → bt st' j = true) ∧ (∀ j, bt st' j = true → ec_T so sa sb s j) ∧ (∀ x, x < 12 → bt st0 x = true → ∀ j, ec_E so sa sb x j → bt st' j = true) ∧
    ∀ (post : Int32 → Prop) (J : Int32 → Int32 → Prop) (x3 : Int32), J st' (x3 + 1) → wX_hangingOn_18 post J x3 f lo so va op sa sb ck ls lv co (d + 1) st (nI i) := by
  intro d
  induction d with
  | zero =>
    intro i st hi h1 h2 h3
    have e : i = 12 := by omega
    subst e
    exact ⟨st, h1, h2, h3, fun post J x3 h => br_t ec_12 (nm_e h)⟩
  | succ d ih =>
    intro i st hi h1 h2 h3
    have hl : i < 12 := by omega
    by_cases hb : bt st i = true
    · have hor : ∀ j, bt (st ||| ls i) j = true ↔ bt st j = true ∨ ec_E so sa sb i j := by
        intro j
        rw [b_or, Bool.or_eq_true, hls i hl j]
      obtain ⟨st', a1, a2, a3, a4⟩ := ih (i + 1) (st ||| ls i) (by omega) (fun j hj => (hor j).mpr (Or.inl (h1 j hj)))
        (by
          intro j hj
          rcases (hor j).mp hj with h | h
          · exact h2 j h
          · exact ec_T2 (h2 i hb) h)
        (by
          intro x hx hx0 j hj
          by_cases e : x = i
          · subst e; exact (hor j).mpr (Or.inr hj)
          · exact (hor j).mpr (Or.inl (h3 x (by omega) hx0 j hj)))
      refine ⟨st', a1, a2, a3, fun post J x3 h => ?_⟩
      rw [wX_hangingOn_18]
      simp only [ec_cl hl, nI_1]
      exact br_f (ec_ge hl) (br_f (ec_t0n hl hb) ⟨ec_in hl, nm_e (nm_e (a4 post J x3 h))⟩)
    · have hb := ec_nt hb
      obtain ⟨st', a1, a2, a3, a4⟩ := ih (i + 1) st (by omega) h1 h2
        (by
          intro x hx hx0 j hj
          by_cases e : x = i
          · subst e
            rw [h1 x hx0] at hb
            exact absurd hb (by decide)
          · exact h3 x (by omega) hx0 j hj)
      refine ⟨st', a1, a2, a3, fun post J x3 h => ?_⟩
      rw [wX_hangingOn_18]
      simp only [nI_1]
      exact br_f (ec_ge hl) (br_t (ec_t0 hl hb) (nm_e (a4 post J x3 h)))
theorem ec_xh9 {s : Nat} (hls : ec_LS so sa sb ls) (hA : ec_R sa) (hB : ec_R sb) (hL : ec_LV so sa sb L) : ∀ (d k : Nat) (st : Int32), k + d = 12 → (∀ j, bt st j = true → ec_T so sa sb s j) → (∀ j, ec_E so sa sb s j → bt st j = true) → (∀ j, ec_T so sa sb s j → L j ≤ k → bt st j = true) →
    ∃ st' : Int32, (∀ j, bt st' j = true ↔ ec_T so sa sb s j) ∧ ∀ post : Int32 → Prop, post st' → wX_hangingOn_9 post f lo so va op sa sb ck ls lv co (d + 1) st (nI k) := by
  intro d
  induction d with
  | zero =>
    intro k st hk h1 h2 h3
    have e : k = 12 := by omega
    subst e
    refine ⟨st, fun j => ⟨h1 j, fun h => h3 j h ?_⟩, fun post h => br_t ec_12 h⟩
    have := (hL j (ec_Tl h)).1
    omega
  | succ d ih =>
    intro k st hk h1 h2 h3
    have hl : k < 12 := by omega
    obtain ⟨st1, a1, a2, a3, a4⟩ := ec_xh18 (s := s) (f := f) (lo := lo) (va := va) (op := op) (ck := ck) (lv := lv) (co := co) hls (st0 := st) 12 0 st rfl (fun _ h => h) h1 (fun x hx => absurd hx (Nat.not_lt_zero x))
    obtain ⟨st', b1, b2⟩ := ih (k + 1) st1 (by omega) a2 (fun j hj => a1 j (h2 j hj))
      (by
        intro j hj hjk
        rcases ec_Tc hj with h | ⟨x, hx, h⟩
        · exact a1 j (h2 j h)
        · have hlt := ec_Er (ec_LR hL) h
          exact a3 x (ec_Tl hx) (h3 x hx (by omega)) j h)
    refine ⟨st', b1, fun post h => ?_⟩
    refine br_f (ec_ge hl) ⟨13, a4 post _ (nI k) ?_⟩
    rw [nI_1]
    exact b2 post h
theorem ec_xhang {s : Nat} (hs : s < 12) (hls : ec_LS so sa sb ls) (hA : ec_R sa) (hB : ec_R sb) (hL : ec_LV so sa sb L) :
    ∃ r : Int32, (∀ j, bt r j = true ↔ ec_T so sa sb s j) ∧ ∀ post : Int32 → Prop, post r → wpX_hangingOn post (f, lo, so, va, op, sa, sb, ck, ls, lv, co) (nI s) := by
  obtain ⟨r, h1, h2⟩ := ec_xh9 (s := s) (f := f) (lo := lo) (va := va) (op := op) (ck := ck) (lv := lv) (co := co) hls hA hB hL 12 0 (ls s) rfl (fun j h => ec_T1 ((hls s hs j).mp h)) (fun j h => (hls s hs j).mpr h)
    (by
      intro j hj h0
      have := ec_Tr (ec_LR hL) hj
      omega)
  refine ⟨r, h1, fun post h => ?_⟩
  unfold wpX_hangingOn
  dsimp only
  rw [ec_cl hs]
  exact ⟨ec_in hs, nm_e ⟨13, h2 post h⟩⟩
theorem ec_xlead {s a : Nat} (hs : s < 12) (ha : a < 12) (hls : ec_LS so sa sb ls) (hA : ec_R sa) (hB : ec_R sb) (hL : ec_LV so sa sb L) {post : Int32 → Prop}
    (h1 : (s = a ∨ ec_T so sa sb s a) → post 1) (h0 : ¬ (s = a ∨ ec_T so sa sb s a) → post 0) : wpX_leadsTo post (f, lo, so, va, op, sa, sb, ck, ls, lv, co) (nI s) (nI a) := by
  obtain ⟨r, hr, hw⟩ := ec_xhang (f := f) (lo := lo) (va := va) (op := op) (ck := ck) (lv := lv) (co := co) hs hls hA hB hL
  unfold wpX_leadsTo
  dsimp only
  by_cases e : s = a
  · exact br_t (by rw [e]) (h1 (Or.inl e))
  · refine br_f (fun z => e ((nI_eq (by omega) (by omega)).mp z)) (hw _ ?_)
    by_cases hb : bt r a = true
    · exact br_f (ec_t0n ha hb) (h1 (Or.inr ((hr a).mp hb)))
    · refine br_t (ec_t0 ha (ec_nt hb)) (h0 ?_)
      rintro (z | z)
      · exact e z
      · exact hb ((hr a).mpr z)
end
end
section
/-! the class: connect -/
section
variable {f lo : Int32} {so va op sa sb ck ls lv co : Nat → Int32} {L : Nat → Nat}
theorem ec_xc2 : ∀ (d i : Nat) (ls lv : Nat → Int32), i + d = 12 → (∀ j, j < i → ls j = 0 ∧ lv j = 0) →
    ∃ ls' lv' : Nat → Int32, (∀ j, j < 12 → ls' j = 0 ∧ lv' j = 0) ∧
    ∀ post : SX → Prop, (∃ n, wX_connect_30 post f lo n 0 so va op sa sb ck ls' lv' co) → wX_connect_2 post f lo (d + 1) (nI i) so va op sa sb ck ls lv co := by
  intro d
  induction d with
  | zero =>
    intro i ls lv hi h
    have e : i = 12 := by omega
    subst e
    exact ⟨ls, lv, h, fun post h => br_t ec_12 h⟩
  | succ d ih =>
    intro i ls lv hi h
    have hl : i < 12 := by omega
    obtain ⟨ls', lv', a1, a2⟩ := ih (i + 1) (upd ls i 0) (upd lv i 0) (by omega)
      (by
        intro j hj
        by_cases e : j = i
        · rw [e, pk_us, pk_us]; exact ⟨rfl, rfl⟩
        · rw [pk_un e, pk_un e]; exact h j (by omega))
    refine ⟨ls', lv', a1, fun post hp => ?_⟩
    rw [wX_connect_2]
    simp only [ec_cl hl, nI_1, ec_by0]
    exact br_f (ec_ge hl) ⟨ec_in hl, nm_e ⟨ec_in hl, nm_e (nm_e (a2 post hp))⟩⟩
theorem ec_xc30 (hA : ec_R sa) (hB : ec_R sb) : ∀ (d i : Nat) (ls : Nat → Int32), i + d = 12 → (∀ t, t < 12 → ∀ j, bt (ls t) j = true ↔ j < i ∧ ec_E so sa sb t j) →
    ∃ ls' : Nat → Int32, ec_LS so sa sb ls' ∧
    ∀ post : SX → Prop, (∃ n, wX_connect_91 post f lo n 0 so va op sa sb ck ls' lv co) → wX_connect_30 post f lo (d + 1) (nI i) so va op sa sb ck ls lv co := by
  intro d
  induction d with
  | zero =>
    intro i ls hi h
    have e : i = 12 := by omega
    subst e
    refine ⟨ls, ?_, fun post h => br_t ec_12 h⟩
    intro t ht j
    rw [h t ht j]
    exact ⟨fun z => z.2, fun z => ⟨z.1, z⟩⟩
  | succ d ih =>
    intro i ls hi h
    have hl : i < 12 := by omega
    by_cases hw : so i = 1
    · have hone : ∀ (g : Nat → Int32) (x t j : Nat), bt (upd g x (g x ||| ((1 : Int32) <<< (nI i &&& 31))) t) j = true ↔ bt (g t) j = true ∨ (t = x ∧ j = i) := by
        intro g x t j
        by_cases e : t = x
        · subst e
          rw [pk_us, b_or, ec_shl hl, Bool.or_eq_true, decide_eq_true_iff]
          constructor
          · rintro (z | z)
            · exact Or.inl z
            · exact Or.inr ⟨rfl, z⟩
          · rintro (z | z)
            · exact Or.inl z
            · exact Or.inr z.2
        · rw [pk_un e]
          constructor
          · exact Or.inl
          · rintro (z | z)
            · exact z
            · exact absurd z.1 e
      obtain ⟨ls', a1, a2⟩ := ih (i + 1)
        (upd (upd ls (sa i).toNatClampNeg (ls (sa i).toNatClampNeg ||| ((1 : Int32) <<< (nI i &&& 31)))) (sb i).toNatClampNeg (upd ls (sa i).toNatClampNeg (ls (sa i).toNatClampNeg ||| ((1 : Int32) <<< (nI i &&& 31))) (sb i).toNatClampNeg ||| ((1 : Int32) <<< (nI i &&& 31)))) (by omega)
        (by
          intro t ht j
          rw [hone, hone, h t ht j]
          constructor
          · rintro ((⟨z1, z2⟩ | ⟨z1, z2⟩) | ⟨z1, z2⟩)
            · exact ⟨by omega, z2⟩
            · subst z2; exact ⟨by omega, hl, hw, Or.inl z1.symm⟩
            · subst z2; exact ⟨by omega, hl, hw, Or.inr z1.symm⟩
          · rintro ⟨z1, z2⟩
            by_cases e : j = i
            · subst e
              rcases z2.2.2 with z | z
              · exact Or.inl (Or.inr ⟨z.symm, rfl⟩)
              · exact Or.inr ⟨z.symm, rfl⟩
            · exact Or.inl (Or.inl ⟨by omega, z2⟩))
      refine ⟨ls', a1, fun post hp => ?_⟩
      rw [wX_connect_30]
      simp only [ec_cl hl, nI_1]
      exact br_f (ec_ge hl) ⟨ec_in hl, br_t hw ⟨ec_in hl, hA i hl, hA i hl, nm_e ⟨ec_in hl, hB i hl, hB i hl, nm_e (nm_e (a2 post hp))⟩⟩⟩
    · obtain ⟨ls', a1, a2⟩ := ih (i + 1) ls (by omega)
        (by
          intro t ht j
          rw [h t ht j]
          constructor
          · rintro ⟨z1, z2⟩
            exact ⟨by omega, z2⟩
          · rintro ⟨z1, z2⟩
            by_cases e : j = i
            · subst e; exact absurd z2.2.1 hw
            · exact ⟨by omega, z2⟩)
      refine ⟨ls', a1, fun post hp => ?_⟩
      rw [wX_connect_30]
      simp only [ec_cl hl, nI_1]
      exact br_f (ec_ge hl) ⟨ec_in hl, br_f hw (nm_e (a2 post hp))⟩
theorem ec_xc99 (hA : ec_R sa) (hB : ec_R sb) (hL : ec_LV so sa sb L) {k : Nat} : ∀ (d i : Nat) (lv : Nat → Int32), i + d = 12 → (∀ w, w < 12 → (L w ≤ k ∨ (w < i ∧ L w ≤ k + 1)) → lv w = nI (L w)) →
    ∃ lv' : Nat → Int32, (∀ w, w < 12 → L w ≤ k + 1 → lv' w = nI (L w)) ∧
    ∀ (post : SX → Prop) (J : Int32 → (Nat → Int32) → (Nat → Int32) → (Nat → Int32) → (Nat → Int32) → (Nat → Int32) → (Nat → Int32) → (Nat → Int32) → (Nat → Int32) → (Nat → Int32) → Prop) (x1 : Int32), J (x1 + 1) so va op sa sb ck ls lv' co → wX_connect_99 post J x1 f lo (d + 1) (nI i) so va op sa sb ck ls lv co := by
  intro d
  induction d with
  | zero =>
    intro i lv hi h
    have e : i = 12 := by omega
    subst e
    exact ⟨lv, fun w hw hk => h w hw (Or.inr ⟨hw, hk⟩), fun post J x1 h => br_t ec_12 (nm_e h)⟩
  | succ d ih =>
    intro i lv hi h
    have hl : i < 12 := by omega
    by_cases hw : so i = 1
    · have ha := ec_Rl hA hl
      have hb := ec_Rl hB hl
      have hLi := hL i hl
      have hLe := hLi.2.1 hw
      obtain ⟨z, hz⟩ : ∃ z : Int32, z = if lv (sa i).toNatClampNeg ≤ lv (sb i).toNatClampNeg then lv (sb i).toNatClampNeg else lv (sa i).toNatClampNeg := ⟨_, rfl⟩
      obtain ⟨lv', a1, a2⟩ := ih (i + 1) (upd lv i (vp_nar .byte (z + 1).toInt8.toInt32)) (by omega)
        (by
          intro w hw12 hc
          by_cases e : w = i
          · subst e
            rw [pk_us]
            have hka : L (sa w).toNatClampNeg ≤ k := by omega
            have hkb : L (sb w).toNatClampNeg ≤ k := by omega
            have va1 := h _ ha (Or.inl hka)
            have vb1 := h _ hb (Or.inl hkb)
            have hza : L (sa w).toNatClampNeg ≤ 11 := (hL _ ha).1
            have hzb : L (sb w).toNatClampNeg ≤ 11 := (hL _ hb).1
            have hz2 : z = nI (max (L (sa w).toNatClampNeg) (L (sb w).toNatClampNeg)) := by
              rw [hz, va1, vb1]
              by_cases c : L (sa w).toNatClampNeg ≤ L (sb w).toNatClampNeg
              · rw [if_pos ((nI_leI (by omega) (by omega)).mpr c)]
                exact ec_nIi (by omega)
              · rw [if_neg (fun q => c ((nI_leI (by omega) (by omega)).mp q))]
                exact ec_nIi (by omega)
            rw [hz2, nI_1, ← hLe, ec_by (by omega)]
          · rw [pk_un e]
            exact h w hw12 (by omega))
      refine ⟨lv', a1, fun post J x1 hp => ?_⟩
      have fin : wX_connect_168 post J (wX_connect_99 post J x1 f lo (d + 1)) x1 (nI i) z f lo so va op sa sb ck ls lv co := by
        unfold wX_connect_168
        rw [ec_cl hl, nI_1]
        exact ⟨ec_in hl, nm_e (nm_e (a2 post J x1 hp))⟩
      rw [wX_connect_99]
      simp only [ec_cl hl, nI_1]
      refine br_f (ec_ge hl) ⟨ec_in hl, br_t hw ⟨ec_in hl, hA i hl, ec_in hl, hB i hl, ?_⟩⟩
      by_cases c : lv (sa i).toNatClampNeg ≤ lv (sb i).toNatClampNeg
      · rw [if_pos c] at hz
        rw [← hz]
        rw [← hz] at c
        exact br_t c ⟨ec_in hl, hB i hl, fin⟩
      · rw [if_neg c] at hz
        rw [← hz]
        rw [← hz] at c
        exact br_f c ⟨ec_in hl, hA i hl, fin⟩
    · obtain ⟨lv', a1, a2⟩ := ih (i + 1) lv (by omega)
        (by
          intro w hw12 hc
          by_cases e : w = i
          · subst e
            have := (hL w hl).2.2 hw
            exact h w hl (Or.inl (by omega))
          · exact h w hw12 (by omega))
      refine ⟨lv', a1, fun post J x1 hp => ?_⟩
      rw [wX_connect_99]
      simp only [ec_cl hl, nI_1]
      exact br_f (ec_ge hl) ⟨ec_in hl, br_f hw (nm_e (a2 post J x1 hp))⟩
theorem ec_xc91 (hA : ec_R sa) (hB : ec_R sb) (hL : ec_LV so sa sb L) : ∀ (d k : Nat) (lv : Nat → Int32), k + d = 12 → (∀ w, w < 12 → L w ≤ k → lv w = nI (L w)) →
    ∃ lv' : Nat → Int32, ec_LN lv' L ∧ ∀ post : SX → Prop, post (f, lo, so, va, op, sa, sb, ck, ls, lv', co) → wX_connect_91 post f lo (d + 1) (nI k) so va op sa sb ck ls lv co := by
  intro d
  induction d with
  | zero =>
    intro k lv hk h
    have e : k = 12 := by omega
    subst e
    exact ⟨lv, fun w hw => h w hw (by have := (hL w hw).1; omega), fun post h => br_t ec_12 h⟩
  | succ d ih =>
    intro k lv hk h
    have hl : k < 12 := by omega
    obtain ⟨lv1, a1, a2⟩ := ec_xc99 (f := f) (lo := lo) (va := va) (op := op) (ck := ck) (ls := ls) (co := co) hA hB hL (k := k) 12 0 lv rfl (fun w hw hc => h w hw (by omega))
    obtain ⟨lv', b1, b2⟩ := ih (k + 1) lv1 (by omega) a1
    refine ⟨lv', b1, fun post hp => ?_⟩
    refine br_f (ec_ge hl) ⟨13, a2 post _ (nI k) ?_⟩
    rw [nI_1]
    exact b2 post hp
theorem ec_xconn (hA : ec_R sa) (hB : ec_R sb) {R : Nat → Nat} (hR : ec_RK so sa sb R) :
    ∃ (ls' lv' : Nat → Int32) (L : Nat → Nat), ec_LS so sa sb ls' ∧ ec_LV so sa sb L ∧ ec_LN lv' L ∧
    ∀ post : SX → Prop, post (f, lo, so, va, op, sa, sb, ck, ls', lv', co) → wpX_connect post (f, lo, so, va, op, sa, sb, ck, ls, lv, co) := by
  obtain ⟨L, hL⟩ := ec_mk hA hB hR
  obtain ⟨ls1, lv1, a1, a2⟩ := ec_xc2 (f := f) (lo := lo) (so := so) (va := va) (op := op) (sa := sa) (sb := sb) (ck := ck) (co := co) 12 0 ls lv rfl (fun j hj => absurd hj (Nat.not_lt_zero j))
  obtain ⟨ls2, b1, b2⟩ := ec_xc30 (f := f) (lo := lo) (va := va) (op := op) (ck := ck) (lv := lv1) (co := co) hA hB (so := so) 12 0 ls1 rfl
    (by
      intro t ht j
      rw [(a1 t ht).1, b_0]
      constructor
      · intro z; exact absurd z (by decide)
      · rintro ⟨z, _⟩; omega)
  obtain ⟨lv2, c1, c2⟩ := ec_xc91 (f := f) (lo := lo) (va := va) (op := op) (ck := ck) (ls := ls2) (co := co) hA hB hL 12 0 lv1 rfl
    (by
      intro w hw h0
      rw [(a1 w hw).2, show L w = 0 by omega]; rfl)
  exact ⟨ls2, lv2, L, b1, hL, c1, fun post hp => ⟨13, a2 post ⟨13, b2 post ⟨13, c2 post hp⟩⟩⟩⟩
end
end
section
/-! the class: lowestAwake, settle, define -/
section
variable {f lo : Int32} {so va op sa sb ck ls lv co : Nat → Int32} {L : Nat → Nat}
def ec_lw (f : Int32) (L : Nat → Nat) (i : Nat) (x : Int32) : Prop := (x = -1 ∧ ∀ j, j < i → bt f j = false) ∨ ∃ b, b < i ∧ x = nI b ∧ bt f b = true ∧ ∀ j, j < i → bt f j = true → L b ≤ L j
theorem ec_xla (hN : ec_LN lv L) (h11 : ∀ w, w < 12 → L w ≤ 11) : ∀ (d i : Nat) (x : Int32), i + d = 12 → ec_lw f L i x →
    ∃ x' : Int32, ec_lw f L 12 x' ∧ ∀ post : Int32 → Prop, post x' → wX_lowestAwake_4 post f lo so va op sa sb ck ls lv co (d + 1) x (nI i) := by
  intro d
  induction d with
  | zero =>
    intro i x hi h
    have e : i = 12 := by omega
    subst e
    exact ⟨x, h, fun post h => br_t ec_12 h⟩
  | succ d ih =>
    intro i x hi h
    have hl : i < 12 := by omega
    by_cases hb : bt f i = true
    · rcases h with ⟨hx, h0⟩ | ⟨b, hbi, hx, hbb, hmin⟩
      · obtain ⟨x', a1, a2⟩ := ih (i + 1) (nI i) (by omega)
          (Or.inr ⟨i, by omega, rfl, hb, by
            intro j hj hbj
            by_cases e : j = i
            · rw [e]; exact Nat.le_refl _
            · rw [h0 j (by omega)] at hbj; exact absurd hbj (by decide)⟩)
        refine ⟨x', a1, fun post hp => ?_⟩
        rw [wX_lowestAwake_4]
        simp only [nI_1]
        exact br_f (ec_ge hl) (br_f (ec_t0n hl hb) (br_t (by rw [hx]; decide) (nm_e (a2 post hp))))
      · have hb12 : b < 12 := by omega
        have l1 := h11 b hb12
        have l2 := h11 i hl
        by_cases c : L b ≤ L i
        · obtain ⟨x', a1, a2⟩ := ih (i + 1) (nI b) (by omega)
            (Or.inr ⟨b, by omega, rfl, hbb, by
              intro j hj hbj
              by_cases e : j = i
              · rw [e]; exact c
              · exact hmin j (by omega) hbj⟩)
          refine ⟨x', a1, fun post hp => ?_⟩
          rw [wX_lowestAwake_4, hx]
          simp only [nI_1, ec_cl hl, ec_cl hb12]
          refine br_f (ec_ge hl) (br_f (ec_t0n hl hb) (br_f (nI_pos (by omega)) ⟨ec_in hl, ec_in hb12, br_t ?_ (nm_e (a2 post hp))⟩))
          rw [hN b hb12, hN i hl]
          exact (nI_leI (by omega) (by omega)).mpr c
        · obtain ⟨x', a1, a2⟩ := ih (i + 1) (nI i) (by omega)
            (Or.inr ⟨i, by omega, rfl, hb, by
              intro j hj hbj
              by_cases e : j = i
              · rw [e]; exact Nat.le_refl _
              · have := hmin j (by omega) hbj; omega⟩)
          refine ⟨x', a1, fun post hp => ?_⟩
          rw [wX_lowestAwake_4, hx]
          simp only [nI_1, ec_cl hl, ec_cl hb12]
          refine br_f (ec_ge hl) (br_f (ec_t0n hl hb) (br_f (nI_pos (by omega)) ⟨ec_in hl, ec_in hb12, br_f ?_ (nm_e (a2 post hp))⟩))
          rw [hN b hb12, hN i hl]
          exact fun q => c ((nI_leI (by omega) (by omega)).mp q)
    · have hb := ec_nt hb
      obtain ⟨x', a1, a2⟩ := ih (i + 1) x (by omega)
        (by
          rcases h with ⟨hx, h0⟩ | ⟨b, hbi, hx, hbb, hmin⟩
          · refine Or.inl ⟨hx, fun j hj => ?_⟩
            by_cases e : j = i
            · rw [e]; exact hb
            · exact h0 j (by omega)
          · refine Or.inr ⟨b, by omega, hx, hbb, fun j hj hbj => ?_⟩
            by_cases e : j = i
            · rw [e, hb] at hbj; exact absurd hbj (by decide)
            · exact hmin j (by omega) hbj)
      refine ⟨x', a1, fun post hp => ?_⟩
      rw [wX_lowestAwake_4]
      simp only [nI_1]
      exact br_f (ec_ge hl) (br_t (ec_t0 hl hb) (nm_e (a2 post hp)))
theorem ec_xlow (hN : ec_LN lv L) (h11 : ∀ w, w < 12 → L w ≤ 11) {j : Nat} (hj : j < 12) (hb : bt f j = true) :
    ∃ b, b < 12 ∧ bt f b = true ∧ (∀ i, i < 12 → bt f i = true → L b ≤ L i) ∧ ∀ post : Int32 → Prop, post (nI b) → wpX_lowestAwake post (f, lo, so, va, op, sa, sb, ck, ls, lv, co) := by
  obtain ⟨x, h1, h2⟩ := ec_xla (f := f) (lo := lo) (so := so) (va := va) (op := op) (sa := sa) (sb := sb) (ck := ck) (ls := ls) (co := co) hN h11 12 0 (-1) rfl (Or.inl ⟨rfl, fun j hj => absurd hj (Nat.not_lt_zero j)⟩)
  rcases h1 with ⟨_, h0⟩ | ⟨b, hb12, hx, hbb, hmin⟩
  · rw [h0 j hj] at hb
    exact absurd hb (by decide)
  · subst hx
    exact ⟨b, hb12, hbb, hmin, fun post hp => ⟨13, h2 post hp⟩⟩
/-- what settle keeps: D the wires that are worked out, v0 the values at its start -/
def ec_SI (f : Int32) (so op sa sb va v0 : Nat → Int32) (L : Nat → Nat) (D : Nat → Bool) (i : Nat) : Prop :=
  (∀ j, bt f j = true → j < 12 ∧ so j = 1) ∧
  (∀ w, w < 12 → so w = 1 → bt f w = false → va w = ec_fv op sa sb va w) ∧
  ec_cn D 12 = i ∧
  (∀ j, D j = true → j < 12 ∧ so j = 1 ∧ bt f j = false ∧ ∀ w, w < 12 → bt f w = true → L j ≤ L w) ∧
  (∀ j, D j = false → va j = v0 j) ∧
  (∀ j, j < 12 → ec_r16 (va j))
theorem ec_SIs {v0 : Nat → Int32} {D : Nat → Bool} {i b : Nat} (hls : ec_LS so sa sb ls) (hA : ec_R sa) (hB : ec_R sb) (hL : ec_LV so sa sb L)
    (h : ec_SI f so op sa sb va v0 L D i) (hb : b < 12) (hbb : bt f b = true) (hmin : ∀ j, j < 12 → bt f j = true → L b ≤ L j) :
    ec_SI (if va b = ec_fv op sa sb va b then f &&& (((1 : Int32) <<< (nI b &&& 31)) ^^^ (-1)) else (f &&& (((1 : Int32) <<< (nI b &&& 31)) ^^^ (-1))) ||| ls b) so op sa sb (upd va b (ec_fv op sa sb va b)) v0 L (fun j => decide (j = b) || D j) (i + 1) ∧ va b = v0 b := by
  obtain ⟨h1, h2, h3, h4, h5, h6⟩ := h
  have hRK := ec_LR hL
  have hDb : D b = false := by
    apply ec_nt
    intro z
    have := (h4 b z).2.2.1
    rw [hbb] at this
    exact absurd this (by decide)
  have hsb : so b = 1 := (h1 b hbb).2
  obtain ⟨g, hg⟩ : ∃ g : Int32, g = (if va b = ec_fv op sa sb va b then f &&& (((1 : Int32) <<< (nI b &&& 31)) ^^^ (-1)) else (f &&& (((1 : Int32) <<< (nI b &&& 31)) ^^^ (-1))) ||| ls b) := ⟨_, rfl⟩
  rw [← hg]
  have hg1 : ∀ j, bt g j = true → (bt f j = true ∧ j ≠ b) ∨ ec_E so sa sb b j := by
    intro j hj
    rw [hg] at hj
    by_cases c : va b = ec_fv op sa sb va b
    · rw [if_pos c, ec_msk f hb] at hj
      simp at hj
      exact Or.inl hj
    · rw [if_neg c, b_or, ec_msk f hb, Bool.or_eq_true, hls b hb j] at hj
      rcases hj with z | z
      · simp at z
        exact Or.inl z
      · exact Or.inr z
  have hg2 : ∀ j, j ≠ b → bt f j = true → bt g j = true := by
    intro j hj hf
    rw [hg]
    by_cases c : va b = ec_fv op sa sb va b
    · rw [if_pos c, ec_msk f hb, hf, decide_eq_false hj]; rfl
    · rw [if_neg c, b_or, ec_msk f hb, hf, decide_eq_false hj]; rfl
  have hg3 : ¬ va b = ec_fv op sa sb va b → ∀ j, ec_E so sa sb b j → bt g j = true := by
    intro c j hj
    rw [hg, if_neg c, b_or, (hls b hb j).mpr hj, Bool.or_true]
  -- formulas whose sources are not b are as before
  have hfv : ∀ w, ¬ ec_E so sa sb b w → w < 12 → so w = 1 → ec_fv op sa sb (upd va b (ec_fv op sa sb va b)) w = ec_fv op sa sb va w := by
    intro w hn hw hs
    have n1 : (sa w).toNatClampNeg ≠ b := fun z => hn ⟨hw, hs, Or.inl z⟩
    have n2 : (sb w).toNatClampNeg ≠ b := fun z => hn ⟨hw, hs, Or.inr z⟩
    show ec_fo (op w) (upd va b (ec_fv op sa sb va b) (sa w).toNatClampNeg) (upd va b (ec_fv op sa sb va b) (sb w).toNatClampNeg) = _
    rw [pk_un n1, pk_un n2]
    rfl
  have hnb : ¬ ec_E so sa sb b b := fun z => Nat.lt_irrefl _ (ec_Er hRK z)
  refine ⟨⟨?_, ?_, ?_, ?_, ?_, ?_⟩, h5 b hDb⟩
  · intro j hj
    rcases hg1 j hj with z | z
    · exact h1 j z.1
    · exact ⟨z.1, z.2.1⟩
  · intro w hw hs hgw
    by_cases e : w = b
    · subst e
      rw [pk_us, hfv w hnb hw hs]
    · rw [pk_un e]
      have hfw : bt f w = false := by
        apply ec_nt
        intro z
        rw [hg2 w e z] at hgw
        exact absurd hgw (by decide)
      by_cases c : va b = ec_fv op sa sb va b
      · rw [← c, ec_up0]
        exact h2 w hw hs hfw
      · have hn : ¬ ec_E so sa sb b w := by
          intro z
          rw [hg3 c w z] at hgw
          exact absurd hgw (by decide)
        rw [hfv w hn hw hs]
        exact h2 w hw hs hfw
  · rw [ec_cn_one (p := D) (q := fun j => decide (j = b) || D j) hDb (by intro j hj; show (decide (j = b) || D j) = D j; rw [decide_eq_false hj]; rfl) 12 hb, h3]
    simp
  · intro j hj
    have hj' : j = b ∨ D j = true := by
      have : (decide (j = b) || D j) = true := hj
      rw [Bool.or_eq_true, decide_eq_true_iff] at this
      exact this
    have hle : ∀ w, w < 12 → bt f w = true → L j ≤ L w := by
      intro w hw hf
      rcases hj' with e | z
      · rw [e]; exact hmin w hw hf
      · exact (h4 j z).2.2.2 w hw hf
    have hjb : L j ≤ L b := by
      rcases hj' with e | z
      · rw [e]; exact Nat.le_refl _
      · exact (h4 j z).2.2.2 b hb hbb
    have hall : ∀ w, w < 12 → bt g w = true → L j ≤ L w := by
      intro w hw hgw
      rcases hg1 w hgw with z | z
      · exact hle w hw z.1
      · have := ec_Er hRK z
        omega
    have hgj : bt g j = false := by
      apply ec_nt
      intro z
      rcases hg1 j z with q | q
      · rcases hj' with e | e
        · exact q.2 e
        · have := (h4 j e).2.2.1
          rw [q.1] at this
          exact absurd this (by decide)
      · have := ec_Er hRK q
        omega
    rcases hj' with e | z
    · subst e; exact ⟨hb, hsb, hgj, hall⟩
    · exact ⟨(h4 j z).1, (h4 j z).2.1, hgj, hall⟩
  · intro j hj
    have hj' : (decide (j = b) || D j) = false := hj
    rw [Bool.or_eq_false_iff, decide_eq_false_iff_not] at hj'
    rw [pk_un hj'.1]
    exact h5 j hj'.2
  · intro j hj
    by_cases e : j = b
    · rw [e, pk_us]
      exact ec_fr _ (h6 _ (ec_Rl hA hb)) (h6 _ (ec_Rl hB hb))
    · rw [pk_un e]
      exact h6 j hj
/-- what settle gives: all wires hold their formulas, all else is as before -/
def ec_SO (so op sa sb v0 va : Nat → Int32) : Prop :=
  (∀ w, w < 12 → so w = 1 → va w = ec_fv op sa sb va w) ∧ (∀ j, ¬ (j < 12 ∧ so j = 1) → va j = v0 j) ∧ (∀ j, j < 12 → ec_r16 (va j))
theorem ec_SIe {v0 : Nat → Int32} {D : Nat → Bool} {i : Nat} (h : ec_SI 0 so op sa sb va v0 L D i) : ec_SO so op sa sb v0 va := by
  obtain ⟨h1, h2, h3, h4, h5, h6⟩ := h
  refine ⟨fun w hw hs => h2 w hw hs (b_0 w), ?_, h6⟩
  intro j hj
  apply h5 j
  apply ec_nt
  intro z
  exact hj ⟨(h4 j z).1, (h4 j z).2.1⟩
theorem ec_xs4 {v0 : Nat → Int32} (hls : ec_LS so sa sb ls) (hA : ec_R sa) (hB : ec_R sb) (hL : ec_LV so sa sb L) (hN : ec_LN lv L) :
    ∀ (d i : Nat) (D : Nat → Bool) (f : Int32) (va : Nat → Int32), i + d = 12 → ec_SI f so op sa sb va v0 L D i →
    ∃ va' : Nat → Int32, ec_SO so op sa sb v0 va' ∧
    ∀ post : Int32 → SX → Prop, post (nI (ec_cn (fun j => decide (va' j ≠ v0 j)) 12)) (0, lo, so, va', op, sa, sb, ck, ls, lv, co) → wX_settle_4 post (d + 1) (nI (ec_cn (fun j => decide (va j ≠ v0 j)) 12)) (nI i) f lo so va op sa sb ck ls lv co := by
  intro d
  induction d with
  | zero =>
    intro i D f va hi h
    have e : i = 12 := by omega
    subst e
    have hf : f = 0 := by
      apply ec_zero
      intro j
      apply ec_nt
      intro z
      have hj := (h.1 j z).1
      have hD := ec_cn_all D 12 h.2.2.1 j hj
      have := (h.2.2.2.1 j hD).2.2.1
      rw [z] at this
      exact absurd this (by decide)
    subst hf
    exact ⟨va, ec_SIe h, fun post hp => br_t ec_12 hp⟩
  | succ d ih =>
    intro i D f va hi h
    have hl : i < 12 := by omega
    by_cases hf : f = 0
    · subst hf
      exact ⟨va, ec_SIe h, fun post hp => br_f (ec_ge hl) (br_t rfl hp)⟩
    · obtain ⟨j, hj⟩ := ec_some hf
      obtain ⟨b, hb, hbb, hmin, hlow⟩ := ec_xlow (f := f) (lo := lo) (so := so) (va := va) (op := op) (sa := sa) (sb := sb) (ck := ck) (ls := ls) (co := co) hN (fun w hw => (hL w hw).1) (h.1 j hj).1 hj
      obtain ⟨hS, hv0⟩ := ec_SIs hls hA hB hL h hb hbb hmin
      obtain ⟨va', a1, a2⟩ := ih (i + 1) _ _ _ (by omega) hS
      refine ⟨va', a1, fun post hp => ?_⟩
      have hr : ec_r16 (ec_fv op sa sb va b) := ec_fr _ (h.2.2.2.2.2 _ (ec_Rl hA hb)) (h.2.2.2.2.2 _ (ec_Rl hB hb))
      have hcn := ec_cn_one (p := fun j => decide (va j ≠ v0 j)) (q := fun j => decide (upd va b (ec_fv op sa sb va b) j ≠ v0 j)) (b := b) (decide_eq_false (fun z => z hv0)) (by intro j hj; show decide (upd va b _ j ≠ v0 j) = decide (va j ≠ v0 j); rw [pk_un hj]) 12 hb
      have hk := a2 post hp
      rw [hcn] at hk
      refine br_f (ec_ge hl) (br_f hf (hlow _ (nm_e ⟨ec_in hb, nm_e ?_⟩)))
      rw [ec_cl hb]
      refine ec_xfo hb (hA b hb) (hB b hb) (ec_xput hb hr ?_)
      dsimp only
      by_cases c : va b = ec_fv op sa sb va b
      · refine br_t c (nm_e ?_)
        rw [nI_1]
        rw [if_neg (by rw [pk_us, ← c, hv0]; simp)] at hk
        exact hk
      · refine br_f c (nm_e (nm_e ?_))
        rw [nI_1, nI_1]
        rw [if_pos (by rw [pk_us]; exact decide_eq_true (fun z => c (by rw [hv0, z])))] at hk
        exact hk
theorem ec_xsettle (hls : ec_LS so sa sb ls) (hA : ec_R sa) (hB : ec_R sb) (hL : ec_LV so sa sb L) (hN : ec_LN lv L)
    (h1 : ∀ j, bt f j = true → j < 12 ∧ so j = 1) (h2 : ∀ w, w < 12 → so w = 1 → bt f w = false → va w = ec_fv op sa sb va w) (h3 : ∀ j, j < 12 → ec_r16 (va j)) :
    ∃ va' : Nat → Int32, ec_SO so op sa sb va va' ∧
    ∀ post : Int32 → SX → Prop, post (nI (ec_cn (fun j => decide (va' j ≠ va j)) 12)) (0, lo, so, va', op, sa, sb, ck, ls, lv, co) → wpX_settle post (f, lo, so, va, op, sa, sb, ck, ls, lv, co) := by
  have h0 : ec_SI f so op sa sb va va L (fun _ => false) 0 := ⟨h1, h2, by decide, fun j hj => absurd (show false = true from hj) (by decide), fun j _ => rfl, h3⟩
  obtain ⟨va', a1, a2⟩ := ec_xs4 (lo := lo) (ck := ck) (co := co) (v0 := va) hls hA hB hL hN 12 0 _ f va rfl h0
  refine ⟨va', a1, fun post hp => ⟨13, ?_⟩⟩
  have hz : ec_cn (fun j => decide (va j ≠ va j)) 12 = 0 := by
    rw [ec_cn_eq (q := fun _ => false) 12 (fun j _ => decide_eq_false (fun z => z rfl))]
    decide
  have := a2 post hp
  rw [hz] at this
  exact this
end
end
section
/-! the class: define, depth, registersChanged -/
section
variable {f lo : Int32} {so va op sa sb ck ls lv co : Nat → Int32} {L : Nat → Nat}
theorem ec_xset0 {post : Int32 → SX → Prop} (h : post 0 (0, lo, so, va, op, sa, sb, ck, ls, lv, co)) : wpX_settle post (0, lo, so, va, op, sa, sb, ck, ls, lv, co) :=
  ⟨1, br_f (ec_ge (i := 0) (by decide)) (br_t rfl h)⟩
/-- no wire: the values stay -/
theorem ec_xdefN {s a b o : Nat} {k : Int32} (hs : s < 12) (ha : a < 12) (hb : b < 12) (ho : o < 128) (hk : k = 0 ∨ k = 2)
    (hA : ec_R sa) (hB : ec_R sb) (hL : ec_LV so sa sb L) :
    ∃ (ls' lv' : Nat → Int32) (L' : Nat → Nat), ec_LS (upd so s k) (upd sa s (nI a)) (upd sb s (nI b)) ls' ∧ ec_LV (upd so s k) (upd sa s (nI a)) (upd sb s (nI b)) L' ∧ ec_LN lv' L' ∧
    ∀ post : SX → Prop, post (0, lo, upd so s k, va, upd op s (nI o), upd sa s (nI a), upd sb s (nI b), ck, ls', lv', co) → wpX_define post (0, lo, so, va, op, sa, sb, ck, ls, lv, co) (nI s) k (nI o) (nI a) (nI b) := by
  have hk1 : ¬ k = 1 := by rcases hk with h | h <;> rw [h] <;> decide
  have hkb : vp_nar .byte k.toInt8.toInt32 = k := by
    rcases hk with h | h <;> rw [h, pk_vb] <;> decide
  obtain ⟨ls', lv', L', a1, a2, a3, a4⟩ := ec_xconn (f := 0) (lo := lo) (so := upd so s k) (va := va) (op := upd op s (nI o)) (sa := upd sa s (nI a)) (sb := upd sb s (nI b)) (ck := ck) (ls := ls) (lv := lv) (co := co) (ec_Ru hA s ha) (ec_Ru hB s hb) (ec_newN (s := s) hL hk1 (nI a) (nI b))
  refine ⟨ls', lv', L', a1, a2, a3, fun post hp => ?_⟩
  unfold wpX_define
  dsimp only
  rw [ec_cl hs, hkb, ec_by ho, ec_by (show a < 128 by omega), ec_by (show b < 128 by omega)]
  refine ⟨ec_in hs, nm_e ⟨ec_in hs, nm_e ⟨ec_in hs, nm_e ⟨ec_in hs, nm_e (a4 _ ?_)⟩⟩⟩⟩
  dsimp only
  refine br_f hk1 ?_
  unfold wX_define_55
  exact ec_xset0 hp
/-- a wire: the values settle -/
theorem ec_xdefW {s a b o : Nat} (hs : s < 12) (ha : a < 12) (hb : b < 12) (ho : o < 128)
    (hA : ec_R sa) (hB : ec_R sb) (hL : ec_LV so sa sb L) (hv : ∀ j, j < 12 → ec_r16 (va j)) (hc : ∀ w, w < 12 → so w = 1 → va w = ec_fv op sa sb va w)
    (h1 : ¬ (s = a ∨ ec_T so sa sb s a)) (h2 : ¬ (s = b ∨ ec_T so sa sb s b)) :
    ∃ (va' ls' lv' : Nat → Int32) (L' : Nat → Nat), ec_LS (upd so s 1) (upd sa s (nI a)) (upd sb s (nI b)) ls' ∧ ec_LV (upd so s 1) (upd sa s (nI a)) (upd sb s (nI b)) L' ∧ ec_LN lv' L' ∧
    ec_SO (upd so s 1) (upd op s (nI o)) (upd sa s (nI a)) (upd sb s (nI b)) va va' ∧
    ∀ post : SX → Prop, post (0, lo, upd so s 1, va', upd op s (nI o), upd sa s (nI a), upd sb s (nI b), ck, ls', lv', co) → wpX_define post (0, lo, so, va, op, sa, sb, ck, ls, lv, co) (nI s) 1 (nI o) (nI a) (nI b) := by
  have hkb : vp_nar .byte (1 : Int32).toInt8.toInt32 = 1 := by rw [pk_vb]; decide
  obtain ⟨R, hR⟩ := ec_newW hL ha hb h1 h2
  obtain ⟨ls', lv', L', a1, a2, a3, a4⟩ := ec_xconn (f := 0) (lo := lo) (so := upd so s 1) (va := va) (op := upd op s (nI o)) (sa := upd sa s (nI a)) (sb := upd sb s (nI b)) (ck := ck) (ls := ls) (lv := lv) (co := co) (ec_Ru hA s ha) (ec_Ru hB s hb) hR
  have hbit : ∀ j, bt ((0 : Int32) ||| ((1 : Int32) <<< (nI s &&& 31))) j = decide (j = s) := by
    intro j
    rw [b_or, b_0, ec_shl hs, Bool.false_or]
  obtain ⟨va', b1, b2⟩ := ec_xsettle (f := (0 : Int32) ||| ((1 : Int32) <<< (nI s &&& 31))) (lo := lo) (so := upd so s 1) (va := va) (op := upd op s (nI o)) (sa := upd sa s (nI a)) (sb := upd sb s (nI b)) (ck := ck) (ls := ls') (lv := lv') (co := co) a1 (ec_Ru hA s ha) (ec_Ru hB s hb) a2 a3
    (by
      intro j hj
      rw [hbit] at hj
      have e := of_decide_eq_true hj
      subst e
      exact ⟨hs, pk_us⟩)
    (by
      intro w hw hs1 hf
      rw [hbit] at hf
      have e := of_decide_eq_false hf
      rw [pk_un e] at hs1
      show va w = ec_fo (upd op s (nI o) w) (va (upd sa s (nI a) w).toNatClampNeg) (va (upd sb s (nI b) w).toNatClampNeg)
      rw [pk_un e, pk_un e, pk_un e]
      exact hc w hw hs1) hv
  refine ⟨va', ls', lv', L', a1, a2, a3, b1, fun post hp => ?_⟩
  unfold wpX_define
  dsimp only
  rw [ec_cl hs, hkb, ec_by ho, ec_by (show a < 128 by omega), ec_by (show b < 128 by omega)]
  refine ⟨ec_in hs, nm_e ⟨ec_in hs, nm_e ⟨ec_in hs, nm_e ⟨ec_in hs, nm_e (a4 _ ?_)⟩⟩⟩⟩
  dsimp only
  refine br_t rfl (nm_e ?_)
  unfold wX_define_55
  exact b2 _ hp
/-! depth -/
def ec_dp (L : Nat → Nat) (i m : Nat) : Prop := m ≤ 11 ∧ (∀ w, w < i → L w ≤ m) ∧ (m = 0 ∨ ∃ w, w < 12 ∧ m ≤ L w)
theorem ec_xd4 (hL : ec_LV so sa sb L) (hN : ec_LN lv L) : ∀ (d i m : Nat), i + d = 12 → ec_dp L i m →
    ∃ m' : Nat, ec_dp L 12 m' ∧ ∀ post : Int32 → Prop, post (nI m') → wX_depth_4 post f lo so va op sa sb ck ls lv co (d + 1) (nI m) (nI i) := by
  intro d
  induction d with
  | zero =>
    intro i m hi h
    have e : i = 12 := by omega
    subst e
    exact ⟨m, h, fun post h => br_t ec_12 h⟩
  | succ d ih =>
    intro i m hi h
    have hl : i < 12 := by omega
    have h11 := (hL i hl).1
    obtain ⟨hm, hall, hex⟩ := h
    have keep : L i ≤ m → ec_dp L (i + 1) m := by
      intro c
      refine ⟨hm, ?_, hex⟩
      intro w hw
      by_cases e : w = i
      · rw [e]; exact c
      · exact hall w (by omega)
    by_cases hw : so i = 1
    · by_cases c : L i ≤ m
      · obtain ⟨m', a1, a2⟩ := ih (i + 1) m (by omega) (keep c)
        refine ⟨m', a1, fun post hp => ?_⟩
        rw [wX_depth_4]
        simp only [ec_cl hl, nI_1]
        refine br_f (ec_ge hl) ⟨ec_in hl, br_t hw ⟨ec_in hl, br_t ?_ (nm_e (a2 post hp))⟩⟩
        rw [hN i hl]
        exact (nI_leI (by omega) (by omega)).mpr c
      · obtain ⟨m', a1, a2⟩ := ih (i + 1) (L i) (by omega)
          ⟨h11, by
            intro w hw
            by_cases e : w = i
            · rw [e]; exact Nat.le_refl _
            · have := hall w (by omega)
              omega, Or.inr ⟨i, hl, Nat.le_refl _⟩⟩
        refine ⟨m', a1, fun post hp => ?_⟩
        rw [wX_depth_4]
        simp only [ec_cl hl, nI_1]
        have hp2 := a2 post hp
        rw [← hN i hl] at hp2
        refine br_f (ec_ge hl) ⟨ec_in hl, br_t hw ⟨ec_in hl, br_f ?_ ⟨ec_in hl, nm_e (nm_e hp2)⟩⟩⟩
        rw [hN i hl]
        exact fun q => c ((nI_leI (by omega) (by omega)).mp q)
    · have h0 := (hL i hl).2.2 hw
      obtain ⟨m', a1, a2⟩ := ih (i + 1) m (by omega) (keep (by omega))
      refine ⟨m', a1, fun post hp => ?_⟩
      rw [wX_depth_4]
      simp only [ec_cl hl, nI_1]
      exact br_f (ec_ge hl) ⟨ec_in hl, br_f hw (nm_e (a2 post hp))⟩
theorem ec_dpu {m n : Nat} (h1 : ec_dp L 12 m) (h2 : ec_dp L 12 n) : m = n := by
  obtain ⟨_, a1, a2⟩ := h1
  obtain ⟨_, b1, b2⟩ := h2
  have k1 : m ≤ n := by
    rcases a2 with e | ⟨w, hw, e⟩
    · omega
    · have := b1 w hw; omega
  have k2 : n ≤ m := by
    rcases b2 with e | ⟨w, hw, e⟩
    · omega
    · have := a1 w hw; omega
  omega
theorem ec_xdepth (hL : ec_LV so sa sb L) (hN : ec_LN lv L) : ∃ m : Nat, ec_dp L 12 m ∧ ∀ post : Int32 → Prop, post (nI m) → wpX_depth post (f, lo, so, va, op, sa, sb, ck, ls, lv, co) := by
  obtain ⟨m, h1, h2⟩ := ec_xd4 (f := f) (lo := lo) (va := va) (op := op) (ck := ck) (ls := ls) (co := co) hL hN 12 0 0 rfl ⟨by omega, fun w hw => absurd hw (Nat.not_lt_zero w), Or.inl rfl⟩
  exact ⟨m, h1, fun post hp => ⟨13, h2 post hp⟩⟩
/-! registersChanged -/
theorem ec_xrc4 : ∀ (d i : Nat), i + d = 12 → ∀ post : Int32 → Prop, post (nI (ec_cn (bt lo) 12)) → wX_registersChanged_4 post f lo so va op sa sb ck ls lv co (d + 1) (nI (ec_cn (bt lo) i)) (nI i) := by
  intro d
  induction d with
  | zero =>
    intro i hi post hp
    have e : i = 12 := by omega
    subst e
    exact br_t ec_12 hp
  | succ d ih =>
    intro i hi post hp
    have hl : i < 12 := by omega
    have h := ih (i + 1) (by omega) post hp
    rw [wX_registersChanged_4]
    refine br_f (ec_ge hl) (nm_r (e' := nI (ec_cn (bt lo) (i + 1))) ?_ (nm_e ?_))
    · rw [ec_tst lo hl]
      show _ = nI (ec_cn (bt lo) i + (if bt lo i = true then 1 else 0))
      by_cases c : bt lo i = true
      · rw [if_pos c, if_pos c, nI_1]
      · rw [if_neg c, if_neg c]; exact ec_nI0 _
    · rw [nI_1]
      exact h
theorem ec_xrc {post : Int32 → Prop} (h : post (nI (ec_cn (bt lo) 12))) : wpX_registersChanged post (f, lo, so, va, op, sa, sb, ck, ls, lv, co) :=
  ⟨13, ec_xrc4 12 0 rfl post h⟩
end
end
section
/-! the class: sample, change -/
section
variable {f lo : Int32} {so va op sa sb ck ls lv co : Nat → Int32} {L : Nat → Nat}
/-- the registers that load: lo holds those that the clock s drives and whose formulas differ from their values, if c -/
def ec_ld (c : Prop) (so ck op sa sb va : Nat → Int32) (s : Nat) (i : Nat) (lo : Int32) : Prop := ∀ j, bt lo j = true ↔ c ∧ j < i ∧ so j = 2 ∧ ck j = nI s ∧ ¬ ec_fv op sa sb va j = va j
theorem ec_xsa2 {s : Nat} (hA : ec_R sa) (hB : ec_R sb) (hv : ∀ j, j < 12 → ec_r16 (va j)) : ∀ (d i : Nat) (lo : Int32) (co : Nat → Int32), i + d = 12 → ec_ld True so ck op sa sb va s i lo → (∀ j, bt lo j = true → co j = ec_fv op sa sb va j) →
    ∃ (lo' : Int32) (co' : Nat → Int32), ec_ld True so ck op sa sb va s 12 lo' ∧ (∀ j, bt lo' j = true → co' j = ec_fv op sa sb va j) ∧
    ∀ post : SX → Prop, post (f, lo', so, va, op, sa, sb, ck, ls, lv, co') → wX_sample_2 post (nI s) f (d + 1) (nI i) lo so va op sa sb ck ls lv co := by
  intro d
  induction d with
  | zero =>
    intro i lo co hi h1 h2
    have e : i = 12 := by omega
    subst e
    exact ⟨lo, co, h1, h2, fun post h => br_t ec_12 h⟩
  | succ d ih =>
    intro i lo co hi h1 h2
    have hl : i < 12 := by omega
    have skip : ¬ (so i = 2 ∧ ck i = nI s ∧ ¬ ec_fv op sa sb va i = va i) → ec_ld True so ck op sa sb va s (i + 1) lo := by
      intro hn j
      rw [h1 j]
      constructor
      · rintro ⟨z0, z1, z2⟩
        exact ⟨z0, by omega, z2⟩
      · rintro ⟨z0, z1, z2⟩
        by_cases e : j = i
        · subst e; exact absurd z2 hn
        · exact ⟨z0, by omega, z2⟩
    by_cases hw : so i = 2
    · by_cases hc : ck i = nI s
      · have hr : ec_r16 (ec_fv op sa sb va i) := ec_fr _ (hv _ (ec_Rl hA hl)) (hv _ (ec_Rl hB hl))
        by_cases hd : ec_fv op sa sb va i = va i
        · obtain ⟨lo', co', a1, a2, a3⟩ := ih (i + 1) lo (upd co i (ec_fv op sa sb va i)) (by omega) (skip (fun z => z.2.2 hd))
            (by
              intro j hj
              by_cases e : j = i
              · rw [e, pk_us]
              · rw [pk_un e]; exact h2 j hj)
          refine ⟨lo', co', a1, a2, fun post hp => ?_⟩
          rw [wX_sample_2]
          simp only [ec_cl hl, nI_1]
          refine br_f (ec_ge hl) ⟨ec_in hl, br_t hw ⟨ec_in hl, br_t hc (ec_xfo hl (hA i hl) (hB i hl) ⟨ec_in hl, nm_r (by rw [ec_rby hr]) ⟨ec_in hl, br_t hd (nm_e (a3 post hp))⟩⟩)⟩⟩
        · obtain ⟨lo', co', a1, a2, a3⟩ := ih (i + 1) (lo ||| ((1 : Int32) <<< (nI i &&& 31))) (upd co i (ec_fv op sa sb va i)) (by omega)
            (by
              intro j
              rw [b_or, ec_shl hl, Bool.or_eq_true, decide_eq_true_iff, h1 j]
              constructor
              · rintro (⟨z0, z1, z2⟩ | z)
                · exact ⟨z0, by omega, z2⟩
                · subst z; exact ⟨trivial, by omega, hw, hc, hd⟩
              · rintro ⟨z0, z1, z2⟩
                by_cases e : j = i
                · exact Or.inr e
                · exact Or.inl ⟨z0, by omega, z2⟩)
            (by
              intro j hj
              by_cases e : j = i
              · rw [e, pk_us]
              · rw [pk_un e]
                rw [b_or, ec_shl hl, Bool.or_eq_true, decide_eq_true_iff] at hj
                rcases hj with z | z
                · exact h2 j z
                · exact absurd z e)
          refine ⟨lo', co', a1, a2, fun post hp => ?_⟩
          rw [wX_sample_2]
          simp only [ec_cl hl, nI_1]
          refine br_f (ec_ge hl) ⟨ec_in hl, br_t hw ⟨ec_in hl, br_t hc (ec_xfo hl (hA i hl) (hB i hl) ⟨ec_in hl, nm_r (by rw [ec_rby hr]) ⟨ec_in hl, br_f hd (nm_e (nm_e (a3 post hp)))⟩⟩)⟩⟩
      · obtain ⟨lo', co', a1, a2, a3⟩ := ih (i + 1) lo co (by omega) (skip (fun z => hc z.2.1)) h2
        refine ⟨lo', co', a1, a2, fun post hp => ?_⟩
        rw [wX_sample_2]
        simp only [ec_cl hl, nI_1]
        exact br_f (ec_ge hl) ⟨ec_in hl, br_t hw ⟨ec_in hl, br_f hc (nm_e (a3 post hp))⟩⟩
    · obtain ⟨lo', co', a1, a2, a3⟩ := ih (i + 1) lo co (by omega) (skip (fun z => hw z.1)) h2
      refine ⟨lo', co', a1, a2, fun post hp => ?_⟩
      rw [wX_sample_2]
      simp only [ec_cl hl, nI_1]
      exact br_f (ec_ge hl) ⟨ec_in hl, br_f hw (nm_e (a3 post hp))⟩
theorem ec_xsample {s : Nat} (hA : ec_R sa) (hB : ec_R sb) (hv : ∀ j, j < 12 → ec_r16 (va j)) :
    ∃ (lo' : Int32) (co' : Nat → Int32), ec_ld True so ck op sa sb va s 12 lo' ∧ (∀ j, bt lo' j = true → co' j = ec_fv op sa sb va j) ∧
    ∀ post : SX → Prop, post (f, lo', so, va, op, sa, sb, ck, ls, lv, co') → wpX_sample post (f, 0, so, va, op, sa, sb, ck, ls, lv, co) (nI s) := by
  obtain ⟨lo', co', a1, a2, a3⟩ := ec_xsa2 (f := f) (s := s) (so := so) (op := op) (ck := ck) (ls := ls) (lv := lv) hA hB hv 12 0 0 co rfl
    (by
      intro j
      rw [b_0]
      constructor
      · intro z; exact absurd z (by decide)
      · rintro ⟨_, z, _⟩; omega)
    (fun j hj => by rw [b_0] at hj; exact absurd hj (by decide))
  exact ⟨lo', co', a1, a2, fun post hp => ⟨13, a3 post hp⟩⟩
/-! wires that are awake -/
def ec_AW (f : Int32) (so op sa sb va : Nat → Int32) : Prop :=
  (∀ j, bt f j = true → j < 12 ∧ so j = 1) ∧ (∀ w, w < 12 → so w = 1 → bt f w = false → va w = ec_fv op sa sb va w)
theorem ec_AWp {s : Nat} {p : Int32} (hs : s < 12) (hn : ¬ so s = 1) (hls : ec_LS so sa sb ls) (h : ec_AW f so op sa sb va) : ec_AW (if va s = p then f else f ||| ls s) so op sa sb (upd va s p) := by
  by_cases c : va s = p
  · rw [if_pos c, ← c, ec_up0]
    exact h
  · rw [if_neg c]
    refine ⟨?_, ?_⟩
    · intro j hj
      rw [b_or, Bool.or_eq_true, hls s hs j] at hj
      rcases hj with z | z
      · exact h.1 j z
      · exact ⟨z.1, z.2.1⟩
    · intro w hw h1 hf
      rw [b_or, Bool.or_eq_false_iff] at hf
      have hne : ¬ ec_E so sa sb s w := by
        intro z
        rw [(hls s hs w).mpr z] at hf
        exact absurd hf.2 (by decide)
      have e : w ≠ s := by
        intro z
        subst z
        exact hn h1
      have n1 : (sa w).toNatClampNeg ≠ s := fun z => hne ⟨hw, h1, Or.inl z⟩
      have n2 : (sb w).toNatClampNeg ≠ s := fun z => hne ⟨hw, h1, Or.inr z⟩
      show upd va s p w = ec_fo (op w) (upd va s p (sa w).toNatClampNeg) (upd va s p (sb w).toNatClampNeg)
      rw [pk_un e, pk_un n1, pk_un n2]
      exact h.2 w hw h1 hf.1
/-- the values ahead of settle -/
def ec_w (s : Nat) (p lo : Int32) (g va : Nat → Int32) (i j : Nat) : Int32 := if j = s then p else if bt lo j = true ∧ j < i then g j else va j
theorem ec_xch51 {v0 g : Nat → Int32} {s : Nat} {p : Int32} (hs : s < 12) (hs0 : ¬ so s = 1) (hls : ec_LS so sa sb ls) (hA : ec_R sa) (hB : ec_R sb) (hL : ec_LV so sa sb L) (hN : ec_LN lv L)
    (hlo : ∀ j, bt lo j = true → j < 12 ∧ so j = 2 ∧ j ≠ s ∧ co j = g j ∧ ec_r16 (g j) ∧ ¬ g j = v0 j) :
    ∀ (d i : Nat) (f : Int32), i + d = 12 → ec_AW f so op sa sb (ec_w s p lo g v0 i) → (∀ j, j < 12 → ec_r16 (ec_w s p lo g v0 i j)) →
    ∃ va' : Nat → Int32, ec_SO so op sa sb (ec_w s p lo g v0 12) va' ∧
    ∀ post : Int32 → SX → Prop, post (nI (ec_cn (fun j => decide (va' j ≠ v0 j)) 12)) (0, lo, so, va', op, sa, sb, ck, ls, lv, co) → wX_change_51 post (d + 1) (nI (ec_cn (fun j => decide (ec_w s p lo g v0 i j ≠ v0 j)) 12)) (nI i) f lo so (ec_w s p lo g v0 i) op sa sb ck ls lv co := by
  intro d
  induction d with
  | zero =>
    intro i f hi h1 h2
    have e : i = 12 := by omega
    subst e
    obtain ⟨va', a1, a2⟩ := ec_xsettle (f := f) (lo := lo) (ck := ck) (co := co) hls hA hB hL hN h1.1 h1.2 h2
    refine ⟨va', a1, fun post hp => br_t ec_12 (a2 _ ?_)⟩
    dsimp only
    rw [nI_add, ← ec_cn_add (p := fun j => decide (va' j ≠ v0 j)) 12]
    · exact hp
    · intro j hj
      by_cases hw : so j = 1
      · have e : ec_w s p lo g v0 12 j = v0 j := by
          have n1 : ¬ j = s := by intro z; subst z; exact hs0 hw
          have n2 : ¬ (bt lo j = true ∧ j < 12) := by
            intro z
            have := (hlo j z.1).2.1
            rw [hw] at this
            exact absurd this (by decide)
          show (if j = s then p else if bt lo j = true ∧ j < 12 then g j else v0 j) = v0 j
          rw [if_neg n1, if_neg n2]
        rw [e]
        simp
      · have e := a1.2.1 j (fun z => hw z.2)
        rw [e]
        simp
    · intro j hj
      intro hq
      by_cases hw : so j = 1
      · exfalso
        apply of_decide_eq_true hq
        have n1 : ¬ j = s := by intro z; subst z; exact hs0 hw
        have n2 : ¬ (bt lo j = true ∧ j < 12) := by
          intro z
          have := (hlo j z.1).2.1
          rw [hw] at this
          exact absurd this (by decide)
        show (if j = s then p else if bt lo j = true ∧ j < 12 then g j else v0 j) = v0 j
        rw [if_neg n1, if_neg n2]
      · exact decide_eq_false (fun z => z (a1.2.1 j (fun z => hw z.2)))
  | succ d ih =>
    intro i f hi h1 h2
    have hl : i < 12 := by omega
    by_cases hb : bt lo i = true
    · obtain ⟨_, hi2, his, hco, hgr, hgn⟩ := hlo i hb
      have hi1 : ¬ so i = 1 := by rw [hi2]; decide
      have hcur : ec_w s p lo g v0 i i = v0 i := by
        show (if i = s then p else if bt lo i = true ∧ i < i then g i else v0 i) = v0 i
        rw [if_neg his, if_neg (fun z => Nat.lt_irrefl _ z.2)]
      have hnew : upd (ec_w s p lo g v0 i) i (g i) = ec_w s p lo g v0 (i + 1) := by
        funext j
        by_cases e : j = i
        · subst e
          rw [pk_us]
          show _ = (if j = s then p else if bt lo j = true ∧ j < j + 1 then g j else v0 j)
          rw [if_neg his, if_pos ⟨hb, Nat.lt_succ_self j⟩]
        · rw [pk_un e]
          show (if j = s then p else if bt lo j = true ∧ j < i then g j else v0 j) = (if j = s then p else if bt lo j = true ∧ j < i + 1 then g j else v0 j)
          by_cases c : bt lo j = true ∧ j < i
          · rw [if_pos c, if_pos (⟨c.1, by omega⟩ : bt lo j = true ∧ j < i + 1)]
          · rw [if_neg c, if_neg (fun z : bt lo j = true ∧ j < i + 1 => c ⟨z.1, by omega⟩)]
      have hAW := ec_AWp (p := g i) hl hi1 hls h1
      rw [hnew] at hAW
      have hr : ∀ j, j < 12 → ec_r16 (ec_w s p lo g v0 (i + 1) j) := by
        intro j hj
        rw [← hnew]
        by_cases e : j = i
        · rw [e, pk_us]; exact hgr
        · rw [pk_un e]; exact h2 j hj
      obtain ⟨va', a1, a2⟩ := ih (i + 1) _ (by omega) hAW hr
      refine ⟨va', a1, fun post hp => ?_⟩
      have hk := a2 post hp
      have hcn := ec_cn_one (p := fun j => decide (ec_w s p lo g v0 i j ≠ v0 j)) (q := fun j => decide (ec_w s p lo g v0 (i + 1) j ≠ v0 j)) (b := i) (decide_eq_false (fun z => z hcur)) (by intro j hj; show decide (ec_w s p lo g v0 (i + 1) j ≠ v0 j) = decide (ec_w s p lo g v0 i j ≠ v0 j); rw [← hnew, pk_un hj]) 12 hl
      rw [if_pos (by show decide (ec_w s p lo g v0 (i + 1) i ≠ v0 i) = true; rw [← hnew, pk_us]; exact decide_eq_true hgn)] at hcn
      rw [hcn] at hk
      rw [wX_change_51]
      simp only [ec_cl hl, nI_1]
      refine br_f (ec_ge hl) (br_f (ec_t0n hl hb) ⟨ec_in hl, ?_⟩)
      rw [hco]
      refine ec_xput hl hgr ?_
      rw [hnew]
      exact nm_e (nm_e hk)
    · have hb := ec_nt hb
      have hsame : ec_w s p lo g v0 (i + 1) = ec_w s p lo g v0 i := by
        funext j
        show (if j = s then p else if bt lo j = true ∧ j < i + 1 then g j else v0 j) = (if j = s then p else if bt lo j = true ∧ j < i then g j else v0 j)
        by_cases c : bt lo j = true ∧ j < i
        · rw [if_pos c, if_pos (⟨c.1, by omega⟩ : bt lo j = true ∧ j < i + 1)]
        · rw [if_neg c, if_neg (fun z : bt lo j = true ∧ j < i + 1 => c ⟨z.1, by
            have : j ≠ i := by
              intro e
              subst e
              rw [hb] at z
              exact absurd z.1 (by decide)
            omega⟩)]
      rw [← hsame] at h1 h2
      obtain ⟨va', a1, a2⟩ := ih (i + 1) f (by omega) h1 h2
      refine ⟨va', a1, fun post hp => ?_⟩
      have hk := a2 post hp
      rw [hsame] at hk
      rw [wX_change_51]
      simp only [nI_1]
      exact br_f (ec_ge hl) (br_t (ec_t0 hl hb) (nm_e hk))
/-- the second half of a change, the loading registers known -/
theorem ec_xch28 {g : Nat → Int32} {s : Nat} {p : Int32} (hs : s < 12) (hp16 : ec_r16 p) (hs0 : ¬ so s = 1) (hls : ec_LS so sa sb ls) (hA : ec_R sa) (hB : ec_R sb) (hL : ec_LV so sa sb L) (hN : ec_LN lv L)
    (hv : ∀ j, j < 12 → ec_r16 (va j)) (hc : ∀ w, w < 12 → so w = 1 → va w = ec_fv op sa sb va w)
    (hlo : ∀ j, bt lo j = true → j < 12 ∧ so j = 2 ∧ j ≠ s ∧ co j = g j ∧ ec_r16 (g j) ∧ ¬ g j = va j) :
    ∃ va' : Nat → Int32, ec_SO so op sa sb (ec_w s p lo g va 12) va' ∧
    ∀ post : Int32 → SX → Prop, post (nI (ec_cn (fun j => decide (va' j ≠ va j)) 12)) (0, lo, so, va', op, sa, sb, ck, ls, lv, co) → wX_change_28 post (nI s) p 0 lo so va op sa sb ck ls lv co := by
  have hw0 : upd va s p = ec_w s p lo g va 0 := by
    funext j
    show (if j = s then p else va j) = (if j = s then p else if bt lo j = true ∧ j < 0 then g j else va j)
    rw [if_neg (fun z : bt lo j = true ∧ j < 0 => Nat.not_lt_zero j z.2)]
  have hAW0 : ec_AW 0 so op sa sb va := ⟨fun j hj => by rw [b_0] at hj; exact absurd hj (by decide), fun w hw h1 _ => hc w hw h1⟩
  have hAW := ec_AWp (p := p) hs hs0 hls hAW0
  rw [hw0] at hAW
  obtain ⟨va', a1, a2⟩ := ec_xch51 (ck := ck) (p := p) hs hs0 hls hA hB hL hN hlo 12 0 _ rfl hAW
    (by
      intro j hj
      rw [← hw0]
      by_cases e : j = s
      · rw [e, pk_us]; exact hp16
      · rw [pk_un e]; exact hv j hj)
  refine ⟨va', a1, fun post hp => ?_⟩
  have hk := a2 post hp
  have hcn := ec_cn_one (p := fun _ => false) (q := fun j => decide (ec_w s p lo g va 0 j ≠ va j)) (b := s) rfl (by intro j hj; show decide (ec_w s p lo g va 0 j ≠ va j) = false; rw [← hw0, pk_un hj]; exact decide_eq_false (fun z => z rfl)) 12 hs
  have hz : ec_cn (fun _ => false) 12 = 0 := by decide
  rw [hz] at hcn
  rw [hcn] at hk
  unfold wX_change_28
  rw [ec_cl hs]
  refine ⟨ec_in hs, ?_⟩
  by_cases c : va s = p
  · rw [if_neg (by show ¬ decide (ec_w s p lo g va 0 s ≠ va s) = true; rw [← hw0, pk_us, c]; simp)] at hk
    refine br_t c ?_
    unfold wX_change_42
    refine ec_xput hs hp16 ?_
    rw [hw0]
    exact ⟨13, hk⟩
  · rw [if_pos (by show decide (ec_w s p lo g va 0 s ≠ va s) = true; rw [← hw0, pk_us]; exact decide_eq_true (fun z => c z.symm))] at hk
    refine br_f c ?_
    unfold wX_change_42
    refine ec_xput hs hp16 ?_
    rw [hw0]
    exact ⟨13, hk⟩
theorem ec_xchange {s : Nat} {p : Int32} (hs : s < 12) (hp16 : ec_r16 p) (hs0 : so s = 0) (hls : ec_LS so sa sb ls) (hA : ec_R sa) (hB : ec_R sb) (hL : ec_LV so sa sb L) (hN : ec_LN lv L)
    (hv : ∀ j, j < 12 → ec_r16 (va j)) (hc : ∀ w, w < 12 → so w = 1 → va w = ec_fv op sa sb va w) :
    ∃ (lo' : Int32) (co' va' : Nat → Int32), ec_ld ((va s &&& 1) = 0 ∧ (p &&& 1) = 1) so ck op sa sb va s 12 lo' ∧ ec_SO so op sa sb (ec_w s p lo' (ec_fv op sa sb va) va 12) va' ∧
    ∀ post : Int32 → SX → Prop, post (nI (ec_cn (fun j => decide (va' j ≠ va j)) 12)) (0, lo', so, va', op, sa, sb, ck, ls, lv, co') → wpX_change post (0, lo, so, va, op, sa, sb, ck, ls, lv, co) (nI s) p := by
  have hs1 : ¬ so s = 1 := by rw [hs0]; decide
  by_cases c : (va s &&& 1) = 0 ∧ (p &&& 1) = 1
  · obtain ⟨lo', co', a1, a2, a3⟩ := ec_xsample (f := 0) (s := s) (so := so) (op := op) (ck := ck) (ls := ls) (lv := lv) (co := co) hA hB hv
    obtain ⟨va', b1, b2⟩ := ec_xch28 (lo := lo') (co := co') (ck := ck) (g := ec_fv op sa sb va) (p := p) hs hp16 hs1 hls hA hB hL hN hv hc
      (by
        intro j hj
        obtain ⟨_, z1, z2, z3, z4⟩ := (a1 j).mp hj
        refine ⟨z1, z2, ?_, a2 j hj, ec_fr _ (hv _ (ec_Rl hA z1)) (hv _ (ec_Rl hB z1)), z4⟩
        intro e
        rw [e, hs0] at z2
        exact absurd z2 (by decide))
    refine ⟨lo', co', va', ?_, b1, fun post hp => ?_⟩
    · intro j
      rw [a1 j]
      exact ⟨fun z => ⟨c, z.2⟩, fun z => ⟨trivial, z.2⟩⟩
    · unfold wpX_change
      dsimp only
      rw [ec_cl hs]
      exact ⟨ec_in hs, br_t c.1 (br_t c.2 (a3 _ (b2 post hp)))⟩
  · obtain ⟨va', b1, b2⟩ := ec_xch28 (lo := 0) (co := co) (ck := ck) (g := ec_fv op sa sb va) (p := p) hs hp16 hs1 hls hA hB hL hN hv hc
      (by
        intro j hj
        rw [b_0] at hj
        exact absurd hj (by decide))
    refine ⟨0, co, va', ?_, b1, fun post hp => ?_⟩
    · intro j
      rw [b_0]
      exact ⟨fun z => absurd z (by decide), fun z => absurd z.1 c⟩
    · unfold wpX_change
      dsimp only
      rw [ec_cl hs]
      refine ⟨ec_in hs, ?_⟩
      by_cases c1 : (va s &&& 1) = 0
      · exact br_t c1 (br_f (fun c2 => c ⟨c1, c2⟩) (b2 post hp))
      · exact br_f c1 (b2 post hp)
end
end
section
/-! the reference: signals, clocks, formula, settle -/
section
variable {so yo ya yb ck va be on : Nat → Int32} {L : Nat → Nat}
theorem ec_yfo {post : Int32 → Prop} {s : Nat} (hs : s < 12) (ha : vp_in (ya s) 12) (hb : vp_in (yb s) 12) (h : post (ec_fv yo ya yb va s)) : wpY_formula post (so, yo, ya, yb, ck, va, be, on) (nI s) := by
  unfold wpY_formula
  dsimp only
  rw [ec_cl hs]
  have hi := ec_in hs
  unfold ec_fv ec_fo at h
  refine ⟨hi, ha, nm_e ⟨hi, hb, nm_e ⟨hi, ?_⟩⟩⟩
  exact ec_if h id fun h => ⟨hi, ec_if h id fun h => ⟨hi, ec_if h id fun h => ⟨hi, ec_if h id fun h => ⟨hi, ec_if h id fun h => ⟨hi, ec_if h (fun h => ec_if h id id) fun h => ⟨hi, ec_if h id fun h => ⟨hi, ec_if h id fun h => ec_if h id id⟩⟩⟩⟩⟩⟩⟩
theorem ec_ysg {post : Int32 → Prop} {p : Int32} (h0 : ¬ (∃ s, s < 12 ∧ p = nI s) → post 0) (h1 : ∀ s, s < 12 → p = nI s → post 1) : wpY_isSignal post (so, yo, ya, yb, ck, va, be, on) p := by
  unfold wpY_isSignal
  dsimp only
  rcases pk_ix p (n := 12) (by decide) with h | h | ⟨j, hj, e⟩
  · refine br_t h (h0 ?_)
    rintro ⟨s, hs, rfl⟩
    exact nI_pos (by omega) h
  · have hn : ¬ p < 0 := by
      rw [Int32.not_lt]
      exact Int32.le_trans (by decide) h
    have h11 : (11 : Int32) < p := by
      rw [Int32.lt_iff_toInt_lt]
      rw [Int32.le_iff_toInt_le, nI_toInt (by decide)] at h
      have : (11 : Int32).toInt = 11 := by decide
      omega
    refine br_f hn (br_t h11 (h0 ?_))
    rintro ⟨s, hs, rfl⟩
    rw [nI_leI (by decide) (by omega)] at h
    omega
  · subst e
    exact br_f (nI_pos (by omega)) (br_f (nI_nlt (a := 11) (b := j) (by omega) (by decide)) (h1 j hj rfl))
theorem ec_yic {p : Int32} : ∀ (d i : Nat), i + d = 12 → ∀ post : Int32 → Prop, (ec_ic so ck p i → post 1) → (¬ ec_ic so ck p i → post 0) → wY_isClock_2 post p so yo ya yb ck va be on (d + 1) (nI i) := by
  intro d
  induction d with
  | zero =>
    intro i hi post _ h0
    have e : i = 12 := by omega
    subst e
    refine br_t ec_12 (h0 ?_)
    rintro ⟨r, h1, h2, _⟩
    omega
  | succ d ih =>
    intro i hi post h1 h0
    have hl : i < 12 := by omega
    have step : ¬ (so i = 2 ∧ ck i = p) → wY_isClock_2 post p so yo ya yb ck va be on (d + 1) (nI (i + 1)) := by
      intro hn
      apply ih (i + 1) (by omega) post
      · rintro ⟨r, a, b, c⟩
        exact h1 ⟨r, by omega, b, c⟩
      · intro hno
        apply h0
        rintro ⟨r, a, b, c⟩
        by_cases e : r = i
        · subst e; exact hn c
        · exact hno ⟨r, by omega, b, c⟩
    rw [wY_isClock_2]
    simp only [ec_cl hl, nI_1]
    refine br_f (ec_ge hl) ⟨ec_in hl, ?_⟩
    by_cases h2 : so i = 2
    · refine br_t h2 ⟨ec_in hl, ?_⟩
      by_cases h3 : ck i = p
      · exact br_t h3 (h1 ⟨i, Nat.le_refl i, hl, h2, h3⟩)
      · exact br_f h3 (nm_e (step (fun z => h3 z.2)))
    · exact br_f h2 (nm_e (step (fun z => h2 z.1)))
theorem ec_yicl {post : Int32 → Prop} {p : Int32} (h1 : ec_ic so ck p 0 → post 1) (h0 : ¬ ec_ic so ck p 0 → post 0) : wpY_isClock post (so, yo, ya, yb, ck, va, be, on) p :=
  ⟨13, ec_yic 12 0 rfl post h1 h0⟩
/-! settle: towards values T at which all wires hold their formulas -/
theorem ec_ys10 {T : Nat → Int32} (hA : ec_R ya) (hB : ec_R yb) (hL : ec_LV so ya yb L) (hT : ∀ w, w < 12 → so w = 1 → T w = ec_fv yo ya yb T w) {k : Nat} :
    ∀ (d i : Nat) (va : Nat → Int32), i + d = 12 → (∀ j, ¬ (j < 12 ∧ so j = 1) → va j = T j) → (∀ w, w < 12 → (L w ≤ k ∨ (w < i ∧ L w ≤ k + 1)) → va w = T w) →
    ∃ va' : Nat → Int32, (∀ j, ¬ (j < 12 ∧ so j = 1) → va' j = T j) ∧ (∀ w, w < 12 → L w ≤ k + 1 → va' w = T w) ∧
    ∀ (post : SY → Prop) (J : Int32 → (Nat → Int32) → (Nat → Int32) → (Nat → Int32) → (Nat → Int32) → (Nat → Int32) → (Nat → Int32) → (Nat → Int32) → (Nat → Int32) → Prop) (x1 : Int32), J (x1 + 1) so yo ya yb ck va' be on → wY_settle_10 post J x1 (d + 1) (nI i) so yo ya yb ck va be on := by
  intro d
  induction d with
  | zero =>
    intro i va hi h1 h2
    have e : i = 12 := by omega
    subst e
    exact ⟨va, h1, fun w hw hk => h2 w hw (Or.inr ⟨hw, hk⟩), fun post J x1 h => br_t ec_12 (nm_e h)⟩
  | succ d ih =>
    intro i va hi h1 h2
    have hl : i < 12 := by omega
    by_cases hw : so i = 1
    · have hLe := (hL i hl).2.1 hw
      obtain ⟨va', a1, a2, a3⟩ := ih (i + 1) (upd va i (ec_fv yo ya yb va i)) (by omega)
        (by
          intro j hj
          have e : j ≠ i := by
            intro e
            subst e
            exact hj ⟨hl, hw⟩
          rw [pk_un e]
          exact h1 j hj)
        (by
          intro w hw12 hc
          by_cases e : w = i
          · subst e
            rw [pk_us, hT w hl hw]
            show ec_fo (yo w) (va (ya w).toNatClampNeg) (va (yb w).toNatClampNeg) = ec_fo (yo w) (T (ya w).toNatClampNeg) (T (yb w).toNatClampNeg)
            rw [h2 _ (ec_Rl hA hl) (Or.inl (by omega)), h2 _ (ec_Rl hB hl) (Or.inl (by omega))]
          · rw [pk_un e]
            exact h2 w hw12 (by omega))
      refine ⟨va', a1, a2, fun post J x1 hp => ?_⟩
      rw [wY_settle_10]
      simp only [ec_cl hl, nI_1]
      exact br_f (ec_ge hl) ⟨ec_in hl, br_t hw (ec_yfo hl (hA i hl) (hB i hl) ⟨ec_in hl, nm_e (nm_e (a3 post J x1 hp))⟩)⟩
    · obtain ⟨va', a1, a2, a3⟩ := ih (i + 1) va (by omega) h1
        (by
          intro w hw12 hc
          by_cases e : w = i
          · subst e
            exact h1 w (fun z => hw z.2)
          · exact h2 w hw12 (by omega))
      refine ⟨va', a1, a2, fun post J x1 hp => ?_⟩
      rw [wY_settle_10]
      simp only [ec_cl hl, nI_1]
      exact br_f (ec_ge hl) ⟨ec_in hl, br_f hw (nm_e (a3 post J x1 hp))⟩
theorem ec_ys2 {T : Nat → Int32} (hA : ec_R ya) (hB : ec_R yb) (hL : ec_LV so ya yb L) (hT : ∀ w, w < 12 → so w = 1 → T w = ec_fv yo ya yb T w) :
    ∀ (d k : Nat) (va : Nat → Int32), k + d = 12 → (∀ j, ¬ (j < 12 ∧ so j = 1) → va j = T j) → (∀ w, w < 12 → L w ≤ k → va w = T w) →
    ∀ post : SY → Prop, post (so, yo, ya, yb, ck, T, be, on) → wY_settle_2 post (d + 1) (nI k) so yo ya yb ck va be on := by
  intro d
  induction d with
  | zero =>
    intro k va hk h1 h2 post hp
    have e : k = 12 := by omega
    subst e
    have ev : va = T := by
      funext j
      by_cases c : j < 12 ∧ so j = 1
      · exact h2 j c.1 (by have := (hL j c.1).1; omega)
      · exact h1 j c
    rw [ev]
    exact br_t ec_12 hp
  | succ d ih =>
    intro k va hk h1 h2 post hp
    have hl : k < 12 := by omega
    obtain ⟨va1, a1, a2, a3⟩ := ec_ys10 (ck := ck) (be := be) (on := on) hA hB hL hT (k := k) 12 0 va rfl h1 (fun w hw hc => h2 w hw (by omega))
    refine br_f (ec_ge hl) ⟨13, a3 post _ (nI k) ?_⟩
    rw [nI_1]
    exact ih (k + 1) va1 (by omega) a1 a2 post hp
theorem ec_ysettle {T : Nat → Int32} (hA : ec_R ya) (hB : ec_R yb) (hL : ec_LV so ya yb L) (hT : ∀ w, w < 12 → so w = 1 → T w = ec_fv yo ya yb T w) (hv : ∀ j, ¬ (j < 12 ∧ so j = 1) → va j = T j)
    {post : SY → Prop} (hp : post (so, yo, ya, yb, ck, T, be, on)) : wpY_settle post (so, yo, ya, yb, ck, va, be, on) := by
  refine ⟨13, ec_ys2 hA hB hL hT 12 0 va rfl hv ?_ post hp⟩
  intro w hw h0
  apply hv w
  intro z
  have := (hL w hw).2.1 z.2
  omega
/-! depth -/
theorem ec_yd4 {x1 : Int32} : ∀ (d i : Nat) (on : Nat → Int32), i + d = 12 → (∀ j, j < i → on j = 0) →
    ∃ on' : Nat → Int32, (∀ j, j < 12 → on' j = 0) ∧
    ∀ post : Int32 → SY → Prop, (∃ n, wY_depth_25 post n x1 0 so yo ya yb ck va be on') → wY_depth_4 post x1 (d + 1) (nI i) so yo ya yb ck va be on := by
  intro d
  induction d with
  | zero =>
    intro i on hi h
    have e : i = 12 := by omega
    subst e
    exact ⟨on, h, fun post h => br_t ec_12 h⟩
  | succ d ih =>
    intro i on hi h
    have hl : i < 12 := by omega
    obtain ⟨on', a1, a2⟩ := ih (i + 1) (upd on i 0) (by omega)
      (by
        intro j hj
        by_cases e : j = i
        · rw [e, pk_us]
        · rw [pk_un e]; exact h j (by omega))
    refine ⟨on', a1, fun post hp => ?_⟩
    rw [wY_depth_4]
    simp only [ec_cl hl, nI_1]
    exact br_f (ec_ge hl) ⟨ec_in hl, nm_e (nm_e (a2 post hp))⟩
/-- K: the lengths found so far, m the most, in round k ahead of signal i -/
def ec_di (L K : Nat → Nat) (on : Nat → Int32) (k i m : Nat) : Prop :=
  (∀ w, w < 12 → on w = nI (K w) ∧ K w ≤ L w) ∧ (∀ w, w < 12 → (L w ≤ k ∨ (w < i ∧ L w ≤ k + 1)) → K w = L w ∧ L w ≤ m) ∧ m ≤ 11 ∧ (m = 0 ∨ ∃ w, w < 12 ∧ m ≤ L w)
theorem ec_yd33 (hA : ec_R ya) (hB : ec_R yb) (hL : ec_LV so ya yb L) {k : Nat} : ∀ (d i m : Nat) (K : Nat → Nat) (on : Nat → Int32), i + d = 12 → ec_di L K on k i m →
    ∃ (m' : Nat) (K' : Nat → Nat) (on' : Nat → Int32), ec_di L K' on' (k + 1) 0 m' ∧
    ∀ (post : Int32 → SY → Prop) (J : Int32 → Int32 → (Nat → Int32) → (Nat → Int32) → (Nat → Int32) → (Nat → Int32) → (Nat → Int32) → (Nat → Int32) → (Nat → Int32) → (Nat → Int32) → Prop) (x2 : Int32), J (nI m') (x2 + 1) so yo ya yb ck va be on' → wY_depth_33 post J x2 (d + 1) (nI m) (nI i) so yo ya yb ck va be on := by
  intro d
  induction d with
  | zero =>
    intro i m K on hi h
    have e : i = 12 := by omega
    subst e
    refine ⟨m, K, on, ⟨h.1, ?_, h.2.2⟩, fun post J x2 h => br_t ec_12 (nm_e h)⟩
    intro w hw hc
    exact h.2.1 w hw (Or.inr ⟨hw, by omega⟩)
  | succ d ih =>
    intro i m K on hi h
    obtain ⟨h1, h2, h3, h4⟩ := h
    have hl : i < 12 := by omega
    have ha := ec_Rl hA hl
    have hb := ec_Rl hB hl
    have la := (hL _ ha).1
    have lb := (hL _ hb).1
    have li := (hL i hl).1
    have ka := (h1 _ ha).2
    have kb := (h1 _ hb).2
    have ki := (h1 i hl).2
    have hz : ∃ z : Int32, z = nI (max (K (ya i).toNatClampNeg) (K (yb i).toNatClampNeg)) := ⟨_, rfl⟩
    obtain ⟨z, hz⟩ := hz
    -- the join behind the longer source
    have hgo : ∃ (m' : Nat) (K' : Nat → Nat) (on' : Nat → Int32), ec_di L K' on' (k + 1) 0 m' ∧
        ∀ (post : Int32 → SY → Prop) (J : Int32 → Int32 → (Nat → Int32) → (Nat → Int32) → (Nat → Int32) → (Nat → Int32) → (Nat → Int32) → (Nat → Int32) → (Nat → Int32) → (Nat → Int32) → Prop) (x2 : Int32), J (nI m') (x2 + 1) so yo ya yb ck va be on' → wY_depth_89 post J (wY_depth_33 post J x2 (d + 1)) (nI m) x2 (nI i) z so yo ya yb ck va be on := by
      -- K1, on1: behind the store
      have hst : ∃ (K1 : Nat → Nat) (on1 : Nat → Int32), (∀ w, w < 12 → on1 w = nI (K1 w) ∧ K1 w ≤ L w) ∧ (∀ w, w < 12 → (L w ≤ k ∨ (w < i + 1 ∧ L w ≤ k + 1)) → K1 w = L w) ∧
          ∀ (post : Int32 → SY → Prop) (J : Int32 → Int32 → (Nat → Int32) → (Nat → Int32) → (Nat → Int32) → (Nat → Int32) → (Nat → Int32) → (Nat → Int32) → (Nat → Int32) → (Nat → Int32) → Prop) (x2 : Int32), wY_depth_111 post J (wY_depth_33 post J x2 (d + 1)) (nI m) x2 (nI i) so yo ya yb ck va be on1 → wY_depth_89 post J (wY_depth_33 post J x2 (d + 1)) (nI m) x2 (nI i) z so yo ya yb ck va be on := by
        by_cases hw : so i = 1
        · have hLe := (hL i hl).2.1 hw
          refine ⟨fun j => if j = i then max (K (ya i).toNatClampNeg) (K (yb i).toNatClampNeg) + 1 else K j, upd on i (z + 1), ?_, ?_, ?_⟩
          · intro w hw12
            dsimp only
            by_cases e : w = i
            · subst e
              rw [pk_us, if_pos rfl, hz, nI_1]
              exact ⟨rfl, by omega⟩
            · rw [pk_un e, if_neg e]
              exact h1 w hw12
          · intro w hw12 hc
            dsimp only
            by_cases e : w = i
            · subst e
              rw [if_pos rfl]
              have e1 := (h2 _ ha (Or.inl (by omega))).1
              have e2 := (h2 _ hb (Or.inl (by omega))).1
              rw [e1, e2]
              exact hLe.symm
            · rw [if_neg e]
              exact (h2 w hw12 (by omega)).1
          · intro post J x2 hp
            unfold wY_depth_89
            rw [ec_cl hl]
            exact ⟨ec_in hl, br_t hw ⟨ec_in hl, nm_e hp⟩⟩
        · have h0 := (hL i hl).2.2 hw
          refine ⟨K, on, h1, ?_, ?_⟩
          · intro w hw12 hc
            by_cases e : w = i
            · subst e; omega
            · exact (h2 w hw12 (by omega)).1
          · intro post J x2 hp
            unfold wY_depth_89
            rw [ec_cl hl]
            exact ⟨ec_in hl, br_f hw hp⟩
      obtain ⟨K1, on1, b1, b2, b3⟩ := hst
      have k1 := (b1 i hl).2
      by_cases c : K1 i ≤ m
      · obtain ⟨m', K', on', a1, a2⟩ := ih (i + 1) m K1 on1 (by omega)
          ⟨b1, by
            intro w hw12 hc
            have e1 := b2 w hw12 hc
            refine ⟨e1, ?_⟩
            by_cases e : w = i
            · subst e; omega
            · exact (h2 w hw12 (by omega)).2, h3, h4⟩
        refine ⟨m', K', on', a1, fun post J x2 hp => b3 post J x2 ?_⟩
        unfold wY_depth_111
        rw [ec_cl hl]
        refine ⟨ec_in hl, br_t ?_ (nm_e ?_)⟩
        · rw [(b1 i hl).1]
          exact (nI_leI (by omega) (by omega)).mpr c
        · rw [nI_1]
          exact a2 post J x2 hp
      · obtain ⟨m', K', on', a1, a2⟩ := ih (i + 1) (K1 i) K1 on1 (by omega)
          ⟨b1, by
            intro w hw12 hc
            have e1 := b2 w hw12 hc
            refine ⟨e1, ?_⟩
            by_cases e : w = i
            · subst e; omega
            · have := (h2 w hw12 (by omega)).2
              omega, by omega, Or.inr ⟨i, hl, k1⟩⟩
        refine ⟨m', K', on', a1, fun post J x2 hp => b3 post J x2 ?_⟩
        unfold wY_depth_111
        rw [ec_cl hl]
        refine ⟨ec_in hl, br_f ?_ ⟨ec_in hl, nm_r (b1 i hl).1 (nm_e ?_)⟩⟩
        · rw [(b1 i hl).1]
          exact fun q => c ((nI_leI (by omega) (by omega)).mp q)
        · rw [nI_1]
          exact a2 post J x2 hp
    obtain ⟨m', K', on', a1, a2⟩ := hgo
    refine ⟨m', K', on', a1, fun post J x2 hp => ?_⟩
    have hk := a2 post J x2 hp
    rw [wY_depth_33]
    simp only [ec_cl hl]
    refine br_f (ec_ge hl) ⟨ec_in hl, hA i hl, ec_in hl, hB i hl, ?_⟩
    rw [(h1 _ ha).1, (h1 _ hb).1]
    by_cases c : K (ya i).toNatClampNeg ≤ K (yb i).toNatClampNeg
    · refine br_t ((nI_leI (by omega) (by omega)).mpr c) ⟨ec_in hl, hB i hl, ?_⟩
      rw [show max (K (ya i).toNatClampNeg) (K (yb i).toNatClampNeg) = K (yb i).toNatClampNeg by omega] at hz
      rw [← hz]
      exact hk
    · refine br_f (fun q => c ((nI_leI (by omega) (by omega)).mp q)) ⟨ec_in hl, hA i hl, ?_⟩
      rw [show max (K (ya i).toNatClampNeg) (K (yb i).toNatClampNeg) = K (ya i).toNatClampNeg by omega] at hz
      rw [← hz]
      exact hk
theorem ec_yd25 (hA : ec_R ya) (hB : ec_R yb) (hL : ec_LV so ya yb L) : ∀ (d k m : Nat) (K : Nat → Nat) (on : Nat → Int32), k + d = 12 → ec_di L K on k 0 m →
    ∃ (m' : Nat) (on' : Nat → Int32), ec_dp L 12 m' ∧ ∀ post : Int32 → SY → Prop, post (nI m') (so, yo, ya, yb, ck, va, be, on') → wY_depth_25 post (d + 1) (nI m) (nI k) so yo ya yb ck va be on := by
  intro d
  induction d with
  | zero =>
    intro k m K on hk h
    have e : k = 12 := by omega
    subst e
    refine ⟨m, on, ⟨h.2.2.1, fun w hw => (h.2.1 w hw (Or.inl (by have := (hL w hw).1; omega))).2, h.2.2.2⟩, fun post h => br_t ec_12 h⟩
  | succ d ih =>
    intro k m K on hk h
    have hl : k < 12 := by omega
    obtain ⟨m1, K1, on1, a1, a2⟩ := ec_yd33 (yo := yo) (ck := ck) (va := va) (be := be) hA hB hL 12 0 m K on rfl h
    obtain ⟨m', on', b1, b2⟩ := ih (k + 1) m1 K1 on1 (by omega) a1
    refine ⟨m', on', b1, fun post hp => ?_⟩
    refine br_f (ec_ge hl) ⟨13, a2 post _ (nI k) ?_⟩
    rw [nI_1]
    exact b2 post hp
theorem ec_ydepth (hA : ec_R ya) (hB : ec_R yb) (hL : ec_LV so ya yb L) : ∃ (m : Nat) (on' : Nat → Int32), ec_dp L 12 m ∧ ∀ post : Int32 → SY → Prop, post (nI m) (so, yo, ya, yb, ck, va, be, on') → wpY_depth post (so, yo, ya, yb, ck, va, be, on) := by
  obtain ⟨on1, a1, a2⟩ := ec_yd4 (x1 := 0) (so := so) (yo := yo) (ya := ya) (yb := yb) (ck := ck) (va := va) (be := be) 12 0 on rfl (fun j hj => absurd hj (Nat.not_lt_zero j))
  obtain ⟨m, on', b1, b2⟩ := ec_yd25 (yo := yo) (ck := ck) (va := va) (be := be) hA hB hL 12 0 0 (fun _ => 0) on1 rfl
    ⟨fun w hw => ⟨a1 w hw, Nat.zero_le _⟩, fun w hw hc => ⟨by show 0 = L w; omega, by omega⟩, by omega, Or.inl rfl⟩
  exact ⟨m, on', b1, fun post hp => ⟨13, a2 post ⟨13, b2 post hp⟩⟩⟩
end
end
section
/-! the reference: findHanging, hasCircle, hanging -/
section
variable {so yo ya yb ck va be on : Nat → Int32}
def ec_hS (so ya yb on : Nat → Int32) : Prop := ∀ w, w < 12 → ∀ t, bt (on w) t = true → ec_T so ya yb t w
def ec_hB (so ya yb on : Nat → Int32) : Prop := ∀ w, w < 12 → ∀ t, ec_E so ya yb t w → bt (on w) t = true
theorem ec_yf69 {w : Nat} (hw : w < 12) : ∀ (d t : Nat) (on : Nat → Int32), t + d = 12 → ec_hS so ya yb on →
    ∃ on' : Nat → Int32, ec_hS so ya yb on' ∧ (∀ x, x ≠ w → on' x = on x) ∧ (∀ j, bt (on w) j = true → bt (on' w) j = true) ∧ (∀ x, t ≤ x → x < 12 → x ≠ w → bt (on w) x = true → ∀ j, bt (on x) j = true → bt (on' w) j = true) ∧
    ∀ (post : SY → Prop) (J53 J61 : Int32 → (Nat → Int32) → (Nat → Int32) → (Nat → Int32) → (Nat → Int32) → (Nat → Int32) → (Nat → Int32) → (Nat → Int32) → (Nat → Int32) → Prop) (x1 : Int32), J61 (nI w + 1) so yo ya yb ck va be on' → wY_findHanging_69 post J53 J61 x1 (nI w) (d + 1) (nI t) so yo ya yb ck va be on := by
  intro d
  induction d with
  | zero =>
    intro t on ht hS
    have e : t = 12 := by omega
    subst e
    exact ⟨on, hS, fun _ _ => rfl, fun _ h => h, fun x h1 h2 => by omega, fun post J53 J61 x1 h => br_t ec_12 (nm_e h)⟩
  | succ d ih =>
    intro t on ht hS
    have hl : t < 12 := by omega
    by_cases hb : bt (on w) t = true
    · have hbit : ∀ j, bt (upd on w (on w ||| on t) w) j = true ↔ bt (on w) j = true ∨ bt (on t) j = true := by
        intro j
        rw [pk_us, b_or, Bool.or_eq_true]
      obtain ⟨on', a1, a2, a3, a4, a5⟩ := ih (t + 1) (upd on w (on w ||| on t)) (by omega)
        (by
          intro v hv j hj
          by_cases e : v = w
          · subst e
            rcases (hbit j).mp hj with z | z
            · exact hS v hv j z
            · exact ec_Tt (hS t hl j z) (hS v hv t hb)
          · rw [pk_un e] at hj
            exact hS v hv j hj)
      refine ⟨on', a1, ?_, ?_, ?_, ?_⟩
      · intro x hx
        rw [a2 x hx, pk_un hx]
      · intro j hj
        exact a3 j ((hbit j).mpr (Or.inl hj))
      · intro x h1 h2 h3 h4 j hj
        by_cases e : x = t
        · subst e
          exact a3 j ((hbit j).mpr (Or.inr hj))
        · apply a4 x (by omega) h2 h3 ((hbit x).mpr (Or.inl h4)) j
          rw [pk_un h3]
          exact hj
      · intro post J53 J61 x1 hp
        rw [wY_findHanging_69]
        simp only [ec_cl hw, ec_cl hl, nI_1 t]
        exact br_f (ec_ge hl) ⟨ec_in hw, br_t (ec_t1 hl hb) ⟨ec_in hw, ec_in hl, ec_in hw, nm_e (nm_e (a5 post J53 J61 x1 hp))⟩⟩
    · have hb := ec_nt hb
      obtain ⟨on', a1, a2, a3, a4, a5⟩ := ih (t + 1) on (by omega) hS
      refine ⟨on', a1, a2, a3, ?_, ?_⟩
      · intro x h1 h2 h3 h4 j hj
        by_cases e : x = t
        · subst e
          rw [hb] at h4
          exact absurd h4 (by decide)
        · exact a4 x (by omega) h2 h3 h4 j hj
      · intro post J53 J61 x1 hp
        rw [wY_findHanging_69]
        simp only [ec_cl hw, ec_cl hl, nI_1 t]
        exact br_f (ec_ge hl) ⟨ec_in hw, br_f (ec_t1n hl hb) (nm_e (a5 post J53 J61 x1 hp))⟩
/-- Q: signals that must come to hold s, by the rank R -/
def ec_hQ (so ya yb : Nat → Int32) (s : Nat) (Q : Nat → Prop) (R : Nat → Nat) : Prop := ∀ w, w < 12 → Q w → ec_E so ya yb s w ∨ ∃ x, x < 12 ∧ ec_E so ya yb x w ∧ Q x ∧ R x < R w
theorem ec_yf61 {s : Nat} {Q : Nat → Prop} {R : Nat → Nat} (hQ : ec_hQ so ya yb s Q R) {k : Nat} : ∀ (d i : Nat) (on : Nat → Int32), i + d = 12 → ec_hS so ya yb on → ec_hB so ya yb on → (∀ w, w < 12 → Q w → (R w ≤ k ∨ (w < i ∧ R w ≤ k + 1)) → bt (on w) s = true) →
    ∃ on' : Nat → Int32, ec_hS so ya yb on' ∧ ec_hB so ya yb on' ∧ (∀ w, w < 12 → Q w → R w ≤ k + 1 → bt (on' w) s = true) ∧
    ∀ (post : SY → Prop) (J53 : Int32 → (Nat → Int32) → (Nat → Int32) → (Nat → Int32) → (Nat → Int32) → (Nat → Int32) → (Nat → Int32) → (Nat → Int32) → (Nat → Int32) → Prop) (x1 : Int32), J53 (x1 + 1) so yo ya yb ck va be on' → wY_findHanging_61 post J53 x1 (d + 1) (nI i) so yo ya yb ck va be on := by
  intro d
  induction d with
  | zero =>
    intro i on hi hS hB hC
    have e : i = 12 := by omega
    subst e
    exact ⟨on, hS, hB, fun w hw hq hk => hC w hw hq (Or.inr ⟨hw, hk⟩), fun post J53 x1 h => br_t ec_12 (nm_e h)⟩
  | succ d ih =>
    intro i on hi hS hB hC
    have hl : i < 12 := by omega
    obtain ⟨on1, a1, a2, a3, a4, a5⟩ := ec_yf69 (yo := yo) (ck := ck) (va := va) (be := be) hl 12 0 on rfl hS
    obtain ⟨on', b1, b2, b3, b4⟩ := ih (i + 1) on1 (by omega) a1
      (by
        intro w hw t ht
        by_cases e : w = i
        · subst e; exact a3 t (hB w hw t ht)
        · rw [a2 w e]; exact hB w hw t ht)
      (by
        intro w hw hq hc
        by_cases e : w = i
        · subst e
          rcases hQ w hw hq with z | ⟨x, hx, he, hqx, hlt⟩
          · exact a3 s (hB w hw s z)
          · have hne : x ≠ w := by
              intro q
              rw [q] at hlt
              exact Nat.lt_irrefl _ hlt
            exact a4 x (Nat.zero_le x) hx hne (hB w hw x he) s (hC x hx hqx (Or.inl (by omega)))
        · rw [a2 w e]
          exact hC w hw hq (by omega))
    refine ⟨on', b1, b2, b3, fun post J53 x1 hp => ?_⟩
    refine br_f (ec_ge hl) ⟨13, a5 post J53 _ x1 ?_⟩
    rw [nI_1]
    exact b4 post J53 x1 hp
theorem ec_yf53 {s : Nat} {Q : Nat → Prop} {R : Nat → Nat} (hQ : ec_hQ so ya yb s Q R) : ∀ (d k : Nat) (on : Nat → Int32), k + d = 12 → ec_hS so ya yb on → ec_hB so ya yb on → (∀ w, w < 12 → Q w → R w ≤ k → bt (on w) s = true) →
    ∃ on' : Nat → Int32, ec_hS so ya yb on' ∧ (∀ w, w < 12 → Q w → R w ≤ 12 → bt (on' w) s = true) ∧
    ∀ post : SY → Prop, post (so, yo, ya, yb, ck, va, be, on') → wY_findHanging_53 post (d + 1) (nI k) so yo ya yb ck va be on := by
  intro d
  induction d with
  | zero =>
    intro k on hk hS hB hC
    have e : k = 12 := by omega
    subst e
    exact ⟨on, hS, hC, fun post h => br_t ec_12 h⟩
  | succ d ih =>
    intro k on hk hS hB hC
    have hl : k < 12 := by omega
    obtain ⟨on1, a1, a2, a3, a4⟩ := ec_yf61 (yo := yo) (ck := ck) (va := va) (be := be) hQ (k := k) 12 0 on rfl hS hB (fun w hw hq hc => hC w hw hq (by omega))
    obtain ⟨on', b1, b2, b3⟩ := ih (k + 1) on1 (by omega) a1 a2 a3
    refine ⟨on', b1, b2, fun post hp => ?_⟩
    refine br_f (ec_ge hl) ⟨13, a4 post _ (nI k) ?_⟩
    rw [nI_1]
    exact b3 post hp
theorem ec_yf2 (hA : ec_R ya) (hB : ec_R yb) : ∀ (d i : Nat) (on : Nat → Int32), i + d = 12 → (∀ w, w < i → ∀ t, bt (on w) t = true ↔ ec_E so ya yb t w) →
    ∃ on' : Nat → Int32, (∀ w, w < 12 → ∀ t, bt (on' w) t = true ↔ ec_E so ya yb t w) ∧
    ∀ post : SY → Prop, (∃ n, wY_findHanging_53 post n 0 so yo ya yb ck va be on') → wY_findHanging_2 post (d + 1) (nI i) so yo ya yb ck va be on := by
  intro d
  induction d with
  | zero =>
    intro i on hi h
    have e : i = 12 := by omega
    subst e
    exact ⟨on, h, fun post h => br_t ec_12 h⟩
  | succ d ih =>
    intro i on hi h
    have hl : i < 12 := by omega
    by_cases hw : so i = 1
    · obtain ⟨on', a1, a2⟩ := ih (i + 1) (upd on i (((1 : Int32) <<< ((ya i) &&& 31)) ||| ((1 : Int32) <<< ((yb i) &&& 31)))) (by omega)
        (by
          intro w hw12 t
          by_cases e : w = i
          · subst e
            obtain ⟨a, ha, ea⟩ := ec_Rn hA hl
            obtain ⟨b, hb, eb⟩ := ec_Rn hB hl
            rw [pk_us, ea, eb, b_or, ec_shl ha, ec_shl hb, Bool.or_eq_true, decide_eq_true_iff, decide_eq_true_iff]
            unfold ec_E
            rw [ea, eb, ec_cl ha, ec_cl hb]
            constructor
            · rintro (z | z)
              · exact ⟨hl, hw, Or.inl z.symm⟩
              · exact ⟨hl, hw, Or.inr z.symm⟩
            · rintro ⟨_, _, z | z⟩
              · exact Or.inl z.symm
              · exact Or.inr z.symm
          · rw [pk_un e]
            exact h w (by omega) t)
      refine ⟨on', a1, fun post hp => ?_⟩
      rw [wY_findHanging_2]
      simp only [ec_cl hl, nI_1]
      exact br_f (ec_ge hl) ⟨ec_in hl, br_t hw ⟨ec_in hl, ec_in hl, ec_in hl, nm_e (nm_e (a2 post hp))⟩⟩
    · obtain ⟨on', a1, a2⟩ := ih (i + 1) (upd on i 0) (by omega)
        (by
          intro w hw12 t
          by_cases e : w = i
          · subst e
            rw [pk_us, b_0]
            constructor
            · intro z; exact absurd z (by decide)
            · intro z; exact absurd z.2.1 hw
          · rw [pk_un e]
            exact h w (by omega) t)
      refine ⟨on', a1, fun post hp => ?_⟩
      rw [wY_findHanging_2]
      simp only [ec_cl hl, nI_1]
      exact br_f (ec_ge hl) ⟨ec_in hl, br_f hw ⟨ec_in hl, nm_e (nm_e (a2 post hp))⟩⟩
theorem ec_yfh {s : Nat} {Q : Nat → Prop} {R : Nat → Nat} (hA : ec_R ya) (hB : ec_R yb) (hQ : ec_hQ so ya yb s Q R) :
    ∃ on' : Nat → Int32, ec_hS so ya yb on' ∧ (∀ w, w < 12 → Q w → R w ≤ 12 → bt (on' w) s = true) ∧
    ∀ post : SY → Prop, post (so, yo, ya, yb, ck, va, be, on') → wpY_findHanging post (so, yo, ya, yb, ck, va, be, on) := by
  obtain ⟨on1, a1, a2⟩ := ec_yf2 (so := so) (yo := yo) (ck := ck) (va := va) (be := be) hA hB 12 0 on rfl (fun w hw => absurd hw (Nat.not_lt_zero w))
  obtain ⟨on', b1, b2, b3⟩ := ec_yf53 (yo := yo) (ck := ck) (va := va) (be := be) hQ 12 0 on1 rfl
    (fun w hw t ht => ec_T1 ((a1 w hw t).mp ht)) (fun w hw t ht => (a1 w hw t).mpr ht)
    (by
      intro w hw hq h0
      rcases hQ w hw hq with z | ⟨x, _, _, _, hlt⟩
      · exact (a1 w hw s).mpr z
      · omega)
  exact ⟨on', b1, b2, fun post hp => ⟨13, a2 post ⟨13, b3 post hp⟩⟩⟩
/-! hasCircle -/
theorem ec_yc6 : ∀ (d i : Nat), i + d = 12 → ∀ post : Int32 → SY → Prop, ((∃ x, i ≤ x ∧ x < 12 ∧ bt (on x) x = true) → post 1 (so, yo, ya, yb, ck, va, be, on)) → ((∀ x, i ≤ x → x < 12 → bt (on x) x = false) → post 0 (so, yo, ya, yb, ck, va, be, on)) → wY_hasCircle_6 post so yo ya yb ck va be on (d + 1) (nI i) := by
  intro d
  induction d with
  | zero =>
    intro i hi post _ h0
    have e : i = 12 := by omega
    subst e
    exact br_t ec_12 (h0 (fun x h1 h2 => by omega))
  | succ d ih =>
    intro i hi post h1 h0
    have hl : i < 12 := by omega
    rw [wY_hasCircle_6]
    simp only [ec_cl hl, nI_1]
    refine br_f (ec_ge hl) ⟨ec_in hl, ?_⟩
    by_cases hb : bt (on i) i = true
    · exact br_t (ec_t1 hl hb) (h1 ⟨i, Nat.le_refl i, hl, hb⟩)
    · have hb := ec_nt hb
      refine br_f (ec_t1n hl hb) (nm_e (ih (i + 1) (by omega) post ?_ ?_))
      · rintro ⟨x, z1, z2, z3⟩
        exact h1 ⟨x, by omega, z2, z3⟩
      · intro hall
        apply h0
        intro x z1 z2
        by_cases e : x = i
        · rw [e]; exact hb
        · exact hall x (by omega) z2
/-- a circle through s: found -/
theorem ec_ycir1 {s : Nat} {Q : Nat → Prop} {R : Nat → Nat} (hs : s < 12) (hA : ec_R ya) (hB : ec_R yb) (hQ : ec_hQ so ya yb s Q R) (hq : Q s) (hr : R s ≤ 12) :
    ∃ on' : Nat → Int32, ∀ post : Int32 → SY → Prop, post 1 (so, yo, ya, yb, ck, va, be, on') → wpY_hasCircle post (so, yo, ya, yb, ck, va, be, on) := by
  obtain ⟨on', a1, a2, a3⟩ := ec_yfh (yo := yo) (ck := ck) (va := va) (be := be) (on := on) hA hB hQ
  refine ⟨on', fun post hp => ?_⟩
  unfold wpY_hasCircle
  dsimp only
  refine a3 _ ⟨13, ec_yc6 12 0 rfl post (fun _ => hp) ?_⟩
  intro hall
  have := hall s (Nat.zero_le s) hs
  rw [a2 s hs hq hr] at this
  exact absurd this (by decide)
/-- no circle where there is a rank -/
theorem ec_ycir0 {R : Nat → Nat} (hA : ec_R ya) (hB : ec_R yb) (hR : ec_RK so ya yb R) :
    ∃ on' : Nat → Int32, ∀ post : Int32 → SY → Prop, post 0 (so, yo, ya, yb, ck, va, be, on') → wpY_hasCircle post (so, yo, ya, yb, ck, va, be, on) := by
  obtain ⟨on', a1, a2, a3⟩ := ec_yfh (yo := yo) (ck := ck) (va := va) (be := be) (on := on) (s := 0) (Q := fun _ => False) (R := fun _ => 0) hA hB (fun w _ z => absurd z (fun q => q))
  refine ⟨on', fun post hp => ?_⟩
  unfold wpY_hasCircle
  dsimp only
  refine a3 _ ⟨13, ec_yc6 12 0 rfl post ?_ (fun _ => hp)⟩
  rintro ⟨x, _, hx, hb⟩
  exact absurd (ec_Tr hR (a1 x hx x hb)) (Nat.lt_irrefl _)
/-! hanging -/
theorem ec_yh18 {s : Nat} (hs : s < 12) : ∀ (d i : Nat) (r : Int32), i + d = 12 → (∀ j, bt r j = true ↔ j < i ∧ bt (on j) s = true) →
    ∃ r' : Int32, (∀ j, bt r' j = true ↔ j < 12 ∧ bt (on j) s = true) ∧ ∀ post : Int32 → SY → Prop, post r' (so, yo, ya, yb, ck, va, be, on) → wY_hanging_18 post (nI s) so yo ya yb ck va be on (d + 1) r (nI i) := by
  intro d
  induction d with
  | zero =>
    intro i r hi h
    have e : i = 12 := by omega
    subst e
    exact ⟨r, h, fun post h => br_t ec_12 h⟩
  | succ d ih =>
    intro i r hi h
    have hl : i < 12 := by omega
    by_cases hb : bt (on i) s = true
    · obtain ⟨r', a1, a2⟩ := ih (i + 1) (r ||| ((1 : Int32) <<< (nI i &&& 31))) (by omega)
        (by
          intro j
          rw [b_or, ec_shl hl, Bool.or_eq_true, decide_eq_true_iff, h j]
          constructor
          · rintro (z | z)
            · exact ⟨by omega, z.2⟩
            · subst z; exact ⟨by omega, hb⟩
          · rintro ⟨z1, z2⟩
            by_cases e : j = i
            · exact Or.inr e
            · exact Or.inl ⟨by omega, z2⟩)
      refine ⟨r', a1, fun post hp => ?_⟩
      rw [wY_hanging_18]
      simp only [ec_cl hl, nI_1]
      exact br_f (ec_ge hl) ⟨ec_in hl, br_t (ec_t1 hs hb) (nm_e (nm_e (a2 post hp)))⟩
    · have hb := ec_nt hb
      obtain ⟨r', a1, a2⟩ := ih (i + 1) r (by omega)
        (by
          intro j
          rw [h j]
          constructor
          · rintro ⟨z1, z2⟩; exact ⟨by omega, z2⟩
          · rintro ⟨z1, z2⟩
            by_cases e : j = i
            · subst e; rw [hb] at z2; exact absurd z2 (by decide)
            · exact ⟨by omega, z2⟩)
      refine ⟨r', a1, fun post hp => ?_⟩
      rw [wY_hanging_18]
      simp only [ec_cl hl, nI_1]
      exact br_f (ec_ge hl) ⟨ec_in hl, br_f (ec_t1n hs hb) (nm_e (a2 post hp))⟩
end
end
section
/-! the reference: change, set's count -/
section
variable {so yo ya yb ck va be on : Nat → Int32} {L : Nat → Nat}
theorem ec_rem : ∀ k, k < 16 → nI k - nI k / 2 * 2 = nI k &&& 1 := by decide +kernel
theorem ec_rm {x : Int32} (h : ec_r16 x) : x - x / 2 * 2 = x &&& 1 := by
  obtain ⟨k, hk, rfl⟩ := h
  exact ec_rem k hk
theorem ec_ych30 {x1 x2 x3 x4 : Int32} : ∀ (d i : Nat) (be : Nat → Int32), i + d = 12 → (∀ j, j < i → be j = va j) →
    ∃ be' : Nat → Int32, (∀ j, j < 12 → be' j = va j) ∧
    ∀ post : Int32 → SY → Prop, (∃ n, wY_change_60 post x1 x2 x3 x4 n 0 so yo ya yb ck va be' on) → wY_change_30 post x1 x2 x3 x4 (d + 1) (nI i) so yo ya yb ck va be on := by
  intro d
  induction d with
  | zero =>
    intro i be hi h
    have e : i = 12 := by omega
    subst e
    exact ⟨be, h, fun post h => br_t ec_12 h⟩
  | succ d ih =>
    intro i be hi h
    have hl : i < 12 := by omega
    obtain ⟨be', a1, a2⟩ := ih (i + 1) (upd be i (va i)) (by omega)
      (by
        intro j hj
        by_cases e : j = i
        · rw [e, pk_us]
        · rw [pk_un e]; exact h j (by omega))
    refine ⟨be', a1, fun post hp => ?_⟩
    rw [wY_change_30]
    simp only [ec_cl hl, nI_1]
    exact br_f (ec_ge hl) ⟨ec_in hl, ec_in hl, nm_e (nm_e (a2 post hp))⟩
theorem ec_ych60 {x1 x2 x3 x4 : Int32} (hA : ec_R ya) (hB : ec_R yb) : ∀ (d i : Nat) (on : Nat → Int32), i + d = 12 → (∀ j, j < i → on j = ec_fv yo ya yb va j) →
    ∃ on' : Nat → Int32, (∀ j, j < 12 → on' j = ec_fv yo ya yb va j) ∧
    ∀ post : Int32 → SY → Prop, (∃ n, wY_change_89 post x1 x2 x3 n x4 0 so yo ya yb ck va be on') → wY_change_60 post x1 x2 x3 x4 (d + 1) (nI i) so yo ya yb ck va be on := by
  intro d
  induction d with
  | zero =>
    intro i on hi h
    have e : i = 12 := by omega
    subst e
    exact ⟨on, h, fun post h => br_t ec_12 h⟩
  | succ d ih =>
    intro i on hi h
    have hl : i < 12 := by omega
    obtain ⟨on', a1, a2⟩ := ih (i + 1) (upd on i (ec_fv yo ya yb va i)) (by omega)
      (by
        intro j hj
        by_cases e : j = i
        · rw [e, pk_us]
        · rw [pk_un e]; exact h j (by omega))
    refine ⟨on', a1, fun post hp => ?_⟩
    rw [wY_change_60]
    simp only [ec_cl hl, nI_1]
    exact br_f (ec_ge hl) (ec_yfo hl (hA i hl) (hB i hl) ⟨ec_in hl, nm_e (nm_e (a2 post hp))⟩)
/-- the values while registers load -/
def ec_v (lo : Int32) (g v0 : Nat → Int32) (i j : Nat) : Int32 := if bt lo j = true ∧ j < i then g j else v0 j
theorem ec_ych89 {c : Prop} {v0 T g : Nat → Int32} {s : Nat} {p lo x3 : Int32} (hs : s < 12) (hA : ec_R ya) (hB : ec_R yb) (hL : ec_LV so ya yb L)
    (hg : ∀ j, j < 12 → so j = 2 → on j = g j) (hx : (c ∧ x3 = 1) ∨ (¬ c ∧ x3 = 0)) (hlo : ∀ j, bt lo j = true ↔ c ∧ j < 12 ∧ so j = 2 ∧ ck j = nI s ∧ ¬ g j = v0 j)
    (hT : ∀ w, w < 12 → so w = 1 → T w = ec_fv yo ya yb T w) (hv : ∀ j, ¬ (j < 12 ∧ so j = 1) → ec_w s p lo g v0 12 j = T j)
    {post : Int32 → SY → Prop} (hp : post (nI (ec_cn (bt lo) 12)) (so, yo, ya, yb, ck, T, be, on)) :
    ∀ (d i : Nat), i + d = 12 → wY_change_89 post (nI s) p x3 (d + 1) (nI (ec_cn (bt lo) i)) (nI i) so yo ya yb ck (ec_v lo g v0 i) be on := by
  intro d
  induction d with
  | zero =>
    intro i hi
    have e : i = 12 := by omega
    subst e
    have hfin : upd (ec_v lo g v0 12) s p = ec_w s p lo g v0 12 := by
      funext j
      show (if j = s then p else ec_v lo g v0 12 j) = (if j = s then p else if bt lo j = true ∧ j < 12 then g j else v0 j)
      rfl
    rw [wY_change_89]
    simp only [ec_cl hs]
    refine br_t ec_12 ⟨ec_in hs, nm_e ?_⟩
    rw [hfin]
    exact ec_ysettle hA hB hL hT hv hp
  | succ d ih =>
    intro i hi
    have hl : i < 12 := by omega
    have hk := ih (i + 1) (by omega)
    have hcn : ec_cn (bt lo) (i + 1) = ec_cn (bt lo) i + (if bt lo i = true then 1 else 0) := rfl
    have hcur : ec_v lo g v0 i i = v0 i := by
      show (if bt lo i = true ∧ i < i then g i else v0 i) = v0 i
      rw [if_neg (fun z => Nat.lt_irrefl _ z.2)]
    have hskip : bt lo i = false → ec_v lo g v0 (i + 1) = ec_v lo g v0 i ∧ ec_cn (bt lo) (i + 1) = ec_cn (bt lo) i := by
      intro hb
      refine ⟨?_, by rw [hcn, hb]; rfl⟩
      funext j
      show (if bt lo j = true ∧ j < i + 1 then g j else v0 j) = (if bt lo j = true ∧ j < i then g j else v0 j)
      by_cases q : bt lo j = true ∧ j < i
      · rw [if_pos q, if_pos (⟨q.1, by omega⟩ : bt lo j = true ∧ j < i + 1)]
      · rw [if_neg q, if_neg (fun z : bt lo j = true ∧ j < i + 1 => q ⟨z.1, by
          have : j ≠ i := by
            intro e
            subst e
            rw [hb] at z
            exact absurd z.1 (by decide)
          omega⟩)]
    have hno : ¬ (c ∧ so i = 2 ∧ ck i = nI s ∧ ¬ g i = v0 i) → bt lo i = false := by
      intro hn
      apply ec_nt
      intro z
      have := (hlo i).mp z
      exact hn ⟨this.1, this.2.2⟩
    rw [wY_change_89]
    simp only [ec_cl hl, nI_1 i]
    refine br_f (ec_ge hl) ?_
    rcases hx with ⟨hc, hx3⟩ | ⟨hc, hx3⟩
    · have hx0 : ¬ x3 = 0 := by rw [hx3]; decide
      refine br_f hx0 ⟨ec_in hl, ?_⟩
      by_cases h2 : so i = 2
      · refine br_t h2 ⟨ec_in hl, ?_⟩
        by_cases h3 : ck i = nI s
        · refine br_t h3 ⟨ec_in hl, ec_in hl, ?_⟩
          rw [hcur, hg i hl h2]
          by_cases h4 : v0 i = g i
          · refine br_t h4 ?_
            obtain ⟨e1, e2⟩ := hskip (hno (fun z => z.2.2.2 h4.symm))
            rw [e1, e2] at hk
            unfold wY_change_142
            rw [ec_cl hl, hg i hl h2, nI_1]
            refine ⟨ec_in hl, ec_in hl, nm_e (nm_e ?_)⟩
            rw [← h4, ← hcur, ec_up0]
            exact hk
          · refine br_f h4 (nm_e ?_)
            have hb : bt lo i = true := (hlo i).mpr ⟨hc, hl, h2, h3, fun z => h4 z.symm⟩
            have e2 : ec_cn (bt lo) (i + 1) = ec_cn (bt lo) i + 1 := by rw [hcn, hb]; rfl
            have e1 : upd (ec_v lo g v0 i) i (g i) = ec_v lo g v0 (i + 1) := by
              funext j
              by_cases e : j = i
              · subst e
                rw [pk_us]
                show _ = (if bt lo j = true ∧ j < j + 1 then g j else v0 j)
                rw [if_pos ⟨hb, Nat.lt_succ_self j⟩]
              · rw [pk_un e]
                show (if bt lo j = true ∧ j < i then g j else v0 j) = (if bt lo j = true ∧ j < i + 1 then g j else v0 j)
                by_cases q : bt lo j = true ∧ j < i
                · rw [if_pos q, if_pos (⟨q.1, by omega⟩ : bt lo j = true ∧ j < i + 1)]
                · rw [if_neg q, if_neg (fun z : bt lo j = true ∧ j < i + 1 => q ⟨z.1, by omega⟩)]
            rw [e2] at hk
            unfold wY_change_142
            rw [ec_cl hl, hg i hl h2, nI_1, nI_1]
            refine ⟨ec_in hl, ec_in hl, nm_e (nm_e ?_)⟩
            rw [e1]
            exact hk
        · obtain ⟨e1, e2⟩ := hskip (hno (fun z => h3 z.2.2.1))
          rw [e1, e2] at hk
          exact br_f h3 (nm_e hk)
      · obtain ⟨e1, e2⟩ := hskip (hno (fun z => h2 z.2.1))
        rw [e1, e2] at hk
        exact br_f h2 (nm_e hk)
    · obtain ⟨e1, e2⟩ := hskip (hno (fun z => hc z.1))
      rw [e1, e2] at hk
      exact br_t hx3 (nm_e hk)
theorem ec_ychange {T g : Nat → Int32} {s : Nat} {p lo : Int32} (hs : s < 12) (hp16 : ec_r16 p) (hv16 : ec_r16 (va s)) (hA : ec_R ya) (hB : ec_R yb) (hL : ec_LV so ya yb L)
    (hg : ∀ j, j < 12 → so j = 2 → ec_fv yo ya yb va j = g j)
    (hlo : ∀ j, bt lo j = true ↔ ((va s &&& 1) = 0 ∧ (p &&& 1) = 1) ∧ j < 12 ∧ so j = 2 ∧ ck j = nI s ∧ ¬ g j = va j)
    (hT : ∀ w, w < 12 → so w = 1 → T w = ec_fv yo ya yb T w) (hv : ∀ j, ¬ (j < 12 ∧ so j = 1) → ec_w s p lo g va 12 j = T j) :
    ∃ be' on' : Nat → Int32, (∀ j, j < 12 → be' j = va j) ∧
    ∀ post : Int32 → SY → Prop, post (nI (ec_cn (bt lo) 12)) (so, yo, ya, yb, ck, T, be', on') → wpY_change post (so, yo, ya, yb, ck, va, be, on) (nI s) p := by
  have hv0 : ec_v lo g va 0 = va := by
    funext j
    show (if bt lo j = true ∧ j < 0 then g j else va j) = va j
    rw [if_neg (fun z => Nat.not_lt_zero j z.2)]
  have hgo : ∀ x3 : Int32, (((va s &&& 1) = 0 ∧ (p &&& 1) = 1) ∧ x3 = 1) ∨ (¬ ((va s &&& 1) = 0 ∧ (p &&& 1) = 1) ∧ x3 = 0) →
      ∃ be' on' : Nat → Int32, (∀ j, j < 12 → be' j = va j) ∧
      ∀ post : Int32 → SY → Prop, post (nI (ec_cn (bt lo) 12)) (so, yo, ya, yb, ck, T, be', on') → wY_change_30 post (nI s) p x3 0 13 0 so yo ya yb ck va be on := by
    intro x3 hx
    obtain ⟨be', a1, a2⟩ := ec_ych30 (x1 := nI s) (x2 := p) (x3 := x3) (x4 := 0) (so := so) (yo := yo) (ya := ya) (yb := yb) (ck := ck) (va := va) (on := on) 12 0 be rfl (fun j hj => absurd hj (Nat.not_lt_zero j))
    obtain ⟨on', b1, b2⟩ := ec_ych60 (x1 := nI s) (x2 := p) (x3 := x3) (x4 := 0) (so := so) (yo := yo) (ck := ck) (va := va) (be := be') hA hB 12 0 on rfl (fun j hj => absurd hj (Nat.not_lt_zero j))
    refine ⟨be', on', a1, fun post hp => a2 post ⟨13, b2 post ⟨13, ?_⟩⟩⟩
    have h := ec_ych89 (yo := yo) (ck := ck) (be := be') (on := on') (v0 := va) (p := p) hs hA hB hL (fun j hj h2 => (b1 j hj).trans (hg j hj h2)) hx hlo hT hv hp 12 0 rfl
    rw [hv0] at h
    exact h
  by_cases c : (va s &&& 1) = 0 ∧ (p &&& 1) = 1
  · obtain ⟨be', on', a1, a2⟩ := hgo 1 (Or.inl ⟨c, rfl⟩)
    refine ⟨be', on', a1, fun post hp => ?_⟩
    unfold wpY_change
    dsimp only
    rw [ec_cl hs, ec_rm hp16, ec_rm hv16]
    exact ⟨ec_in hs, by decide, br_t c.1 ⟨by decide, br_t c.2 ⟨13, a2 post hp⟩⟩⟩
  · obtain ⟨be', on', a1, a2⟩ := hgo 0 (Or.inr ⟨c, rfl⟩)
    refine ⟨be', on', a1, fun post hp => ?_⟩
    unfold wpY_change
    dsimp only
    rw [ec_cl hs, ec_rm hp16, ec_rm hv16]
    refine ⟨ec_in hs, by decide, ?_⟩
    by_cases c1 : (va s &&& 1) = 0
    · exact br_t c1 ⟨by decide, br_f (fun c2 => c ⟨c1, c2⟩) ⟨13, a2 post hp⟩⟩
    · exact br_f c1 ⟨13, a2 post hp⟩
theorem ec_yset26 {v0 : Nat → Int32} (hbe : ∀ j, j < 12 → be j = v0 j) : ∀ (d i : Nat), i + d = 12 → ∀ post : Int32 → SY → Prop, post (nI (ec_cn (fun j => decide (va j ≠ v0 j)) 12)) (so, yo, ya, yb, ck, va, be, on) → wY_set_26 post so yo ya yb ck va be on (d + 1) (nI (ec_cn (fun j => decide (va j ≠ v0 j)) i)) (nI i) := by
  intro d
  induction d with
  | zero =>
    intro i hi post hp
    have e : i = 12 := by omega
    subst e
    exact br_t ec_12 hp
  | succ d ih =>
    intro i hi post hp
    have hl : i < 12 := by omega
    have h := ih (i + 1) (by omega) post hp
    have hcn : ec_cn (fun j => decide (va j ≠ v0 j)) (i + 1) = ec_cn (fun j => decide (va j ≠ v0 j)) i + (if decide (va i ≠ v0 i) = true then 1 else 0) := rfl
    rw [hcn] at h
    rw [wY_set_26]
    simp only [ec_cl hl, nI_1]
    refine br_f (ec_ge hl) ⟨ec_in hl, ec_in hl, ?_⟩
    rw [hbe i hl]
    by_cases c : va i = v0 i
    · rw [if_neg (by simp [c])] at h
      exact br_t c (nm_e h)
    · rw [if_pos (decide_eq_true c)] at h
      exact br_f c (nm_e (nm_e h))
end
end
section
/-! what the two states share; a change on both sides -/
def ec_ag (so op sa sb yo ya yb : Nat → Int32) : Prop := ∀ i, i < 12 → ¬ so i = 0 → op i = yo i ∧ sa i = ya i ∧ sb i = yb i
def ec_G (so va op sa sb ls lv yo ya yb : Nat → Int32) : Prop :=
  (∀ j, j < 12 → ec_r16 (va j)) ∧ ec_R sa ∧ ec_R sb ∧ ec_R ya ∧ ec_R yb ∧ ec_ag so op sa sb yo ya yb ∧ ec_LS so sa sb ls ∧
  (∃ L, ec_LV so sa sb L ∧ ec_LN lv L) ∧ (∀ w, w < 12 → so w = 1 → va w = ec_fv op sa sb va w)
section
variable {lo : Int32} {so va op sa sb ck ls lv co yo ya yb be on : Nat → Int32} {L : Nat → Nat}
theorem ec_n10 {x : Int32} (h : x = 1) : ¬ x = 0 := by rw [h]; decide
theorem ec_n20 {x : Int32} (h : x = 2) : ¬ x = 0 := by rw [h]; decide
theorem ec_ag1 (h : ec_ag so op sa sb yo ya yb) : ∀ i, i < 12 → so i = 1 → sa i = ya i ∧ sb i = yb i :=
  fun i hi h1 => (h i hi (ec_n10 h1)).2
theorem ec_fq {T : Nat → Int32} {w : Nat} (h : op w = yo w ∧ sa w = ya w ∧ sb w = yb w) : ec_fv op sa sb T w = ec_fv yo ya yb T w := by
  unfold ec_fv
  rw [h.1, h.2.1, h.2.2]
theorem ec_upb (a : Nat → Int32) (s : Nat) (x : Int32) : upd (upd a s x) s (a s) = a := by
  funext j
  by_cases e : j = s
  · rw [e, pk_us]
  · rw [pk_un e, pk_un e]
theorem ec_chg {s : Nat} {p : Int32} (hG : ec_G so va op sa sb ls lv yo ya yb) (hs : s < 12) (hp16 : ec_r16 p) (hs0 : so s = 0) :
    ∃ (lo' : Int32) (co' va' be' on' : Nat → Int32), ec_G so va' op sa sb ls lv yo ya yb ∧ (∀ j, j < 12 → be' j = va j) ∧
    (∀ post : Int32 → SX → Prop, post (nI (ec_cn (fun j => decide (va' j ≠ va j)) 12)) (0, lo', so, va', op, sa, sb, ck, ls, lv, co') → wpX_change post (0, lo, so, va, op, sa, sb, ck, ls, lv, co) (nI s) p) ∧
    (∀ post : Int32 → SY → Prop, post (nI (ec_cn (bt lo') 12)) (so, yo, ya, yb, ck, va', be', on') → wpY_change post (so, yo, ya, yb, ck, va, be, on) (nI s) p) := by
  obtain ⟨g1, g2, g3, g4, g5, g6, g7, ⟨L, g8, g9⟩, g10⟩ := hG
  obtain ⟨lo', co', va', a1, a2, a3⟩ := ec_xchange (lo := lo) (ck := ck) (co := co) hs hp16 hs0 g7 g2 g3 g8 g9 g1 g10
  obtain ⟨be', on', b1, b2⟩ := ec_ychange (so := so) (yo := yo) (ya := ya) (yb := yb) (ck := ck) (va := va) (be := be) (on := on) (T := va') (g := ec_fv op sa sb va) (lo := lo') hs hp16 (g1 s hs) g4 g5 (ec_Lq (ec_ag1 g6) g8)
    (fun j hj h2 => (ec_fq (g6 j hj (ec_n20 h2))).symm) a1
    (fun w hw h1 => (a2.1 w hw h1).trans (ec_fq (g6 w hw (ec_n10 h1)))) (fun j hj => (a2.2.1 j hj).symm)
  exact ⟨lo', co', va', be', on', ⟨a2.2.2, g2, g3, g4, g5, g6, g7, ⟨L, g8, g9⟩, a2.1⟩, b1, a3, b2⟩
/-! a circle by the class's word is one by the reference's -/
theorem ec_hQw {s a b : Nat} (hs : s < 12) (ha : a < 12) (hb : b < 12) (hag : ∀ i, i < 12 → so i = 1 → sa i = ya i ∧ sb i = yb i) (hL : ec_LV so sa sb L)
    (hc : (s = a ∨ ec_T so sa sb s a) ∨ (s = b ∨ ec_T so sa sb s b)) :
    ec_hQ (upd so s 1) (upd ya s (nI a)) (upd yb s (nI b)) s (fun w => w = s ∨ ec_T so sa sb s w) (fun w => if w = s then 12 else L w) := by
  have hR := ec_LR hL
  have hns : ¬ ec_T so sa sb s s := fun z => Nat.lt_irrefl _ (ec_Tr hR z)
  have hEa : ec_E (upd so s 1) (upd ya s (nI a)) (upd yb s (nI b)) a s := ⟨hs, pk_us, Or.inl (by rw [pk_us, ec_cl ha])⟩
  have hEb : ec_E (upd so s 1) (upd ya s (nI a)) (upd yb s (nI b)) b s := ⟨hs, pk_us, Or.inr (by rw [pk_us, ec_cl hb])⟩
  have hEo : ∀ x w, w ≠ s → ec_E so sa sb x w → ec_E (upd so s 1) (upd ya s (nI a)) (upd yb s (nI b)) x w := by
    intro x w hw he
    obtain ⟨e1, e2, e3⟩ := he
    have e := hag w e1 e2
    refine ⟨e1, by rw [pk_un hw]; exact e2, ?_⟩
    rw [pk_un hw, pk_un hw, ← e.1, ← e.2]
    exact e3
  have hlow : ∀ y, ec_T so sa sb s y → (if y = s then 12 else L y) < 12 := by
    intro y hy
    have hne : y ≠ s := by
      intro z
      rw [z] at hy
      exact hns hy
    rw [if_neg hne]
    have := (hL y (ec_Tl hy)).1
    omega
  intro w hw hq
  by_cases e : w = s
  · subst e
    rcases hc with (h | h) | (h | h)
    · refine Or.inl ?_
      subst h
      exact hEa
    · refine Or.inr ⟨a, ha, hEa, Or.inr h, ?_⟩
      dsimp only
      rw [if_pos (rfl : w = w)]
      exact hlow a h
    · refine Or.inl ?_
      subst h
      exact hEb
    · refine Or.inr ⟨b, hb, hEb, Or.inr h, ?_⟩
      dsimp only
      rw [if_pos (rfl : w = w)]
      exact hlow b h
  · rcases hq with z | hT
    · exact absurd z e
    · rcases ec_Tc hT with he | ⟨x, hx, he⟩
      · exact Or.inl (hEo s w e he)
      · refine Or.inr ⟨x, ec_Tl hx, hEo x w e he, Or.inr hx, ?_⟩
        have hne : x ≠ s := by
          intro z
          rw [z] at hx
          exact hns hx
        dsimp only
        rw [if_neg hne, if_neg e]
        exact ec_Er hR he
end
/-! the relation -/
def i_Rel (k : Nat) (u : SX) (v : SY) : Prop := match u, v with
  | (f, _, so, va, op, sa, sb, ck, ls, lv, _), (ki, yo, ya, yb, yck, yva, _, _) => f = 0 ∧ ki = so ∧ yck = ck ∧ yva = va ∧ ec_G so va op sa sb ls lv yo ya yb
theorem i_up {k : Nat} {u : SX} {v : SY} (h : i_Rel k u v) : i_Rel (k + 5) u v := h
theorem i_vc0 : wpX_init (fun u => wpY_init (fun v => i_Rel 0 u v)) := by
  refine ⟨rfl, rfl, rfl, rfl, ?_⟩
  have hR : ec_R (fun _ => 0) := fun i _ => ec_in (i := 0) (by decide)
  have hso : ∀ w : Nat, ¬ (fun _ : Nat => (0 : Int32)) w = 1 := fun w => (by decide : ¬ (0 : Int32) = 1)
  refine ⟨fun j _ => ⟨0, by decide, rfl⟩, hR, hR, hR, hR, fun i _ h => absurd rfl h, ?_, ⟨fun _ => 0, ?_, fun w _ => rfl⟩, fun w _ h => absurd h (hso w)⟩
  · intro t _ i
    show bt 0 i = true ↔ _
    rw [b_0]
    exact ⟨fun z => absurd z (by decide), fun z => absurd z.2.1 (hso i)⟩
  · intro w _
    exact ⟨Nat.zero_le 11, fun h => absurd h (hso w), fun _ => rfl⟩
end
section
/-! the class: wire, register, free, set, pulse up to their own parts -/
def ec_okw (v1 v2 v3 v4 : Int32) : Prop := ∃ s o a b : Nat, s < 12 ∧ o ≤ 8 ∧ a < 12 ∧ b < 12 ∧ v1 = nI s ∧ v2 = nI o ∧ v3 = nI a ∧ v4 = nI b
def ec_okr (v1 v2 v3 v4 : Int32) : Prop := ∃ s o a b : Nat, s < 12 ∧ o ≤ 8 ∧ a < 12 ∧ b ≤ 143 ∧ v1 = nI s ∧ v2 = nI o ∧ v3 = nI a ∧ v4 = nI b
def ec_oks (v1 v2 : Int32) : Prop := ∃ s p : Nat, s < 12 ∧ p < 16 ∧ v1 = nI s ∧ v2 = nI p
theorem ec_le8 {x : Int32} (h0 : ¬ x < 0) (h8 : ¬ 8 < x) : ∃ o, o ≤ 8 ∧ x = nI o := nI_of2 (M := 8) (n := 8) (by decide) h0 (Int32.not_lt.mp h8)
theorem ec_le143 {x : Int32} (h0 : ¬ x < 0) (h8 : x ≤ 143) : ∃ o, o ≤ 143 ∧ x = nI o := nI_of2 (M := 143) (n := 143) (by decide) h0 h8
theorem ec_le15 {x : Int32} (h0 : ¬ x < 0) (h8 : x ≤ 15) : ∃ o, o ≤ 15 ∧ x = nI o := nI_of2 (M := 15) (n := 15) (by decide) h0 h8
theorem ec_d12 {b : Nat} (hb : b ≤ 143) : nI b / 12 = nI (b / 12) := pk_div (d := 12) (by omega) (by omega) (by omega)
theorem ec_m12 {b : Nat} (hb : b ≤ 143) : nI b - nI b / 12 * 12 = nI (b % 12) := pk_rem (d := 12) (by omega) (by omega) (by omega)
theorem ec_10 : ¬ (1 : Int32) = 0 := by decide
section
variable {f lo : Int32} {so va op sa sb ck ls lv co : Nat → Int32} {L : Nat → Nat}
theorem ec_xsg1 {post : Int32 → Prop} {s : Nat} (hs : s < 12) (h : post 1) : wpX_isSignal post (f, lo, so, va, op, sa, sb, ck, ls, lv, co) (nI s) := ec_xsg (fun hn => absurd ⟨s, hs, rfl⟩ hn) (fun _ _ _ => h)
theorem ec_xsg0 {post : Int32 → Prop} {p : Int32} (hn : ¬ ∃ s, s < 12 ∧ p = nI s) (h : post 0) : wpX_isSignal post (f, lo, so, va, op, sa, sb, ck, ls, lv, co) p := ec_xsg (fun _ => h) (fun s hs e => absurd ⟨s, hs, e⟩ hn)
theorem ec_xwb {v1 v2 v3 v4 : Int32} (h : ¬ ec_okw v1 v2 v3 v4) {post : Int32 → SX → Prop} (hp : post (-1) (f, lo, so, va, op, sa, sb, ck, ls, lv, co)) : wpX_wire post (f, lo, so, va, op, sa, sb, ck, ls, lv, co) v1 v2 v3 v4 := by
  unfold wpX_wire
  dsimp only
  refine br_c (fun _ => hp) fun n1 => br_c (fun _ => hp) fun n2 => ec_xsg (fun _ => br_t rfl hp) fun s hs e1 => br_f ec_10 (ec_xsg (fun _ => br_t rfl hp) fun a ha e3 => br_f ec_10 (ec_xsg (fun _ => br_t rfl hp) fun b hb e4 => ?_))
  obtain ⟨o, ho, e2⟩ := ec_le8 n1 n2
  exact absurd ⟨s, o, a, b, hs, ho, ha, hb, e1, e2, e3, e4⟩ h
theorem ec_xw3 {s o a b : Nat} (hs : s < 12) (ho : o ≤ 8) (ha : a < 12) (hb : b < 12) (hi : ec_ic so ck (nI s) 0) {post : Int32 → SX → Prop} (hp : post (-3) (f, lo, so, va, op, sa, sb, ck, ls, lv, co)) : wpX_wire post (f, lo, so, va, op, sa, sb, ck, ls, lv, co) (nI s) (nI o) (nI a) (nI b) := by
  unfold wpX_wire
  dsimp only
  exact br_f (nI_pos (by omega)) (br_f (nI_nlt (a := 8) (b := o) (by omega) (by decide)) (ec_xsg1 hs (br_f ec_10 (ec_xsg1 ha (br_f ec_10 (ec_xsg1 hb (br_f ec_10 (ec_xicl (fun _ => br_f ec_10 hp) (fun hn => absurd hi hn)))))))))
theorem ec_xw2 {s o a b : Nat} (hs : s < 12) (ho : o ≤ 8) (ha : a < 12) (hb : b < 12) (hi : ¬ ec_ic so ck (nI s) 0) (hls : ec_LS so sa sb ls) (hA : ec_R sa) (hB : ec_R sb) (hL : ec_LV so sa sb L)
    (hc : (s = a ∨ ec_T so sa sb s a) ∨ (s = b ∨ ec_T so sa sb s b)) {post : Int32 → SX → Prop} (hp : post (-2) (f, lo, so, va, op, sa, sb, ck, ls, lv, co)) : wpX_wire post (f, lo, so, va, op, sa, sb, ck, ls, lv, co) (nI s) (nI o) (nI a) (nI b) := by
  unfold wpX_wire
  dsimp only
  refine br_f (nI_pos (by omega)) (br_f (nI_nlt (a := 8) (b := o) (by omega) (by decide)) (ec_xsg1 hs (br_f ec_10 (ec_xsg1 ha (br_f ec_10 (ec_xsg1 hb (br_f ec_10 (ec_xicl (fun z => absurd z hi) (fun _ => br_t rfl ?_)))))))))
  refine ec_xlead hs ha hls hA hB hL (fun _ => br_f ec_10 hp) (fun n1 => br_t rfl ?_)
  refine ec_xlead hs hb hls hA hB hL (fun _ => br_f ec_10 hp) (fun n2 => ?_)
  rcases hc with z | z
  · exact absurd z n1
  · exact absurd z n2
theorem ec_xw1 {s o a b : Nat} (hs : s < 12) (ho : o ≤ 8) (ha : a < 12) (hb : b < 12) (hi : ¬ ec_ic so ck (nI s) 0) (hls : ec_LS so sa sb ls) (hA : ec_R sa) (hB : ec_R sb) (hL : ec_LV so sa sb L)
    (hv : ∀ j, j < 12 → ec_r16 (va j)) (hk : ∀ w, w < 12 → so w = 1 → va w = ec_fv op sa sb va w)
    (h1 : ¬ (s = a ∨ ec_T so sa sb s a)) (h2 : ¬ (s = b ∨ ec_T so sa sb s b)) :
    ∃ (va' ls' lv' : Nat → Int32) (L' : Nat → Nat), ec_LS (upd so s 1) (upd sa s (nI a)) (upd sb s (nI b)) ls' ∧ ec_LV (upd so s 1) (upd sa s (nI a)) (upd sb s (nI b)) L' ∧ ec_LN lv' L' ∧
    ec_SO (upd so s 1) (upd op s (nI o)) (upd sa s (nI a)) (upd sb s (nI b)) va va' ∧
    ∀ post : Int32 → SX → Prop, post (va' s) (0, lo, upd so s 1, va', upd op s (nI o), upd sa s (nI a), upd sb s (nI b), ck, ls', lv', co) → wpX_wire post (0, lo, so, va, op, sa, sb, ck, ls, lv, co) (nI s) (nI o) (nI a) (nI b) := by
  obtain ⟨va', ls', lv', L', a1, a2, a3, a4, a5⟩ := ec_xdefW (lo := lo) (ck := ck) (ls := ls) (lv := lv) (co := co) (o := o) hs ha hb (by omega) hA hB hL hv hk h1 h2
  refine ⟨va', ls', lv', L', a1, a2, a3, a4, fun post hp => ?_⟩
  unfold wpX_wire
  dsimp only
  refine br_f (nI_pos (by omega)) (br_f (nI_nlt (a := 8) (b := o) (by omega) (by decide)) (ec_xsg1 hs (br_f ec_10 (ec_xsg1 ha (br_f ec_10 (ec_xsg1 hb (br_f ec_10 (ec_xicl (fun z => absurd z hi) (fun _ => br_t rfl ?_)))))))))
  refine ec_xlead hs ha hls hA hB hL (fun z => absurd z h1) (fun _ => br_t rfl ?_)
  refine ec_xlead hs hb hls hA hB hL (fun z => absurd z h2) (fun _ => br_t rfl ?_)
  refine a5 _ ?_
  dsimp only
  rw [ec_cl hs]
  exact ⟨ec_in hs, hp⟩
/-! register -/
theorem ec_xrb {v1 v2 v3 v4 : Int32} (h : ¬ ec_okr v1 v2 v3 v4) {post : Int32 → SX → Prop} (hp : post (-1) (f, lo, so, va, op, sa, sb, ck, ls, lv, co)) : wpX_register post (f, lo, so, va, op, sa, sb, ck, ls, lv, co) v1 v2 v3 v4 := by
  unfold wpX_register
  dsimp only
  refine br_c (fun _ => hp) fun n1 => br_c (fun _ => hp) fun n2 => ec_xsg (fun _ => br_t rfl hp) fun s hs e1 => br_f ec_10 (ec_xsg (fun _ => br_t rfl hp) fun a ha e3 => br_f ec_10 (br_c (fun _ => hp) fun n3 => br_c (fun n4 => ?_) fun _ => hp))
  obtain ⟨o, ho, e2⟩ := ec_le8 n1 n2
  obtain ⟨b, hb, e4⟩ := ec_le143 n3 n4
  exact absurd ⟨s, o, a, b, hs, ho, ha, hb, e1, e2, e3, e4⟩ h
theorem ec_xr3 {s o a b : Nat} (hs : s < 12) (ho : o ≤ 8) (ha : a < 12) (hb : b ≤ 143) (hi : ¬ so (b / 12) = 0 ∨ b / 12 = s ∨ ec_ic so ck (nI s) 0) {post : Int32 → SX → Prop} (hp : post (-3) (f, lo, so, va, op, sa, sb, ck, ls, lv, co)) : wpX_register post (f, lo, so, va, op, sa, sb, ck, ls, lv, co) (nI s) (nI o) (nI a) (nI b) := by
  have hc : b / 12 < 12 := by omega
  unfold wpX_register
  dsimp only
  refine br_f (nI_pos (by omega)) (br_f (nI_nlt (a := 8) (b := o) (by omega) (by decide)) (ec_xsg1 hs (br_f ec_10 (ec_xsg1 ha (br_f ec_10 (br_f (nI_pos (by omega)) (br_t (nI_le (b := 143) hb (by decide)) ⟨by decide, nm_r (ec_d12 hb) ⟨ec_in hc, ?_⟩⟩)))))))
  rw [ec_cl hc]
  by_cases h0 : so (b / 12) = 0
  · refine br_t h0 ?_
    by_cases h1 : b / 12 = s
    · exact br_t (by rw [h1]) hp
    · refine br_f (fun z => h1 ((nI_eq (by omega) (by omega)).mp z)) (ec_xicl (fun _ => br_f ec_10 hp) (fun hn => ?_))
      rcases hi with z | z | z
      · exact absurd h0 z
      · exact absurd z h1
      · exact absurd z hn
  · exact br_f h0 hp
theorem ec_xr1 {s o a b : Nat} (hs : s < 12) (ho : o ≤ 8) (ha : a < 12) (hb : b ≤ 143) (h0 : so (b / 12) = 0) (h1 : ¬ b / 12 = s) (hi : ¬ ec_ic so ck (nI s) 0) (hA : ec_R sa) (hB : ec_R sb) (hL : ec_LV so sa sb L) :
    ∃ (ls' lv' : Nat → Int32) (L' : Nat → Nat), ec_LS (upd so s 2) (upd sa s (nI a)) (upd sb s (nI (b % 12))) ls' ∧ ec_LV (upd so s 2) (upd sa s (nI a)) (upd sb s (nI (b % 12))) L' ∧ ec_LN lv' L' ∧
    ∀ post : Int32 → SX → Prop, post (va s) (0, lo, upd so s 2, va, upd op s (nI o), upd sa s (nI a), upd sb s (nI (b % 12)), upd ck s (nI (b / 12)), ls', lv', co) → wpX_register post (0, lo, so, va, op, sa, sb, ck, ls, lv, co) (nI s) (nI o) (nI a) (nI b) := by
  have hc : b / 12 < 12 := by omega
  obtain ⟨ls', lv', L', a1, a2, a3, a4⟩ := ec_xdefN (lo := lo) (va := va) (op := op) (ck := upd ck s (nI (b / 12))) (ls := ls) (lv := lv) (co := co) (o := o) (k := 2) (b := b % 12) hs ha (by omega) (by omega) (Or.inr rfl) hA hB hL
  refine ⟨ls', lv', L', a1, a2, a3, fun post hp => ?_⟩
  unfold wpX_register
  dsimp only
  refine br_f (nI_pos (by omega)) (br_f (nI_nlt (a := 8) (b := o) (by omega) (by decide)) (ec_xsg1 hs (br_f ec_10 (ec_xsg1 ha (br_f ec_10 (br_f (nI_pos (by omega)) (br_t (nI_le (b := 143) hb (by decide)) ⟨by decide, nm_r (ec_d12 hb) ⟨ec_in hc, ?_⟩⟩)))))))
  rw [ec_cl hc]
  refine br_t h0 (br_f (fun z => h1 ((nI_eq (by omega) (by omega)).mp z)) (ec_xicl (fun z => absurd z hi) (fun _ => br_t rfl ⟨ec_in hs, ?_⟩)))
  rw [ec_cl hs, ec_by (show b / 12 < 128 by omega), ec_m12 hb]
  refine nm_e ⟨by decide, a4 _ ?_⟩
  dsimp only
  exact ⟨ec_in hs, hp⟩
/-! free -/
theorem ec_xf1 {s : Nat} (hs : s < 12) (hA : ec_R sa) (hB : ec_R sb) (hL : ec_LV so sa sb L) :
    ∃ (ls' lv' : Nat → Int32) (L' : Nat → Nat), ec_LS (upd so s 0) (upd sa s (nI s)) (upd sb s (nI s)) ls' ∧ ec_LV (upd so s 0) (upd sa s (nI s)) (upd sb s (nI s)) L' ∧ ec_LN lv' L' ∧
    ∀ post : Int32 → SX → Prop, post (va s) (0, lo, upd so s 0, va, upd op s (nI 0), upd sa s (nI s), upd sb s (nI s), ck, ls', lv', co) → wpX_free post (0, lo, so, va, op, sa, sb, ck, ls, lv, co) (nI s) := by
  obtain ⟨ls', lv', L', a1, a2, a3, a4⟩ := ec_xdefN (lo := lo) (va := va) (op := op) (ck := ck) (ls := ls) (lv := lv) (co := co) (o := 0) (k := 0) hs hs hs (by omega) (Or.inl rfl) hA hB hL
  refine ⟨ls', lv', L', a1, a2, a3, fun post hp => ?_⟩
  unfold wpX_free
  dsimp only
  refine ec_xsg1 hs (br_f ec_10 (a4 _ ?_))
  dsimp only
  rw [ec_cl hs]
  exact ⟨ec_in hs, hp⟩
/-! set -/
theorem ec_xsb {v1 v2 : Int32} (h : ¬ ec_oks v1 v2) {post : Int32 → SX → Prop} (hp : post (-1) (f, lo, so, va, op, sa, sb, ck, ls, lv, co)) : wpX_set post (f, lo, so, va, op, sa, sb, ck, ls, lv, co) v1 v2 := by
  unfold wpX_set
  dsimp only
  refine ec_xsg (fun _ => br_t rfl hp) fun s hs e1 => br_f ec_10 (br_c (fun _ => hp) fun n3 => br_c (fun n4 => ?_) fun _ => hp)
  obtain ⟨b, hb, e2⟩ := ec_le15 n3 n4
  exact absurd ⟨s, b, hs, by omega, e1, e2⟩ h
theorem ec_xpb {v1 v2 v3 : Int32} (h : ¬ ec_oks v1 v2) {post : Int32 → SX → Prop} (hp : post (-1) (f, lo, so, va, op, sa, sb, ck, ls, lv, co)) : wpX_pulse post (f, lo, so, va, op, sa, sb, ck, ls, lv, co) v1 v2 v3 := by
  unfold wpX_pulse
  dsimp only
  refine ec_xsg (fun _ => br_t rfl hp) fun s hs e1 => br_f ec_10 (br_c (fun _ => hp) fun n3 => br_c (fun n4 => ?_) fun _ => hp)
  obtain ⟨b, hb, e2⟩ := ec_le15 n3 n4
  exact absurd ⟨s, b, hs, by omega, e1, e2⟩ h
theorem ec_xs3 {s p : Nat} (hs : s < 12) (hp : p < 16) (h0 : ¬ so s = 0) {post : Int32 → SX → Prop} (h : post (-3) (f, lo, so, va, op, sa, sb, ck, ls, lv, co)) : wpX_set post (f, lo, so, va, op, sa, sb, ck, ls, lv, co) (nI s) (nI p) := by
  unfold wpX_set
  dsimp only
  rw [ec_cl hs]
  exact ec_xsg1 hs (br_f ec_10 (br_f (nI_pos (by omega)) (br_t (nI_le (b := 15) (by omega) (by decide)) ⟨ec_in hs, br_f h0 h⟩)))
theorem ec_xp3 {s p : Nat} {v3 : Int32} (hs : s < 12) (hp : p < 16) (h0 : ¬ so s = 0) {post : Int32 → SX → Prop} (h : post (-3) (f, lo, so, va, op, sa, sb, ck, ls, lv, co)) : wpX_pulse post (f, lo, so, va, op, sa, sb, ck, ls, lv, co) (nI s) (nI p) v3 := by
  unfold wpX_pulse
  dsimp only
  rw [ec_cl hs]
  exact ec_xsg1 hs (br_f ec_10 (br_f (nI_pos (by omega)) (br_t (nI_le (b := 15) (by omega) (by decide)) ⟨ec_in hs, br_f h0 h⟩)))
theorem ec_xs1 {s p : Nat} (hs : s < 12) (hp : p < 16) (h0 : so s = 0) {post : Int32 → SX → Prop} (h : wpX_change post (f, lo, so, va, op, sa, sb, ck, ls, lv, co) (nI s) (nI p)) : wpX_set post (f, lo, so, va, op, sa, sb, ck, ls, lv, co) (nI s) (nI p) := by
  unfold wpX_set
  dsimp only
  rw [ec_cl hs]
  exact ec_xsg1 hs (br_f ec_10 (br_f (nI_pos (by omega)) (br_t (nI_le (b := 15) (by omega) (by decide)) ⟨ec_in hs, br_t h0 h⟩)))
/-- how often a pulse changes -/
def ec_tm16 (v : Int32) (t : Nat) : Prop := t ≤ 16 ∧ ((v < 0 ∧ t = 0) ∨ v = nI t ∨ (¬ v ≤ 16 ∧ t = 16))
theorem ec_tms (v : Int32) : ∃ t, ec_tm16 v t := by
  by_cases h0 : v < 0
  · exact ⟨0, by omega, Or.inl ⟨h0, rfl⟩⟩
  · by_cases h1 : v ≤ 16
    · obtain ⟨t, ht, e⟩ := nI_of2 (M := 16) (n := 16) (by decide) h0 h1
      exact ⟨t, ht, Or.inr (Or.inl e)⟩
    · exact ⟨16, by omega, Or.inr (Or.inr ⟨h1, rfl⟩)⟩
theorem ec_tmb {v : Int32} {t : Nat} (ht : ec_tm16 v t) {P : Int32 → Prop} (h : P (nI t)) : (0 ≤ v → (v ≤ 16 → P v) ∧ (¬ v ≤ 16 → P 16)) ∧ (¬ 0 ≤ v → P 0) := by
  obtain ⟨h16, ⟨h0, e⟩ | e | ⟨h1, e⟩⟩ := ht
  · subst e
    exact br_f (Int32.not_le.mpr h0) h
  · subst e
    exact br_t (nI_pos' (by omega)) (br_t (nI_le (b := 16) h16 (by decide)) h)
  · subst e
    have h0 : (0 : Int32) ≤ v := by
      rw [Int32.not_le] at h1
      exact Int32.le_of_lt (Int32.lt_of_le_of_lt (by decide) h1)
    exact br_t h0 (br_f h1 h)
theorem ec_xp1 {s p t : Nat} {v3 : Int32} (hs : s < 12) (hp : p < 16) (h0 : so s = 0) (ht : ec_tm16 v3 t) {post : Int32 → SX → Prop} (h : ∃ n, wX_pulse_68 post (nI s) (nI p) (va s) (nI t) n 0 0 f lo so va op sa sb ck ls lv co) : wpX_pulse post (f, lo, so, va, op, sa, sb, ck, ls, lv, co) (nI s) (nI p) v3 := by
  unfold wpX_pulse
  dsimp only
  rw [ec_cl hs]
  refine ec_xsg1 hs (br_f ec_10 (br_f (nI_pos (by omega)) (br_t (nI_le (b := 15) (by omega) (by decide)) ⟨ec_in hs, br_t h0 ⟨ec_in hs, nm_e ?_⟩⟩)))
  exact ec_tmb ht (P := fun z => ∃ n, wX_pulse_68 post (nI s) (nI p) (va s) z n 0 0 f lo so va op sa sb ck ls lv co) h
end
end
section
/-! the reference: wire, register, free, set, pulse up to their own parts -/
section
variable {so yo ya yb ck va be on : Nat → Int32} {L : Nat → Nat}
theorem ec_ysg1 {post : Int32 → Prop} {s : Nat} (hs : s < 12) (h : post 1) : wpY_isSignal post (so, yo, ya, yb, ck, va, be, on) (nI s) := ec_ysg (fun hn => absurd ⟨s, hs, rfl⟩ hn) (fun _ _ _ => h)
theorem ec_ysg0 {post : Int32 → Prop} {p : Int32} (hn : ¬ ∃ s, s < 12 ∧ p = nI s) (h : post 0) : wpY_isSignal post (so, yo, ya, yb, ck, va, be, on) p := ec_ysg (fun _ => h) (fun s hs e => absurd ⟨s, hs, e⟩ hn)
theorem ec_ywb {v1 v2 v3 v4 : Int32} (h : ¬ ec_okw v1 v2 v3 v4) {post : Int32 → SY → Prop} (hp : post (-1) (so, yo, ya, yb, ck, va, be, on)) : wpY_wire post (so, yo, ya, yb, ck, va, be, on) v1 v2 v3 v4 := by
  unfold wpY_wire
  dsimp only
  refine br_c (fun _ => hp) fun n1 => br_c (fun _ => hp) fun n2 => ec_ysg (fun _ => br_t rfl hp) fun s hs e1 => br_f ec_10 (ec_ysg (fun _ => br_t rfl hp) fun a ha e3 => br_f ec_10 (ec_ysg (fun _ => br_t rfl hp) fun b hb e4 => ?_))
  obtain ⟨o, ho, e2⟩ := ec_le8 n1 n2
  exact absurd ⟨s, o, a, b, hs, ho, ha, hb, e1, e2, e3, e4⟩ h
theorem ec_yw3 {s o a b : Nat} (hs : s < 12) (ho : o ≤ 8) (ha : a < 12) (hb : b < 12) (hi : ec_ic so ck (nI s) 0) {post : Int32 → SY → Prop} (hp : post (-3) (so, yo, ya, yb, ck, va, be, on)) : wpY_wire post (so, yo, ya, yb, ck, va, be, on) (nI s) (nI o) (nI a) (nI b) := by
  unfold wpY_wire
  dsimp only
  exact br_f (nI_pos (by omega)) (br_f (nI_nlt (a := 8) (b := o) (by omega) (by decide)) (ec_ysg1 hs (br_f ec_10 (ec_ysg1 ha (br_f ec_10 (ec_ysg1 hb (br_f ec_10 (ec_yicl (fun _ => br_f ec_10 hp) (fun hn => absurd hi hn)))))))))
theorem ec_ygive {post : SY → Prop} {s : Nat} {p1 p2 p3 p4 : Int32} (hs : s < 12) (h : post (upd so s p1, upd yo s p2, upd ya s p3, upd yb s p4, ck, va, be, on)) : wpY_give post (so, yo, ya, yb, ck, va, be, on) (nI s) p1 p2 p3 p4 := by
  unfold wpY_give
  dsimp only
  rw [ec_cl hs]
  exact ⟨ec_in hs, nm_e ⟨ec_in hs, nm_e ⟨ec_in hs, nm_e ⟨ec_in hs, nm_e h⟩⟩⟩⟩
theorem ec_yw2 {s o a b : Nat} {on' : Nat → Int32} (hs : s < 12) (ho : o ≤ 8) (ha : a < 12) (hb : b < 12) (hi : ¬ ec_ic so ck (nI s) 0)
    (hc : ∀ post : Int32 → SY → Prop, post 1 (upd so s 1, upd yo s (nI o), upd ya s (nI a), upd yb s (nI b), ck, va, be, on') → wpY_hasCircle post (upd so s 1, upd yo s (nI o), upd ya s (nI a), upd yb s (nI b), ck, va, be, on))
    {post : Int32 → SY → Prop} (hp : post (-2) (so, yo, ya, yb, ck, va, be, on')) : wpY_wire post (so, yo, ya, yb, ck, va, be, on) (nI s) (nI o) (nI a) (nI b) := by
  unfold wpY_wire
  dsimp only
  refine br_f (nI_pos (by omega)) (br_f (nI_nlt (a := 8) (b := o) (by omega) (by decide)) (ec_ysg1 hs (br_f ec_10 (ec_ysg1 ha (br_f ec_10 (ec_ysg1 hb (br_f ec_10 (ec_yicl (fun z => absurd z hi) (fun _ => br_t rfl ?_)))))))))
  rw [ec_cl hs]
  refine ⟨ec_in hs, nm_e ⟨ec_in hs, nm_e ⟨ec_in hs, nm_e ⟨ec_in hs, nm_e (ec_ygive hs ?_)⟩⟩⟩⟩
  dsimp only
  refine hc _ ?_
  dsimp only
  refine br_f ec_10 (ec_ygive hs ?_)
  dsimp only
  rw [ec_upb, ec_upb, ec_upb, ec_upb]
  exact hp
theorem ec_yw1 {s o a b : Nat} {T on' : Nat → Int32} (hs : s < 12) (ho : o ≤ 8) (ha : a < 12) (hb : b < 12) (hi : ¬ ec_ic so ck (nI s) 0)
    (hc : ∀ post : Int32 → SY → Prop, post 0 (upd so s 1, upd yo s (nI o), upd ya s (nI a), upd yb s (nI b), ck, va, be, on') → wpY_hasCircle post (upd so s 1, upd yo s (nI o), upd ya s (nI a), upd yb s (nI b), ck, va, be, on))
    (hA : ec_R ya) (hB : ec_R yb) (hL : ec_LV (upd so s 1) (upd ya s (nI a)) (upd yb s (nI b)) L)
    (hT : ∀ w, w < 12 → upd so s 1 w = 1 → T w = ec_fv (upd yo s (nI o)) (upd ya s (nI a)) (upd yb s (nI b)) T w) (hv : ∀ j, ¬ (j < 12 ∧ upd so s 1 j = 1) → va j = T j)
    {post : Int32 → SY → Prop} (hp : post (T s) (upd so s 1, upd yo s (nI o), upd ya s (nI a), upd yb s (nI b), ck, T, be, on')) : wpY_wire post (so, yo, ya, yb, ck, va, be, on) (nI s) (nI o) (nI a) (nI b) := by
  unfold wpY_wire
  dsimp only
  refine br_f (nI_pos (by omega)) (br_f (nI_nlt (a := 8) (b := o) (by omega) (by decide)) (ec_ysg1 hs (br_f ec_10 (ec_ysg1 ha (br_f ec_10 (ec_ysg1 hb (br_f ec_10 (ec_yicl (fun z => absurd z hi) (fun _ => br_t rfl ?_)))))))))
  rw [ec_cl hs]
  refine ⟨ec_in hs, nm_e ⟨ec_in hs, nm_e ⟨ec_in hs, nm_e ⟨ec_in hs, nm_e (ec_ygive hs ?_)⟩⟩⟩⟩
  dsimp only
  refine hc _ ?_
  dsimp only
  refine br_t rfl (ec_ysettle (ec_Ru hA s ha) (ec_Ru hB s hb) hL hT hv ?_)
  dsimp only
  exact ⟨ec_in hs, hp⟩
/-! register -/
theorem ec_yrb {v1 v2 v3 v4 : Int32} (h : ¬ ec_okr v1 v2 v3 v4) {post : Int32 → SY → Prop} (hp : post (-1) (so, yo, ya, yb, ck, va, be, on)) : wpY_register post (so, yo, ya, yb, ck, va, be, on) v1 v2 v3 v4 := by
  unfold wpY_register
  dsimp only
  refine br_c (fun _ => hp) fun n1 => br_c (fun _ => hp) fun n2 => ec_ysg (fun _ => br_t rfl hp) fun s hs e1 => br_f ec_10 (ec_ysg (fun _ => br_t rfl hp) fun a ha e3 => br_f ec_10 (br_c (fun _ => hp) fun n3 => br_c (fun n4 => ?_) fun _ => hp))
  obtain ⟨o, ho, e2⟩ := ec_le8 n1 n2
  obtain ⟨b, hb, e4⟩ := ec_le143 n3 n4
  exact absurd ⟨s, o, a, b, hs, ho, ha, hb, e1, e2, e3, e4⟩ h
theorem ec_yr3 {s o a b : Nat} (hs : s < 12) (ho : o ≤ 8) (ha : a < 12) (hb : b ≤ 143) (hi : ¬ so (b / 12) = 0 ∨ b / 12 = s ∨ ec_ic so ck (nI s) 0) {post : Int32 → SY → Prop} (hp : post (-3) (so, yo, ya, yb, ck, va, be, on)) : wpY_register post (so, yo, ya, yb, ck, va, be, on) (nI s) (nI o) (nI a) (nI b) := by
  have hc : b / 12 < 12 := by omega
  unfold wpY_register
  dsimp only
  refine br_f (nI_pos (by omega)) (br_f (nI_nlt (a := 8) (b := o) (by omega) (by decide)) (ec_ysg1 hs (br_f ec_10 (ec_ysg1 ha (br_f ec_10 (br_f (nI_pos (by omega)) (br_t (nI_le (b := 143) hb (by decide)) ⟨by decide, nm_r (ec_d12 hb) ⟨ec_in hc, ?_⟩⟩)))))))
  rw [ec_cl hc]
  by_cases h0 : so (b / 12) = 0
  · refine br_t h0 ?_
    by_cases h1 : b / 12 = s
    · exact br_t (by rw [h1]) hp
    · refine br_f (fun z => h1 ((nI_eq (by omega) (by omega)).mp z)) (ec_yicl (fun _ => br_f ec_10 hp) (fun hn => ?_))
      rcases hi with z | z | z
      · exact absurd h0 z
      · exact absurd z h1
      · exact absurd z hn
  · exact br_f h0 hp
theorem ec_yr1 {s o a b : Nat} (hs : s < 12) (ho : o ≤ 8) (ha : a < 12) (hb : b ≤ 143) (h0 : so (b / 12) = 0) (h1 : ¬ b / 12 = s) (hi : ¬ ec_ic so ck (nI s) 0) (hA : ec_R ya) (hB : ec_R yb)
    (hL : ec_LV (upd so s 2) (upd ya s (nI a)) (upd yb s (nI (b % 12))) L)
    (hT : ∀ w, w < 12 → upd so s 2 w = 1 → va w = ec_fv (upd yo s (nI o)) (upd ya s (nI a)) (upd yb s (nI (b % 12))) va w)
    {post : Int32 → SY → Prop} (hp : post (va s) (upd so s 2, upd yo s (nI o), upd ya s (nI a), upd yb s (nI (b % 12)), upd ck s (nI (b / 12)), va, be, on)) : wpY_register post (so, yo, ya, yb, ck, va, be, on) (nI s) (nI o) (nI a) (nI b) := by
  have hc : b / 12 < 12 := by omega
  unfold wpY_register
  dsimp only
  refine br_f (nI_pos (by omega)) (br_f (nI_nlt (a := 8) (b := o) (by omega) (by decide)) (ec_ysg1 hs (br_f ec_10 (ec_ysg1 ha (br_f ec_10 (br_f (nI_pos (by omega)) (br_t (nI_le (b := 143) hb (by decide)) ⟨by decide, nm_r (ec_d12 hb) ⟨ec_in hc, ?_⟩⟩)))))))
  rw [ec_cl hc]
  refine br_t h0 (br_f (fun z => h1 ((nI_eq (by omega) (by omega)).mp z)) (ec_yicl (fun z => absurd z hi) (fun _ => br_t rfl ⟨by decide, ?_⟩)))
  rw [ec_m12 hb]
  refine ec_ygive hs ?_
  dsimp only
  rw [ec_cl hs]
  refine ⟨ec_in hs, nm_e (ec_ysettle (ec_Ru hA s ha) (ec_Ru hB s (by omega)) hL hT (fun _ _ => rfl) ?_)⟩
  dsimp only
  exact ⟨ec_in hs, hp⟩
/-! free -/
theorem ec_yf1 {s : Nat} (hs : s < 12) (hA : ec_R ya) (hB : ec_R yb) (hL : ec_LV (upd so s 0) ya yb L) (hT : ∀ w, w < 12 → upd so s 0 w = 1 → va w = ec_fv yo ya yb va w)
    {post : Int32 → SY → Prop} (hp : post (va s) (upd so s 0, yo, ya, yb, ck, va, be, on)) : wpY_free post (so, yo, ya, yb, ck, va, be, on) (nI s) := by
  unfold wpY_free
  dsimp only
  rw [ec_cl hs]
  refine ec_ysg1 hs (br_f ec_10 ⟨ec_in hs, nm_e (ec_ysettle hA hB hL hT (fun _ _ => rfl) ?_)⟩)
  dsimp only
  exact ⟨ec_in hs, hp⟩
/-! status, set, pulse -/
theorem ec_ystb {v1 v2 : Int32} (h : ¬ ec_oks v1 v2) {post : Int32 → Prop} (hp : post (-1)) : wpY_status post (so, yo, ya, yb, ck, va, be, on) v1 v2 := by
  unfold wpY_status
  dsimp only
  refine ec_ysg (fun _ => br_t rfl hp) fun s hs e1 => br_f ec_10 (br_c (fun _ => hp) fun n3 => br_c (fun n4 => ?_) fun _ => hp)
  obtain ⟨b, hb, e2⟩ := ec_le15 n3 n4
  exact absurd ⟨s, b, hs, by omega, e1, e2⟩ h
theorem ec_yst {s p : Nat} (hs : s < 12) (hp : p < 16) {post : Int32 → Prop} (h1 : so s = 0 → post 0) (h0 : ¬ so s = 0 → post (-3)) : wpY_status post (so, yo, ya, yb, ck, va, be, on) (nI s) (nI p) := by
  unfold wpY_status
  dsimp only
  rw [ec_cl hs]
  exact ec_ysg1 hs (br_f ec_10 (br_f (nI_pos (by omega)) (br_t (nI_le (b := 15) (by omega) (by decide)) ⟨ec_in hs, br_c h1 h0⟩)))
theorem ec_n1 : ¬ (0 : Int32) ≤ -1 := by decide
theorem ec_n3 : ¬ (0 : Int32) ≤ -3 := by decide
theorem ec_00 : (0 : Int32) ≤ 0 := by decide
theorem ec_ysb {v1 v2 : Int32} (h : ¬ ec_oks v1 v2) {post : Int32 → SY → Prop} (hp : post (-1) (so, yo, ya, yb, ck, va, be, on)) : wpY_set post (so, yo, ya, yb, ck, va, be, on) v1 v2 := by
  unfold wpY_set
  dsimp only
  exact ec_ystb h (br_f ec_n1 hp)
theorem ec_ypb {v1 v2 v3 : Int32} (h : ¬ ec_oks v1 v2) {post : Int32 → SY → Prop} (hp : post (-1) (so, yo, ya, yb, ck, va, be, on)) : wpY_pulse post (so, yo, ya, yb, ck, va, be, on) v1 v2 v3 := by
  unfold wpY_pulse
  dsimp only
  exact ec_ystb h (br_f ec_n1 hp)
theorem ec_ys3 {s p : Nat} (hs : s < 12) (hp : p < 16) (h0 : ¬ so s = 0) {post : Int32 → SY → Prop} (h : post (-3) (so, yo, ya, yb, ck, va, be, on)) : wpY_set post (so, yo, ya, yb, ck, va, be, on) (nI s) (nI p) := by
  unfold wpY_set
  dsimp only
  exact ec_yst hs hp (fun z => absurd z h0) (fun _ => br_f ec_n3 h)
theorem ec_yp3 {s p : Nat} {v3 : Int32} (hs : s < 12) (hp : p < 16) (h0 : ¬ so s = 0) {post : Int32 → SY → Prop} (h : post (-3) (so, yo, ya, yb, ck, va, be, on)) : wpY_pulse post (so, yo, ya, yb, ck, va, be, on) (nI s) (nI p) v3 := by
  unfold wpY_pulse
  dsimp only
  exact ec_yst hs hp (fun z => absurd z h0) (fun _ => br_f ec_n3 h)
theorem ec_ys1 {s p : Nat} {r : Int32} {va' be' on' : Nat → Int32} (hs : s < 12) (hp : p < 16) (h0 : so s = 0) (hbe : ∀ j, j < 12 → be' j = va j)
    (hc : ∀ post : Int32 → SY → Prop, post r (so, yo, ya, yb, ck, va', be', on') → wpY_change post (so, yo, ya, yb, ck, va, be, on) (nI s) (nI p))
    {post : Int32 → SY → Prop} (h : post (nI (ec_cn (fun j => decide (va' j ≠ va j)) 12)) (so, yo, ya, yb, ck, va', be', on')) : wpY_set post (so, yo, ya, yb, ck, va, be, on) (nI s) (nI p) := by
  unfold wpY_set
  dsimp only
  refine ec_yst hs hp (fun _ => br_t ec_00 (hc _ ?_)) (fun z => absurd h0 z)
  dsimp only
  exact ⟨13, ec_yset26 hbe 12 0 rfl post h⟩
theorem ec_yp1 {s p t : Nat} {v3 : Int32} (hs : s < 12) (hp : p < 16) (h0 : so s = 0) (ht : ec_tm16 v3 t) {post : Int32 → SY → Prop} (h : ∃ n, wY_pulse_52 post (nI s) (nI p) (nI t) (va s) n 0 0 so yo ya yb ck va be on) : wpY_pulse post (so, yo, ya, yb, ck, va, be, on) (nI s) (nI p) v3 := by
  unfold wpY_pulse
  dsimp only
  refine ec_yst hs hp (fun _ => br_t ec_00 ?_) (fun z => absurd h0 z)
  refine ec_tmb ht (P := fun z => wY_pulse_36 post (nI s) (nI p) z so yo ya yb ck va be on) ?_
  unfold wY_pulse_36
  rw [ec_cl hs]
  exact ⟨ec_in hs, nm_e h⟩
end
end
section
/-! what is owed -/
theorem ec_pulse {so op sa sb ck ls lv yo ya yb : Nat → Int32} {s p t : Nat} {former : Int32} (hs : s < 12) (hp : p < 16) (hf : ec_r16 former) (hs0 : so s = 0) (ht : t ≤ 16) :
    ∀ (d i : Nat) (tot lo : Int32) (va co be on : Nat → Int32), i + d = t → ec_G so va op sa sb ls lv yo ya yb →
    ∃ (tot' lo' : Int32) (va' co' be' on' : Nat → Int32), ec_G so va' op sa sb ls lv yo ya yb ∧
    (∀ post : Int32 → SX → Prop, post tot' (0, lo', so, va', op, sa, sb, ck, ls, lv, co') → wX_pulse_68 post (nI s) (nI p) former (nI t) (d + 1) tot (nI i) 0 lo so va op sa sb ck ls lv co) ∧
    (∀ post : Int32 → SY → Prop, post tot' (so, yo, ya, yb, ck, va', be', on') → wY_pulse_52 post (nI s) (nI p) (nI t) former (d + 1) tot (nI i) so yo ya yb ck va be on) := by
  intro d
  induction d with
  | zero =>
    intro i tot lo va co be on hi hG
    have e : i = t := by omega
    subst e
    have hle : nI i ≤ nI i := nI_le (Nat.le_refl i) (by omega)
    exact ⟨tot, lo, va, co, be, on, hG, fun post h => br_t hle h, fun post h => br_t hle h⟩
  | succ d ih =>
    intro i tot lo va co be on hi hG
    have hlt : ¬ nI t ≤ nI i := nI_ge (by omega) (by omega)
    obtain ⟨lo1, co1, va1, be1, on1, G1, _, x1, y1⟩ := ec_chg (lo := lo) (ck := ck) (co := co) (be := be) (on := on) (p := nI p) hG hs ⟨p, hp, rfl⟩ hs0
    obtain ⟨lo2, co2, va2, be2, on2, G2, _, x2, y2⟩ := ec_chg (lo := lo1) (ck := ck) (co := co1) (be := be1) (on := on1) (p := former) G1 hs hf hs0
    obtain ⟨tot', lo', va', co', be', on', G', x', y'⟩ := ih (i + 1) (tot + nI (ec_cn (bt lo1) 12) + nI (ec_cn (bt lo2) 12)) lo2 va2 co2 be2 on2 (by omega) G2
    refine ⟨tot', lo', va', co', be', on', G', fun post h => ?_, fun post h => ?_⟩
    · rw [wX_pulse_68]
      refine br_f hlt (x1 _ ?_)
      dsimp only
      refine ec_xrc (nm_e (x2 _ ?_))
      dsimp only
      refine ec_xrc (nm_e (nm_e ?_))
      rw [nI_1]
      exact x' post h
    · rw [wY_pulse_52]
      refine br_f hlt (y1 _ ?_)
      dsimp only
      refine nm_e (y2 _ ?_)
      dsimp only
      refine nm_e (nm_e ?_)
      rw [nI_1]
      exact y' post h
theorem i_vc_wire {k : Nat} {u : SX} {v : SY} (I : i_Rel k u v) (hk : k + 5 ≤ 2560) (v1 : Int32) (v2 : Int32) (v3 : Int32) (v4 : Int32) : wpX_wire (fun r u' => wpY_wire (fun r' v' => r' = r ∧ i_Rel (k + 5) u' v') v v1 v2 v3 v4) u v1 v2 v3 v4 := by
  obtain ⟨f, lo, so, va, op, sa, sb, ck, ls, lv, co⟩ := u
  obtain ⟨ki, yo, ya, yb, yck, yva, be, on⟩ := v
  obtain ⟨rfl, rfl, rfl, rfl, hG⟩ := I
  have hG' := hG
  obtain ⟨g1, g2, g3, g4, g5, g6, g7, ⟨L, g8, g9⟩, g10⟩ := hG'
  by_cases hok : ec_okw v1 v2 v3 v4
  · obtain ⟨s, o, a, b, hs, ho, ha, hb, rfl, rfl, rfl, rfl⟩ := hok
    by_cases hi : ec_ic ki yck (nI s) 0
    · exact ec_xw3 hs ho ha hb hi (ec_yw3 hs ho ha hb hi ⟨rfl, rfl, rfl, rfl, rfl, hG⟩)
    · by_cases hc : (s = a ∨ ec_T ki sa sb s a) ∨ (s = b ∨ ec_T ki sa sb s b)
      · obtain ⟨on', hcir⟩ := ec_ycir1 (so := upd ki s 1) (yo := upd yo s (nI o)) (ya := upd ya s (nI a)) (yb := upd yb s (nI b)) (ck := yck) (va := yva) (be := be) (on := on) hs (ec_Ru g4 s ha) (ec_Ru g5 s hb) (ec_hQw hs ha hb (ec_ag1 g6) g8 hc) (Or.inl rfl) (by rw [if_pos (rfl : s = s)]; omega)
        exact ec_xw2 hs ho ha hb hi g7 g2 g3 g8 hc (ec_yw2 hs ho ha hb hi hcir ⟨rfl, rfl, rfl, rfl, rfl, hG⟩)
      · have h1 : ¬ (s = a ∨ ec_T ki sa sb s a) := fun z => hc (Or.inl z)
        have h2 : ¬ (s = b ∨ ec_T ki sa sb s b) := fun z => hc (Or.inr z)
        obtain ⟨va', ls', lv', L', a1, a2, a3, a4, a5⟩ := ec_xw1 (lo := lo) (lv := lv) (co := co) hs ho ha hb hi g7 g2 g3 g8 g1 g10 h1 h2
        have hag : ec_ag (upd ki s 1) (upd op s (nI o)) (upd sa s (nI a)) (upd sb s (nI b)) (upd yo s (nI o)) (upd ya s (nI a)) (upd yb s (nI b)) := by
          intro i hi12 hne
          by_cases e : i = s
          · subst e
            rw [pk_us, pk_us, pk_us, pk_us, pk_us, pk_us]
            exact ⟨rfl, rfl, rfl⟩
          · rw [pk_un e] at hne
            rw [pk_un e, pk_un e, pk_un e, pk_un e, pk_un e, pk_un e]
            exact g6 i hi12 hne
        have hLY := ec_Lq (ec_ag1 hag) a2
        obtain ⟨on', hcir⟩ := ec_ycir0 (so := upd ki s 1) (yo := upd yo s (nI o)) (ya := upd ya s (nI a)) (yb := upd yb s (nI b)) (ck := yck) (va := yva) (be := be) (on := on) (ec_Ru g4 s ha) (ec_Ru g5 s hb) (ec_LR hLY)
        refine a5 _ (ec_yw1 (T := va') hs ho ha hb hi hcir g4 g5 hLY ?_ ?_ ⟨rfl, rfl, rfl, rfl, rfl, ?_⟩)
        · intro w hw h1
          rw [← ec_fq (hag w hw (ec_n10 h1))]
          exact a4.1 w hw h1
        · intro j hj
          exact (a4.2.1 j hj).symm
        · exact ⟨a4.2.2, ec_Ru g2 s ha, ec_Ru g3 s hb, ec_Ru g4 s ha, ec_Ru g5 s hb, hag, a1, ⟨L', a2, a3⟩, a4.1⟩
  · exact ec_xwb hok (ec_ywb hok ⟨rfl, rfl, rfl, rfl, rfl, hG⟩)
theorem i_vc_register {k : Nat} {u : SX} {v : SY} (I : i_Rel k u v) (hk : k + 5 ≤ 2560) (v1 : Int32) (v2 : Int32) (v3 : Int32) (v4 : Int32) : wpX_register (fun r u' => wpY_register (fun r' v' => r' = r ∧ i_Rel (k + 5) u' v') v v1 v2 v3 v4) u v1 v2 v3 v4 := by
  obtain ⟨f, lo, so, va, op, sa, sb, ck, ls, lv, co⟩ := u
  obtain ⟨ki, yo, ya, yb, yck, yva, be, on⟩ := v
  obtain ⟨rfl, rfl, rfl, rfl, hG⟩ := I
  have hG' := hG
  obtain ⟨g1, g2, g3, g4, g5, g6, g7, ⟨L, g8, g9⟩, g10⟩ := hG'
  by_cases hok : ec_okr v1 v2 v3 v4
  · obtain ⟨s, o, a, b, hs, ho, ha, hb, rfl, rfl, rfl, rfl⟩ := hok
    have hm : b % 12 < 12 := by omega
    by_cases hn : ¬ ki (b / 12) = 0 ∨ b / 12 = s ∨ ec_ic ki yck (nI s) 0
    · exact ec_xr3 hs ho ha hb hn (ec_yr3 hs ho ha hb hn ⟨rfl, rfl, rfl, rfl, rfl, hG⟩)
    · have h0 : ki (b / 12) = 0 := Classical.byContradiction (fun z => hn (Or.inl z))
      have h1 : ¬ b / 12 = s := fun z => hn (Or.inr (Or.inl z))
      have hi : ¬ ec_ic ki yck (nI s) 0 := fun z => hn (Or.inr (Or.inr z))
      obtain ⟨ls', lv', L', a1, a2, a3, a4⟩ := ec_xr1 (lo := lo) (va := yva) (op := op) (ls := ls) (lv := lv) (co := co) hs ho ha hb h0 h1 hi g2 g3 g8
      have hag : ec_ag (upd ki s 2) (upd op s (nI o)) (upd sa s (nI a)) (upd sb s (nI (b % 12))) (upd yo s (nI o)) (upd ya s (nI a)) (upd yb s (nI (b % 12))) := by
        intro i hi12 hne
        by_cases e : i = s
        · subst e
          rw [pk_us, pk_us, pk_us, pk_us, pk_us, pk_us]
          exact ⟨rfl, rfl, rfl⟩
        · rw [pk_un e] at hne
          rw [pk_un e, pk_un e, pk_un e, pk_un e, pk_un e, pk_un e]
          exact g6 i hi12 hne
      have hcons : ∀ w, w < 12 → upd ki s 2 w = 1 → yva w = ec_fv (upd op s (nI o)) (upd sa s (nI a)) (upd sb s (nI (b % 12))) yva w := by
        intro w hw h
        have e : w ≠ s := by
          intro z
          rw [z, pk_us] at h
          exact absurd h (by decide)
        rw [pk_un e] at h
        show yva w = ec_fo (upd op s (nI o) w) (yva (upd sa s (nI a) w).toNatClampNeg) (yva (upd sb s (nI (b % 12)) w).toNatClampNeg)
        rw [pk_un e, pk_un e, pk_un e]
        exact g10 w hw h
      refine a4 _ (ec_yr1 hs ho ha hb h0 h1 hi g4 g5 (ec_Lq (ec_ag1 hag) a2) ?_ ⟨rfl, rfl, rfl, rfl, rfl, ?_⟩)
      · intro w hw h
        rw [← ec_fq (hag w hw (ec_n10 h))]
        exact hcons w hw h
      · exact ⟨g1, ec_Ru g2 s ha, ec_Ru g3 s hm, ec_Ru g4 s ha, ec_Ru g5 s hm, hag, a1, ⟨L', a2, a3⟩, hcons⟩
  · exact ec_xrb hok (ec_yrb hok ⟨rfl, rfl, rfl, rfl, rfl, hG⟩)
theorem i_vc_free {k : Nat} {u : SX} {v : SY} (I : i_Rel k u v) (hk : k + 5 ≤ 2560) (v1 : Int32) : wpX_free (fun r u' => wpY_free (fun r' v' => r' = r ∧ i_Rel (k + 5) u' v') v v1) u v1 := by
  obtain ⟨f, lo, so, va, op, sa, sb, ck, ls, lv, co⟩ := u
  obtain ⟨ki, yo, ya, yb, yck, yva, be, on⟩ := v
  obtain ⟨rfl, rfl, rfl, rfl, hG⟩ := I
  have hG' := hG
  obtain ⟨g1, g2, g3, g4, g5, g6, g7, ⟨L, g8, g9⟩, g10⟩ := hG'
  by_cases hok : ∃ s, s < 12 ∧ v1 = nI s
  · obtain ⟨s, hs, rfl⟩ := hok
    obtain ⟨ls', lv', L', a1, a2, a3, a4⟩ := ec_xf1 (lo := lo) (va := yva) (op := op) (ck := yck) (ls := ls) (lv := lv) (co := co) hs g2 g3 g8
    have hag : ec_ag (upd ki s 0) (upd op s (nI 0)) (upd sa s (nI s)) (upd sb s (nI s)) yo ya yb := by
      intro i hi12 hne
      have e : i ≠ s := by
        intro z
        rw [z, pk_us] at hne
        exact hne rfl
      rw [pk_un e] at hne
      rw [pk_un e, pk_un e, pk_un e]
      exact g6 i hi12 hne
    have hcons : ∀ w, w < 12 → upd ki s 0 w = 1 → yva w = ec_fv (upd op s (nI 0)) (upd sa s (nI s)) (upd sb s (nI s)) yva w := by
      intro w hw h
      have e : w ≠ s := by
        intro z
        rw [z, pk_us] at h
        exact absurd h (by decide)
      rw [pk_un e] at h
      show yva w = ec_fo (upd op s (nI 0) w) (yva (upd sa s (nI s) w).toNatClampNeg) (yva (upd sb s (nI s) w).toNatClampNeg)
      rw [pk_un e, pk_un e, pk_un e]
      exact g10 w hw h
    refine a4 _ (ec_yf1 hs g4 g5 (ec_Lq (ec_ag1 hag) a2) ?_ ⟨rfl, rfl, rfl, rfl, rfl, ?_⟩)
    · intro w hw h
      rw [← ec_fq (hag w hw (ec_n10 h))]
      exact hcons w hw h
    · exact ⟨g1, ec_Ru g2 s hs, ec_Ru g3 s hs, g4, g5, hag, a1, ⟨L', a2, a3⟩, hcons⟩
  · unfold wpX_free wpY_free
    dsimp only
    exact ec_xsg0 hok (br_t rfl (ec_ysg0 hok (br_t rfl ⟨rfl, rfl, rfl, rfl, rfl, hG⟩)))
theorem i_vc_set {k : Nat} {u : SX} {v : SY} (I : i_Rel k u v) (hk : k + 5 ≤ 2560) (v1 : Int32) (v2 : Int32) : wpX_set (fun r u' => wpY_set (fun r' v' => r' = r ∧ i_Rel (k + 5) u' v') v v1 v2) u v1 v2 := by
  obtain ⟨f, lo, so, va, op, sa, sb, ck, ls, lv, co⟩ := u
  obtain ⟨ki, yo, ya, yb, yck, yva, be, on⟩ := v
  obtain ⟨rfl, rfl, rfl, rfl, hG⟩ := I
  by_cases hok : ec_oks v1 v2
  · obtain ⟨s, p, hs, hp, rfl, rfl⟩ := hok
    by_cases h0 : ki s = 0
    · obtain ⟨lo1, co1, va1, be1, on1, G1, hbe, x1, y1⟩ := ec_chg (lo := lo) (ck := yck) (co := co) (be := be) (on := on) (p := nI p) hG hs ⟨p, hp, rfl⟩ h0
      exact ec_xs1 hs hp h0 (x1 _ (ec_ys1 hs hp h0 hbe y1 ⟨rfl, rfl, rfl, rfl, rfl, G1⟩))
    · exact ec_xs3 hs hp h0 (ec_ys3 hs hp h0 ⟨rfl, rfl, rfl, rfl, rfl, hG⟩)
  · exact ec_xsb hok (ec_ysb hok ⟨rfl, rfl, rfl, rfl, rfl, hG⟩)
theorem i_vc_pulse {k : Nat} {u : SX} {v : SY} (I : i_Rel k u v) (hk : k + 5 ≤ 2560) (v1 : Int32) (v2 : Int32) (v3 : Int32) : wpX_pulse (fun r u' => wpY_pulse (fun r' v' => r' = r ∧ i_Rel (k + 5) u' v') v v1 v2 v3) u v1 v2 v3 := by
  obtain ⟨f, lo, so, va, op, sa, sb, ck, ls, lv, co⟩ := u
  obtain ⟨ki, yo, ya, yb, yck, yva, be, on⟩ := v
  obtain ⟨rfl, rfl, rfl, rfl, hG⟩ := I
  by_cases hok : ec_oks v1 v2
  · obtain ⟨s, p, hs, hp, rfl, rfl⟩ := hok
    by_cases h0 : ki s = 0
    · obtain ⟨t, ht⟩ := ec_tms v3
      obtain ⟨tot', lo', va', co', be', on', G', x', y'⟩ := ec_pulse (ck := yck) (t := t) hs hp (hG.1 s hs) h0 ht.1 t 0 0 lo yva co be on (by omega) hG
      exact ec_xp1 hs hp h0 ht ⟨_, x' _ (ec_yp1 hs hp h0 ht ⟨_, y' _ ⟨rfl, rfl, rfl, rfl, rfl, G'⟩⟩)⟩
    · exact ec_xp3 hs hp h0 (ec_yp3 hs hp h0 ⟨rfl, rfl, rfl, rfl, rfl, hG⟩)
  · exact ec_xpb hok (ec_ypb hok ⟨rfl, rfl, rfl, rfl, rfl, hG⟩)
theorem i_vc_value {k : Nat} {u : SX} {v : SY} (I : i_Rel k u v) (hk : k + 5 ≤ 2560) (v1 : Int32) : wpX_value (fun r => wpY_value (fun r' => r' = r ∧ i_Rel (k + 5) u v) v v1) u v1 := by
  obtain ⟨f, lo, so, va, op, sa, sb, ck, ls, lv, co⟩ := u
  obtain ⟨ki, yo, ya, yb, yck, yva, be, on⟩ := v
  obtain ⟨rfl, rfl, rfl, rfl, hG⟩ := I
  unfold wpX_value wpY_value
  dsimp only
  by_cases hok : ∃ s, s < 12 ∧ v1 = nI s
  · obtain ⟨s, hs, rfl⟩ := hok
    exact ec_xsg1 hs (br_f ec_10 ⟨ec_in hs, ec_ysg1 hs (br_f ec_10 ⟨ec_in hs, rfl, rfl, rfl, rfl, rfl, hG⟩)⟩)
  · exact ec_xsg0 hok (br_t rfl (ec_ysg0 hok (br_t rfl ⟨rfl, rfl, rfl, rfl, rfl, hG⟩)))
theorem i_vc_kind {k : Nat} {u : SX} {v : SY} (I : i_Rel k u v) (hk : k + 5 ≤ 2560) (v1 : Int32) : wpX_kind (fun r => wpY_kind (fun r' => r' = r ∧ i_Rel (k + 5) u v) v v1) u v1 := by
  obtain ⟨f, lo, so, va, op, sa, sb, ck, ls, lv, co⟩ := u
  obtain ⟨ki, yo, ya, yb, yck, yva, be, on⟩ := v
  obtain ⟨rfl, rfl, rfl, rfl, hG⟩ := I
  unfold wpX_kind wpY_kind
  dsimp only
  by_cases hok : ∃ s, s < 12 ∧ v1 = nI s
  · obtain ⟨s, hs, rfl⟩ := hok
    exact ec_xsg1 hs (br_f ec_10 ⟨ec_in hs, ec_ysg1 hs (br_f ec_10 ⟨ec_in hs, rfl, rfl, rfl, rfl, rfl, hG⟩)⟩)
  · exact ec_xsg0 hok (br_t rfl (ec_ysg0 hok (br_t rfl ⟨rfl, rfl, rfl, rfl, rfl, hG⟩)))
theorem i_vc_hanging {k : Nat} {u : SX} {v : SY} (I : i_Rel k u v) (hk : k + 5 ≤ 2560) (v1 : Int32) : wpX_hanging (fun r => wpY_hanging (fun r' v' => r' = r ∧ i_Rel (k + 5) u v') v v1) u v1 := by
  obtain ⟨f, lo, so, va, op, sa, sb, ck, ls, lv, co⟩ := u
  obtain ⟨ki, yo, ya, yb, yck, yva, be, on⟩ := v
  obtain ⟨rfl, rfl, rfl, rfl, hG⟩ := I
  have hG' := hG
  obtain ⟨g1, g2, g3, g4, g5, g6, g7, ⟨L, g8, g9⟩, g10⟩ := hG'
  by_cases hok : ∃ s, s < 12 ∧ v1 = nI s
  · obtain ⟨s, hs, rfl⟩ := hok
    obtain ⟨r, a1, a2⟩ := ec_xhang (f := 0) (lo := lo) (va := yva) (op := op) (ck := yck) (lv := lv) (co := co) hs g7 g2 g3 g8
    have hTq := ec_Tq (ec_ag1 g6)
    have hLY := ec_Lq (ec_ag1 g6) g8
    have hQ : ec_hQ ki ya yb s (fun w => ec_T ki ya yb s w) L := by
      intro w hw hq
      rcases ec_Tc hq with he | ⟨x, hx, he⟩
      · exact Or.inl he
      · exact Or.inr ⟨x, ec_Tl hx, he, hx, ec_Er (ec_LR hLY) he⟩
    obtain ⟨on', b1, b2, b3⟩ := ec_yfh (yo := yo) (ck := yck) (va := yva) (be := be) (on := on) g4 g5 hQ
    obtain ⟨r', c1, c2⟩ := ec_yh18 (so := ki) (yo := yo) (ya := ya) (yb := yb) (ck := yck) (va := yva) (be := be) (on := on') hs 12 0 0 rfl
      (by
        intro j
        rw [b_0]
        exact ⟨fun z => absurd z (by decide), fun z => absurd z.1 (Nat.not_lt_zero j)⟩)
    have hr : r' = r := by
      apply b_ext
      intro i _
      apply ec_bj
      rw [c1 i, a1 i, hTq]
      constructor
      · rintro ⟨h1, h2⟩
        exact b1 i h1 s h2
      · intro h
        have hi := ec_Tl h
        exact ⟨hi, b2 i hi h (by have := (g8 i hi).1; omega)⟩
    unfold wpX_hanging wpY_hanging
    dsimp only
    refine ec_xsg1 hs (br_f ec_10 (a2 _ (ec_ysg1 hs (br_f ec_10 (b3 _ ?_)))))
    dsimp only
    exact ⟨13, c2 _ ⟨hr, rfl, rfl, rfl, rfl, hG⟩⟩
  · unfold wpX_hanging wpY_hanging
    dsimp only
    exact ec_xsg0 hok (br_t rfl (ec_ysg0 hok (br_t rfl ⟨rfl, rfl, rfl, rfl, rfl, hG⟩)))
theorem i_vc_depth {k : Nat} {u : SX} {v : SY} (I : i_Rel k u v) (hk : k + 5 ≤ 2560) : wpX_depth (fun r => wpY_depth (fun r' v' => r' = r ∧ i_Rel (k + 5) u v') v) u := by
  obtain ⟨f, lo, so, va, op, sa, sb, ck, ls, lv, co⟩ := u
  obtain ⟨ki, yo, ya, yb, yck, yva, be, on⟩ := v
  obtain ⟨rfl, rfl, rfl, rfl, hG⟩ := I
  have hG' := hG
  obtain ⟨g1, g2, g3, g4, g5, g6, g7, ⟨L, g8, g9⟩, g10⟩ := hG'
  obtain ⟨m, a1, a2⟩ := ec_xdepth (f := 0) (lo := lo) (va := yva) (op := op) (ck := yck) (ls := ls) (co := co) g8 g9
  obtain ⟨n, on', b1, b2⟩ := ec_ydepth (yo := yo) (ck := yck) (va := yva) (be := be) (on := on) g4 g5 (ec_Lq (ec_ag1 g6) g8)
  have e := ec_dpu b1 a1
  exact a2 _ (b2 _ ⟨by rw [e], rfl, rfl, rfl, rfl, hG⟩)
end
