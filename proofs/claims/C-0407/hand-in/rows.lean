section
/-! rows of the kit's starting texts (PURE-ROWS, BITS) -/
theorem pk_us {f : Nat → Int32} {k : Nat} {x : Int32} : upd f k x k = x := if_pos rfl
theorem pk_un {f : Nat → Int32} {k j : Nat} {x : Int32} (h : j ≠ k) : upd f k x j = f j := if_neg h
theorem pk_sub {a b : Nat} (h : b ≤ a) : nI a - nI b = nI (a - b) := by
  obtain ⟨c, rfl⟩ : ∃ c, a = c + b := ⟨a - b, by omega⟩
  rw [← nI_add, Int32.add_sub_cancel, Nat.add_sub_cancel]
theorem pk_m1 (n : Nat) : nI (n + 1) + (-1) = nI n := by
  rw [← nI_1, Int32.add_assoc, show (1 : Int32) + (-1) = 0 from rfl, Int32.add_zero]
theorem pk_mul (a b : Nat) : nI a * nI b = nI (a * b) := (Int32.ofNat_mul a b).symm
theorem pk_div {a d : Nat} (ha : a < 2 ^ 31) (h0 : 0 < d) (hd : d < 2 ^ 31) : nI a / nI d = nI (a / d) := by
  apply Int32.toInt_inj.mp
  rw [lg_idiv_nonneg (by rw [nI_toInt ha]; omega) (by rw [nI_toInt hd]; omega), nI_toInt ha, nI_toInt hd, nI_toInt (Nat.lt_of_le_of_lt (Nat.div_le_self a d) ha)]
  first | rfl | exact (Int.natCast_ediv _ _).symm
theorem pk_rem {a d : Nat} (ha : a < 2 ^ 31) (h0 : 0 < d) (hd : d < 2 ^ 31) : nI a - nI a / nI d * nI d = nI (a % d) := by
  rw [pk_div ha h0 hd, pk_mul, pk_sub (Nat.div_mul_le_self a d)]
  exact congrArg nI (by have := Nat.div_add_mod' a d; omega)
theorem pk_sub_toInt {a b : Nat} (ha : a < 2 ^ 30) (hb : b < 2 ^ 30) : (nI a - nI b).toInt = (a : Int) - b := by
  rw [Int32.toInt_sub, nI_toInt (by omega), nI_toInt (by omega)]
  exact Int.bmod_eq_of_le (by omega) (by omega)
theorem pk_sneg {a b : Nat} (hb : b < 2 ^ 30) (h : a < b) : nI a - nI b < 0 := by
  rw [Int32.lt_iff_toInt_lt, pk_sub_toInt (by omega) hb, show (0 : Int32).toInt = 0 from by decide]
  omega
theorem pk_ix (x : Int32) {n : Nat} (hn : n < 2 ^ 31) : x < 0 ∨ nI n ≤ x ∨ ∃ j : Nat, j < n ∧ x = nI j := by
  by_cases h : x < 0
  · exact Or.inl h
  · obtain ⟨j, hj, rfl⟩ := nI_of h
    by_cases h2 : j < n
    · exact Or.inr (Or.inr ⟨j, h2, rfl⟩)
    · exact Or.inr (Or.inl (nI_le (by omega) hj))
theorem pk_le {x y : Int32} {A B : Prop} (a b : Nat) (f : a ≤ b → A) (g : b < a → B) (hx : x = nI a := by rfl) (hy : y = nI b := by rfl) (ha : a < 2 ^ 31 := by omega) (hb : b < 2 ^ 31 := by omega) : (x ≤ y → A) ∧ (¬ x ≤ y → B) := by
  subst hx hy
  rw [nI_leI ha hb]
  exact ⟨f, fun z => g (by omega)⟩
theorem pk_lt {x y : Int32} {A B : Prop} (a b : Nat) (f : a < b → A) (g : b ≤ a → B) (hx : x = nI a := by rfl) (hy : y = nI b := by rfl) (ha : a < 2 ^ 31 := by omega) (hb : b < 2 ^ 31 := by omega) : (x < y → A) ∧ (¬ x < y → B) := by
  subst hx hy
  rw [nI_ltI ha hb]
  exact ⟨f, fun z => g (by omega)⟩
theorem pk_eq {x y : Int32} {A B : Prop} (a b : Nat) (f : a = b → A) (g : a ≠ b → B) (hx : x = nI a := by rfl) (hy : y = nI b := by rfl) (ha : a < 2 ^ 31 := by omega) (hb : b < 2 ^ 31 := by omega) : (x = y → A) ∧ (¬ x = y → B) := by
  subst hx hy
  rw [nI_eq ha hb]
  exact ⟨f, g⟩
theorem pk_in {x : Int32} (n N : Nat) (h : n < N) (hx : x = nI n := by rfl) (hN : N < 2 ^ 31 := by omega) : vp_in x N := by
  subst hx
  exact vp_in_nI h hN
theorem pk_cl {x : Int32} (n : Nat) (hx : x = nI n := by rfl) (h : n < 2 ^ 31 := by omega) : x.toNatClampNeg = n := by
  subst hx
  exact nI_clamp h
theorem pk_tn {n : Nat} (h : n < 2 ^ 32) : (nI n).toBitVec.toNat = n := Nat.mod_eq_of_lt h
theorem pk_vb (z : Int32) : vp_nar .byte z.toInt8.toInt32 = z.toInt8.toInt32 := by rw [vp_nar_byte]; simp
theorem pk_vs (z : Int32) : vp_nar .short z.toInt16.toInt32 = z.toInt16.toInt32 := by rw [vp_nar_short]; simp
def bt (x : Int32) (i : Nat) : Bool := x.toBitVec.getLsbD i
theorem b_ext {x y : Int32} (h : ∀ i, i < 32 → bt x i = bt y i) : x = y := Int32.toBitVec_inj.mp (BitVec.eq_of_getLsbD_eq (fun i hi => h i hi))
theorem b_or (x y : Int32) (i : Nat) : bt (x ||| y) i = (bt x i || bt y i) := by unfold bt; rw [Int32.toBitVec_or, BitVec.getLsbD_or]
theorem b_and (x y : Int32) (i : Nat) : bt (x &&& y) i = (bt x i && bt y i) := by unfold bt; rw [Int32.toBitVec_and, BitVec.getLsbD_and]
theorem b_xor (x y : Int32) (i : Nat) : bt (x ^^^ y) i = (bt x i ^^ bt y i) := by unfold bt; rw [Int32.toBitVec_xor, BitVec.getLsbD_xor]
theorem b_big {x : Int32} {i : Nat} (h : 32 ≤ i) : bt x i = false := BitVec.getLsbD_of_ge _ _ h
theorem b_m1 : ∀ i, i < 32 → bt (-1) i = true := by decide +kernel
theorem b_0 (i : Nat) : bt 0 i = false := BitVec.getLsbD_zero
theorem s_l : ∀ n, n < 32 → ((nI n &&& 31).toBitVec.smod 32).toNat = n := by decide +kernel
theorem b_shl (n : Nat) (hn : n < 32) (x : Int32) {i : Nat} (hi : i < 32) : bt (x <<< (nI n &&& 31)) i = (decide (n ≤ i) && bt x (i - n)) := by
  unfold bt
  rw [Int32.toBitVec_shiftLeft]
  show (x.toBitVec <<< ((nI n &&& 31).toBitVec.smod 32).toNat).getLsbD i = _
  rw [s_l n hn, BitVec.getLsbD_shiftLeft]
  rcases Nat.lt_or_ge i n with h | h
  · simp [h, Nat.not_le.mpr h]
  · simp [hi, h, Nat.not_lt.mpr h]
theorem b_sshr (n : Nat) (hn : n < 32) (x : Int32) {i : Nat} (hi : i < 32) : bt (x >>> (nI n &&& 31)) i = if n + i < 32 then bt x (n + i) else bt x 31 := by
  unfold bt
  rw [Int32.toBitVec_shiftRight]
  show (x.toBitVec.sshiftRight ((nI n &&& 31).toBitVec.smod 32).toNat).getLsbD i = _
  rw [s_l n hn, BitVec.getLsbD_sshiftRight, BitVec.msb_eq_getLsbD_last]
  simp [hi]
theorem wb_of32 (x : Int32) : ∃ n, n < 2 ^ 32 ∧ x = nI n := ⟨x.toBitVec.toNat, x.toBitVec.isLt, Int32.toBitVec_inj.mp (by show _ = BitVec.ofNat 32 _; simp)⟩
/-! own rows: one bit, positions' parts, small stores -/
def ch_bi (b : Bool) : Int32 := if b = true then 1 else 0
theorem ch_b1 : ∀ i, i < 32 → bt 1 i = decide (i = 0) := by decide +kernel
theorem ch_bit (x : Int32) {t : Nat} (ht : t < 32) : (x >>> (nI t &&& 31)) &&& 1 = ch_bi (bt x t) := by
  apply b_ext
  intro i hi
  rw [b_and, b_sshr t ht x hi, ch_b1 i hi]
  by_cases h : i = 0
  · subst h
    rw [if_pos (by omega)]
    cases hb : bt x t
    · exact (b_0 0).symm
    · exact (ch_b1 0 (by omega)).symm
  · rw [decide_eq_false h, Bool.and_false]
    cases hb : bt x t
    · exact (b_0 i).symm
    · show false = bt 1 i
      rw [ch_b1 i hi, decide_eq_false h]
theorem ch_bi0 (b : Bool) : ch_bi b = 0 ↔ b = false := by cases b <;> decide
theorem ch_bi1 (b : Bool) : ch_bi b = 1 ↔ b = true := by cases b <;> decide
theorem ch_one (n : Nat) (hn : n < 32) {i : Nat} (hi : i < 32) : bt ((1 : Int32) <<< (nI n &&& 31)) i = decide (i = n) := by
  rw [b_shl n hn 1 hi]
  by_cases h : n ≤ i
  · rw [decide_eq_true h, Bool.true_and, ch_b1 _ (by omega)]
    by_cases e : i = n
    · rw [decide_eq_true e, decide_eq_true (by omega)]
    · rw [decide_eq_false e, decide_eq_false (by omega)]
  · rw [decide_eq_false h, Bool.false_and, decide_eq_false (by omega)]
/-- clear bit n -/
theorem ch_clr (x : Int32) (n : Nat) (hn : n < 32) {i : Nat} (hi : i < 32) : bt (x &&& (((1 : Int32) <<< (nI n &&& 31)) ^^^ (-1))) i = if i = n then false else bt x i := by
  rw [b_and, b_xor, ch_one n hn hi, b_m1 i hi]
  by_cases e : i = n
  · rw [decide_eq_true e, if_pos e]; cases bt x i <;> rfl
  · rw [decide_eq_false e, if_neg e]; cases bt x i <;> rfl
/-- set bit n -/
theorem ch_set (x : Int32) (n : Nat) (hn : n < 32) {i : Nat} (hi : i < 32) : bt (x ||| ((1 : Int32) <<< (nI n &&& 31))) i = if i = n then true else bt x i := by
  rw [b_or, ch_one n hn hi]
  by_cases e : i = n
  · rw [decide_eq_true e, if_pos e]; cases bt x i <;> rfl
  · rw [decide_eq_false e, if_neg e]; cases bt x i <;> rfl
theorem ch_d72 {p : Nat} (h : p < 432) : nI p / 72 = nI (p / 72) := pk_div (d := 72) (by omega) (by omega) (by omega)
theorem ch_d12 {p : Nat} (h : p < 432) : nI p / 12 = nI (p / 12) := pk_div (d := 12) (by omega) (by omega) (by omega)
theorem ch_d2 {p : Nat} (h : p < 432) : nI p / 2 = nI (p / 2) := pk_div (d := 2) (by omega) (by omega) (by omega)
theorem ch_r6 {p : Nat} (h : p < 432) : nI p - nI p / 6 * 6 = nI (p % 6) := pk_rem (d := 6) (by omega) (by omega) (by omega)
theorem ch_m12 {p : Nat} (h : p < 432) : nI p / 12 - nI p / 12 / 6 * 6 = nI (p / 12 % 6) := by
  rw [ch_d12 h]; exact ch_r6 (by omega)
theorem ch_m2 {p : Nat} (h : p < 432) : nI p / 2 - nI p / 2 / 6 * 6 = nI (p / 2 % 6) := by
  rw [ch_d2 h]; exact ch_r6 (by omega)
theorem ch_par {p : Nat} (h : p < 432) : nI p - nI p / 2 * 2 = nI (p % 2) := pk_rem (d := 2) (by omega) (by omega) (by omega)
/-- a position's number -/
theorem ch_num (a b t s : Nat) : ((((nI a * 6) + nI b) * 6) + nI t) * 2 + nI s = nI (((a * 6 + b) * 6 + t) * 2 + s) := by
  show ((((nI a * nI 6) + nI b) * nI 6) + nI t) * nI 2 + nI s = _
  rw [pk_mul, nI_add, pk_mul, nI_add, pk_mul, nI_add]
/-- steps between positions: m stands for what stays -/
theorem ch_s1 (k m t c : Nat) : nI k * (nI c - nI t) + nI (m + k * t) = nI (m + k * c) := by
  rw [← nI_add, ← nI_add, ← pk_mul, ← pk_mul]
  generalize nI k = K
  generalize nI m = M
  generalize nI t = T
  generalize nI c = C
  grind
theorem ch_nb {n : Nat} (h : n < 128) : vp_nar .byte (nI n).toInt8.toInt32 = nI n := by
  rw [pk_vb]
  exact lg_i2b_small (by rw [nI_toInt (by omega)]; omega) (by rw [nI_toInt (by omega)]; omega)
theorem ch_ns {n : Nat} (h : n < 32768) : vp_nar .short (nI n).toInt16.toInt32 = nI n := by
  rw [pk_vs]
  exact lg_i2s_small (by rw [nI_toInt (by omega)]; omega) (by rw [nI_toInt (by omega)]; omega)
def ch_up (w : Nat → Nat) (k v : Nat) : Nat → Nat := fun j => if j = k then v else w j
theorem ch_us {w : Nat → Nat} {k v : Nat} : ch_up w k v k = v := if_pos rfl
theorem ch_un {w : Nat → Nat} {k v j : Nat} (h : j ≠ k) : ch_up w k v j = w j := if_neg h
theorem ch_upd (w : Nat → Nat) (k v : Nat) : upd (fun j => nI (w j)) k (nI v) = fun j => nI (ch_up w k v j) := by
  funext j
  unfold upd ch_up
  by_cases h : j = k
  · rw [if_pos h, if_pos h]
  · rw [if_neg h, if_neg h]
/-- every array is one of numbers -/
theorem ch_arr (a : Nat → Int32) : ∃ w : Nat → Nat, a = fun j => nI (w j) :=
  ⟨fun j => Classical.choose (wb_of32 (a j)), funext fun j => (Classical.choose_spec (wb_of32 (a j))).2⟩
end
section
/-! counting -/
noncomputable def ch_b (P : Prop) : Nat := @ite Nat P (Classical.propDecidable P) 1 0
theorem ch_bt {P : Prop} (h : P) : ch_b P = 1 := by unfold ch_b; rw [if_pos h]
theorem ch_bf {P : Prop} (h : ¬ P) : ch_b P = 0 := by unfold ch_b; rw [if_neg h]
theorem ch_ble (P : Prop) : ch_b P ≤ 1 := by
  by_cases h : P
  · rw [ch_bt h]; omega
  · rw [ch_bf h]; omega
theorem ch_bc {P Q : Prop} (h : P ↔ Q) : ch_b P = ch_b Q := by
  by_cases hp : P
  · rw [ch_bt hp, ch_bt (h.mp hp)]
  · rw [ch_bf hp, ch_bf (fun q => hp (h.mpr q))]
noncomputable def ch_n (P : Nat → Prop) : Nat → Nat
  | 0 => 0
  | k + 1 => ch_n P k + ch_b (P k)
theorem ch_n_le (P : Nat → Prop) : ∀ n, ch_n P n ≤ n
  | 0 => Nat.le_refl 0
  | n + 1 => by
    have h1 := ch_n_le P n
    have h2 := ch_ble (P n)
    show ch_n P n + ch_b (P n) ≤ n + 1
    omega
theorem ch_n_congr {P Q : Nat → Prop} : ∀ n, (∀ j, j < n → (P j ↔ Q j)) → ch_n P n = ch_n Q n
  | 0, _ => rfl
  | n + 1, h => by
    show ch_n P n + ch_b (P n) = ch_n Q n + ch_b (Q n)
    rw [ch_n_congr n (fun j hj => h j (by omega)), ch_bc (h n (by omega))]
theorem ch_n_mono {P Q : Nat → Prop} : ∀ n, (∀ j, j < n → P j → Q j) → ch_n P n ≤ ch_n Q n
  | 0, _ => Nat.le_refl 0
  | n + 1, h => by
    show ch_n P n + ch_b (P n) ≤ ch_n Q n + ch_b (Q n)
    have h1 := ch_n_mono n (fun j hj => h j (by omega))
    by_cases hp : P n
    · rw [ch_bt hp, ch_bt (h n (by omega) hp)]; omega
    · rw [ch_bf hp]; omega
/-- one more -/
theorem ch_n_add {P Q : Nat → Prop} (k : Nat) (hP : ¬ P k) (hQ : Q k) : ∀ n, k < n → (∀ j, j < n → j ≠ k → (P j ↔ Q j)) → ch_n Q n = ch_n P n + 1
  | 0, hk, _ => absurd hk (Nat.not_lt_zero k)
  | n + 1, hk, h => by
    show ch_n Q n + ch_b (Q n) = ch_n P n + ch_b (P n) + 1
    by_cases e : k = n
    · subst e
      rw [ch_bt hQ, ch_bf hP, ch_n_congr (P := Q) (Q := P) k (fun j hj => (h j (by omega) (by omega)).symm)]
    · rw [ch_n_add k hP hQ n (by omega) (fun j hj => h j (by omega)), ch_bc (h n (by omega) (fun z => e z.symm))]
      omega
theorem ch_n_strict {P Q : Nat → Prop} (k : Nat) (hP : ¬ P k) (hQ : Q k) : ∀ n, k < n → (∀ j, j < n → P j → Q j) → ch_n P n < ch_n Q n
  | 0, hk, _ => absurd hk (Nat.not_lt_zero k)
  | n + 1, hk, h => by
    show ch_n P n + ch_b (P n) < ch_n Q n + ch_b (Q n)
    by_cases e : k = n
    · subst e
      have h1 := ch_n_mono k (fun j hj => h j (by omega))
      rw [ch_bt hQ, ch_bf hP]; omega
    · have h1 := ch_n_strict k hP hQ n (by omega) (fun j hj => h j (by omega))
      by_cases hp : P n
      · rw [ch_bt hp, ch_bt (h n (by omega) hp)]; omega
      · rw [ch_bf hp]; omega
theorem ch_n_lt {P : Nat → Prop} {k n : Nat} (hk : k < n) (hP : ¬ P k) : ch_n P n < n :=
  Nat.lt_of_lt_of_le (ch_n_strict (Q := fun _ => True) k hP trivial n hk (fun _ _ _ => trivial)) (ch_n_le _ n)
theorem ch_n_ex {P : Nat → Prop} : ∀ n, ch_n P n ≠ 0 → ∃ k, k < n ∧ P k
  | 0, h => absurd rfl h
  | n + 1, h => by
    by_cases hp : P n
    · exact ⟨n, by omega, hp⟩
    · have e : ch_n P (n + 1) = ch_n P n := by
        show ch_n P n + ch_b (P n) = ch_n P n
        rw [ch_bf hp]; omega
      rw [e] at h
      obtain ⟨k, hk, hk2⟩ := ch_n_ex n h
      exact ⟨k, by omega, hk2⟩
theorem ch_n_0 {P : Nat → Prop} : ∀ n, ch_n P n = 0 → ∀ k, k < n → ¬ P k
  | 0, _, k, hk => absurd hk (Nat.not_lt_zero k)
  | n + 1, h, k, hk => by
    have h2 : ch_n P n + ch_b (P n) = 0 := h
    by_cases e : k = n
    · subst e
      intro hp
      rw [ch_bt hp] at h2
      omega
    · exact ch_n_0 n (by omega) k (by omega)
/-! the game: a code that is a move, the position behind it, a position that is over -/
def ch_ok (D : Nat → Nat → Bool) (gw tw : Bool) (p c : Nat) : Bool :=
  if p % 2 = 1 then (if c = 12 then tw else if c < 6 then D (p / 2 % 6) c else false)
  else if c = 12 then gw else if c < 6 then D (p / 72) c else D (p / 12 % 6) (c - 6)
def ch_nx (p c : Nat) : Nat :=
  if p % 2 = 1 then (if c = 12 then p - 1 else p - 1 - 2 * (p / 2 % 6) + 2 * c)
  else if c = 12 then p + 1 else if c < 6 then p + 1 - 72 * (p / 72) + 72 * c else p + 1 - 12 * (p / 12 % 6) + 12 * (c - 6)
def ch_ov (E : Nat → Bool) (p : Nat) : Nat :=
  if p / 2 % 6 = p / 72 ∨ p / 2 % 6 = p / 12 % 6 then 1 else if E (p / 2 % 6) = true then 2 else 0
def ch_mv (p : Nat) : Nat := if p % 2 = 1 then 2 else 1
def ch_ot (p : Nat) : Nat := if p % 2 = 1 then 1 else 2
theorem ch_mo (p : Nat) : (ch_mv p = 1 ∧ ch_ot p = 2) ∨ (ch_mv p = 2 ∧ ch_ot p = 1) := by
  unfold ch_mv ch_ot
  by_cases h : p % 2 = 1
  · rw [if_pos h, if_pos h]; exact Or.inr ⟨rfl, rfl⟩
  · rw [if_neg h, if_neg h]; exact Or.inl ⟨rfl, rfl⟩
theorem ch_ov2 (E : Nat → Bool) (p : Nat) : ch_ov E p ≤ 2 := by
  unfold ch_ov
  split
  · omega
  · split <;> omega
/-- moves lead to positions -/
def ch_K (ok : Nat → Nat → Bool) : Prop := ∀ p c, p < 432 → c < 13 → ok p c = true → ch_nx p c < 432
theorem ch_Kok (D : Nat → Nat → Bool) (gw tw : Bool) : ch_K (ch_ok D gw tw) := by
  intro p c hp hc h
  unfold ch_ok at h
  unfold ch_nx
  by_cases h1 : p % 2 = 1
  · rw [if_pos h1] at h ⊢
    by_cases h2 : c = 12
    · rw [if_pos h2]; omega
    · rw [if_neg h2] at h ⊢
      by_cases h3 : c < 6
      · omega
      · rw [if_neg h3] at h; exact absurd h (by decide)
  · rw [if_neg h1]
    by_cases h2 : c = 12
    · rw [if_pos h2]; omega
    · rw [if_neg h2]
      by_cases h3 : c < 6
      · rw [if_pos h3]; omega
      · rw [if_neg h3]; omega
/-- what follows from what is known of the positions behind -/
noncomputable def ch_F (ok : Nat → Nat → Bool) (s : Nat → Nat) (p : Nat) : Nat :=
  @ite Nat (∃ c, c < 13 ∧ ok p c = true ∧ s (ch_nx p c) = ch_mv p) (Classical.propDecidable _) (ch_mv p)
    (@ite Nat (∀ c, c < 13 → ok p c = true → s (ch_nx p c) = ch_ot p) (Classical.propDecidable _) (ch_ot p) 0)
theorem ch_F_m {ok : Nat → Nat → Bool} {s : Nat → Nat} {p : Nat} (h : ∃ c, c < 13 ∧ ok p c = true ∧ s (ch_nx p c) = ch_mv p) : ch_F ok s p = ch_mv p := by
  unfold ch_F; rw [if_pos h]
theorem ch_F_o {ok : Nat → Nat → Bool} {s : Nat → Nat} {p : Nat} (h1 : ¬ ∃ c, c < 13 ∧ ok p c = true ∧ s (ch_nx p c) = ch_mv p) (h2 : ∀ c, c < 13 → ok p c = true → s (ch_nx p c) = ch_ot p) : ch_F ok s p = ch_ot p := by
  unfold ch_F; rw [if_neg h1, if_pos h2]
theorem ch_F_0 {ok : Nat → Nat → Bool} {s : Nat → Nat} {p : Nat} (h1 : ¬ ∃ c, c < 13 ∧ ok p c = true ∧ s (ch_nx p c) = ch_mv p) (h2 : ¬ ∀ c, c < 13 → ok p c = true → s (ch_nx p c) = ch_ot p) : ch_F ok s p = 0 := by
  unfold ch_F; rw [if_neg h1, if_neg h2]
theorem ch_F_o' {ok : Nat → Nat → Bool} {s : Nat → Nat} {p : Nat} (h2 : ∀ c, c < 13 → ok p c = true → s (ch_nx p c) = ch_ot p) : ch_F ok s p = ch_ot p := by
  refine ch_F_o ?_ h2
  intro ⟨c, hc, h, e⟩
  have e2 := h2 c hc h
  have := ch_mo p
  omega
theorem ch_F2 (ok : Nat → Nat → Bool) (s : Nat → Nat) (p : Nat) : ch_F ok s p ≤ 2 := by
  have hm := ch_mo p
  by_cases h1 : ∃ c, c < 13 ∧ ok p c = true ∧ s (ch_nx p c) = ch_mv p
  · rw [ch_F_m h1]; omega
  · by_cases h2 : ∀ c, c < 13 → ok p c = true → s (ch_nx p c) = ch_ot p
    · rw [ch_F_o h1 h2]; omega
    · rw [ch_F_0 h1 h2]; omega
theorem ch_F_congr {ok : Nat → Nat → Bool} {s s' : Nat → Nat} {p : Nat} (h : ∀ c, c < 13 → ok p c = true → s (ch_nx p c) = s' (ch_nx p c)) : ch_F ok s p = ch_F ok s' p := by
  by_cases h1 : ∃ c, c < 13 ∧ ok p c = true ∧ s (ch_nx p c) = ch_mv p
  · obtain ⟨c, hc, ho, e⟩ := h1
    rw [ch_F_m ⟨c, hc, ho, e⟩, ch_F_m ⟨c, hc, ho, (h c hc ho).symm.trans e⟩]
  · have h1' : ¬ ∃ c, c < 13 ∧ ok p c = true ∧ s' (ch_nx p c) = ch_mv p := fun ⟨c, hc, ho, e⟩ => h1 ⟨c, hc, ho, (h c hc ho).trans e⟩
    by_cases h2 : ∀ c, c < 13 → ok p c = true → s (ch_nx p c) = ch_ot p
    · rw [ch_F_o h1 h2, ch_F_o h1' (fun c hc ho => (h c hc ho).symm.trans (h2 c hc ho))]
    · rw [ch_F_0 h1 h2, ch_F_0 h1' (fun h3 => h2 (fun c hc ho => (h c hc ho).trans (h3 c hc ho)))]
/-- who wins, as known before round r -/
noncomputable def ch_st (ok : Nat → Nat → Bool) (ov : Nat → Nat) : Nat → Nat → Nat
  | 0 => fun _ => 0
  | r + 1 => fun p => if ov p = 0 then ch_F ok (ch_st ok ov r) p else ov p
section
variable {ok : Nat → Nat → Bool} {ov : Nat → Nat}
theorem ch_st_0 (p : Nat) : ch_st ok ov 0 p = 0 := rfl
theorem ch_st_f {p : Nat} (r : Nat) (h : ov p = 0) : ch_st ok ov (r + 1) p = ch_F ok (ch_st ok ov r) p := if_pos h
theorem ch_st_v {p : Nat} (r : Nat) (h : ov p ≠ 0) : ch_st ok ov (r + 1) p = ov p := if_neg h
theorem ch_st_mono : ∀ (r p : Nat), ch_st ok ov r p ≠ 0 → ch_st ok ov (r + 1) p = ch_st ok ov r p
  | 0, p, h => absurd (ch_st_0 p) h
  | r + 1, p, h => by
    by_cases hv : ov p = 0
    · rw [ch_st_f r hv] at h ⊢
      rw [ch_st_f (r + 1) hv]
      have hm := ch_mo p
      by_cases h1 : ∃ c, c < 13 ∧ ok p c = true ∧ ch_st ok ov r (ch_nx p c) = ch_mv p
      · rw [ch_F_m h1]
        obtain ⟨c, hc, ho, e⟩ := h1
        exact ch_F_m ⟨c, hc, ho, (ch_st_mono r _ (by omega)).trans e⟩
      · by_cases h2 : ∀ c, c < 13 → ok p c = true → ch_st ok ov r (ch_nx p c) = ch_ot p
        · rw [ch_F_o h1 h2]
          exact ch_F_o' (fun c hc ho => (ch_st_mono r _ (by have := h2 c hc ho; omega)).trans (h2 c hc ho))
        · rw [ch_F_0 h1 h2] at h
          exact absurd rfl h
    · rw [ch_st_v r hv, ch_st_v (r + 1) hv]
theorem ch_st_up {r p : Nat} (h : ch_st ok ov r p ≠ 0) : ∀ k, ch_st ok ov (r + k) p = ch_st ok ov r p
  | 0 => rfl
  | k + 1 => by
    have e := ch_st_up h k
    rw [← e]
    exact ch_st_mono (r + k) p (by rw [e]; exact h)
theorem ch_stable (hK : ch_K ok) {r : Nat} (h : ∀ p, p < 432 → ch_st ok ov (r + 1) p = ch_st ok ov r p) : ∀ k p, p < 432 → ch_st ok ov (r + k) p = ch_st ok ov r p
  | 0, _, _ => rfl
  | k + 1, p, hp => by
    refine Eq.trans ?_ (h p hp)
    by_cases hv : ov p = 0
    · rw [ch_st_f r hv]
      refine (ch_st_f (r + k) hv).trans ?_
      exact ch_F_congr (fun c hc ho => ch_stable hK h k _ (hK p c hp hc ho))
    · rw [ch_st_v r hv]
      exact ch_st_v (r + k) hv
theorem ch_grow (hK : ch_K ok) : ∀ r, (∃ r', r' < r ∧ ∀ p, p < 432 → ch_st ok ov (r' + 1) p = ch_st ok ov r' p) ∨ r ≤ ch_n (fun p => ch_st ok ov r p ≠ 0) 432
  | 0 => Or.inr (Nat.zero_le _)
  | r + 1 => by
    rcases ch_grow hK r with ⟨r', hr, h⟩ | h
    · exact Or.inl ⟨r', by omega, h⟩
    · by_cases hs : ∀ p, p < 432 → ch_st ok ov (r + 1) p = ch_st ok ov r p
      · exact Or.inl ⟨r, by omega, hs⟩
      · refine Or.inr ?_
        obtain ⟨p, hp⟩ := Classical.not_forall.mp hs
        obtain ⟨hp1, hp2⟩ := Classical.not_imp.mp hp
        have h0 : ch_st ok ov r p = 0 := Classical.byContradiction (fun z => hp2 (ch_st_mono r p z))
        have h3 := ch_n_strict (P := fun p => ch_st ok ov r p ≠ 0) (Q := fun p => ch_st ok ov (r + 1) p ≠ 0) p (fun z => z h0) (fun z => hp2 (z.trans h0.symm)) 432 hp1 (fun j _ hj => by
          show ch_st ok ov (r + 1) j ≠ 0
          rw [ch_st_mono r j hj]; exact hj)
        omega
theorem ch_fix (hK : ch_K ok) : ∀ k p, p < 432 → ch_st ok ov (432 + k) p = ch_st ok ov 432 p := by
  rcases ch_grow (ok := ok) (ov := ov) hK 433 with ⟨r, hr, h⟩ | h
  · intro k p hp
    have e1 := ch_stable hK h (432 + k - r) p hp
    have e2 := ch_stable hK h (432 - r) p hp
    rw [show r + (432 + k - r) = 432 + k from by omega] at e1
    rw [show r + (432 - r) = 432 from by omega] at e2
    rw [e1, e2]
  · have := ch_n_le (fun p => ch_st ok ov 433 p ≠ 0) 432
    omega
end
/-- the right table: winners and lengths -/
def ch_Tab (ok : Nat → Nat → Bool) (ov w l : Nat → Nat) : Prop :=
  ∀ p, p < 432 → ∀ r, (w p ≠ 0 → l p < r → ch_st ok ov r p = w p) ∧ (w p = 0 ∨ r ≤ l p → ch_st ok ov r p = 0)
theorem ch_tab_uniq {ok : Nat → Nat → Bool} {ov w l w' l' : Nat → Nat} (h : ch_Tab ok ov w l) (h' : ch_Tab ok ov w' l') {p : Nat} (hp : p < 432) : w' p = w p ∧ (w p ≠ 0 → l' p = l p) := by
  have a := h p hp (l p + l' p + 1)
  have a' := h' p hp (l p + l' p + 1)
  by_cases z : w p = 0
  · refine ⟨?_, fun y => absurd z y⟩
    rw [z]
    refine Classical.byContradiction (fun y => ?_)
    have e1 := a.2 (Or.inl z)
    have e2 := a'.1 y (by omega)
    omega
  · have e1 := a.1 z (by omega)
    by_cases z' : w' p = 0
    · have e2 := a'.2 (Or.inl z')
      omega
    · have e2 := a'.1 z' (by omega)
      refine ⟨by omega, fun _ => ?_⟩
      rcases Nat.lt_trichotomy (l' p) (l p) with y | y | y
      · have e3 := (h p hp (l p)).2 (Or.inr (Nat.le_refl _))
        have e4 := (h' p hp (l p)).1 z' y
        omega
      · exact y
      · have e3 := (h p hp (l' p)).1 z y
        have e4 := (h' p hp (l' p)).2 (Or.inr (Nat.le_refl _))
        omega
end
section
/-! the table found by the queue -/
def ch_Mc (ok : Nat → Nat → Bool) (w l : Nat → Nat) (p : Nat) : Prop :=
  w p = ch_mv p ∧ (∃ c, c < 13 ∧ ok p c = true ∧ w (ch_nx p c) = ch_mv p ∧ l p = l (ch_nx p c) + 1) ∧
  (∀ c, c < 13 → ok p c = true → w (ch_nx p c) = ch_mv p → l p ≤ l (ch_nx p c) + 1)
def ch_Oc (ok : Nat → Nat → Bool) (w l : Nat → Nat) (p : Nat) : Prop :=
  w p = ch_ot p ∧ (∀ c, c < 13 → ok p c = true → w (ch_nx p c) = ch_ot p ∧ l (ch_nx p c) + 1 ≤ l p) ∧
  (l p = 0 ∨ ∃ c, c < 13 ∧ ok p c = true ∧ l p = l (ch_nx p c) + 1)
def ch_Set (ok : Nat → Nat → Bool) (ov w l : Nat → Nat) (p : Nat) : Prop :=
  (ov p ≠ 0 ∧ w p = ov p ∧ l p = 0) ∨ (ov p = 0 ∧ (ch_Mc ok w l p ∨ ch_Oc ok w l p))
def ch_Liv (ok : Nat → Nat → Bool) (ov w : Nat → Nat) (p : Nat) : Prop :=
  ov p = 0 ∧ (∀ c, c < 13 → ok p c = true → w (ch_nx p c) ≠ ch_mv p) ∧ ∃ c, c < 13 ∧ ok p c = true ∧ w (ch_nx p c) ≠ ch_ot p
theorem ch_tabr {s W L r m : Nat} (h : (W ≠ 0 → L < r → s = W) ∧ (W = 0 ∨ r ≤ L → s = 0)) (e : s = m) (hm : m ≠ 0) : W = m ∧ L < r := by
  by_cases z : W = 0 ∨ r ≤ L
  · have := h.2 z
    omega
  · have := h.1 (by omega) (by omega)
    omega
theorem ch_loc_tab {ok : Nat → Nat → Bool} {ov w l : Nat → Nat} (hK : ch_K ok) (h1 : ∀ p, p < 432 → w p ≠ 0 → ch_Set ok ov w l p) (h0 : ∀ p, p < 432 → w p = 0 → ch_Liv ok ov w p) : ch_Tab ok ov w l := by
  intro p hp r
  revert p
  induction r with
  | zero => exact fun p hp => ⟨fun _ h => absurd h (Nat.not_lt_zero _), fun _ => rfl⟩
  | succ r ih =>
    intro p hp
    have hm := ch_mo p
    have hm0 : ch_mv p ≠ 0 := by omega
    have hmo : ch_mv p ≠ ch_ot p := by omega
    by_cases hw : w p = 0
    · obtain ⟨hv, ha, c0, hc0, ho0, hne⟩ := h0 p hp hw
      refine ⟨fun z => absurd hw z, fun _ => ?_⟩
      rw [ch_st_f r hv]
      refine ch_F_0 ?_ ?_
      · intro ⟨c, hc, ho, e⟩
        exact ha c hc ho (ch_tabr (ih _ (hK p c hp hc ho)) e (by omega)).1
      · intro hall
        exact hne (ch_tabr (ih _ (hK p c0 hp hc0 ho0)) (hall c0 hc0 ho0) (by omega)).1
    · rcases h1 p hp hw with ⟨hv, e, e0⟩ | ⟨hv, ⟨em, ⟨c1, hc1, ho1, e1, el⟩, hall⟩ | ⟨eo, hall, hex⟩⟩
      · refine ⟨fun _ _ => ?_, fun h => ?_⟩
        · rw [ch_st_v r hv, e]
        · omega
      · refine ⟨fun _ hl => ?_, fun h => ?_⟩
        · rw [ch_st_f r hv, em]
          exact ch_F_m ⟨c1, hc1, ho1, ((ih _ (hK p c1 hp hc1 ho1)).1 (by omega) (by omega)).trans e1⟩
        · rw [ch_st_f r hv]
          refine ch_F_0 ?_ ?_
          · intro ⟨c, hc, ho, e⟩
            have h2 := ch_tabr (ih _ (hK p c hp hc ho)) e (by omega)
            have h3 := hall c hc ho h2.1
            omega
          · intro ha
            have h2 := ch_tabr (ih _ (hK p c1 hp hc1 ho1)) (ha c1 hc1 ho1) (by omega)
            omega
      · refine ⟨fun _ hl => ?_, fun h => ?_⟩
        · rw [ch_st_f r hv, eo]
          refine ch_F_o' (fun c hc ho => ?_)
          have h2 := hall c hc ho
          exact ((ih _ (hK p c hp hc ho)).1 (by omega) (by omega)).trans h2.1
        · rw [ch_st_f r hv]
          refine ch_F_0 ?_ ?_
          · intro ⟨c, hc, ho, e⟩
            have h2 := ch_tabr (ih _ (hK p c hp hc ho)) e hm0
            have h3 := hall c hc ho
            exact hmo (h2.1.symm.trans h3.1)
          · intro ha
            rcases hex with z | ⟨c, hc, ho, e⟩
            · omega
            · have h2 := ch_tabr (ih _ (hK p c hp hc ho)) (ha c hc ho) (by omega)
              omega
/-! the invariant: i positions of the queue are told on; sub: the moves into the next one that are told -/
def ch_pd (q : Nat → Nat) (i : Nat) (sub : Nat → Nat → Prop) (p c : Nat) : Prop :=
  (∃ j, j < i ∧ q j = ch_nx p c) ∨ (q i = ch_nx p c ∧ sub p c)
def ch_Q (w l q : Nat → Nat) (n i : Nat) : Prop :=
  n = ch_n (fun p => w p ≠ 0) 432 ∧
  (∀ j, j < n → q j < 432 ∧ w (q j) ≠ 0 ∧ l (q j) ≤ j) ∧
  (∀ p, p < 432 → w p ≠ 0 → ∃ j, j < n ∧ q j = p) ∧
  (∀ j k, j < n → k < n → q j = q k → j = k) ∧
  (∀ j k, j ≤ k → k < n → l (q j) ≤ l (q k)) ∧
  (i < n → ∀ j, j < n → l (q j) ≤ l (q i) + 1)
def ch_L (ok : Nat → Nat → Bool) (ov w o q : Nat → Nat) (i : Nat) (sub : Nat → Nat → Prop) : Prop :=
  ∀ p, p < 432 → w p = 0 → ov p = 0 ∧ o p = ch_n (fun c => ok p c = true ∧ ¬ ch_pd q i sub p c) 13 ∧ o p ≠ 0 ∧
    (∀ c, c < 13 → ok p c = true → ch_pd q i sub p c → w (ch_nx p c) = ch_ot p)
def ch_S (ok : Nat → Nat → Bool) (ov w l : Nat → Nat) : Prop := ∀ p, p < 432 → w p ≠ 0 → ch_Set ok ov w l p
def ch_Inv (ok : Nat → Nat → Bool) (ov w l o q : Nat → Nat) (n i : Nat) (sub : Nat → Nat → Prop) : Prop :=
  ch_Q w l q n i ∧ ch_L ok ov w o q i sub ∧ ch_S ok ov w l ∧ (∀ p, p < 432 → w p ≤ 2)
/-- sub with one move more -/
def ch_Sub (ok : Nat → Nat → Bool) (z : Nat) (sub sub' : Nat → Nat → Prop) (p c : Nat) : Prop :=
  ∀ p' c', p' < 432 → c' < 13 → ok p' c' = true → ch_nx p' c' = z → (sub' p' c' ↔ (sub p' c' ∨ (p' = p ∧ c' = c)))
section
variable {ok : Nat → Nat → Bool} {ov w l o q : Nat → Nat} {n i p c : Nat} {sub sub' : Nat → Nat → Prop}
theorem ch_pd_ne (hS : ch_Sub ok (q i) sub sub' p c) {p' c' : Nat} (hp : p' < 432) (hc : c' < 13) (ho : ok p' c' = true) (hne : ¬ (p' = p ∧ c' = c)) : ch_pd q i sub' p' c' ↔ ch_pd q i sub p' c' := by
  unfold ch_pd
  refine ⟨fun h => ?_, fun h => ?_⟩
  · rcases h with h | ⟨h1, h2⟩
    · exact Or.inl h
    · rcases (hS p' c' hp hc ho h1.symm).mp h2 with h3 | h3
      · exact Or.inr ⟨h1, h3⟩
      · exact absurd h3 hne
  · rcases h with h | ⟨h1, h2⟩
    · exact Or.inl h
    · exact Or.inr ⟨h1, (hS p' c' hp hc ho h1.symm).mpr (Or.inl h2)⟩
theorem ch_pd_eq (hS : ch_Sub ok (q i) sub sub' p c) (hp : p < 432) (hc : c < 13) (ho : ok p c = true) (hx : ch_nx p c = q i) : ch_pd q i sub' p c :=
  Or.inr ⟨hx.symm, (hS p c hp hc ho hx).mpr (Or.inr ⟨rfl, rfl⟩)⟩
theorem ch_pd_not (hQ : ch_Q w l q n i) (hi : i < n) (hx : ch_nx p c = q i) (hns : ¬ sub p c) : ¬ ch_pd q i sub p c := by
  intro h
  rcases h with ⟨j, hj, e⟩ | ⟨_, h2⟩
  · have := hQ.2.2.2.1 j i (by omega) hi (e.trans hx)
    omega
  · exact hns h2
theorem ch_cnt (hQ : ch_Q w l q n i) (hi : i < n) (hS : ch_Sub ok (q i) sub sub' p c) (hp : p < 432) (hc : c < 13) (ho : ok p c = true) (hx : ch_nx p c = q i) (hns : ¬ sub p c) :
    ch_n (fun c => ok p c = true ∧ ¬ ch_pd q i sub p c) 13 = ch_n (fun c => ok p c = true ∧ ¬ ch_pd q i sub' p c) 13 + 1 := by
  refine ch_n_add (P := fun c => ok p c = true ∧ ¬ ch_pd q i sub' p c) (Q := fun c => ok p c = true ∧ ¬ ch_pd q i sub p c) c ?_ ?_ 13 hc ?_
  · exact fun h => h.2 (ch_pd_eq hS hp hc ho hx)
  · exact ⟨ho, ch_pd_not hQ hi hx hns⟩
  · intro j hj hne
    refine ⟨fun h => ⟨h.1, fun z => h.2 ?_⟩, fun h => ⟨h.1, fun z => h.2 ?_⟩⟩
    · exact (ch_pd_ne hS hp hj h.1 (fun y => hne y.2)).mpr z
    · exact (ch_pd_ne hS hp hj h.1 (fun y => hne y.2)).mp z
theorem ch_cnt_ne (hS : ch_Sub ok (q i) sub sub' p c) {p' : Nat} (hp : p' < 432) (hne : p' ≠ p) :
    ch_n (fun c => ok p' c = true ∧ ¬ ch_pd q i sub p' c) 13 = ch_n (fun c => ok p' c = true ∧ ¬ ch_pd q i sub' p' c) 13 := by
  refine ch_n_congr 13 (fun j hj => ?_)
  refine ⟨fun h => ⟨h.1, fun z => h.2 ?_⟩, fun h => ⟨h.1, fun z => h.2 ?_⟩⟩
  · exact (ch_pd_ne hS hp hj h.1 (fun y => hne y.1)).mp z
  · exact (ch_pd_ne hS hp hj h.1 (fun y => hne y.1)).mpr z
/-- a position that is settled already -/
theorem ch_stepA (I : ch_Inv ok ov w l o q n i sub) (hS : ch_Sub ok (q i) sub sub' p c) (hw : w p ≠ 0) : ch_Inv ok ov w l o q n i sub' := by
  obtain ⟨hQ, hL, hT, h2⟩ := I
  refine ⟨hQ, ?_, hT, h2⟩
  intro p' hp' hw'
  have hne : p' ≠ p := fun e => hw (by rw [← e]; exact hw')
  obtain ⟨a1, a2, a3, a4⟩ := hL p' hp' hw'
  refine ⟨a1, ?_, a3, fun c' hc' ho' hd => a4 c' hc' ho' ?_⟩
  · rw [a2]; exact ch_cnt_ne hS hp' hne
  · exact (ch_pd_ne hS hp' hc' ho' (fun y => hne y.1)).mp hd
/-- one way less -/
theorem ch_stepB (I : ch_Inv ok ov w l o q n i sub) (hi : i < n) (hS : ch_Sub ok (q i) sub sub' p c) (hp : p < 432) (hc : c < 13) (ho : ok p c = true) (hx : ch_nx p c = q i) (hns : ¬ sub p c) (hw : w p = 0) (hm : ch_mv p ≠ w (q i)) (hz : o p - 1 ≠ 0) :
    ch_Inv ok ov w l (ch_up o p (o p - 1)) q n i sub' := by
  obtain ⟨hQ, hL, hT, h2⟩ := I
  refine ⟨hQ, ?_, hT, h2⟩
  intro p' hp' hw'
  obtain ⟨a1, a2, a3, a4⟩ := hL p' hp' hw'
  by_cases e : p' = p
  · subst e
    have h5 := ch_cnt hQ hi hS hp hc ho hx hns
    rw [ch_us]
    refine ⟨a1, by omega, hz, fun c' hc' ho' hd => ?_⟩
    by_cases ec : c' = c
    · subst ec
      rw [hx]
      have b1 := (hQ.2.1 i hi).2.1
      have b2 := h2 (q i) (hQ.2.1 i hi).1
      have b3 := ch_mo p'
      omega
    · exact a4 c' hc' ho' ((ch_pd_ne hS hp hc' ho' (fun y => ec y.2)).mp hd)
  · rw [ch_un e]
    refine ⟨a1, ?_, a3, fun c' hc' ho' hd => a4 c' hc' ho' ?_⟩
    · rw [a2]; exact ch_cnt_ne hS hp' e
    · exact (ch_pd_ne hS hp' hc' ho' (fun y => e y.1)).mp hd
theorem ch_Qins (hQ : ch_Q w l q n i) (hi : i < n) (hp : p < 432) (hw : w p = 0) {who : Nat} (hwho : who ≠ 0) :
    ch_Q (ch_up w p who) (ch_up l p (l (q i) + 1)) (ch_up q n p) (n + 1) i := by
  obtain ⟨h1, h2, h3, h4, h5, h6⟩ := hQ
  have hq : ∀ j, j < n → ch_up q n p j = q j := fun j hj => ch_un (by omega)
  have hqn : ch_up q n p n = p := ch_us
  have hne : ∀ j, j < n → q j ≠ p := fun j hj e => (h2 j hj).2.1 (by rw [e]; exact hw)
  have hl : ∀ j, j < n → ch_up l p (l (q i) + 1) (ch_up q n p j) = l (q j) := fun j hj => by rw [hq j hj, ch_un (hne j hj)]
  have hln : ch_up l p (l (q i) + 1) (ch_up q n p n) = l (q i) + 1 := by rw [hqn, ch_us]
  have hi2 := (h2 i hi).2.2
  refine ⟨?_, ?_, ?_, ?_, ?_, ?_⟩
  · have h7 := ch_n_add (P := fun p => w p ≠ 0) (Q := fun j => ch_up w p who j ≠ 0) p (fun z => z hw) (by show ch_up w p who p ≠ 0; rw [ch_us]; exact hwho) 432 hp (fun j _ hj => by
      show w j ≠ 0 ↔ ch_up w p who j ≠ 0
      rw [ch_un hj])
    omega
  · intro j hj
    by_cases e : j = n
    · subst e
      refine ⟨by rw [hqn]; exact hp, by rw [hqn, ch_us]; exact hwho, ?_⟩
      rw [hln]; omega
    · have hj' : j < n := by omega
      obtain ⟨a1, a2, a3⟩ := h2 j hj'
      refine ⟨by rw [hq j hj']; exact a1, ?_, by rw [hl j hj']; exact a3⟩
      rw [hq j hj', ch_un (hne j hj')]; exact a2
  · intro p' hp' hw'
    by_cases e : p' = p
    · exact ⟨n, by omega, by rw [hqn, e]⟩
    · rw [ch_un e] at hw'
      obtain ⟨j, hj, ej⟩ := h3 p' hp' hw'
      exact ⟨j, by omega, by rw [hq j hj]; exact ej⟩
  · intro j k hj hk e
    by_cases ej : j = n
    · by_cases ek : k = n
      · omega
      · rw [ej, hqn, hq k (by omega)] at e
        exact absurd e.symm (hne k (by omega))
    · by_cases ek : k = n
      · rw [ek, hqn, hq j (by omega)] at e
        exact absurd e (hne j (by omega))
      · rw [hq j (by omega), hq k (by omega)] at e
        exact h4 j k (by omega) (by omega) e
  · intro j k hjk hk
    by_cases ek : k = n
    · by_cases ej : j = n
      · rw [ej, ek]; exact Nat.le_refl _
      · rw [ek, hln, hl j (by omega)]
        exact h6 hi j (by omega)
    · rw [hl j (by omega), hl k (by omega)]
      exact h5 j k hjk (by omega)
  · intro _ j hj
    rw [hl i hi]
    by_cases ej : j = n
    · rw [ej, hln]; exact Nat.le_refl _
    · rw [hl j (by omega)]
      exact h6 hi j (by omega)
theorem ch_pd_q (hi : i < n) {p' c' : Nat} : ch_pd (ch_up q n p) i sub p' c' ↔ ch_pd q i sub p' c' := by
  have hq : ∀ j, j < n → ch_up q n p j = q j := fun j hj => ch_un (by omega)
  unfold ch_pd
  rw [hq i hi]
  refine ⟨fun h => ?_, fun h => ?_⟩
  · rcases h with ⟨j, hj, e⟩ | h
    · exact Or.inl ⟨j, hj, by rw [← hq j (by omega)]; exact e⟩
    · exact Or.inr h
  · rcases h with ⟨j, hj, e⟩ | h
    · exact Or.inl ⟨j, hj, by rw [hq j (by omega)]; exact e⟩
    · exact Or.inr h
/-- what was settled stays as it is -/
theorem ch_Sold (hQ : ch_Q w l q n i) (hi : i < n) (hp : p < 432) (hw : w p = 0) {who : Nat} {p' : Nat} (hp' : p' < 432) (hw' : w p' ≠ 0) (h : ch_Set ok ov w l p') :
    ch_Set ok ov (ch_up w p who) (ch_up l p (l (q i) + 1)) p' := by
  have hne : p' ≠ p := fun e => hw' (by rw [e]; exact hw)
  have hz : ∀ x, w x ≠ 0 → ch_up w p who x = w x ∧ ch_up l p (l (q i) + 1) x = l x := fun x hx =>
    have e : x ≠ p := fun e => hx (by rw [e]; exact hw)
    ⟨ch_un e, ch_un e⟩
  have hm := ch_mo p'
  unfold ch_Set ch_Mc ch_Oc
  rw [(hz p' hw').1, (hz p' hw').2]
  rcases h with h | ⟨hv, ⟨em, ⟨c1, hc1, ho1, e1, el⟩, hall⟩ | ⟨eo, hall, hex⟩⟩
  · exact Or.inl h
  · refine Or.inr ⟨hv, Or.inl ⟨em, ⟨c1, hc1, ho1, ?_, ?_⟩, fun c' hc' ho' hx => ?_⟩⟩
    · rw [(hz _ (by omega)).1]; exact e1
    · rw [(hz _ (by omega)).2]; exact el
    · by_cases e : ch_nx p' c' = p
      · rw [e, ch_us]
        obtain ⟨j, hj, ej⟩ := hQ.2.2.1 p' hp' hw'
        have := hQ.2.2.2.2.2 hi j hj
        rw [ej] at this
        omega
      · rw [ch_un e] at hx ⊢
        exact hall c' hc' ho' hx
  · refine Or.inr ⟨hv, Or.inr ⟨eo, fun c' hc' ho' => ?_, ?_⟩⟩
    · have a := hall c' hc' ho'
      rw [(hz _ (by omega)).1, (hz _ (by omega)).2]; exact a
    · rcases hex with h | ⟨c1, hc1, ho1, e1⟩
      · exact Or.inl h
      · have a := hall c1 hc1 ho1
        refine Or.inr ⟨c1, hc1, ho1, ?_⟩
        rw [(hz _ (by omega)).2]; exact e1
/-- the new one is settled rightly -/
theorem ch_Snew (hK : ch_K ok) (I : ch_Inv ok ov w l o q n i sub) (hi : i < n) (hS : ch_Sub ok (q i) sub sub' p c) (hp : p < 432) (hc : c < 13) (ho : ok p c = true) (hx : ch_nx p c = q i) (hns : ¬ sub p c) (hw : w p = 0) (hm : ch_mv p = w (q i) ∨ o p - 1 = 0) :
    ch_Set ok ov (ch_up w p (w (q i))) (ch_up l p (l (q i) + 1)) p := by
  obtain ⟨hQ, hL, hT, h2⟩ := I
  have b1 := (hQ.2.1 i hi).2.1
  have b2 := h2 (q i) (hQ.2.1 i hi).1
  have b3 := ch_mo p
  have hz : ∀ x, w x ≠ 0 → ch_up w p (w (q i)) x = w x ∧ ch_up l p (l (q i) + 1) x = l x := fun x hx =>
    have e : x ≠ p := fun e => hx (by rw [e]; exact hw)
    ⟨ch_un e, ch_un e⟩
  obtain ⟨a1, a2, a3, a4⟩ := hL p hp hw
  unfold ch_Set ch_Mc ch_Oc
  rw [ch_us, ch_us]
  refine Or.inr ⟨a1, ?_⟩
  by_cases hmv : ch_mv p = w (q i)
  · refine Or.inl ⟨hmv.symm, ⟨c, hc, ho, ?_, ?_⟩, fun c' hc' ho' hx' => ?_⟩
    · rw [hx, (hz _ b1).1, hmv]
    · rw [hx, (hz _ b1).2]
    · by_cases e : ch_nx p c' = p
      · rw [e, ch_us]; omega
      · rw [ch_un e] at hx' ⊢
        have hnd : ¬ ch_pd q i sub p c' := fun hd => by
          have := a4 c' hc' ho' hd
          omega
        obtain ⟨j, hj, ej⟩ := hQ.2.2.1 _ (hK p c' hp hc' ho') (by omega)
        have hji : ¬ j < i := fun hji => hnd (Or.inl ⟨j, hji, ej⟩)
        have := hQ.2.2.2.2.1 i j (by omega) hj
        rw [ej] at this
        omega
  · have hz0 : o p - 1 = 0 := by
      rcases hm with h | h
      · exact absurd h hmv
      · exact h
    have h5 := ch_cnt hQ hi hS hp hc ho hx hns
    have h6 := ch_n_0 13 (show ch_n (fun c => ok p c = true ∧ ¬ ch_pd q i sub' p c) 13 = 0 by omega)
    refine Or.inr ⟨by omega, fun c' hc' ho' => ?_, Or.inr ⟨c, hc, ho, ?_⟩⟩
    · by_cases ec : c' = c
      · subst ec
        rw [hx, (hz _ b1).1, (hz _ b1).2]
        exact ⟨by omega, Nat.le_refl _⟩
      · have hd' : ch_pd q i sub' p c' := Classical.byContradiction (fun y => h6 c' hc' ⟨ho', y⟩)
        have hd := (ch_pd_ne hS hp hc' ho' (fun y => ec y.2)).mp hd'
        have a5 := a4 c' hc' ho' hd
        rw [(hz _ (by omega)).1, (hz _ (by omega)).2]
        refine ⟨a5, ?_⟩
        rcases hd with ⟨j, hj, ej⟩ | ⟨ej, _⟩
        · have := hQ.2.2.2.2.1 j i (by omega) hi
          rw [ej] at this
          omega
        · rw [ej]; exact Nat.le_refl _
    · rw [hx, (hz _ b1).2]
theorem ch_room (hQ : ch_Q w l q n i) (hp : p < 432) (hw : w p = 0) : n < 432 := by
  have h := ch_n_lt (P := fun p => w p ≠ 0) hp (fun z => z hw)
  have := hQ.1
  omega
/-- settled now -/
theorem ch_stepC (hK : ch_K ok) (I : ch_Inv ok ov w l o q n i sub) (hi : i < n) (hS : ch_Sub ok (q i) sub sub' p c) (hp : p < 432) (hc : c < 13) (ho : ok p c = true) (hx : ch_nx p c = q i) (hns : ¬ sub p c) (hw : w p = 0) (hm : ch_mv p = w (q i) ∨ o p - 1 = 0) :
    ch_Inv ok ov (ch_up w p (w (q i))) (ch_up l p (l (q i) + 1)) (ch_up o p (o p - 1)) (ch_up q n p) (n + 1) i sub' := by
  have hnew := ch_Snew hK I hi hS hp hc ho hx hns hw hm
  obtain ⟨hQ, hL, hT, h2⟩ := I
  have b1 := (hQ.2.1 i hi).2.1
  have b2 := h2 (q i) (hQ.2.1 i hi).1
  refine ⟨ch_Qins hQ hi hp hw b1, ?_, ?_, ?_⟩
  · intro p' hp' hw'
    have e : p' ≠ p := fun e => by
      rw [e, ch_us] at hw'
      exact b1 hw'
    rw [ch_un e] at hw' ⊢
    obtain ⟨a1, a2, a3, a4⟩ := hL p' hp' hw'
    refine ⟨a1, ?_, a3, fun c' hc' ho' hd => ?_⟩
    · rw [a2, ch_cnt_ne hS hp' e]
      exact ch_n_congr 13 (fun j _ => and_congr Iff.rfl (not_congr (ch_pd_q hi).symm))
    · have a5 := a4 c' hc' ho' ((ch_pd_ne hS hp' hc' ho' (fun y => e y.1)).mp ((ch_pd_q hi).mp hd))
      have e2 : ch_nx p' c' ≠ p := fun e2 => by
        rw [e2, hw] at a5
        have := ch_mo p'
        omega
      rw [ch_un e2]; exact a5
  · intro p' hp' hw'
    by_cases e : p' = p
    · rw [e]; exact hnew
    · rw [ch_un e] at hw'
      exact ch_Sold hQ hi hp hw hp' hw' (hT p' hp' hw')
  · intro p' hp'
    by_cases e : p' = p
    · rw [e, ch_us]; exact b2
    · rw [ch_un e]; exact h2 p' hp'
theorem ch_omax (I : ch_Inv ok ov w l o q n i sub) (hp : p < 432) (hw : w p = 0) : o p ≠ 0 ∧ o p ≤ 13 := by
  obtain ⟨_, a2, a3, _⟩ := I.2.1 p hp hw
  have := ch_n_le (fun c => ok p c = true ∧ ¬ ch_pd q i sub p c) 13
  omega
/-- on to the next position of the queue -/
theorem ch_next (I : ch_Inv ok ov w l o q n i sub) (hi : i < n) (hall : ∀ p c, p < 432 → c < 13 → ok p c = true → ch_nx p c = q i → sub p c) : ch_Inv ok ov w l o q n (i + 1) (fun _ _ => False) := by
  obtain ⟨hQ, hL, hT, h2⟩ := I
  have hpd : ∀ p c, p < 432 → c < 13 → ok p c = true → (ch_pd q (i + 1) (fun _ _ => False) p c ↔ ch_pd q i sub p c) := by
    intro p c hp hc ho
    refine ⟨fun h => ?_, fun h => ?_⟩
    · rcases h with ⟨j, hj, e⟩ | h
      · by_cases ej : j = i
        · subst ej
          exact Or.inr ⟨e, hall p c hp hc ho e.symm⟩
        · exact Or.inl ⟨j, by omega, e⟩
      · exact h.2.elim
    · rcases h with ⟨j, hj, e⟩ | h
      · exact Or.inl ⟨j, by omega, e⟩
      · exact Or.inl ⟨i, by omega, h.1⟩
  refine ⟨⟨hQ.1, hQ.2.1, hQ.2.2.1, hQ.2.2.2.1, hQ.2.2.2.2.1, fun hi1 j hj => ?_⟩, ?_, hT, h2⟩
  · have a := hQ.2.2.2.2.2 hi j hj
    have b := hQ.2.2.2.2.1 i (i + 1) (by omega) hi1
    omega
  · intro p hp hw
    obtain ⟨a1, a2, a3, a4⟩ := hL p hp hw
    refine ⟨a1, ?_, a3, fun c hc ho hd => a4 c hc ho ((hpd p c hp hc ho).mp hd)⟩
    rw [a2]
    refine ch_n_congr 13 (fun c hc => ?_)
    exact ⟨fun h => ⟨h.1, fun z => h.2 ((hpd p c hp hc h.1).mp z)⟩, fun h => ⟨h.1, fun z => h.2 ((hpd p c hp hc h.1).mpr z)⟩⟩
/-- the end -/
theorem ch_done (hK : ch_K ok) (I : ch_Inv ok ov w l o q n n (fun _ _ => False)) : ch_Tab ok ov w l := by
  obtain ⟨hQ, hL, hT, h2⟩ := I
  refine ch_loc_tab hK hT ?_
  intro p hp hw
  obtain ⟨a1, a2, a3, a4⟩ := hL p hp hw
  have hm := ch_mo p
  refine ⟨a1, fun c hc ho e => ?_, ?_⟩
  · obtain ⟨j, hj, ej⟩ := hQ.2.2.1 _ (hK p c hp hc ho) (by omega)
    have := a4 c hc ho (Or.inl ⟨j, hj, ej⟩)
    omega
  · rw [a2] at a3
    obtain ⟨c, hc, ho, hd⟩ := ch_n_ex 13 a3
    refine ⟨c, hc, ho, fun e => ?_⟩
    obtain ⟨j, hj, ej⟩ := hQ.2.2.1 _ (hK p c hp hc ho) (by omega)
    exact hd (Or.inl ⟨j, hj, ej⟩)
end
/-! the first pass -/
noncomputable def ch_mc (ok : Nat → Nat → Bool) (p : Nat) : Nat := ch_n (fun c => ok p c = true) 13
noncomputable def ch_W0 (ok : Nat → Nat → Bool) (ov : Nat → Nat) (p : Nat) : Nat :=
  if ov p = 0 then (if ch_mc ok p = 0 then ch_ot p else 0) else ov p
def ch_P0 (ok : Nat → Nat → Bool) (ov w l o q : Nat → Nat) (n i : Nat) : Prop :=
  (∀ p, p < i → w p = ch_W0 ok ov p ∧ l p = 0 ∧ o p = ch_mc ok p) ∧
  n = ch_n (fun p => ch_W0 ok ov p ≠ 0) i ∧
  (∀ j, j < n → q j < i ∧ ch_W0 ok ov (q j) ≠ 0) ∧
  (∀ p, p < i → ch_W0 ok ov p ≠ 0 → ∃ j, j < n ∧ q j = p) ∧
  (∀ j k, j < n → k < n → q j = q k → j = k)
section
variable {ok : Nat → Nat → Bool} {ov w l o q : Nat → Nat} {n i : Nat}
theorem ch_P0_0 : ch_P0 ok ov w l o q 0 0 :=
  ⟨fun p h => absurd h (Nat.not_lt_zero p), rfl, fun p h => absurd h (Nat.not_lt_zero p), fun p h => absurd h (Nat.not_lt_zero p), fun j _ h => absurd h (Nat.not_lt_zero j)⟩
theorem ch_P0_n (h : ch_P0 ok ov w l o q n i) : n ≤ i := by
  rw [h.2.1]; exact ch_n_le _ i
theorem ch_P0_no (h : ch_P0 ok ov w l o q n i) (hw : ch_W0 ok ov i = 0) : ch_P0 ok ov (ch_up w i 0) (ch_up l i 0) (ch_up o i (ch_mc ok i)) q n (i + 1) := by
  obtain ⟨h1, h2, h3, h4, h5⟩ := h
  refine ⟨fun p hp => ?_, ?_, fun j hj => ?_, fun p hp hz => ?_, h5⟩
  · by_cases e : p = i
    · subst e
      rw [ch_us, ch_us, ch_us]; exact ⟨hw.symm, rfl, rfl⟩
    · rw [ch_un e, ch_un e, ch_un e]; exact h1 p (by omega)
  · rw [h2]
    show _ = ch_n (fun p => ch_W0 ok ov p ≠ 0) i + ch_b (ch_W0 ok ov i ≠ 0)
    rw [ch_bf (fun z => z hw)]
    rfl
  · have := h3 j hj
    exact ⟨by omega, this.2⟩
  · by_cases e : p = i
    · rw [e] at hz
      exact absurd hw hz
    · exact h4 p (by omega) hz
theorem ch_P0_yes (h : ch_P0 ok ov w l o q n i) (hw : ch_W0 ok ov i ≠ 0) : ch_P0 ok ov (ch_up (ch_up w i 0) i (ch_W0 ok ov i)) (ch_up (ch_up l i 0) i 0) (ch_up o i (ch_mc ok i)) (ch_up q n i) (n + 1) (i + 1) := by
  obtain ⟨h1, h2, h3, h4, h5⟩ := h
  have hq : ∀ j, j < n → ch_up q n i j = q j := fun j hj => ch_un (by omega)
  have hqn : ch_up q n i n = i := ch_us
  refine ⟨fun p hp => ?_, ?_, fun j hj => ?_, fun p hp hz => ?_, fun j k hj hk e => ?_⟩
  · by_cases e : p = i
    · subst e
      rw [ch_us, ch_us, ch_us]; exact ⟨rfl, rfl, rfl⟩
    · rw [ch_un e, ch_un e, ch_un e, ch_un e, ch_un e]; exact h1 p (by omega)
  · rw [h2]
    show _ = ch_n (fun p => ch_W0 ok ov p ≠ 0) i + ch_b (ch_W0 ok ov i ≠ 0)
    rw [ch_bt hw]
  · by_cases e : j = n
    · rw [e, hqn]; exact ⟨by omega, hw⟩
    · rw [hq j (by omega)]
      have := h3 j (by omega)
      exact ⟨by omega, this.2⟩
  · by_cases e : p = i
    · exact ⟨n, by omega, by rw [hqn, e]⟩
    · obtain ⟨j, hj, ej⟩ := h4 p (by omega) hz
      exact ⟨j, by omega, by rw [hq j hj]; exact ej⟩
  · by_cases ej : j = n
    · by_cases ek : k = n
      · omega
      · rw [ej, hqn, hq k (by omega)] at e
        have := (h3 k (by omega)).1
        omega
    · by_cases ek : k = n
      · rw [ek, hqn, hq j (by omega)] at e
        have := (h3 j (by omega)).1
        omega
      · rw [hq j (by omega), hq k (by omega)] at e
        exact h5 j k (by omega) (by omega) e
theorem ch_start (hv2 : ∀ p, ov p ≤ 2) (h : ch_P0 ok ov w l o q n 432) : ch_Inv ok ov w l o q n 0 (fun _ _ => False) := by
  obtain ⟨h1, h2, h3, h4, h5⟩ := h
  have hnd : ∀ p c, ¬ ch_pd q 0 (fun _ _ => False) p c := fun p c h => by
    rcases h with ⟨j, hj, _⟩ | h
    · omega
    · exact h.2
  refine ⟨⟨?_, fun j hj => ?_, fun p hp hw => ?_, h5, fun j k hjk hk => ?_, fun _ j hj => ?_⟩, fun p hp hw => ?_, fun p hp hw => ?_, fun p hp => ?_⟩
  · rw [h2]
    exact ch_n_congr 432 (fun p hp => by rw [(h1 p hp).1])
  · have a := h3 j hj
    have b := h1 (q j) a.1
    exact ⟨a.1, by rw [b.1]; exact a.2, by omega⟩
  · rw [(h1 p hp).1] at hw
    exact h4 p hp hw
  · have a := h1 (q j) (h3 j (by omega)).1
    omega
  · have a := h1 (q j) (h3 j (by omega)).1
    omega
  · obtain ⟨e1, _, e3⟩ := h1 p hp
    have hm := ch_mo p
    rw [e1] at hw
    unfold ch_W0 at hw
    by_cases hv : ov p = 0
    · rw [if_pos hv] at hw
      by_cases hc : ch_mc ok p = 0
      · rw [if_pos hc] at hw
        omega
      · refine ⟨hv, ?_, by omega, fun c _ _ hd => absurd hd (hnd p c)⟩
        rw [e3]
        exact ch_n_congr 13 (fun c _ => ⟨fun h => ⟨h, hnd p c⟩, fun h => h.1⟩)
    · rw [if_neg hv] at hw
      exact absurd hw hv
  · obtain ⟨e1, e2, e3⟩ := h1 p hp
    unfold ch_W0 at e1
    by_cases hv : ov p = 0
    · rw [if_pos hv] at e1
      by_cases hc : ch_mc ok p = 0
      · rw [if_pos hc] at e1
        refine Or.inr ⟨hv, Or.inr ⟨e1, fun c hcc ho => ?_, Or.inl e2⟩⟩
        exact absurd ho (ch_n_0 13 hc c hcc)
      · rw [if_neg hc] at e1
        exact absurd e1 hw
    · rw [if_neg hv] at e1
      exact Or.inl ⟨hv, e1, e2⟩
  · rw [(h1 p hp).1]
    unfold ch_W0
    have hm := ch_mo p
    have hv := hv2 p
    split
    · split <;> omega
    · exact hv
end
end
section
/-! the table found by rounds: what a position's entry says once r rounds are over (ch_B), or ahead of round r (ch_A) -/
def ch_B (ok : Nat → Nat → Bool) (ov : Nat → Nat) (r W L q : Nat) : Prop :=
  W ≤ 2 ∧ (W ≠ 0 → L < r) ∧ ∀ r', r' ≤ r → (W ≠ 0 → L < r' → ch_st ok ov r' q = W) ∧ (W = 0 ∨ r' ≤ L → ch_st ok ov r' q = 0)
def ch_A (ok : Nat → Nat → Bool) (ov : Nat → Nat) (r W L q : Nat) : Prop :=
  (r = 0 ∧ W = ov q ∧ L = 0) ∨ (0 < r ∧ ch_B ok ov r W L q)
/-- an entry as round r reads it -/
def ch_Fo (s : Nat → Nat) (r : Nat) (W L q : Nat) : Prop :=
  W ≤ 2 ∧ (W ≠ 0 → L ≤ r) ∧ ∀ m, m ≠ 0 → ((W = m ∧ L < r) ↔ s q = m)
section
variable {ok : Nat → Nat → Bool} {ov : Nat → Nat} {r W L q : Nat}
theorem ch_A_fo (hv : ∀ p, ov p ≤ 2) (h : ch_A ok ov r W L q) : ch_Fo (ch_st ok ov r) r W L q := by
  rcases h with ⟨h0, h1, h2⟩ | ⟨h0, h1, h2, h3⟩
  · subst h0
    refine ⟨by rw [h1]; exact hv q, fun _ => by omega, fun m hm => ⟨fun h => absurd h.2 (Nat.not_lt_zero _), fun h => ?_⟩⟩
    rw [ch_st_0] at h
    omega
  · refine ⟨h1, fun z => Nat.le_of_lt (h2 z), fun m hm => ⟨fun h => ?_, fun h => ch_tabr (h3 r (Nat.le_refl r)) h hm⟩⟩
    rw [← h.1]
    exact (h3 r (Nat.le_refl r)).1 (by omega) h.2
theorem ch_B_fo (h : ch_B ok ov (r + 1) W L q) : ch_Fo (ch_st ok ov r) r W L q := by
  obtain ⟨h1, h2, h3⟩ := h
  refine ⟨h1, fun z => by have := h2 z; omega, fun m hm => ⟨fun h => ?_, fun h => ch_tabr (h3 r (by omega)) h hm⟩⟩
  rw [← h.1]
  exact (h3 r (by omega)).1 (by omega) h.2
theorem ch_A_keep (hv : ∀ p, ov p ≤ 2) (h : ch_A ok ov r W L q) (hw : W ≠ 0) : ch_B ok ov (r + 1) W L q := by
  rcases h with ⟨h0, h1, h2⟩ | ⟨h0, h1, h2, h3⟩
  · subst h0
    refine ⟨by rw [h1]; exact hv q, fun _ => by omega, fun r' hr' => ⟨fun _ hl => ?_, fun h => ?_⟩⟩
    · obtain rfl : r' = 1 := by omega
      rw [h1] at hw ⊢
      exact ch_st_v 0 hw
    · obtain rfl : r' = 0 := by omega
      rfl
  · have hl := h2 hw
    refine ⟨h1, fun _ => by omega, fun r' hr' => ?_⟩
    by_cases e : r' = r + 1
    · subst e
      have e2 := (h3 r (Nat.le_refl r)).1 hw hl
      refine ⟨fun _ _ => ?_, fun h => by omega⟩
      rw [ch_st_mono r q (by omega)]; exact e2
    · exact h3 r' (by omega)
theorem ch_A_z (h : ch_A ok ov r W L q) (hw : W = 0) : ov q = 0 ∧ ∀ r', r' ≤ r → ch_st ok ov r' q = 0 := by
  rcases h with ⟨h0, h1, h2⟩ | ⟨h0, h1, h2, h3⟩
  · subst h0
    refine ⟨by omega, fun r' hr' => ?_⟩
    obtain rfl : r' = 0 := by omega
    rfl
  · refine ⟨Classical.byContradiction (fun z => ?_), fun r' hr' => (h3 r' hr').2 (Or.inl hw)⟩
    have e1 := (h3 1 (by omega)).2 (Or.inl hw)
    rw [ch_st_v 0 z] at e1
    exact z e1
theorem ch_A_new (h : ch_A ok ov r W L q) (hw : W = 0) : ch_B ok ov (r + 1) (ch_F ok (ch_st ok ov r) q) r q := by
  obtain ⟨hv, hz⟩ := ch_A_z h hw
  refine ⟨ch_F2 _ _ _, fun _ => by omega, fun r' hr' => ?_⟩
  by_cases e : r' = r + 1
  · subst e
    rw [ch_st_f r hv]
    refine ⟨fun _ _ => rfl, fun h => ?_⟩
    rcases h with h | h
    · exact h
    · omega
  · exact ⟨fun _ hl => by omega, fun _ => hz r' (by omega)⟩
/-- nothing new at q in round r -/
theorem ch_same0 (h : ch_A ok ov r W L q) (hw : W = 0) (hf : ch_F ok (ch_st ok ov r) q = 0) : ch_st ok ov (r + 1) q = ch_st ok ov r q := by
  obtain ⟨hv, hz⟩ := ch_A_z h hw
  rw [ch_st_f r hv, hf, hz r (Nat.le_refl r)]
theorem ch_same1 (hr : r ≠ 0) (h : ch_A ok ov r W L q) (hw : W ≠ 0) : ch_st ok ov (r + 1) q = ch_st ok ov r q := by
  rcases h with ⟨h0, _⟩ | ⟨h0, h1, h2, h3⟩
  · exact absurd h0 hr
  · have e := (h3 r (Nat.le_refl r)).1 hw (h2 hw)
    exact ch_st_mono r q (by omega)
end
theorem ch_B_tab {ok : Nat → Nat → Bool} {ov w l : Nat → Nat} {r : Nat} (h : ∀ p, p < 432 → ch_B ok ov r (w p) (l p) p) (hs : ∀ k p, p < 432 → ch_st ok ov (r + k) p = ch_st ok ov r p) : ch_Tab ok ov w l := by
  intro p hp r'
  obtain ⟨h1, h2, h3⟩ := h p hp
  by_cases hr : r' ≤ r
  · exact h3 r' hr
  · have e := hs (r' - r) p hp
    rw [show r + (r' - r) = r' from by omega] at e
    rw [e]
    refine ⟨fun hw _ => (h3 r (Nat.le_refl r)).1 hw (h2 hw), fun h => (h3 r (Nat.le_refl r)).2 ?_⟩
    rcases h with h | h
    · exact Or.inl h
    · by_cases hw : w p = 0
      · exact Or.inl hw
      · have := h2 hw
        omega
end
section
/-! the maps of both sides, and the walks of the methods that only read -/
def ch_XM (D : Nat → Nat → Bool) (E : Nat → Bool) (gw tw : Bool) (gi ti ex : Int32) (out inn : Nat → Int32) : Prop :=
  gi = ch_bi gw ∧ ti = ch_bi tw ∧ (∀ t, t < 6 → bt ex t = E t) ∧ (∀ i j, i < 6 → j < 6 → bt (out i) j = D i j) ∧ (∀ i j, i < 6 → j < 6 → bt (inn j) i = D i j)
def ch_YM (D : Nat → Nat → Bool) (E : Nat → Bool) (gw tw : Bool) (wts : Int32) (doors exs : Nat → Int32) : Prop :=
  (wts &&& 1 = 0 ↔ gw = false) ∧ (wts &&& 2 = 0 ↔ tw = false) ∧ (∀ t, t < 6 → exs t = ch_bi (E t)) ∧ (∀ i j, i < 6 → j < 6 → doors (i * 6 + j) = ch_bi (D i j))
theorem ch_bib (b : Bool) : ch_bi b = nI (ch_b (b = true)) := by
  cases b
  · rw [ch_bf (by decide)]; rfl
  · rw [ch_bt rfl]; rfl
theorem ch_e1 {p c : Nat} (hp : p < 432) (h1 : p % 2 = 1) (h2 : c ≠ 12) : (nI p - 1) + (2 * (nI c - nI (p / 2 % 6))) = nI (ch_nx p c) := by
  have e : nI p - 1 = nI ((p - 1 - 2 * (p / 2 % 6)) + 2 * (p / 2 % 6)) := by
    rw [show p - 1 - 2 * (p / 2 % 6) + 2 * (p / 2 % 6) = p - 1 from by omega]
    exact pk_sub (b := 1) (by omega)
  rw [e, Int32.add_comm]
  refine (ch_s1 2 _ _ _).trans ?_
  unfold ch_nx
  rw [if_pos h1, if_neg h2]
theorem ch_e2 {p c : Nat} (hp : p < 432) (h1 : ¬ p % 2 = 1) (h3 : c < 6) : (nI p + 1) + (72 * (nI c - nI (p / 72))) = nI (ch_nx p c) := by
  have e : nI p + 1 = nI ((p + 1 - 72 * (p / 72)) + 72 * (p / 72)) := by
    rw [show p + 1 - 72 * (p / 72) + 72 * (p / 72) = p + 1 from by omega]
    exact nI_1 p
  rw [e, Int32.add_comm]
  refine (ch_s1 72 _ _ _).trans ?_
  unfold ch_nx
  rw [if_neg h1, if_neg (by omega), if_pos h3]
theorem ch_e3 {p c : Nat} (hp : p < 432) (h1 : ¬ p % 2 = 1) (h2 : c ≠ 12) (h3 : ¬ c < 6) : (nI p + 1) + (12 * (nI (c - 6) - nI (p / 12 % 6))) = nI (ch_nx p c) := by
  have e : nI p + 1 = nI ((p + 1 - 12 * (p / 12 % 6)) + 12 * (p / 12 % 6)) := by
    rw [show p + 1 - 12 * (p / 12 % 6) + 12 * (p / 12 % 6) = p + 1 from by omega]
    exact nI_1 p
  rw [e, Int32.add_comm]
  refine (ch_s1 12 _ _ _).trans ?_
  unfold ch_nx
  rw [if_neg h1, if_neg h2, if_neg h3]
theorem ch_e4 {p : Nat} (h1 : p % 2 = 1) : nI p - 1 = nI (ch_nx p 12) := by
  unfold ch_nx
  rw [if_pos h1, if_pos rfl]
  exact pk_sub (b := 1) (by omega)
theorem ch_e5 {p : Nat} (h1 : ¬ p % 2 = 1) : nI p + 1 = nI (ch_nx p 12) := by
  unfold ch_nx
  rw [if_neg h1, if_pos rfl]
  exact nI_1 p
/-- what 'after' answers: with and without the look at the end of the chase -/
def ch_bv (ok : Nat → Nat → Bool) (p c : Nat) : Int32 := if ok p c = true then nI (ch_nx p c) else -1
def ch_av (ok : Nat → Nat → Bool) (ov : Nat → Nat) (p c : Nat) : Int32 := if ov p = 0 then ch_bv ok p c else -1
theorem ch_bv_t {ok : Nat → Nat → Bool} {p c : Nat} (h : ok p c = true) : ch_bv ok p c = nI (ch_nx p c) := if_pos h
theorem ch_bv_f {ok : Nat → Nat → Bool} {p c : Nat} (h : ok p c = false) : ch_bv ok p c = -1 := if_neg (by rw [h]; decide)
section
variable {gi ti ex bA bB bT bth rd qd : Int32} {out inn aw af ao aq : Nat → Int32} {D : Nat → Nat → Bool} {E : Nat → Bool} {gw tw : Bool} {p c : Nat}
theorem ch_xoff {post : Int32 → Prop} {x : Int32} (h0 : ∀ j, j < 6 → x = nI j → post 0) (h1 : (x < 0 ∨ ¬ x ≤ 5) → post 1) : wpX_off post x := by
  refine br_c (fun h => h1 (Or.inl h)) (fun h => br_c (fun h2 => ?_) (fun h2 => h1 (Or.inr h2)))
  obtain ⟨j, hj, e⟩ := nI_of2 (M := 5) (n := 5) (by decide) h h2
  exact h0 j (by omega) e
theorem ch_xover {post : Int32 → Prop} (hp : p < 432) (hE : ∀ t, t < 6 → bt ex t = E t) (h : post (nI (ch_ov E p))) : wpX_over post (gi, ti, ex, bA, bB, bT, bth, rd, qd, out, inn, aw, af, ao, aq) (nI p) := by
  unfold wpX_over
  refine ⟨by decide, nm_r (ch_d72 hp) ⟨by decide, by decide, nm_r (ch_m12 hp) ⟨by decide, by decide, nm_r (ch_m2 hp) ?_⟩⟩⟩
  unfold ch_ov at h
  refine pk_eq (p / 2 % 6) (p / 72) (fun e => ?_) (fun e => pk_eq (p / 2 % 6) (p / 12 % 6) (fun e2 => ?_) (fun e2 => ?_))
  · rw [if_pos (Or.inl e)] at h; exact h
  · rw [if_pos (Or.inr e2)] at h; exact h
  · rw [if_neg (by omega)] at h
    rw [ch_bit ex (by omega), hE _ (by omega)]
    cases hb : E (p / 2 % 6)
    · rw [if_neg (by rw [hb]; decide)] at h
      exact br_f (by decide) h
    · rw [if_pos hb] at h
      exact br_t rfl h
theorem ch_xafter {post : Int32 → Prop} (hM : ch_XM D E gw tw gi ti ex out inn) (hp : p < 432) (hc : c < 13) (h : post (ch_av (ch_ok D gw tw) (ch_ov E) p c)) : wpX_after post (gi, ti, ex, bA, bB, bT, bth, rd, qd, out, inn, aw, af, ao, aq) (nI p) (nI c) := by
  obtain ⟨rfl, rfl, hE, hD, _⟩ := hM
  unfold wpX_after
  refine br_f (nI_pos (by omega)) (br_t (nI_le (b := 12) (by omega) (by decide)) (ch_xover (E := E) hp hE ?_))
  unfold ch_av at h
  by_cases hv : ch_ov E p = 0
  · rw [if_pos hv] at h
    refine br_t (by rw [hv]; rfl) ⟨by decide, nm_r (ch_d72 hp) ⟨by decide, by decide, nm_r (ch_m12 hp) ⟨by decide, by decide, nm_r (ch_m2 hp) ⟨by decide, ?_⟩⟩⟩⟩
    by_cases h1 : p % 2 = 1
    · refine br_t (by rw [ch_par hp, h1]; rfl) ?_
      refine pk_eq c 12 (fun e => ?_) (fun e => pk_lt 5 c (fun e2 => ?_) (fun e2 => ⟨pk_in (p / 2 % 6) 6 (by omega), ?_⟩))
      · subst e
        have ho : ch_ok D gw tw p 12 = tw := by unfold ch_ok; rw [if_pos h1, if_pos rfl]
        cases tw
        · rw [ch_bv_f ho] at h; exact br_t rfl h
        · rw [ch_bv_t ho] at h
          refine br_f (by decide) ?_
          rw [ch_e4 h1]; exact h
      · have ho : ch_ok D gw tw p c = false := by unfold ch_ok; rw [if_pos h1, if_neg e, if_neg (by omega)]
        rw [ch_bv_f ho] at h; exact h
      · have ho : ch_ok D gw tw p c = D (p / 2 % 6) c := by unfold ch_ok; rw [if_pos h1, if_neg e, if_pos (by omega)]
        rw [nI_clamp (by omega), ch_bit _ (by omega), hD _ _ (by omega) (by omega)]
        cases hb : D (p / 2 % 6) c
        · rw [hb] at ho
          rw [ch_bv_f ho] at h; exact br_t rfl h
        · rw [hb] at ho
          rw [ch_bv_t ho] at h
          refine br_f (by decide) ?_
          rw [ch_e1 hp h1 e]; exact h
    · refine br_f (by rw [ch_par hp, show p % 2 = 0 from by omega]; decide) ?_
      refine pk_eq c 12 (fun e => ?_) (fun e => pk_le 6 c (fun e2 => ?_) (fun e2 => ⟨pk_in (p / 72) 6 (by omega), ?_⟩))
      · subst e
        have ho : ch_ok D gw tw p 12 = gw := by unfold ch_ok; rw [if_neg h1, if_pos rfl]
        cases gw
        · rw [ch_bv_f ho] at h; exact br_t rfl h
        · rw [ch_bv_t ho] at h
          refine br_f (by decide) ?_
          rw [ch_e5 h1]; exact h
      · refine nm_r (e' := nI (c - 6)) (pk_sub (b := 6) e2) ⟨pk_in (p / 12 % 6) 6 (by omega), ?_⟩
        have ho : ch_ok D gw tw p c = D (p / 12 % 6) (c - 6) := by unfold ch_ok; rw [if_neg h1, if_neg e, if_neg (by omega)]
        rw [nI_clamp (by omega), ch_bit _ (by omega), hD _ _ (by omega) (by omega)]
        cases hb : D (p / 12 % 6) (c - 6)
        · rw [hb] at ho
          rw [ch_bv_f ho] at h; exact br_t rfl h
        · rw [hb] at ho
          rw [ch_bv_t ho] at h
          refine br_f (by decide) ?_
          rw [ch_e3 hp h1 e (by omega)]; exact h
      · have ho : ch_ok D gw tw p c = D (p / 72) c := by unfold ch_ok; rw [if_neg h1, if_neg e, if_pos (by omega)]
        rw [nI_clamp (by omega), ch_bit _ (by omega), hD _ _ (by omega) (by omega)]
        cases hb : D (p / 72) c
        · rw [hb] at ho
          rw [ch_bv_f ho] at h; exact br_t rfl h
        · rw [hb] at ho
          rw [ch_bv_t ho] at h
          refine br_f (by decide) ?_
          rw [ch_e2 hp h1 (by omega)]; exact h
  · rw [if_neg hv] at h
    refine br_f ?_ h
    have := ch_ov2 E p
    exact nI_ne0 (by omega) (by omega)
/-- a code that is none -/
theorem ch_xafter_no {post : Int32 → Prop} {x : Int32} {u : Int32} (hx : x < 0 ∨ ¬ x ≤ 12) (h : post (-1)) : wpX_after post (gi, ti, ex, bA, bB, bT, bth, rd, qd, out, inn, aw, af, ao, aq) u x := by
  unfold wpX_after
  by_cases h0 : x < 0
  · exact br_t h0 h
  · rcases hx with h1 | h1
    · exact absurd h1 h0
    · exact br_f h0 (br_f h1 h)
end
end
section
/-! number, bits, moveCount; the reference's small methods -/
theorem ch_xnum {post : Int32 → Prop} {a b t s : Nat} (hs : s < 2) (h : post (nI (((a * 6 + b) * 6 + t) * 2 + s))) : wpX_number post (nI a) (nI b) (nI t) (nI s) := by
  rw [← ch_num] at h
  unfold wpX_number
  refine pk_eq s 0 (fun e => ?_) (fun e => ?_)
  · subst e; exact h
  · obtain rfl : s = 1 := by omega
    exact h
theorem ch_n_split (P : Nat → Prop) (a : Nat) : ∀ b, ch_n P (a + b) = ch_n P a + ch_n (fun j => P (a + j)) b
  | 0 => rfl
  | b + 1 => by
    show ch_n P (a + b) + ch_b (P (a + b)) = ch_n P a + (ch_n (fun j => P (a + j)) b + ch_b (P (a + b)))
    rw [ch_n_split P a b]; omega
theorem ch_n_none {P : Nat → Prop} : ∀ n, (∀ j, j < n → ¬ P j) → ch_n P n = 0
  | 0, _ => rfl
  | n + 1, h => by
    show ch_n P n + ch_b (P n) = 0
    rw [ch_n_none n (fun j hj => h j (by omega)), ch_bf (h n (by omega))]
theorem ch_mc1 (D : Nat → Nat → Bool) (gw tw : Bool) {p : Nat} (h1 : p % 2 = 1) : ch_mc (ch_ok D gw tw) p = ch_n (fun c => D (p / 2 % 6) c = true) 6 + ch_b (tw = true) := by
  show ch_n (fun c => ch_ok D gw tw p c = true) (6 + 6) + ch_b (ch_ok D gw tw p 12 = true) = _
  rw [ch_n_split, ch_n_none (P := fun j => ch_ok D gw tw p (6 + j) = true) 6 (fun j hj => by
    unfold ch_ok
    rw [if_pos h1, if_neg (by omega), if_neg (by omega)]; decide)]
  rw [ch_n_congr (Q := fun c => D (p / 2 % 6) c = true) 6 (fun j hj => by
    unfold ch_ok
    rw [if_pos h1, if_neg (by omega), if_pos (by omega)])]
  rw [show ch_ok D gw tw p 12 = tw from by unfold ch_ok; rw [if_pos h1, if_pos rfl]]
  omega
theorem ch_mc0 (D : Nat → Nat → Bool) (gw tw : Bool) {p : Nat} (h1 : ¬ p % 2 = 1) : ch_mc (ch_ok D gw tw) p = ch_n (fun c => D (p / 72) c = true) 6 + ch_n (fun c => D (p / 12 % 6) c = true) 6 + ch_b (gw = true) := by
  show ch_n (fun c => ch_ok D gw tw p c = true) (6 + 6) + ch_b (ch_ok D gw tw p 12 = true) = _
  rw [ch_n_split]
  rw [ch_n_congr (P := fun c => ch_ok D gw tw p c = true) (Q := fun c => D (p / 72) c = true) 6 (fun j hj => by
    unfold ch_ok
    rw [if_neg h1, if_neg (by omega), if_pos (by omega)])]
  rw [ch_n_congr (P := fun j => ch_ok D gw tw p (6 + j) = true) (Q := fun c => D (p / 12 % 6) c = true) 6 (fun j hj => by
    unfold ch_ok
    rw [if_neg h1, if_neg (by omega), if_neg (by omega), show 6 + j - 6 = j from by omega])]
  rw [show ch_ok D gw tw p 12 = gw from by unfold ch_ok; rw [if_neg h1, if_pos rfl]]
theorem ch_xbits_l {post : Int32 → Prop} {x : Int32} (h : post (nI (ch_n (fun i => bt x i = true) 6))) : ∀ d i, i + d = 6 → wX_bits_4 post x (d + 1) (nI (ch_n (fun i => bt x i = true) i)) (nI i) := by
  intro d
  induction d with
  | zero =>
    intro i hi
    obtain rfl : i = 6 := by omega
    exact br_t (nI_le (a := 6) (b := 6) (by omega) (by omega)) h
  | succ d ih =>
    intro i hi
    refine br_f (nI_ge (b := 6) (by omega) (by omega)) ?_
    refine nm_r (e' := nI (ch_n (fun i => bt x i = true) (i + 1))) ?_ (nm_r (nI_1 i) (ih (i + 1) (by omega)))
    rw [ch_bit x (by omega), ch_bib, nI_add]
    rfl
theorem ch_xbits {post : Int32 → Prop} {x : Int32} (h : post (nI (ch_n (fun i => bt x i = true) 6))) : wpX_bits post x :=
  ⟨7, ch_xbits_l h 6 0 rfl⟩
section
variable {gi ti ex bA bB bT bth rd qd : Int32} {out inn aw af ao aq : Nat → Int32} {D : Nat → Nat → Bool} {E : Nat → Bool} {gw tw : Bool} {p c : Nat}
theorem ch_bitsD (hD : ∀ i j, i < 6 → j < 6 → bt (out i) j = D i j) {i : Nat} (hi : i < 6) : ch_n (fun j => bt (out i) j = true) 6 = ch_n (fun c => D i c = true) 6 :=
  ch_n_congr 6 (fun j hj => by rw [hD i j hi hj])
theorem ch_xmc {post : Int32 → Prop} (hM : ch_XM D E gw tw gi ti ex out inn) (hp : p < 432) (h : post (nI (ch_mc (ch_ok D gw tw) p))) : wpX_moveCount post (gi, ti, ex, bA, bB, bT, bth, rd, qd, out, inn, aw, af, ao, aq) (nI p) := by
  obtain ⟨rfl, rfl, hE, hD, _⟩ := hM
  unfold wpX_moveCount
  rw [ch_d72 hp, ch_m12 hp, ch_m2 hp, nI_clamp (n := p / 72) (by omega), nI_clamp (n := p / 12 % 6) (by omega), nI_clamp (n := p / 2 % 6) (by omega), ch_par hp]
  refine ⟨by decide, pk_in (p / 72) 6 (by omega), nm_e ⟨by decide, by decide, pk_in (p / 12 % 6) 6 (by omega), nm_e ⟨by decide, by decide, pk_in (p / 2 % 6) 6 (by omega), nm_e ⟨by decide, ?_⟩⟩⟩⟩
  refine pk_eq (p % 2) 1 (fun h1 => ?_) (fun h1 => ?_)
  · refine ch_xbits ?_
    rw [ch_bitsD hD (by omega)]
    rw [ch_mc1 D gw tw h1] at h
    cases tw
    · rw [ch_bf (by decide), Nat.add_zero] at h
      exact br_t rfl h
    · rw [ch_bt rfl] at h
      refine br_f (by decide) ?_
      rw [nI_1]; exact h
  · refine ch_xbits (ch_xbits ?_)
    rw [ch_bitsD hD (by omega), ch_bitsD hD (by omega)]
    rw [ch_mc0 D gw tw h1] at h
    cases gw
    · rw [ch_bf (by decide), Nat.add_zero] at h
      refine br_t rfl ?_
      rw [nI_add]; exact h
    · rw [ch_bt rfl] at h
      refine br_f (by decide) ?_
      rw [nI_add, nI_1]; exact h
end
section
variable {wts yat kn : Int32} {doors exs aw ar : Nat → Int32} {D : Nat → Nat → Bool} {E : Nat → Bool} {gw tw : Bool} {p c : Nat}
theorem ch_ybad {post : Int32 → Prop} {x : Int32} (h0 : ∀ j, j < 6 → x = nI j → post 0) (h1 : (x < 0 ∨ ¬ x ≤ 5) → post 1) : wpY_bad post (wts, yat, kn, doors, exs, aw, ar) x := by
  refine br_c (fun h => h1 (Or.inl h)) (fun h => br_c (fun h2 => ?_) (fun h2 => h1 (Or.inr h2)))
  obtain ⟨j, hj, e⟩ := nI_of2 (M := 5) (n := 5) (by decide) h h2
  exact h0 j (by omega) e
theorem ch_ynum {post : Int32 → Prop} {a b t s : Nat} (hs : s < 2) (h : post (nI (((a * 6 + b) * 6 + t) * 2 + s))) : wpY_number post (wts, yat, kn, doors, exs, aw, ar) (nI a) (nI b) (nI t) (nI s) := by
  rw [← ch_num] at h
  unfold wpY_number
  refine pk_eq s 0 (fun e => ?_) (fun e => ?_)
  · subst e; exact h
  · obtain rfl : s = 1 := by omega
    exact h
theorem ch_yover {post : Int32 → Prop} (hp : p < 432) (hE : ∀ t, t < 6 → exs t = ch_bi (E t)) (h : post (nI (ch_ov E p))) : wpY_over post (wts, yat, kn, doors, exs, aw, ar) (nI p) := by
  unfold wpY_over
  rw [ch_d72 hp, ch_m12 hp, ch_m2 hp]
  refine ⟨by decide, by decide, nm_e ⟨by decide, ?_⟩⟩
  unfold ch_ov at h
  refine pk_eq (p / 2 % 6) (p / 72) (fun e => ?_) (fun e => ⟨by decide, by decide, pk_eq (p / 2 % 6) (p / 12 % 6) (fun e2 => ?_) (fun e2 => ⟨pk_in (p / 2 % 6) 6 (by omega), ?_⟩)⟩)
  · rw [if_pos (Or.inl e)] at h; exact h
  · rw [if_pos (Or.inr e2)] at h; exact h
  · rw [if_neg (by omega)] at h
    rw [nI_clamp (by omega), hE _ (by omega)]
    cases hb : E (p / 2 % 6)
    · rw [if_neg (by rw [hb]; decide)] at h
      exact br_t rfl h
    · rw [if_pos hb] at h
      exact br_f (by decide) h
theorem ch_ymover {post : Int32 → Prop} (hp : p < 432) (h : post (nI (ch_mv p))) : wpY_mover post (wts, yat, kn, doors, exs, aw, ar) (nI p) := by
  unfold wpY_mover
  rw [ch_par hp]
  unfold ch_mv at h
  refine ⟨by decide, pk_eq (p % 2) 1 (fun e => ?_) (fun e => ?_)⟩
  · rw [if_pos e] at h; exact h
  · rw [if_neg e] at h; exact h
theorem ch_ix (i j : Nat) : (nI i * 6) + nI j = nI (i * 6 + j) := by
  show nI i * nI 6 + nI j = _
  rw [pk_mul, nI_add]
theorem ch_yafter {post : Int32 → Prop} (hM : ch_YM D E gw tw wts doors exs) (hp : p < 432) (hc : c < 13) (h : post (ch_bv (ch_ok D gw tw) p c)) : wpY_after post (wts, yat, kn, doors, exs, aw, ar) (nI p) (nI c) := by
  obtain ⟨hg, ht, hE, hD⟩ := hM
  unfold wpY_after
  refine ⟨by decide, nm_r (ch_d72 hp) ⟨by decide, by decide, nm_r (ch_m12 hp) ⟨by decide, by decide, nm_r (ch_m2 hp) ⟨by decide, ?_⟩⟩⟩⟩
  have hlo : ¬ nI c < 0 := nI_pos (by omega)
  have hhi : nI c ≤ 12 := nI_le (b := 12) (by omega) (by decide)
  by_cases h1 : p % 2 = 1
  · refine br_t (by rw [ch_par hp, h1]; rfl) ?_
    unfold wY_after_34
    refine br_f hlo (br_t hhi (pk_eq c 12 (fun e => ?_) (fun e => ?_)))
    · subst e
      have ho : ch_ok D gw tw p 12 = tw := by unfold ch_ok; rw [if_pos h1, if_pos rfl]
      refine br_f (by decide) (br_c (fun hz => ?_) (fun hz => ?_))
      · rw [ht.mp hz] at ho h
        rw [ch_bv_f ho] at h
        exact br_t rfl h
      · have hb : tw = true := by
          cases tw
          · exact absurd (ht.mpr rfl) hz
          · rfl
        rw [hb] at ho h
        rw [ch_bv_t ho] at h
        refine br_f (by decide) (br_f (by decide) ?_)
        unfold wY_after_113
        refine ch_ynum (s := 0) (by omega) ?_
        rw [show ((p / 72 * 6 + p / 12 % 6) * 6 + p / 2 % 6) * 2 + 0 = ch_nx p 12 from by unfold ch_nx; rw [if_pos h1, if_pos rfl]; omega]
        exact h
    · refine br_f (by decide) (pk_le 6 c (fun e2 => ?_) (fun e2 => ?_))
      · have ho : ch_ok D gw tw p c = false := by unfold ch_ok; rw [if_pos h1, if_neg e, if_neg (by omega)]
        rw [ch_bv_f ho] at h; exact h
      · have ho : ch_ok D gw tw p c = D (p / 2 % 6) c := by unfold ch_ok; rw [if_pos h1, if_neg e, if_pos (by omega)]
        rw [ch_ix, nI_clamp (n := p / 2 % 6 * 6 + c) (by omega), hD _ _ (by omega) (by omega)]
        refine ⟨pk_in (p / 2 % 6 * 6 + c) 36 (by omega), ?_⟩
        cases hb : D (p / 2 % 6) c
        · rw [hb] at ho
          rw [ch_bv_f ho] at h; exact br_t rfl h
        · rw [hb] at ho
          rw [ch_bv_t ho] at h
          refine br_f (by decide) (ch_ynum (s := 0) (by omega) ?_)
          rw [show ((p / 72 * 6 + p / 12 % 6) * 6 + c) * 2 + 0 = ch_nx p c from by unfold ch_nx; rw [if_pos h1, if_neg e]; omega]
          exact h
  · refine br_f (by rw [ch_par hp, show p % 2 = 0 from by omega]; decide) ?_
    unfold wY_after_34
    refine br_f hlo (br_t hhi (pk_eq c 12 (fun e => ?_) (fun e => ?_)))
    · subst e
      have ho : ch_ok D gw tw p 12 = gw := by unfold ch_ok; rw [if_neg h1, if_pos rfl]
      refine br_t rfl (br_c (fun hz => ?_) (fun hz => ?_))
      · rw [hg.mp hz] at ho h
        rw [ch_bv_f ho] at h
        exact br_t rfl h
      · have hb : gw = true := by
          cases gw
          · exact absurd (hg.mpr rfl) hz
          · rfl
        rw [hb] at ho h
        rw [ch_bv_t ho] at h
        refine br_f (by decide) (br_t rfl ?_)
        unfold wY_after_113
        refine ch_ynum (s := 1) (by omega) ?_
        rw [show ((p / 72 * 6 + p / 12 % 6) * 6 + p / 2 % 6) * 2 + 1 = ch_nx p 12 from by unfold ch_nx; rw [if_neg h1, if_pos rfl]; omega]
        exact h
    · refine br_t rfl (pk_le 6 c (fun e2 => ?_) (fun e2 => ?_))
      · have ho : ch_ok D gw tw p c = D (p / 12 % 6) (c - 6) := by unfold ch_ok; rw [if_neg h1, if_neg e, if_neg (by omega)]
        have ei : ((nI (p / 12 % 6) * 6) + nI c) - 6 = nI (p / 12 % 6 * 6 + (c - 6)) := by
          rw [ch_ix, show p / 12 % 6 * 6 + (c - 6) = p / 12 % 6 * 6 + c - 6 from by omega]
          exact pk_sub (b := 6) (by omega)
        have ec : nI c - 6 = nI (c - 6) := pk_sub (b := 6) e2
        rw [ei, ec, nI_clamp (n := p / 12 % 6 * 6 + (c - 6)) (by omega), hD _ _ (by omega) (by omega)]
        refine ⟨pk_in (p / 12 % 6 * 6 + (c - 6)) 36 (by omega), ?_⟩
        cases hb : D (p / 12 % 6) (c - 6)
        · rw [hb] at ho
          rw [ch_bv_f ho] at h; exact br_t rfl h
        · rw [hb] at ho
          rw [ch_bv_t ho] at h
          refine br_f (by decide) (ch_ynum (s := 1) (by omega) ?_)
          rw [show ((p / 72 * 6 + (c - 6)) * 6 + p / 2 % 6) * 2 + 1 = ch_nx p c from by unfold ch_nx; rw [if_neg h1, if_neg e, if_neg (by omega)]; omega]
          exact h
      · have ho : ch_ok D gw tw p c = D (p / 72) c := by unfold ch_ok; rw [if_neg h1, if_neg e, if_pos (by omega)]
        rw [ch_ix, nI_clamp (n := p / 72 * 6 + c) (by omega), hD _ _ (by omega) (by omega)]
        refine ⟨pk_in (p / 72 * 6 + c) 36 (by omega), ?_⟩
        cases hb : D (p / 72) c
        · rw [hb] at ho
          rw [ch_bv_f ho] at h; exact br_t rfl h
        · rw [hb] at ho
          rw [ch_bv_t ho] at h
          refine br_f (by decide) (ch_ynum (s := 1) (by omega) ?_)
          rw [show ((c * 6 + p / 12 % 6) * 6 + p / 2 % 6) * 2 + 1 = ch_nx p c from by unfold ch_nx; rw [if_neg h1, if_neg e, if_pos (by omega)]; omega]
          exact h
/-- a code that is none -/
theorem ch_yafter_no {post : Int32 → Prop} {x : Int32} (hx : x < 0 ∨ ¬ x ≤ 12) (h : post (-1)) : wpY_after post (wts, yat, kn, doors, exs, aw, ar) (nI p) x := by
  have h34 : ∀ x3 x4 x5 z0, wY_after_34 post x x3 x4 x5 z0 wts yat kn doors exs aw ar := fun x3 x4 x5 z0 => by
    unfold wY_after_34
    by_cases h0 : x < 0
    · exact br_t h0 h
    · rcases hx with h1 | h1
      · exact absurd h1 h0
      · exact br_f h0 (br_f h1 h)
  unfold wpY_after
  exact ⟨by decide, nm_e ⟨by decide, by decide, nm_e ⟨by decide, by decide, nm_e ⟨by decide, br_c (fun _ => h34 _ _ _ _) (fun _ => h34 _ _ _ _)⟩⟩⟩⟩
end
end
section
/-! the component's settle, answer, spread, prepare -/
def ch_J (ok : Nat → Nat → Bool) (ov : Nat → Nat) (z who len i : Nat) (sub : Nat → Nat → Prop) (w l o q : Nat → Nat) (n : Nat) : Prop :=
  ch_Inv ok ov w l o q n i sub ∧ i < n ∧ q i = z ∧ w z = who ∧ l z + 1 = len
theorem ch_n432 {w l q : Nat → Nat} {n i : Nat} (hQ : ch_Q w l q n i) : n ≤ 432 := by
  rw [hQ.1]; exact ch_n_le _ 432
theorem ch_J_c {ok : Nat → Nat → Bool} {ov : Nat → Nat} {z who len i : Nat} {sub sub' : Nat → Nat → Prop} {w l o q : Nat → Nat} {n : Nat} (h : ch_J ok ov z who len i sub w l o q n) (hs : ∀ p c, p < 432 → c < 13 → ok p c = true → ch_nx p c = z → (sub' p c ↔ sub p c)) : ch_J ok ov z who len i sub' w l o q n := by
  obtain ⟨⟨hQ, hL, hT, h2⟩, hi, hz, hw, hl⟩ := h
  refine ⟨⟨hQ, ?_, hT, h2⟩, hi, hz, hw, hl⟩
  have hpd : ∀ p c, p < 432 → c < 13 → ok p c = true → (ch_pd q i sub' p c ↔ ch_pd q i sub p c) := by
    intro p c hp hc ho
    refine ⟨fun h => ?_, fun h => ?_⟩
    · rcases h with h | ⟨h1, h3⟩
      · exact Or.inl h
      · exact Or.inr ⟨h1, (hs p c hp hc ho (h1.symm.trans hz)).mp h3⟩
    · rcases h with h | ⟨h1, h3⟩
      · exact Or.inl h
      · exact Or.inr ⟨h1, (hs p c hp hc ho (h1.symm.trans hz)).mpr h3⟩
  intro p hp hw
  obtain ⟨a1, a2, a3, a4⟩ := hL p hp hw
  refine ⟨a1, ?_, a3, fun c hc ho hd => a4 c hc ho ((hpd p c hp hc ho).mp hd)⟩
  rw [a2]
  refine ch_n_congr 13 (fun c hc => ?_)
  exact ⟨fun h => ⟨h.1, fun y => h.2 ((hpd p c hp hc h.1).mp y)⟩, fun h => ⟨h.1, fun y => h.2 ((hpd p c hp hc h.1).mpr y)⟩⟩
section
variable {gi ti ex bA bB bT bth rd : Int32} {out inn : Nat → Int32} {ok : Nat → Nat → Bool} {ov w l o q : Nat → Nat} {n i p c z who len : Nat} {sub sub' : Nat → Nat → Prop}
theorem ch_settle {post : SX → Prop} (hp : p < 432) (hn : n < 432) (hw : who ≤ 2) (hl : len < 1000) (h : post (gi, ti, ex, bA, bB, bT, bth, rd, (nI (n + 1)), out, inn, (fun j => nI (ch_up w p who j)), (fun j => nI (ch_up l p len j)), (fun j => nI (o j)), (fun j => nI (ch_up q n p j)))) : wpX_settle post (gi, ti, ex, bA, bB, bT, bth, rd, (nI n), out, inn, (fun j => nI (w j)), (fun j => nI (l j)), (fun j => nI (o j)), (fun j => nI (q j))) (nI p) (nI who) (nI len) := by
  unfold wpX_settle
  dsimp only
  refine br_t (nI_lt (b := 432) hn (by decide)) ⟨pk_in p 432 hp, nm_r (e' := fun j => nI (ch_up w p who j)) ?_ ⟨pk_in p 432 hp, nm_r (e' := fun j => nI (ch_up l p len j)) ?_ ⟨pk_in n 432 hn, nm_r (e' := fun j => nI (ch_up q n p j)) ?_ (nm_r (nI_1 n) h)⟩⟩⟩
  · rw [nI_clamp (by omega), ch_nb (by omega)]; exact ch_upd w p who
  · rw [nI_clamp (by omega), ch_ns (by omega)]; exact ch_upd l p len
  · rw [nI_clamp (by omega), ch_ns (by omega)]; exact ch_upd q n p
theorem ch_xans {post : SX → Prop} (hK : ch_K ok) (hJ : ch_J ok ov z who len i sub w l o q n) (hS : ch_Sub ok z sub sub' p c) (hp : p < 432) (hc : c < 13) (ho : ok p c = true) (hx : ch_nx p c = z) (hns : ¬ sub p c)
    (h : ∀ w' l' o' q' n', ch_J ok ov z who len i sub' w' l' o' q' n' → post (gi, ti, ex, bA, bB, bT, bth, rd, (nI n'), out, inn, (fun j => nI (w' j)), (fun j => nI (l' j)), (fun j => nI (o' j)), (fun j => nI (q' j)))) : wpX_answer post (gi, ti, ex, bA, bB, bT, bth, rd, (nI n), out, inn, (fun j => nI (w j)), (fun j => nI (l j)), (fun j => nI (o j)), (fun j => nI (q j))) (nI p) (nI who) (nI len) := by
  obtain ⟨I, hi, rfl, rfl, rfl⟩ := hJ
  have hQ := I.1
  have hn := ch_n432 hQ
  have hli := (hQ.2.1 i hi).2.2
  have hq := (hQ.2.1 i hi).1
  have hwi := (hQ.2.1 i hi).2.1
  have hw2 := I.2.2.2 (q i) hq
  have hwp := I.2.2.2 p hp
  unfold wpX_answer
  dsimp only
  refine ⟨pk_in p 432 hp, ?_⟩
  rw [nI_clamp (by omega)]
  by_cases hw : w p = 0
  · have hom := ch_omax I hp hw
    have hroom := ch_room hQ hp hw
    have hmv := ch_mo p
    have hset : (ch_mv p = w (q i) ∨ o p - 1 = 0) → wX_answer_50 post (nI p) (nI (w (q i))) (nI (l (q i) + 1)) gi ti ex bA bB bT bth rd (nI n) out inn (fun j => nI (w j)) (fun j => nI (l j)) (fun j => nI (ch_up o p (o p - 1) j)) (fun j => nI (q j)) := by
      intro hm
      unfold wX_answer_50
      refine ch_settle hp hroom hw2 (by omega) ?_
      have hne : q i ≠ p := fun e => hwi (by rw [e]; exact hw)
      have I' := ch_stepC hK I hi hS hp hc ho hx hns hw hm
      exact h _ _ _ _ _ ⟨I', by omega, ch_un (by omega), ch_un hne, by rw [ch_un hne]⟩
    have h22 : wX_answer_22 post (nI p) (nI (w (q i))) (nI (l (q i) + 1)) (nI (ch_mv p)) gi ti ex bA bB bT bth rd (nI n) out inn (fun j => nI (w j)) (fun j => nI (l j)) (fun j => nI (o j)) (fun j => nI (q j)) := by
      unfold wX_answer_22
      dsimp only
      refine ⟨pk_in p 432 hp, pk_in p 432 hp, nm_r (e' := fun j => nI (ch_up o p (o p - 1) j)) ?_ ?_⟩
      · rw [nI_clamp (by omega), show nI (o p) - 1 = nI (o p - 1) from pk_sub (b := 1) (by omega), ch_nb (by omega)]
        exact ch_upd o p _
      · refine pk_eq (ch_mv p) (w (q i)) (fun e => hset (Or.inl e)) (fun e => ⟨pk_in p 432 hp, ?_⟩)
        dsimp only
        rw [nI_clamp (by omega), show ch_up o p (o p - 1) p = o p - 1 from ch_us]
        refine pk_eq (o p - 1) 0 (fun e2 => hset (Or.inr e2)) (fun e2 => ?_)
        exact h _ _ _ _ _ ⟨ch_stepB I hi hS hp hc ho hx hns hw e e2, hi, rfl, rfl, rfl⟩
    refine br_t (by rw [hw]; rfl) ⟨by decide, ?_⟩
    rw [ch_par hp]
    unfold ch_mv at h22
    refine pk_eq (p % 2) 1 (fun e => ?_) (fun e => ?_)
    · rw [if_pos e] at h22; exact h22
    · rw [if_neg e] at h22; exact h22
  · refine br_f (nI_ne0 (by omega) (by omega)) (h _ _ _ _ _ ⟨ch_stepA I hS hw, hi, rfl, rfl, rfl⟩)
end
/-! moves into a position -/
theorem ch_inv_ev {D : Nat → Nat → Bool} {gw tw : Bool} {p c z : Nat} (hp : p < 432) (hc : c < 13) (ho : ch_ok D gw tw p c = true) (hx : ch_nx p c = z) (hz : z % 2 = 0) :
    (c = 12 ∧ p = z + 1 ∧ tw = true) ∨ (c < 6 ∧ c = z / 2 % 6 ∧ p + 2 * c = z + 1 + 2 * (p / 2 % 6) ∧ D (p / 2 % 6) c = true) := by
  unfold ch_ok at ho
  unfold ch_nx at hx
  by_cases h1 : p % 2 = 1
  · rw [if_pos h1] at ho hx
    by_cases h2 : c = 12
    · rw [if_pos h2] at ho hx
      exact Or.inl ⟨h2, by omega, ho⟩
    · rw [if_neg h2] at ho hx
      by_cases h3 : c < 6
      · rw [if_pos h3] at ho
        exact Or.inr ⟨h3, by omega, by omega, ho⟩
      · rw [if_neg h3] at ho
        exact absurd ho (by decide)
  · rw [if_neg h1] at hx
    by_cases h2 : c = 12
    · rw [if_pos h2] at hx; omega
    · rw [if_neg h2] at hx
      by_cases h3 : c < 6
      · rw [if_pos h3] at hx; omega
      · rw [if_neg h3] at hx; omega
theorem ch_inv_od {D : Nat → Nat → Bool} {gw tw : Bool} {p c z : Nat} (hp : p < 432) (hc : c < 13) (ho : ch_ok D gw tw p c = true) (hx : ch_nx p c = z) (hz : z % 2 = 1) :
    (c = 12 ∧ p + 1 = z ∧ gw = true) ∨ (c < 6 ∧ c = z / 72 ∧ p + 1 + 72 * c = z + 72 * (p / 72) ∧ D (p / 72) c = true) ∨ (6 ≤ c ∧ c < 12 ∧ c - 6 = z / 12 % 6 ∧ p + 1 + 12 * (c - 6) = z + 12 * (p / 12 % 6) ∧ D (p / 12 % 6) (c - 6) = true) := by
  unfold ch_ok at ho
  unfold ch_nx at hx
  by_cases h1 : p % 2 = 1
  · rw [if_pos h1] at ho hx
    by_cases h2 : c = 12
    · rw [if_pos h2] at hx; omega
    · rw [if_neg h2] at hx; omega
  · rw [if_neg h1] at ho hx
    by_cases h2 : c = 12
    · rw [if_pos h2] at ho hx
      exact Or.inl ⟨h2, by omega, ho⟩
    · rw [if_neg h2] at ho hx
      by_cases h3 : c < 6
      · rw [if_pos h3] at ho hx
        exact Or.inr (Or.inl ⟨h3, by omega, by omega, ho⟩)
      · rw [if_neg h3] at ho hx
        exact Or.inr (Or.inr ⟨by omega, by omega, by omega, by omega, ho⟩)
/-- moves of the thief into z -/
def ch_sE (x : Nat) (p c : Nat) : Prop := c ≠ 12 ∧ p / 2 % 6 < x
def ch_sO (x y : Nat) (p c : Nat) : Prop := (c < 6 ∧ p / 72 < x) ∨ (6 ≤ c ∧ c < 12 ∧ p / 12 % 6 < y)
section
variable {D : Nat → Nat → Bool} {gw tw : Bool} {z x : Nat}
theorem ch_E_new (hz : z < 432) (he : z % 2 = 0) (hx : x < 6) : ch_Sub (ch_ok D gw tw) z (ch_sE x) (ch_sE (x + 1)) (z + 1 - 2 * (z / 2 % 6) + 2 * x) (z / 2 % 6) := by
  intro p c hp hc ho hn
  have h := ch_inv_ev hp hc ho hn he
  unfold ch_sE
  omega
theorem ch_E_ok (hz : z < 432) (he : z % 2 = 0) (hx : x < 6) (hd : D x (z / 2 % 6) = true) :
    z + 1 - 2 * (z / 2 % 6) + 2 * x < 432 ∧ ch_ok D gw tw (z + 1 - 2 * (z / 2 % 6) + 2 * x) (z / 2 % 6) = true ∧ ch_nx (z + 1 - 2 * (z / 2 % 6) + 2 * x) (z / 2 % 6) = z ∧ ¬ ch_sE x (z + 1 - 2 * (z / 2 % 6) + 2 * x) (z / 2 % 6) := by
  have e1 : (z + 1 - 2 * (z / 2 % 6) + 2 * x) % 2 = 1 := by omega
  have e2 : (z + 1 - 2 * (z / 2 % 6) + 2 * x) / 2 % 6 = x := by omega
  refine ⟨by omega, ?_, ?_, ?_⟩
  · unfold ch_ok
    rw [if_pos e1, if_neg (by omega), if_pos (by omega), e2]; exact hd
  · unfold ch_nx
    rw [if_pos e1, if_neg (by omega), e2]; omega
  · unfold ch_sE
    rw [e2]; omega
theorem ch_E_no (he : z % 2 = 0) (hd : D x (z / 2 % 6) = false) : ∀ p c, p < 432 → c < 13 → ch_ok D gw tw p c = true → ch_nx p c = z → (ch_sE (x + 1) p c ↔ ch_sE x p c) := by
  intro p c hp hc ho hn
  have h := ch_inv_ev hp hc ho hn he
  have hne : ¬ (c ≠ 12 ∧ p / 2 % 6 = x) := by
    intro ⟨h1, h2⟩
    rcases h with h | ⟨_, h3, _, h4⟩
    · exact h1 h.1
    · rw [h2, h3, hd] at h4
      exact absurd h4 (by decide)
  unfold ch_sE
  omega
theorem ch_E_w (he : z % 2 = 0) : ch_Sub (ch_ok D gw tw) z (ch_sE 6) (fun _ _ => True) (z + 1) 12 := by
  intro p c hp hc ho hn
  have h := ch_inv_ev hp hc ho hn he
  refine ⟨fun _ => ?_, fun _ => trivial⟩
  unfold ch_sE
  omega
theorem ch_E_wok (he : z % 2 = 0) : ch_ok D gw true (z + 1) 12 = true ∧ ch_nx (z + 1) 12 = z ∧ ¬ ch_sE 6 (z + 1) 12 := by
  refine ⟨?_, ?_, fun h => h.1 rfl⟩
  · unfold ch_ok
    rw [if_pos (by omega), if_pos rfl]
  · unfold ch_nx
    rw [if_pos (by omega), if_pos rfl]; omega
theorem ch_E_wno (he : z % 2 = 0) : ∀ p c, p < 432 → c < 13 → ch_ok D gw false p c = true → ch_nx p c = z → (True ↔ ch_sE 6 p c) := by
  intro p c hp hc ho hn
  refine ⟨fun _ => ?_, fun _ => trivial⟩
  unfold ch_sE
  rcases ch_inv_ev hp hc ho hn he with ⟨_, _, h⟩ | h
  · exact absurd h (by decide)
  · omega
theorem ch_O_newA (hz : z < 432) (he : z % 2 = 1) (hx : x < 6) : ch_Sub (ch_ok D gw tw) z (ch_sO x x) (ch_sO (x + 1) x) (z - 1 - 72 * (z / 72) + 72 * x) (z / 72) := by
  intro p c hp hc ho hn
  have h := ch_inv_od hp hc ho hn he
  unfold ch_sO
  omega
theorem ch_O_newB (hz : z < 432) (he : z % 2 = 1) (hx : x < 6) : ch_Sub (ch_ok D gw tw) z (ch_sO (x + 1) x) (ch_sO (x + 1) (x + 1)) (z - 1 - 12 * (z / 12 % 6) + 12 * x) (6 + z / 12 % 6) := by
  intro p c hp hc ho hn
  have h := ch_inv_od hp hc ho hn he
  unfold ch_sO
  omega
theorem ch_O_okA (hz : z < 432) (he : z % 2 = 1) (hx : x < 6) (hd : D x (z / 72) = true) :
    z - 1 - 72 * (z / 72) + 72 * x < 432 ∧ ch_ok D gw tw (z - 1 - 72 * (z / 72) + 72 * x) (z / 72) = true ∧ ch_nx (z - 1 - 72 * (z / 72) + 72 * x) (z / 72) = z ∧ ¬ ch_sO x x (z - 1 - 72 * (z / 72) + 72 * x) (z / 72) := by
  have e1 : ¬ (z - 1 - 72 * (z / 72) + 72 * x) % 2 = 1 := by omega
  have e2 : (z - 1 - 72 * (z / 72) + 72 * x) / 72 = x := by omega
  refine ⟨by omega, ?_, ?_, ?_⟩
  · unfold ch_ok
    rw [if_neg e1, if_neg (by omega), if_pos (by omega), e2]; exact hd
  · unfold ch_nx
    rw [if_neg e1, if_neg (by omega), if_pos (by omega), e2]; omega
  · unfold ch_sO
    rw [e2]; omega
theorem ch_O_okB (hz : z < 432) (he : z % 2 = 1) (hx : x < 6) (hd : D x (z / 12 % 6) = true) :
    z - 1 - 12 * (z / 12 % 6) + 12 * x < 432 ∧ ch_ok D gw tw (z - 1 - 12 * (z / 12 % 6) + 12 * x) (6 + z / 12 % 6) = true ∧ ch_nx (z - 1 - 12 * (z / 12 % 6) + 12 * x) (6 + z / 12 % 6) = z ∧ ¬ ch_sO (x + 1) x (z - 1 - 12 * (z / 12 % 6) + 12 * x) (6 + z / 12 % 6) := by
  have e1 : ¬ (z - 1 - 12 * (z / 12 % 6) + 12 * x) % 2 = 1 := by omega
  have e2 : (z - 1 - 12 * (z / 12 % 6) + 12 * x) / 12 % 6 = x := by omega
  have e3 : 6 + z / 12 % 6 - 6 = z / 12 % 6 := by omega
  refine ⟨by omega, ?_, ?_, ?_⟩
  · unfold ch_ok
    rw [if_neg e1, if_neg (by omega), if_neg (by omega), e2, e3]; exact hd
  · unfold ch_nx
    rw [if_neg e1, if_neg (by omega), if_neg (by omega), e2, e3]; omega
  · unfold ch_sO
    rw [e2]; omega
theorem ch_O_noA (he : z % 2 = 1) (hd : D x (z / 72) = false) : ∀ p c, p < 432 → c < 13 → ch_ok D gw tw p c = true → ch_nx p c = z → (ch_sO (x + 1) x p c ↔ ch_sO x x p c) := by
  intro p c hp hc ho hn
  have h := ch_inv_od hp hc ho hn he
  have hne : ¬ (c < 6 ∧ p / 72 = x) := by
    intro ⟨h1, h2⟩
    rcases h with h | ⟨_, h3, _, h4⟩ | h
    · omega
    · rw [h2, h3, hd] at h4
      exact absurd h4 (by decide)
    · omega
  unfold ch_sO
  omega
theorem ch_O_noB (he : z % 2 = 1) (hd : D x (z / 12 % 6) = false) : ∀ p c, p < 432 → c < 13 → ch_ok D gw tw p c = true → ch_nx p c = z → (ch_sO (x + 1) (x + 1) p c ↔ ch_sO (x + 1) x p c) := by
  intro p c hp hc ho hn
  have h := ch_inv_od hp hc ho hn he
  have hne : ¬ (6 ≤ c ∧ c < 12 ∧ p / 12 % 6 = x) := by
    intro ⟨h1, h1', h2⟩
    rcases h with h | h | ⟨_, _, h3, _, h4⟩
    · omega
    · omega
    · rw [h2, h3, hd] at h4
      exact absurd h4 (by decide)
  unfold ch_sO
  omega
theorem ch_O_w (he : z % 2 = 1) : ch_Sub (ch_ok D gw tw) z (ch_sO 6 6) (fun _ _ => True) (z - 1) 12 := by
  intro p c hp hc ho hn
  have h := ch_inv_od hp hc ho hn he
  refine ⟨fun _ => ?_, fun _ => trivial⟩
  unfold ch_sO
  omega
theorem ch_O_wok (he : z % 2 = 1) : ch_ok D true tw (z - 1) 12 = true ∧ ch_nx (z - 1) 12 = z ∧ ¬ ch_sO 6 6 (z - 1) 12 := by
  refine ⟨?_, ?_, ?_⟩
  · unfold ch_ok
    rw [if_neg (by omega), if_pos rfl]
  · unfold ch_nx
    rw [if_neg (by omega), if_pos rfl]; omega
  · unfold ch_sO
    omega
theorem ch_O_wno (he : z % 2 = 1) : ∀ p c, p < 432 → c < 13 → ch_ok D false tw p c = true → ch_nx p c = z → (True ↔ ch_sO 6 6 p c) := by
  intro p c hp hc ho hn
  refine ⟨fun _ => ?_, fun _ => trivial⟩
  unfold ch_sO
  rcases ch_inv_od hp hc ho hn he with ⟨_, _, h⟩ | h
  · exact absurd h (by decide)
  · omega
end
end
section
/-! spread and prepare -/
theorem ch_q1 {z x : Nat} (hz : z < 432) (he : z % 2 = 0) : (nI z + 1) + (2 * (nI x - nI (z / 2 % 6))) = nI (z + 1 - 2 * (z / 2 % 6) + 2 * x) := by
  have e : nI z + 1 = nI ((z + 1 - 2 * (z / 2 % 6)) + 2 * (z / 2 % 6)) := by
    rw [show z + 1 - 2 * (z / 2 % 6) + 2 * (z / 2 % 6) = z + 1 from by omega]
    exact nI_1 z
  rw [e, Int32.add_comm]
  exact ch_s1 2 _ _ _
theorem ch_q2 {z x : Nat} (hz : z < 432) (he : z % 2 = 1) : (nI z - 1) + (72 * (nI x - nI (z / 72))) = nI (z - 1 - 72 * (z / 72) + 72 * x) := by
  have e : nI z - 1 = nI ((z - 1 - 72 * (z / 72)) + 72 * (z / 72)) := by
    rw [show z - 1 - 72 * (z / 72) + 72 * (z / 72) = z - 1 from by omega]
    exact pk_sub (b := 1) (by omega)
  rw [e, Int32.add_comm]
  exact ch_s1 72 _ _ _
theorem ch_q3 {z x : Nat} (hz : z < 432) (he : z % 2 = 1) : (nI z - 1) + (12 * (nI x - nI (z / 12 % 6))) = nI (z - 1 - 12 * (z / 12 % 6) + 12 * x) := by
  have e : nI z - 1 = nI ((z - 1 - 12 * (z / 12 % 6)) + 12 * (z / 12 % 6)) := by
    rw [show z - 1 - 12 * (z / 12 % 6) + 12 * (z / 12 % 6) = z - 1 from by omega]
    exact pk_sub (b := 1) (by omega)
  rw [e, Int32.add_comm]
  exact ch_s1 12 _ _ _
section
variable {gi ti ex bA bB bT bth rd : Int32} {out inn : Nat → Int32} {D : Nat → Nat → Bool} {E : Nat → Bool} {gw tw : Bool} {z who len i : Nat}
theorem ch_sp48 {post : SX → Prop} (hM : ch_XM D E gw tw gi ti ex out inn) (hz : z < 432) (he : z % 2 = 0)
    (h : ∀ w' l' o' q' n', ch_J (ch_ok D gw tw) (ch_ov E) z who len i (fun _ _ => True) w' l' o' q' n' → post (gi, ti, ex, bA, bB, bT, bth, rd, (nI n'), out, inn, (fun j => nI (w' j)), (fun j => nI (l' j)), (fun j => nI (o' j)), (fun j => nI (q' j)))) :
    ∀ d x, x + d = 6 → ∀ w l o q n, ch_J (ch_ok D gw tw) (ch_ov E) z who len i (ch_sE x) w l o q n →
      wX_spread_48 post (nI z) (nI (z / 2 % 6)) (nI who) (nI len) (d + 1) (nI x) gi ti ex bA bB bT bth rd (nI n) out inn (fun j => nI (w j)) (fun j => nI (l j)) (fun j => nI (o j)) (fun j => nI (q j)) := by
  obtain ⟨rfl, rfl, hE, hD, hI⟩ := hM
  have hK := ch_Kok D gw tw
  intro d
  induction d with
  | zero =>
    intro x hx w l o q n hJ
    obtain rfl : x = 6 := by omega
    rw [wX_spread_48]
    refine br_t (nI_le (a := 6) (b := 6) (by omega) (by omega)) ?_
    cases tw
    · exact br_t rfl (h _ _ _ _ _ (ch_J_c hJ (ch_E_wno he)))
    · refine br_f (by decide) ?_
      rw [nI_1]
      have hk := ch_E_wok (D := D) (gw := gw) he
      exact ch_xans hK hJ (ch_E_w he) (by omega) (by omega) hk.1 hk.2.1 hk.2.2 h
  | succ d ih =>
    intro x hx w l o q n hJ
    rw [wX_spread_48]
    refine br_f (nI_ge (b := 6) (by omega) (by omega)) ⟨pk_in (z / 2 % 6) 6 (by omega), ?_⟩
    rw [nI_clamp (n := z / 2 % 6) (by omega), ch_bit _ (t := x) (by omega), hI x (z / 2 % 6) (by omega) (by omega)]
    cases hb : D x (z / 2 % 6)
    · exact br_f (by decide) (nm_r (nI_1 x) (ih (x + 1) (by omega) w l o q n (ch_J_c hJ (ch_E_no he hb))))
    · refine br_t rfl ?_
      rw [ch_q1 hz he]
      have hk := ch_E_ok (D := D) (gw := gw) (tw := tw) hz he (show x < 6 by omega) hb
      refine ch_xans hK hJ (ch_E_new hz he (by omega)) hk.1 (by omega) hk.2.1 hk.2.2.1 hk.2.2.2 ?_
      intro w' l' o' q' n' hJ'
      exact nm_r (nI_1 x) (ih (x + 1) (by omega) w' l' o' q' n' hJ')
theorem ch_sp159 {post : SX → Prop} {J118 : Int32 → Int32 → Int32 → Int32 → Int32 → Int32 → Int32 → Int32 → Int32 → Int32 → (Nat → Int32) → (Nat → Int32) → (Nat → Int32) → (Nat → Int32) → (Nat → Int32) → (Nat → Int32) → Prop} {x : Nat} {w l o q : Nat → Nat} {n : Nat} (hM : ch_XM D E gw tw gi ti ex out inn) (hz : z < 432) (he : z % 2 = 1) (hx : x < 6)
    (hJ : ch_J (ch_ok D gw tw) (ch_ov E) z who len i (ch_sO (x + 1) x) w l o q n)
    (h : ∀ w' l' o' q' n', ch_J (ch_ok D gw tw) (ch_ov E) z who len i (ch_sO (x + 1) (x + 1)) w' l' o' q' n' → J118 (nI (x + 1)) gi ti ex bA bB bT bth rd (nI n') out inn (fun j => nI (w' j)) (fun j => nI (l' j)) (fun j => nI (o' j)) (fun j => nI (q' j))) :
    wX_spread_159 post J118 (nI z) (nI (z / 72)) (nI (z / 12 % 6)) (nI who) (nI len) (nI x) gi ti ex bA bB bT bth rd (nI n) out inn (fun j => nI (w j)) (fun j => nI (l j)) (fun j => nI (o j)) (fun j => nI (q j)) := by
  obtain ⟨rfl, rfl, hE, hD, hI⟩ := hM
  have hK := ch_Kok D gw tw
  unfold wX_spread_159
  refine ⟨pk_in (z / 12 % 6) 6 (by omega), ?_⟩
  rw [nI_clamp (n := z / 12 % 6) (by omega), ch_bit _ (t := x) (by omega), hI x (z / 12 % 6) (by omega) (by omega)]
  cases hb : D x (z / 12 % 6)
  · exact br_f (by decide) (nm_r (nI_1 x) (h _ _ _ _ _ (ch_J_c hJ (ch_O_noB he hb))))
  · refine br_t rfl ?_
    rw [ch_q3 hz he]
    have hk := ch_O_okB (D := D) (gw := gw) (tw := tw) hz he hx hb
    refine ch_xans hK hJ (ch_O_newB hz he hx) hk.1 (by omega) hk.2.1 hk.2.2.1 hk.2.2.2 ?_
    intro w' l' o' q' n' hJ'
    exact nm_r (nI_1 x) (h w' l' o' q' n' hJ')
theorem ch_sp118 {post : SX → Prop} (hM : ch_XM D E gw tw gi ti ex out inn) (hz : z < 432) (he : z % 2 = 1)
    (h : ∀ w' l' o' q' n', ch_J (ch_ok D gw tw) (ch_ov E) z who len i (fun _ _ => True) w' l' o' q' n' → post (gi, ti, ex, bA, bB, bT, bth, rd, (nI n'), out, inn, (fun j => nI (w' j)), (fun j => nI (l' j)), (fun j => nI (o' j)), (fun j => nI (q' j)))) :
    ∀ d x, x + d = 6 → ∀ w l o q n, ch_J (ch_ok D gw tw) (ch_ov E) z who len i (ch_sO x x) w l o q n →
      wX_spread_118 post (nI z) (nI (z / 72)) (nI (z / 12 % 6)) (nI who) (nI len) (d + 1) (nI x) gi ti ex bA bB bT bth rd (nI n) out inn (fun j => nI (w j)) (fun j => nI (l j)) (fun j => nI (o j)) (fun j => nI (q j)) := by
  have hM' := hM
  obtain ⟨rfl, rfl, hE, hD, hI⟩ := hM
  have hK := ch_Kok D gw tw
  intro d
  induction d with
  | zero =>
    intro x hx w l o q n hJ
    obtain rfl : x = 6 := by omega
    rw [wX_spread_118]
    refine br_t (nI_le (a := 6) (b := 6) (by omega) (by omega)) ?_
    cases gw
    · exact br_t rfl (h _ _ _ _ _ (ch_J_c hJ (ch_O_wno he)))
    · refine br_f (by decide) ?_
      rw [show nI z - 1 = nI (z - 1) from pk_sub (b := 1) (by omega)]
      have hk := ch_O_wok (D := D) (tw := tw) he
      exact ch_xans hK hJ (ch_O_w he) (by omega) (by omega) hk.1 hk.2.1 hk.2.2 h
  | succ d ih =>
    intro x hx w l o q n hJ
    rw [wX_spread_118]
    refine br_f (nI_ge (b := 6) (by omega) (by omega)) ⟨pk_in (z / 72) 6 (by omega), ?_⟩
    rw [nI_clamp (n := z / 72) (by omega), ch_bit _ (t := x) (by omega), hI x (z / 72) (by omega) (by omega)]
    cases hb : D x (z / 72)
    · refine br_f (by decide) ?_
      exact ch_sp159 hM' hz he (by omega) (ch_J_c hJ (ch_O_noA he hb)) (fun w' l' o' q' n' hJ' => ih (x + 1) (by omega) w' l' o' q' n' hJ')
    · refine br_t rfl ?_
      rw [ch_q2 hz he]
      have hk := ch_O_okA (D := D) (gw := gw) (tw := tw) hz he (show x < 6 by omega) hb
      refine ch_xans hK hJ (ch_O_newA hz he (by omega)) hk.1 (by omega) hk.2.1 hk.2.2.1 hk.2.2.2 ?_
      intro w' l' o' q' n' hJ'
      exact ch_sp159 hM' hz he (by omega) hJ' (fun w' l' o' q' n' hJ' => ih (x + 1) (by omega) w' l' o' q' n' hJ')
theorem ch_xspread {post : SX → Prop} {w l o q : Nat → Nat} {n : Nat} (hM : ch_XM D E gw tw gi ti ex out inn) (I : ch_Inv (ch_ok D gw tw) (ch_ov E) w l o q n i (fun _ _ => False)) (hi : i < n)
    (h : ∀ w' l' o' q' n', ch_Inv (ch_ok D gw tw) (ch_ov E) w' l' o' q' n' (i + 1) (fun _ _ => False) → i < n' → post (gi, ti, ex, bA, bB, bT, bth, rd, (nI n'), out, inn, (fun j => nI (w' j)), (fun j => nI (l' j)), (fun j => nI (o' j)), (fun j => nI (q' j)))) :
    wpX_spread post (gi, ti, ex, bA, bB, bT, bth, rd, (nI n), out, inn, (fun j => nI (w j)), (fun j => nI (l j)), (fun j => nI (o j)), (fun j => nI (q j))) (nI (q i)) := by
  have hz := (I.1.2.1 i hi).1
  have hend : ∀ w' l' o' q' n', ch_J (ch_ok D gw tw) (ch_ov E) (q i) (w (q i)) (l (q i) + 1) i (fun _ _ => True) w' l' o' q' n' → post (gi, ti, ex, bA, bB, bT, bth, rd, (nI n'), out, inn, (fun j => nI (w' j)), (fun j => nI (l' j)), (fun j => nI (o' j)), (fun j => nI (q' j))) := by
    intro w' l' o' q' n' hJ
    obtain ⟨I', hi', _, _, _⟩ := hJ
    exact h w' l' o' q' n' (ch_next I' hi' (fun _ _ _ _ _ _ => trivial)) hi'
  have hJ : ch_J (ch_ok D gw tw) (ch_ov E) (q i) (w (q i)) (l (q i) + 1) i (fun _ _ => False) w l o q n := ⟨I, hi, rfl, rfl, rfl⟩
  generalize ezz : q i = z at hz hend hJ ⊢
  unfold wpX_spread
  dsimp only
  refine ⟨by decide, nm_r (ch_d72 hz) ⟨by decide, by decide, nm_r (ch_m12 hz) ⟨by decide, by decide, nm_r (ch_m2 hz) ⟨pk_in z 432 hz, nm_r (e' := nI (w z)) ?_ ⟨pk_in z 432 hz, nm_r (e' := nI (l z + 1)) ?_ ⟨by decide, ?_⟩⟩⟩⟩⟩⟩
  · rw [nI_clamp (by omega)]
  · rw [nI_clamp (by omega), nI_1]
  · rw [ch_par hz]
    refine pk_eq (z % 2) 0 (fun e => ⟨6 + 1, ?_⟩) (fun e => ⟨6 + 1, ?_⟩)
    · refine ch_sp48 hM hz e hend 6 0 rfl w l o q n (ch_J_c hJ (fun p c _ _ _ _ => ?_))
      exact ⟨fun y => absurd y.2 (Nat.not_lt_zero _), fun y => y.elim⟩
    · refine ch_sp118 hM hz (by omega) hend 6 0 rfl w l o q n (ch_J_c hJ (fun p c _ _ _ _ => ?_))
      refine ⟨fun y => ?_, fun y => y.elim⟩
      rcases y with y | y
      · exact absurd y.2 (Nat.not_lt_zero _)
      · exact absurd y.2.2 (Nat.not_lt_zero _)
theorem ch_xp96 {post : SX → Prop} (hM : ch_XM D E gw tw gi ti ex out inn)
    (h : ∀ (w' l' o' q' : Nat → Nat) (n' : Nat), ch_Tab (ch_ok D gw tw) (ch_ov E) w' l' → post (gi, ti, ex, bA, bB, bT, bth, 1, (nI n'), out, inn, (fun j => nI (w' j)), (fun j => nI (l' j)), (fun j => nI (o' j)), (fun j => nI (q' j)))) :
    ∀ d i, i + d = 432 → ∀ w l o q n, ch_Inv (ch_ok D gw tw) (ch_ov E) w l o q n i (fun _ _ => False) → i ≤ n → wX_prepare_96 post (d + 1) (nI i) gi ti ex bA bB bT bth rd (nI n) out inn (fun j => nI (w j)) (fun j => nI (l j)) (fun j => nI (o j)) (fun j => nI (q j)) := by
  have hK := ch_Kok D gw tw
  have hend : ∀ N i w l o q n, ch_Inv (ch_ok D gw tw) (ch_ov E) w l o q n i (fun _ _ => False) → i = n → wX_prepare_96 post (N + 1) (nI i) gi ti ex bA bB bT bth rd (nI n) out inn (fun j => nI (w j)) (fun j => nI (l j)) (fun j => nI (o j)) (fun j => nI (q j)) := by
    intro N i w l o q n I e
    subst e
    have hn := ch_n432 I.1
    rw [wX_prepare_96]
    exact br_t (nI_le (Nat.le_refl _) (by omega)) (h _ _ _ _ _ (ch_done hK I))
  intro d
  induction d with
  | zero =>
    intro i hi w l o q n I hin
    have hn := ch_n432 I.1
    exact hend 0 i w l o q n I (by omega)
  | succ d ih =>
    intro i hi w l o q n I hin
    have hn := ch_n432 I.1
    by_cases e : i = n
    · exact hend (d + 1) i w l o q n I e
    · rw [wX_prepare_96]
      refine br_f (nI_ge (by omega) (by omega)) (br_f (nI_ge (b := 432) (by omega) (by omega)) ⟨pk_in i 432 (by omega), ?_⟩)
      rw [nI_clamp (n := i) (by omega)]
      refine ch_xspread hM I (by omega) ?_
      intro w' l' o' q' n' I' hin'
      exact nm_r (nI_1 i) (ih (i + 1) (by omega) w' l' o' q' n' I' (by omega))
theorem ch_nar0b : vp_nar .byte 0 = nI 0 := by rw [vp_nar_byte]; decide
theorem ch_nar0s : vp_nar .short 0 = nI 0 := by rw [vp_nar_short]; decide
theorem ch_xp77 {post : SX → Prop} {J15 : Int32 → Int32 → Int32 → Int32 → Int32 → Int32 → Int32 → Int32 → Int32 → Int32 → (Nat → Int32) → (Nat → Int32) → (Nat → Int32) → (Nat → Int32) → (Nat → Int32) → (Nat → Int32) → Prop} {w l o q : Nat → Nat} {n : Nat} (hi : i < 432) (hP : ch_P0 (ch_ok D gw tw) (ch_ov E) w l o q n i)
    (h : ∀ w' l' o' q' n', ch_P0 (ch_ok D gw tw) (ch_ov E) w' l' o' q' n' (i + 1) → J15 (nI (i + 1)) gi ti ex bA bB bT bth rd (nI n') out inn (fun j => nI (w' j)) (fun j => nI (l' j)) (fun j => nI (o' j)) (fun j => nI (q' j))) {y : Nat} (hy : y = ch_W0 (ch_ok D gw tw) (ch_ov E) i) (hy2 : y ≤ 2) :
    wX_prepare_77 post J15 (nI i) (nI y) gi ti ex bA bB bT bth rd (nI n) out inn (fun j => nI (ch_up w i 0 j)) (fun j => nI (ch_up l i 0 j)) (fun j => nI (ch_up o i (ch_mc (ch_ok D gw tw) i) j)) (fun j => nI (q j)) := by
  have hn := ch_P0_n hP
  unfold wX_prepare_77
  refine pk_eq y 0 (fun e => ?_) (fun e => ?_)
  · exact nm_r (nI_1 i) (h _ _ _ _ _ (ch_P0_no hP (by omega)))
  · refine ch_settle (len := 0) hi (by omega) hy2 (by omega) ?_
    have hP' := ch_P0_yes hP (by omega)
    rw [← hy] at hP'
    exact nm_r (nI_1 i) (h _ _ _ _ _ hP')
theorem ch_xp15 {post : SX → Prop} (hM : ch_XM D E gw tw gi ti ex out inn)
    (h : ∀ (w' l' o' q' : Nat → Nat) (n' : Nat), ch_Tab (ch_ok D gw tw) (ch_ov E) w' l' → post (gi, ti, ex, bA, bB, bT, bth, 1, (nI n'), out, inn, (fun j => nI (w' j)), (fun j => nI (l' j)), (fun j => nI (o' j)), (fun j => nI (q' j)))) :
    ∀ d i, i + d = 432 → ∀ w l o q n, ch_P0 (ch_ok D gw tw) (ch_ov E) w l o q n i → wX_prepare_15 post (d + 1) (nI i) gi ti ex bA bB bT bth rd (nI n) out inn (fun j => nI (w j)) (fun j => nI (l j)) (fun j => nI (o j)) (fun j => nI (q j)) := by
  intro d
  induction d with
  | zero =>
    intro i hi w l o q n hP
    obtain rfl : i = 432 := by omega
    rw [wX_prepare_15]
    exact br_t (nI_le (a := 432) (b := 432) (by omega) (by omega)) ⟨432 + 1, ch_xp96 hM h 432 0 rfl w l o q n (ch_start (ch_ov2 E) hP) (by omega)⟩
  | succ d ih =>
    intro i hi w l o q n hP
    have hmc := ch_n_le (fun c => ch_ok D gw tw i c = true) 13
    have hmc : ch_mc (ch_ok D gw tw) i ≤ 13 := hmc
    have hov := ch_ov2 E i
    rw [wX_prepare_15]
    refine br_f (nI_ge (b := 432) (by omega) (by omega)) ⟨pk_in i 432 (by omega), nm_r (e' := fun j => nI (ch_up w i 0 j)) ?_ ⟨pk_in i 432 (by omega), nm_r (e' := fun j => nI (ch_up l i 0 j)) ?_ (ch_xmc hM (by omega) ⟨pk_in i 432 (by omega), nm_r (e' := fun j => nI (ch_up o i (ch_mc (ch_ok D gw tw) i) j)) ?_ (ch_xover (E := E) (by omega) hM.2.2.1 ?_)⟩)⟩⟩
    · rw [nI_clamp (by omega), ch_nar0b]; exact ch_upd w i 0
    · rw [nI_clamp (by omega), ch_nar0s]; exact ch_upd l i 0
    · rw [nI_clamp (by omega), ch_nb (by omega)]; exact ch_upd o i _
    · have hJ : ∀ w' l' o' q' n', ch_P0 (ch_ok D gw tw) (ch_ov E) w' l' o' q' n' (i + 1) → wX_prepare_15 post (d + 1) (nI (i + 1)) gi ti ex bA bB bT bth rd (nI n') out inn (fun j => nI (w' j)) (fun j => nI (l' j)) (fun j => nI (o' j)) (fun j => nI (q' j)) := fun w' l' o' q' n' hP' => ih (i + 1) (by omega) w' l' o' q' n' hP'
      refine pk_eq (ch_ov E i) 0 (fun e => pk_eq (ch_mc (ch_ok D gw tw) i) 0 (fun e2 => ⟨by decide, ?_⟩) (fun e2 => ?_)) (fun e => ?_)
      · rw [ch_par (by omega)]
        refine pk_eq (i % 2) 1 (fun e3 => ?_) (fun e3 => ?_)
        · unfold wX_prepare_76
          refine ch_xp77 (y := 1) (by omega) hP hJ ?_ (by omega)
          unfold ch_W0 ch_ot
          rw [if_pos e, if_pos e2, if_pos e3]
        · unfold wX_prepare_76
          refine ch_xp77 (y := 2) (by omega) hP hJ ?_ (by omega)
          unfold ch_W0 ch_ot
          rw [if_pos e, if_pos e2, if_neg e3]
      · refine ch_xp77 (by omega) hP hJ ?_ hov
        unfold ch_W0
        rw [if_pos e, if_neg e2, e]
      · refine ch_xp77 (by omega) hP hJ ?_ hov
        unfold ch_W0
        rw [if_neg e]
/-- the component's table is right, or not made -/
def ch_XT (ok : Nat → Nat → Bool) (ov : Nat → Nat) (rd : Int32) (aw af : Nat → Int32) : Prop :=
  rd = 0 ∨ (rd = 1 ∧ ∃ w l : Nat → Nat, (∀ p, p < 432 → aw p = nI (w p) ∧ af p = nI (l p)) ∧ ch_Tab ok ov w l)
theorem ch_xprep {post : SX → Prop} {qd : Int32} {aw af ao aq : Nat → Int32} (hM : ch_XM D E gw tw gi ti ex out inn) (hT : ch_XT (ch_ok D gw tw) (ch_ov E) rd aw af)
    (h : ∀ qd' aw' af' ao' aq' w l, (∀ p, p < 432 → aw' p = nI (w p) ∧ af' p = nI (l p)) → ch_Tab (ch_ok D gw tw) (ch_ov E) w l → post (gi, ti, ex, bA, bB, bT, bth, 1, qd', out, inn, aw', af', ao', aq')) :
    wpX_prepare post (gi, ti, ex, bA, bB, bT, bth, rd, qd, out, inn, aw, af, ao, aq) := by
  unfold wpX_prepare
  rcases hT with rfl | ⟨rfl, w, l, hwl, hT⟩
  · obtain ⟨w, rfl⟩ := ch_arr aw
    obtain ⟨l, rfl⟩ := ch_arr af
    obtain ⟨o, rfl⟩ := ch_arr ao
    obtain ⟨q, rfl⟩ := ch_arr aq
    refine br_t rfl ⟨432 + 1, ?_⟩
    refine ch_xp15 hM ?_ 432 0 rfl w l o q 0 ch_P0_0
    intro w' l' o' q' n' hT
    exact h _ _ _ _ _ w' l' (fun p _ => ⟨rfl, rfl⟩) hT
  · exact br_f (by decide) (h _ _ _ _ _ w l hwl hT)
end
end
section
/-! the reference's follows, workOut, canMove -/
def ch_ri (W L : Nat) : Int32 := if W = 0 then -3 else nI L
theorem ch_ri0 {W L : Nat} (h : W = 0) : ch_ri W L = -3 := if_pos h
theorem ch_ri1 {W L : Nat} (h : W ≠ 0) : ch_ri W L = nI L := if_neg h
def ch_Ya (w l : Nat → Nat) (aw ar : Nat → Int32) : Prop := ∀ q, q < 432 → aw q = nI (w q) ∧ ar q = ch_ri (w q) (l q)
section
variable {wts yat kn : Int32} {doors exs : Nat → Int32} {D : Nat → Nat → Bool} {E : Nat → Bool} {gw tw : Bool}
theorem ch_y67 {post : Int32 → Prop} {J14 : Int32 → Int32 → Prop} {aw ar : Nat → Int32} {s w l : Nat → Nat} {r p q c : Nat} {x4 : Int32} (hr : r < 1000) (hq : q < 432) (ha : ch_Ya w l aw ar) (hF : ch_Fo s r (w q) (l q) q)
    (h1 : s q = ch_ot p → J14 x4 (nI (c + 1))) (h2 : s q ≠ ch_ot p → J14 0 (nI (c + 1))) :
    wY_follows_67 post J14 (nI p) (nI r) (nI (ch_ot p)) x4 (nI c) (nI q) wts yat kn doors exs aw ar := by
  have hm := ch_mo p
  obtain ⟨hW, hL, hs⟩ := hF
  have hs2 := hs (ch_ot p) (by omega)
  unfold wY_follows_67
  refine ⟨pk_in q 432 hq, ?_⟩
  rw [nI_clamp (n := q) (by omega), (ha q hq).1, (ha q hq).2]
  refine pk_eq (w q) (ch_ot p) (fun e => ⟨pk_in q 432 hq, ?_⟩) (fun e => ?_)
  · rw [ch_ri1 (by omega)]
    have hl := hL (by omega)
    refine pk_lt (l q) r (fun e2 => ?_) (fun e2 => ?_)
    · exact nm_r (nI_1 c) (h1 (hs2.mp ⟨e, e2⟩))
    · refine nm_r (nI_1 c) (h2 (fun z => ?_))
      have := (hs2.mpr z).2
      omega
  · refine nm_r (nI_1 c) (h2 (fun z => ?_))
    exact e (hs2.mpr z).1
theorem ch_yfol_l {post : Int32 → Prop} {aw ar : Nat → Int32} {s w l : Nat → Nat} {r p : Nat} (hM : ch_YM D E gw tw wts doors exs) (hp : p < 432) (hr : r < 1000) (ha : ch_Ya w l aw ar) (hF : ∀ q, q < 432 → ch_Fo s r (w q) (l q) q) (h : post (nI (ch_F (ch_ok D gw tw) s p))) :
    ∀ d c, c + d = 13 → (∀ c', c' < c → ch_ok D gw tw p c' = true → s (ch_nx p c') ≠ ch_mv p) → ∀ x4 : Int32,
      ((x4 = 1 ∧ ∀ c', c' < c → ch_ok D gw tw p c' = true → s (ch_nx p c') = ch_ot p) ∨ (x4 = 0 ∧ ∃ c', c' < 13 ∧ ch_ok D gw tw p c' = true ∧ s (ch_nx p c') ≠ ch_ot p)) →
      wY_follows_14 post (nI p) (nI r) (nI (ch_ot p)) wts yat kn doors exs aw ar (d + 1) x4 (nI c) := by
  have hm := ch_mo p
  intro d
  induction d with
  | zero =>
    intro c hc hn x4 hfl
    obtain rfl : c = 13 := by omega
    rw [wY_follows_14]
    refine br_t (nI_lt (a := 12) (b := 13) (by omega) (by omega)) ?_
    rcases hfl with ⟨rfl, hall⟩ | ⟨rfl, c1, hc1, ho1, he1⟩
    · rw [ch_F_o' hall] at h
      exact br_f (by decide) h
    · rw [ch_F_0 (fun ⟨c', hc', ho', e'⟩ => hn c' hc' ho' e') (fun hall => he1 (hall c1 hc1 ho1))] at h
      exact br_t rfl h
  | succ d ih =>
    intro c hc hn x4 hfl
    rw [wY_follows_14]
    refine br_f (nI_nlt (a := 12) (b := c) (by omega) (by omega)) (ch_yafter hM hp (by omega) ?_)
    cases ho : ch_ok D gw tw p c
    · rw [ch_bv_f ho]
      refine br_t (by decide) (nm_r (nI_1 c) (ih (c + 1) (by omega) (fun c' hc' ho' => ?_) x4 ?_))
      · by_cases e : c' = c
        · rw [e, ho] at ho'
          exact absurd ho' (by decide)
        · exact hn c' (by omega) ho'
      · rcases hfl with ⟨e4, hall⟩ | hfl
        · refine Or.inl ⟨e4, fun c' hc' ho' => ?_⟩
          by_cases e : c' = c
          · rw [e, ho] at ho'
            exact absurd ho' (by decide)
          · exact hall c' (by omega) ho'
        · exact Or.inr hfl
    · rw [ch_bv_t ho]
      have hq := ch_Kok D gw tw p c hp (by omega) ho
      have hFq := hF _ hq
      refine br_f (nI_pos (by omega)) ⟨pk_in (ch_nx p c) 432 hq, ch_ymover hp ?_⟩
      rw [nI_clamp (n := ch_nx p c) (by omega), (ha _ hq).1, (ha _ hq).2]
      by_cases hs : s (ch_nx p c) = ch_mv p
      · obtain ⟨e1, e2⟩ := (hFq.2.2 (ch_mv p) (by omega)).mpr hs
        rw [ch_F_m ⟨c, by omega, ho, hs⟩] at h
        refine br_t (by rw [e1]) ⟨pk_in (ch_nx p c) 432 hq, ?_⟩
        rw [ch_ri1 (by omega)]
        exact br_f (nI_ge e2 (by omega)) (ch_ymover hp h)
      · have hn' : ∀ c', c' < c + 1 → ch_ok D gw tw p c' = true → s (ch_nx p c') ≠ ch_mv p := by
          intro c' hc' ho'
          by_cases e : c' = c
          · rw [e]; exact hs
          · exact hn c' (by omega) ho'
        have h67 : wY_follows_67 post (wY_follows_14 post (nI p) (nI r) (nI (ch_ot p)) wts yat kn doors exs aw ar (d + 1)) (nI p) (nI r) (nI (ch_ot p)) x4 (nI c) (nI (ch_nx p c)) wts yat kn doors exs aw ar := by
          refine ch_y67 hr hq ha hFq (fun ht => ?_) (fun ht => ?_)
          · refine ih (c + 1) (by omega) hn' x4 ?_
            rcases hfl with ⟨e4, hall⟩ | hfl
            · refine Or.inl ⟨e4, fun c' hc' ho' => ?_⟩
              by_cases e : c' = c
              · rw [e]; exact ht
              · exact hall c' (by omega) ho'
            · exact Or.inr hfl
          · exact ih (c + 1) (by omega) hn' 0 (Or.inr ⟨rfl, c, by omega, ho, ht⟩)
        have hW := hFq.1
        refine pk_eq (w (ch_nx p c)) (ch_mv p) (fun e => ⟨pk_in (ch_nx p c) 432 hq, ?_⟩) (fun _ => h67)
        rw [ch_ri1 (by omega)]
        have hl := hFq.2.1 (by omega)
        refine br_t (nI_le ?_ (by omega)) h67
        refine Nat.le_of_not_lt (fun z => hs ?_)
        exact (hFq.2.2 (ch_mv p) (by omega)).mp ⟨e, z⟩
theorem ch_yfol {post : Int32 → Prop} {aw ar : Nat → Int32} {s w l : Nat → Nat} {r p : Nat} (hM : ch_YM D E gw tw wts doors exs) (hp : p < 432) (hr : r < 1000) (ha : ch_Ya w l aw ar) (hF : ∀ q, q < 432 → ch_Fo s r (w q) (l q) q) (h : post (nI (ch_F (ch_ok D gw tw) s p))) :
    wpY_follows post (wts, yat, kn, doors, exs, aw, ar) (nI p) (nI r) := by
  unfold wpY_follows
  refine ch_ymover hp (nm_r (e' := nI (ch_ot p)) ?_ ⟨13 + 1, ?_⟩)
  · rcases ch_mo p with ⟨e1, e2⟩ | ⟨e1, e2⟩
    · rw [e1, e2]; decide
    · rw [e1, e2]; decide
  · exact ch_yfol_l hM hp hr ha hF h 13 0 rfl (fun c' hc' => absurd hc' (Nat.not_lt_zero _)) 1 (Or.inl ⟨rfl, fun c' hc' => absurd hc' (Nat.not_lt_zero _)⟩)
/-- in the midst of round r -/
def ch_R (ok : Nat → Nat → Bool) (ov : Nat → Nat) (r i f : Nat) (w l : Nat → Nat) : Prop :=
  (∀ q, q < 432 → (q < i → ch_B ok ov (r + 1) (w q) (l q) q) ∧ (i ≤ q → ch_A ok ov r (w q) (l q) q)) ∧
  (f = 0 → r ≠ 0 → ∀ q, q < i → ch_st ok ov (r + 1) q = ch_st ok ov r q) ∧ f ≤ 2 * i
theorem ch_R_keep {ok : Nat → Nat → Bool} {ov w l : Nat → Nat} {r i f : Nat} (hv : ∀ p, ov p ≤ 2) (h : ch_R ok ov r i f w l) (hi : i < 432) (hw : w i ≠ 0) : ch_R ok ov r (i + 1) f w l := by
  obtain ⟨h1, h2, h3⟩ := h
  have hA := (h1 i hi).2 (Nat.le_refl i)
  refine ⟨fun q hq => ⟨fun hqi => ?_, fun hqi => (h1 q hq).2 (by omega)⟩, fun hf hr q hqi => ?_, by omega⟩
  · by_cases e : q = i
    · subst e
      exact ch_A_keep hv hA hw
    · exact (h1 q hq).1 (by omega)
  · by_cases e : q = i
    · subst e
      exact ch_same1 hr hA hw
    · exact h2 hf hr q (by omega)
theorem ch_R_new {ok : Nat → Nat → Bool} {ov w l : Nat → Nat} {r i f : Nat} (h : ch_R ok ov r i f w l) (hi : i < 432) (hw : w i = 0) :
    ch_R ok ov r (i + 1) (f + ch_F ok (ch_st ok ov r) i) (ch_up w i (ch_F ok (ch_st ok ov r) i)) (ch_up l i r) := by
  obtain ⟨h1, h2, h3⟩ := h
  have hA := (h1 i hi).2 (Nat.le_refl i)
  have hF := ch_F2 ok (ch_st ok ov r) i
  refine ⟨fun q hq => ⟨fun hqi => ?_, fun hqi => ?_⟩, fun hf hr q hqi => ?_, by omega⟩
  · by_cases e : q = i
    · subst e
      rw [ch_us, ch_us]
      exact ch_A_new hA hw
    · rw [ch_un e, ch_un e]
      exact (h1 q hq).1 (by omega)
  · rw [ch_un (by omega), ch_un (by omega)]
    exact (h1 q hq).2 (by omega)
  · by_cases e : q = i
    · subst e
      exact ch_same0 hA hw (by omega)
    · exact h2 (by omega) hr q (by omega)
theorem ch_R_fo {ok : Nat → Nat → Bool} {ov w l : Nat → Nat} {r i f : Nat} (hv : ∀ p, ov p ≤ 2) (h : ch_R ok ov r i f w l) : ∀ q, q < 432 → ch_Fo (ch_st ok ov r) r (w q) (l q) q := by
  intro q hq
  by_cases hqi : q < i
  · exact ch_B_fo ((h.1 q hq).1 hqi)
  · exact ch_A_fo hv ((h.1 q hq).2 (by omega))
theorem ch_y75 {post : SY → Prop} {J59 : Int32 → Int32 → (Nat → Int32) → (Nat → Int32) → (Nat → Int32) → (Nat → Int32) → Prop} {r : Nat} (hM : ch_YM D E gw tw wts doors exs) (hr : r < 432)
    (h : ∀ aw' ar' w' l' (more : Int32), ch_Ya w' l' aw' ar' → (∀ q, q < 432 → ch_B (ch_ok D gw tw) (ch_ov E) (r + 1) (w' q) (l' q) q) → (more = 1 ∨ (more = 0 ∧ ∀ q, q < 432 → ch_st (ch_ok D gw tw) (ch_ov E) (r + 1) q = ch_st (ch_ok D gw tw) (ch_ov E) r q)) → J59 more (nI (r + 1)) doors exs aw' ar') :
    ∀ d i, i + d = 432 → ∀ f aw ar w l, ch_Ya w l aw ar → ch_R (ch_ok D gw tw) (ch_ov E) r i f w l →
      wY_workOut_75 post J59 (nI r) wts yat kn (d + 1) (nI f) (nI i) doors exs aw ar := by
  intro d
  induction d with
  | zero =>
    intro i hi f aw ar w l ha hR
    obtain rfl : i = 432 := by omega
    have hf := hR.2.2
    have hB : ∀ q, q < 432 → ch_B (ch_ok D gw tw) (ch_ov E) (r + 1) (w q) (l q) q := fun q hq => (hR.1 q hq).1 hq
    rw [wY_workOut_75]
    refine br_t (nI_le (a := 432) (b := 432) (by omega) (by omega)) ?_
    refine pk_eq r 0 (fun e => ?_) (fun e => pk_le f 0 (fun e2 => ?_) (fun e2 => ?_))
    · exact nm_r (nI_1 r) (h aw ar w l 1 ha hB (Or.inl rfl))
    · exact nm_r (nI_1 r) (h aw ar w l 0 ha hB (Or.inr ⟨rfl, hR.2.1 (by omega) e⟩))
    · exact nm_r (nI_1 r) (h aw ar w l 1 ha hB (Or.inl rfl))
  | succ d ih =>
    intro i hi f aw ar w l ha hR
    have hi' : i < 432 := by omega
    have hA := (ch_R_fo (ch_ov2 E) hR i hi').1
    rw [wY_workOut_75]
    refine br_f (nI_ge (b := 432) (by omega) (by omega)) ⟨pk_in i 432 hi', ?_⟩
    rw [nI_clamp (n := i) (by omega), (ha i hi').1]
    refine pk_eq (w i) 0 (fun e => ?_) (fun e => ?_)
    · refine ch_yfol hM hi' (by omega) ha (ch_R_fo (ch_ov2 E) hR) ?_
      have hF2 := ch_F2 (ch_ok D gw tw) (ch_st (ch_ok D gw tw) (ch_ov E) r) i
      have hRn := ch_R_new hR hi' e
      generalize ch_F (ch_ok D gw tw) (ch_st (ch_ok D gw tw) (ch_ov E) r) i = F at hF2 hRn ⊢
      have h129 : ∀ v, v = ch_ri F r → wY_workOut_129 post J59 (wY_workOut_75 post J59 (nI r) wts yat kn (d + 1)) (nI r) (nI f) (nI i) v (nI i) wts yat kn doors exs (upd aw i (nI F)) ar := by
        intro v hv
        unfold wY_workOut_129
        rw [nI_clamp (n := i) (by omega), pk_us, nI_add]
        refine ⟨pk_in i 432 hi', nm_e ⟨pk_in i 432 hi', nm_e (nm_r (nI_1 i) (ih (i + 1) (by omega) (f + F) _ _ (ch_up w i F) (ch_up l i r) ?_ hRn))⟩⟩
        intro q hq
        by_cases eq : q = i
        · subst eq
          rw [pk_us, pk_us, ch_us, ch_us]; exact ⟨rfl, hv⟩
        · rw [pk_un eq, pk_un eq, ch_un eq, ch_un eq]; exact ha q hq
      refine ⟨pk_in i 432 hi', nm_e ⟨pk_in i 432 hi', ?_⟩⟩
      rw [pk_us]
      refine pk_eq F 0 (fun e2 => ?_) (fun e2 => ?_)
      · exact h129 _ (ch_ri0 e2).symm
      · exact h129 _ (ch_ri1 e2).symm
    · exact nm_r (nI_1 i) (ih (i + 1) (by omega) f aw ar w l ha (ch_R_keep (ch_ov2 E) hR hi' e))
theorem ch_y59 {post : SY → Prop} (hM : ch_YM D E gw tw wts doors exs)
    (h : ∀ aw' ar' w l, ch_Ya w l aw' ar' → (∀ p, p < 432 → w p ≤ 2) → ch_Tab (ch_ok D gw tw) (ch_ov E) w l → post (wts, yat, 1, doors, exs, aw', ar')) :
    ∀ d r, r + d = 432 → ∀ (more : Int32) aw ar w l, ch_Ya w l aw ar → (∀ q, q < 432 → ch_A (ch_ok D gw tw) (ch_ov E) r (w q) (l q) q) →
      (more = 1 ∨ (more = 0 ∧ 0 < r ∧ ∀ k q, q < 432 → ch_st (ch_ok D gw tw) (ch_ov E) (r + k) q = ch_st (ch_ok D gw tw) (ch_ov E) r q)) →
      wY_workOut_59 post wts yat kn (d + 1) more (nI r) doors exs aw ar := by
  have hK := ch_Kok D gw tw
  have hend : ∀ r aw ar w l, 0 < r → ch_Ya w l aw ar → (∀ q, q < 432 → ch_A (ch_ok D gw tw) (ch_ov E) r (w q) (l q) q) → (∀ k q, q < 432 → ch_st (ch_ok D gw tw) (ch_ov E) (r + k) q = ch_st (ch_ok D gw tw) (ch_ov E) r q) → post (wts, yat, 1, doors, exs, aw, ar) := by
    intro r aw ar w l hr ha hA hst
    have hB : ∀ q, q < 432 → ch_B (ch_ok D gw tw) (ch_ov E) r (w q) (l q) q := fun q hq => by
      rcases hA q hq with ⟨h0, _⟩ | ⟨_, hB⟩
      · omega
      · exact hB
    exact h aw ar w l ha (fun p hp => (hB p hp).1) (ch_B_tab hB hst)
  intro d
  induction d with
  | zero =>
    intro r hr more aw ar w l ha hA hmore
    obtain rfl : r = 432 := by omega
    rw [wY_workOut_59]
    exact br_t (nI_le (a := 432) (b := 432) (by omega) (by omega)) (hend 432 aw ar w l (by omega) ha hA (ch_fix hK))
  | succ d ih =>
    intro r hr more aw ar w l ha hA hmore
    rw [wY_workOut_59]
    refine br_f (nI_ge (b := 432) (by omega) (by omega)) ?_
    rcases hmore with rfl | ⟨rfl, h0, hst⟩
    · refine br_f (by decide) ⟨432 + 1, ch_y75 hM (by omega) ?_ 432 0 rfl 0 aw ar w l ha ?_⟩
      · intro aw' ar' w' l' more' ha' hB' hm'
        refine ih (r + 1) (by omega) more' aw' ar' w' l' ha' (fun q hq => Or.inr ⟨by omega, hB' q hq⟩) ?_
        rcases hm' with rfl | ⟨rfl, hs⟩
        · exact Or.inl rfl
        · refine Or.inr ⟨rfl, by omega, fun k q hq => ?_⟩
          have e1 := ch_stable hK hs (1 + k) q hq
          rw [hs q hq, Nat.add_assoc]; exact e1
      · exact ⟨fun q hq => ⟨fun hz => absurd hz (Nat.not_lt_zero _), fun _ => hA q hq⟩, fun _ _ q hz => absurd hz (Nat.not_lt_zero _), by omega⟩
    · exact br_t rfl (hend r aw ar w l h0 ha hA hst)
theorem ch_y10 {post : SY → Prop} (hM : ch_YM D E gw tw wts doors exs)
    (h : ∀ aw' ar' w l, ch_Ya w l aw' ar' → (∀ p, p < 432 → w p ≤ 2) → ch_Tab (ch_ok D gw tw) (ch_ov E) w l → post (wts, yat, 1, doors, exs, aw', ar')) :
    ∀ d i, i + d = 432 → ∀ aw ar, (∀ q, q < i → aw q = nI (ch_ov E q) ∧ ar q = ch_ri (ch_ov E q) 0) →
      wY_workOut_10 post wts yat kn (d + 1) (nI i) doors exs aw ar := by
  intro d
  induction d with
  | zero =>
    intro i hi aw ar ha
    obtain rfl : i = 432 := by omega
    rw [wY_workOut_10]
    exact br_t (nI_le (a := 432) (b := 432) (by omega) (by omega)) ⟨432 + 1, ch_y59 hM h 432 0 rfl 1 aw ar (ch_ov E) (fun _ => 0) ha (fun q _ => Or.inl ⟨rfl, rfl, rfl⟩) (Or.inl rfl)⟩
  | succ d ih =>
    intro i hi aw ar ha
    have hov := ch_ov2 E i
    rw [wY_workOut_10]
    refine br_f (nI_ge (b := 432) (by omega) (by omega)) (ch_yover (E := E) (by omega) hM.2.2.1 ?_)
    rw [nI_clamp (n := i) (by omega)]
    have hnext : ∀ v, v = ch_ri (ch_ov E i) 0 → ∀ q, q < i + 1 → upd aw i (nI (ch_ov E i)) q = nI (ch_ov E q) ∧ upd ar i v q = ch_ri (ch_ov E q) 0 := by
      intro v hv q hq
      by_cases e : q = i
      · subst e
        rw [pk_us, pk_us]; exact ⟨rfl, hv⟩
      · rw [pk_un e, pk_un e]; exact ha q (by omega)
    refine ⟨pk_in i 432 (by omega), nm_e ⟨pk_in i 432 (by omega), ?_⟩⟩
    rw [pk_us]
    refine pk_eq (ch_ov E i) 0 (fun e => ⟨pk_in i 432 (by omega), nm_e (nm_r (nI_1 i) (ih (i + 1) (by omega) _ _ (hnext _ (ch_ri0 e).symm)))⟩) (fun e => ⟨pk_in i 432 (by omega), nm_e (nm_r (nI_1 i) (ih (i + 1) (by omega) _ _ (hnext _ (ch_ri1 e).symm)))⟩)
/-- the reference's table is right, or not made -/
def ch_YT (ok : Nat → Nat → Bool) (ov : Nat → Nat) (kn : Int32) (aw ar : Nat → Int32) : Prop :=
  kn = 0 ∨ (kn = 1 ∧ ∃ w l : Nat → Nat, ch_Ya w l aw ar ∧ (∀ p, p < 432 → w p ≤ 2) ∧ ch_Tab ok ov w l)
theorem ch_ywork {post : SY → Prop} {aw ar : Nat → Int32} (hM : ch_YM D E gw tw wts doors exs) (hT : ch_YT (ch_ok D gw tw) (ch_ov E) kn aw ar)
    (h : ∀ aw' ar' w l, ch_Ya w l aw' ar' → (∀ p, p < 432 → w p ≤ 2) → ch_Tab (ch_ok D gw tw) (ch_ov E) w l → post (wts, yat, 1, doors, exs, aw', ar')) :
    wpY_workOut post (wts, yat, kn, doors, exs, aw, ar) := by
  unfold wpY_workOut
  rcases hT with rfl | ⟨rfl, w, l, ha, hw, hT⟩
  · exact br_t rfl ⟨432 + 1, ch_y10 hM h 432 0 rfl aw ar (fun q hq => absurd hq (Nat.not_lt_zero _))⟩
  · exact br_f (by decide) (h aw ar w l ha hw hT)
theorem ch_ycan_l {post : Int32 → Prop} {aw ar : Nat → Int32} {p : Nat} (hM : ch_YM D E gw tw wts doors exs) (hp : p < 432) (h0 : (∀ c, c < 13 → ch_ok D gw tw p c = false) → post 0) (h1 : post 1 ∨ ∀ c, c < 13 → ch_ok D gw tw p c = false) :
    ∀ d c, c + d = 13 → (∀ c', c' < c → ch_ok D gw tw p c' = false) → wY_canMove_12 post (nI p) wts yat kn doors exs aw ar (d + 1) (nI c) := by
  intro d
  induction d with
  | zero =>
    intro c hc hn
    obtain rfl : c = 13 := by omega
    rw [wY_canMove_12]
    exact br_t (nI_lt (a := 12) (b := 13) (by omega) (by omega)) (h0 hn)
  | succ d ih =>
    intro c hc hn
    rw [wY_canMove_12]
    refine br_f (nI_nlt (a := 12) (b := c) (by omega) (by omega)) (ch_yafter hM hp (by omega) ?_)
    cases ho : ch_ok D gw tw p c
    · rw [ch_bv_f ho]
      refine br_t (by decide) (nm_r (nI_1 c) (ih (c + 1) (by omega) (fun c' hc' => ?_)))
      by_cases e : c' = c
      · rw [e]; exact ho
      · exact hn c' (by omega)
    · rw [ch_bv_t ho]
      have hq := ch_Kok D gw tw p c hp (by omega) ho
      refine br_f (nI_pos (by omega)) ?_
      rcases h1 with h1 | h1
      · exact h1
      · rw [h1 c (by omega)] at ho
        exact absurd ho (by decide)
/-- 'canMove' answers 0 where the chase is over or there is no move, 1 elsewhere -/
theorem ch_ycan {post : Int32 → Prop} {aw ar : Nat → Int32} {p : Nat} (hM : ch_YM D E gw tw wts doors exs) (hp : p < 432)
    (h : (post 0 ∧ (ch_ov E p ≠ 0 ∨ ∀ c, c < 13 → ch_ok D gw tw p c = false)) ∨ (post 1 ∧ ch_ov E p = 0 ∧ ¬ ∀ c, c < 13 → ch_ok D gw tw p c = false)) :
    wpY_canMove post (wts, yat, kn, doors, exs, aw, ar) (nI p) := by
  have hov := ch_ov2 E p
  unfold wpY_canMove
  refine ch_yover (E := E) hp hM.2.2.1 ?_
  refine pk_eq (ch_ov E p) 0 (fun e => ⟨13 + 1, ?_⟩) (fun e => ?_)
  · rcases h with ⟨hp0, hv | hn⟩ | ⟨hp1, _, hn⟩
    · exact absurd e hv
    · exact ch_ycan_l hM hp (fun _ => hp0) (Or.inr hn) 13 0 rfl (fun c' hc' => absurd hc' (Nat.not_lt_zero _))
    · exact ch_ycan_l hM hp (fun z => absurd z hn) (Or.inl hp1) 13 0 rfl (fun c' hc' => absurd hc' (Nat.not_lt_zero _))
  · rcases h with ⟨hp0, _⟩ | ⟨_, hv, _⟩
    · exact hp0
    · exact absurd hv e
end
end
section
/-! best, total, longest: both sides over equal tables -/
def ch_Eq (aw af yw yr : Nat → Int32) : Prop := ∀ q, q < 432 → yw q = aw q ∧ (aw q ≠ 0 → yr q = af q) ∧ (aw q = 0 → yr q = -3)
theorem ch_eq {ok : Nat → Nat → Bool} {ov w l w' l' : Nat → Nat} {aw af yw yr : Nat → Int32} (h : ∀ p, p < 432 → aw p = nI (w p) ∧ af p = nI (l p)) (hT : ch_Tab ok ov w l) (h' : ch_Ya w' l' yw yr) (h2 : ∀ p, p < 432 → w' p ≤ 2) (hT' : ch_Tab ok ov w' l') : ch_Eq aw af yw yr := by
  intro q hq
  have u := ch_tab_uniq hT hT' hq
  have hw2 := h2 q hq
  have e0 : aw q = 0 ↔ w q = 0 := by
    rw [(h q hq).1, ← nI_0]
    exact nI_eq (by omega) (by omega)
  refine ⟨by rw [(h' q hq).1, (h q hq).1, u.1], fun hz => ?_, fun hz => ?_⟩
  · have hwz : w q ≠ 0 := fun z => hz (e0.mpr z)
    rw [(h' q hq).2, ch_ri1 (by omega), u.2 hwz, (h q hq).2]
  · have hwz := e0.mp hz
    rw [(h' q hq).2, ch_ri0 (by omega)]
section
variable {gi ti ex bA bB bT bth rd qd : Int32} {out inn aw af ao aq : Nat → Int32} {wts : Int32} {doors exs : Nat → Int32} {D : Nat → Nat → Bool} {E : Nat → Bool} {gw tw : Bool} {p : Nat}
theorem ch_best0 {post : Int32 → SX → Prop} (hM : ch_XM D E gw tw gi ti ex out inn) (hp : p < 432) (hn : ch_ov E p ≠ 0 ∨ ∀ c, c < 13 → ch_ok D gw tw p c = false) (h : post (-2) (gi, ti, ex, bA, bB, bT, bth, rd, qd, out, inn, aw, af, ao, aq)) :
    ∀ d c, c + d = 13 → wX_best_26 post (nI p) gi ti ex bA bB bT bth rd qd out inn aw af ao aq (d + 1) (nI c) := by
  intro d
  induction d with
  | zero =>
    intro c hc
    obtain rfl : c = 13 := by omega
    rw [wX_best_26]
    exact br_t (nI_lt (a := 12) (b := 13) (by omega) (by omega)) h
  | succ d ih =>
    intro c hc
    rw [wX_best_26]
    refine br_f (nI_nlt (a := 12) (b := c) (by omega) (by omega)) (ch_xafter hM hp (by omega) ?_)
    have e : ch_av (ch_ok D gw tw) (ch_ov E) p c = -1 := by
      unfold ch_av
      by_cases hv : ch_ov E p = 0
      · rw [if_pos hv]
        rcases hn with hn | hn
        · exact absurd hv hn
        · exact ch_bv_f (hn c (by omega))
      · exact if_neg hv
    rw [e]
    exact br_t (by decide) (nm_r (nI_1 c) (ih (c + 1) (by omega)))
theorem ch_best2 (hM : ch_XM D E gw tw gi ti ex out inn) (hN : ch_YM D E gw tw wts doors exs) (hp : p < 432) (hv : ch_ov E p = 0) :
    ∀ d c, c + d = 13 → ∃ r : Int32, (∀ post : Int32 → SX → Prop, post r (gi, ti, ex, bA, bB, bT, bth, rd, qd, out, inn, aw, af, ao, aq) → wX_best_26 post (nI p) gi ti ex bA bB bT bth rd qd out inn aw af ao aq (d + 1) (nI c)) ∧
      (∀ (kn : Int32) (yw yr : Nat → Int32), ch_Eq aw af yw yr → ∀ post : Int32 → SY → Prop, post r (wts, nI p, kn, doors, exs, yw, yr) → wY_best_20 post wts (nI p) kn doors exs yw yr (d + 1) (nI c)) := by
  intro d
  induction d with
  | zero =>
    intro c hc
    obtain rfl : c = 13 := by omega
    refine ⟨-2, fun post h => ?_, fun kn yw yr hE post h => ?_⟩
    · rw [wX_best_26]
      exact br_t (nI_lt (a := 12) (b := 13) (by omega) (by omega)) h
    · rw [wY_best_20]
      exact br_t (nI_lt (a := 12) (b := 13) (by omega) (by omega)) h
  | succ d ih =>
    intro c hc
    obtain ⟨r, hX, hY⟩ := ih (c + 1) (by omega)
    have hav : ch_av (ch_ok D gw tw) (ch_ov E) p c = ch_bv (ch_ok D gw tw) p c := if_pos hv
    have hlt : ¬ 12 < nI c := nI_nlt (a := 12) (b := c) (by omega) (by omega)
    cases ho : ch_ok D gw tw p c
    · refine ⟨r, fun post h => ?_, fun kn yw yr hE post h => ?_⟩
      · rw [wX_best_26]
        refine br_f hlt (ch_xafter hM hp (by omega) ?_)
        rw [hav, ch_bv_f ho]
        exact br_t (by decide) (nm_r (nI_1 c) (hX post h))
      · rw [wY_best_20]
        refine br_f hlt (ch_yafter hN hp (by omega) ?_)
        rw [ch_bv_f ho]
        exact br_t (by decide) (nm_r (nI_1 c) (hY kn yw yr hE post h))
    · have hq := ch_Kok D gw tw p c hp (by omega) ho
      have hpos : ¬ nI (ch_nx p c) < 0 := nI_pos (by omega)
      by_cases e1 : aw (ch_nx p c) = aw p
      · by_cases e2 : aw p = 0
        · refine ⟨nI c, fun post h => ?_, fun kn yw yr hE post h => ?_⟩
          · rw [wX_best_26]
            refine br_f hlt (ch_xafter hM hp (by omega) ?_)
            rw [hav, ch_bv_t ho]
            refine br_f hpos ⟨pk_in _ 432 hq, pk_in _ 432 hp, ?_⟩
            rw [nI_clamp (n := ch_nx p c) (by omega), nI_clamp (n := p) (by omega)]
            exact br_t e1 ⟨pk_in _ 432 hp, br_t e2 h⟩
          · rw [wY_best_20]
            refine br_f hlt (ch_yafter hN hp (by omega) ?_)
            rw [ch_bv_t ho]
            refine br_f hpos ⟨pk_in _ 432 hq, pk_in _ 432 hp, ?_⟩
            rw [nI_clamp (n := ch_nx p c) (by omega), nI_clamp (n := p) (by omega), (hE _ hq).1, (hE _ hp).1]
            exact br_t e1 ⟨pk_in _ 432 hp, br_t e2 h⟩
        · by_cases e3 : af (ch_nx p c) = af p - 1
          · refine ⟨nI c, fun post h => ?_, fun kn yw yr hE post h => ?_⟩
            · rw [wX_best_26]
              refine br_f hlt (ch_xafter hM hp (by omega) ?_)
              rw [hav, ch_bv_t ho]
              refine br_f hpos ⟨pk_in _ 432 hq, pk_in _ 432 hp, ?_⟩
              rw [nI_clamp (n := ch_nx p c) (by omega), nI_clamp (n := p) (by omega)]
              exact br_t e1 ⟨pk_in _ 432 hp, br_f e2 ⟨pk_in _ 432 hq, pk_in _ 432 hp, br_t e3 h⟩⟩
            · rw [wY_best_20]
              refine br_f hlt (ch_yafter hN hp (by omega) ?_)
              rw [ch_bv_t ho]
              refine br_f hpos ⟨pk_in _ 432 hq, pk_in _ 432 hp, ?_⟩
              rw [nI_clamp (n := ch_nx p c) (by omega), nI_clamp (n := p) (by omega), (hE _ hq).1, (hE _ hp).1, (hE _ hq).2.1 (by rw [e1]; exact e2), (hE _ hp).2.1 e2]
              exact br_t e1 ⟨pk_in _ 432 hp, br_f e2 ⟨pk_in _ 432 hq, pk_in _ 432 hp, br_t e3 h⟩⟩
          · refine ⟨r, fun post h => ?_, fun kn yw yr hE post h => ?_⟩
            · rw [wX_best_26]
              refine br_f hlt (ch_xafter hM hp (by omega) ?_)
              rw [hav, ch_bv_t ho]
              refine br_f hpos ⟨pk_in _ 432 hq, pk_in _ 432 hp, ?_⟩
              rw [nI_clamp (n := ch_nx p c) (by omega), nI_clamp (n := p) (by omega)]
              exact br_t e1 ⟨pk_in _ 432 hp, br_f e2 ⟨pk_in _ 432 hq, pk_in _ 432 hp, br_f e3 (nm_r (nI_1 c) (hX post h))⟩⟩
            · rw [wY_best_20]
              refine br_f hlt (ch_yafter hN hp (by omega) ?_)
              rw [ch_bv_t ho]
              refine br_f hpos ⟨pk_in _ 432 hq, pk_in _ 432 hp, ?_⟩
              rw [nI_clamp (n := ch_nx p c) (by omega), nI_clamp (n := p) (by omega), (hE _ hq).1, (hE _ hp).1, (hE _ hq).2.1 (by rw [e1]; exact e2), (hE _ hp).2.1 e2]
              exact br_t e1 ⟨pk_in _ 432 hp, br_f e2 ⟨pk_in _ 432 hq, pk_in _ 432 hp, br_f e3 (nm_r (nI_1 c) (hY kn yw yr hE post h))⟩⟩
      · refine ⟨r, fun post h => ?_, fun kn yw yr hE post h => ?_⟩
        · rw [wX_best_26]
          refine br_f hlt (ch_xafter hM hp (by omega) ?_)
          rw [hav, ch_bv_t ho]
          refine br_f hpos ⟨pk_in _ 432 hq, pk_in _ 432 hp, ?_⟩
          rw [nI_clamp (n := ch_nx p c) (by omega), nI_clamp (n := p) (by omega)]
          exact br_f e1 (nm_r (nI_1 c) (hX post h))
        · rw [wY_best_20]
          refine br_f hlt (ch_yafter hN hp (by omega) ?_)
          rw [ch_bv_t ho]
          refine br_f hpos ⟨pk_in _ 432 hq, pk_in _ 432 hp, ?_⟩
          rw [nI_clamp (n := ch_nx p c) (by omega), nI_clamp (n := p) (by omega), (hE _ hq).1, (hE _ hp).1]
          exact br_f e1 (nm_r (nI_1 c) (hY kn yw yr hE post h))
theorem ch_total2 {yat who : Int32} : ∀ d i, i + d = 432 → ∀ x2 : Int32, ∃ r : Int32, (∀ post : Int32 → SX → Prop, post r (gi, ti, ex, bA, bB, bT, bth, rd, qd, out, inn, aw, af, ao, aq) → wX_total_8 post who gi ti ex bA bB bT bth rd qd out inn aw af ao aq (d + 1) x2 (nI i)) ∧
      (∀ (kn : Int32) (yw yr : Nat → Int32), ch_Eq aw af yw yr → ∀ post : Int32 → SY → Prop, post r (wts, yat, kn, doors, exs, yw, yr) → wY_total_8 post who wts yat kn doors exs yw yr (d + 1) x2 (nI i)) := by
  intro d
  induction d with
  | zero =>
    intro i hi x2
    obtain rfl : i = 432 := by omega
    refine ⟨x2, fun post h => ?_, fun kn yw yr hE post h => ?_⟩
    · rw [wX_total_8]
      exact br_t (nI_le (a := 432) (b := 432) (by omega) (by omega)) h
    · rw [wY_total_8]
      exact br_t (nI_le (a := 432) (b := 432) (by omega) (by omega)) h
  | succ d ih =>
    intro i hi x2
    have hi' : i < 432 := by omega
    have hge : ¬ 432 ≤ nI i := nI_ge (b := 432) (by omega) (by omega)
    by_cases e : aw i = who
    · obtain ⟨r, hX, hY⟩ := ih (i + 1) (by omega) (x2 + 1)
      refine ⟨r, fun post h => ?_, fun kn yw yr hE post h => ?_⟩
      · rw [wX_total_8]
        refine br_f hge ⟨pk_in i 432 hi', ?_⟩
        rw [nI_clamp (n := i) (by omega)]
        exact br_t e (nm_e (nm_r (nI_1 i) (hX post h)))
      · rw [wY_total_8]
        refine br_f hge ⟨pk_in i 432 hi', ?_⟩
        rw [nI_clamp (n := i) (by omega), (hE i hi').1]
        exact br_t e (nm_e (nm_r (nI_1 i) (hY kn yw yr hE post h)))
    · obtain ⟨r, hX, hY⟩ := ih (i + 1) (by omega) x2
      refine ⟨r, fun post h => ?_, fun kn yw yr hE post h => ?_⟩
      · rw [wX_total_8]
        refine br_f hge ⟨pk_in i 432 hi', ?_⟩
        rw [nI_clamp (n := i) (by omega)]
        exact br_f e (nm_r (nI_1 i) (hX post h))
      · rw [wY_total_8]
        refine br_f hge ⟨pk_in i 432 hi', ?_⟩
        rw [nI_clamp (n := i) (by omega), (hE i hi').1]
        exact br_f e (nm_r (nI_1 i) (hY kn yw yr hE post h))
theorem ch_long2 {yat who : Int32} (hw : who ≠ 0) : ∀ d i, i + d = 432 → ∀ x2 : Int32, ∃ r : Int32, (∀ post : Int32 → SX → Prop, post r (gi, ti, ex, bA, bB, bT, bth, rd, qd, out, inn, aw, af, ao, aq) → wX_longest_22 post who gi ti ex bA bB bT bth rd qd out inn aw af ao aq (d + 1) x2 (nI i)) ∧
      (∀ (kn : Int32) (yw yr : Nat → Int32), ch_Eq aw af yw yr → ∀ post : Int32 → SY → Prop, post r (wts, yat, kn, doors, exs, yw, yr) → wY_longest_9 post who wts yat kn doors exs yw yr (d + 1) x2 (nI i)) := by
  intro d
  induction d with
  | zero =>
    intro i hi x2
    obtain rfl : i = 432 := by omega
    refine ⟨x2, fun post h => ?_, fun kn yw yr hE post h => ?_⟩
    · rw [wX_longest_22]
      exact br_t (nI_le (a := 432) (b := 432) (by omega) (by omega)) h
    · rw [wY_longest_9]
      exact br_t (nI_le (a := 432) (b := 432) (by omega) (by omega)) h
  | succ d ih =>
    intro i hi x2
    have hi' : i < 432 := by omega
    have hge : ¬ 432 ≤ nI i := nI_ge (b := 432) (by omega) (by omega)
    by_cases e : aw i = who
    · have hz : aw i ≠ 0 := by rw [e]; exact hw
      by_cases e2 : af i ≤ x2
      · obtain ⟨r, hX, hY⟩ := ih (i + 1) (by omega) x2
        refine ⟨r, fun post h => ?_, fun kn yw yr hE post h => ?_⟩
        · rw [wX_longest_22]
          refine br_f hge ⟨pk_in i 432 hi', ?_⟩
          rw [nI_clamp (n := i) (by omega)]
          exact br_t e ⟨pk_in i 432 hi', br_t e2 (nm_r (nI_1 i) (hX post h))⟩
        · rw [wY_longest_9]
          refine br_f hge ⟨pk_in i 432 hi', ?_⟩
          rw [nI_clamp (n := i) (by omega), (hE i hi').1, (hE i hi').2.1 hz]
          exact br_t e ⟨pk_in i 432 hi', br_t e2 (nm_r (nI_1 i) (hY kn yw yr hE post h))⟩
      · obtain ⟨r, hX, hY⟩ := ih (i + 1) (by omega) (af i)
        refine ⟨r, fun post h => ?_, fun kn yw yr hE post h => ?_⟩
        · rw [wX_longest_22]
          refine br_f hge ⟨pk_in i 432 hi', ?_⟩
          rw [nI_clamp (n := i) (by omega)]
          exact br_t e ⟨pk_in i 432 hi', br_f e2 ⟨pk_in i 432 hi', nm_e (nm_r (nI_1 i) (hX post h))⟩⟩
        · rw [wY_longest_9]
          refine br_f hge ⟨pk_in i 432 hi', ?_⟩
          rw [nI_clamp (n := i) (by omega), (hE i hi').1, (hE i hi').2.1 hz]
          exact br_t e ⟨pk_in i 432 hi', br_f e2 ⟨pk_in i 432 hi', nm_e (nm_r (nI_1 i) (hY kn yw yr hE post h))⟩⟩
    · obtain ⟨r, hX, hY⟩ := ih (i + 1) (by omega) x2
      refine ⟨r, fun post h => ?_, fun kn yw yr hE post h => ?_⟩
      · rw [wX_longest_22]
        refine br_f hge ⟨pk_in i 432 hi', ?_⟩
        rw [nI_clamp (n := i) (by omega)]
        exact br_f e (nm_r (nI_1 i) (hX post h))
      · rw [wY_longest_9]
        refine br_f hge ⟨pk_in i 432 hi', ?_⟩
        rw [nI_clamp (n := i) (by omega), (hE i hi').1]
        exact br_f e (nm_r (nI_1 i) (hY kn yw yr hE post h))
/-- 'longest' of nobody that can win -/
theorem ch_long0 {yat who kn : Int32} {yw yr : Nat → Int32} {w l : Nat → Nat} {post : Int32 → SY → Prop} (h1 : who ≠ 1) (h2 : who ≠ 2) (ha : ch_Ya w l yw yr) (hw : ∀ p, p < 432 → w p ≤ 2) (h : post (-3) (wts, yat, kn, doors, exs, yw, yr)) :
    ∀ d i, i + d = 432 → wY_longest_9 post who wts yat kn doors exs yw yr (d + 1) (-3) (nI i) := by
  intro d
  induction d with
  | zero =>
    intro i hi
    obtain rfl : i = 432 := by omega
    rw [wY_longest_9]
    exact br_t (nI_le (a := 432) (b := 432) (by omega) (by omega)) h
  | succ d ih =>
    intro i hi
    have hi' : i < 432 := by omega
    have hw2 := hw i hi'
    rw [wY_longest_9]
    refine br_f (nI_ge (b := 432) (by omega) (by omega)) ⟨pk_in i 432 hi', ?_⟩
    rw [nI_clamp (n := i) (by omega), (ha i hi').1, (ha i hi').2]
    refine br_c (fun e => ⟨pk_in i 432 hi', ?_⟩) (fun e => nm_r (nI_1 i) (ih (i + 1) (by omega)))
    have hz : w i = 0 := by
      refine Classical.byContradiction (fun z => ?_)
      have h12 : w i = 1 ∨ w i = 2 := by omega
      rcases h12 with y | y
      · rw [y] at e; exact h1 e.symm
      · rw [y] at e; exact h2 e.symm
    rw [ch_ri0 hz]
    exact br_t (by decide) (nm_r (nI_1 i) (ih (i + 1) (by omega)))
end
end
section
/-! the relation and what is owed -/
def ch_Rl (gi ti ex bA bB bT bth rd : Int32) (out inn aw af : Nat → Int32) (wts yat kn : Int32) (doors exs yw yr : Nat → Int32) : Prop :=
  ∃ (D : Nat → Nat → Bool) (E : Nat → Bool) (gw tw : Bool) (a b t s : Nat),
    ch_XM D E gw tw gi ti ex out inn ∧ ch_YM D E gw tw wts doors exs ∧ (a < 6 ∧ b < 6 ∧ t < 6 ∧ s < 2) ∧
    (bA = nI a ∧ bB = nI b ∧ bT = nI t ∧ bth = nI s ∧ yat = nI (((a * 6 + b) * 6 + t) * 2 + s)) ∧
    ch_XT (ch_ok D gw tw) (ch_ov E) rd aw af ∧ ch_YT (ch_ok D gw tw) (ch_ov E) kn yw yr
def i_Rel (k : Nat) (u : SX) (v : SY) : Prop := match u, v with
  | (gi, ti, ex, bA, bB, bT, bth, rd, _, out, inn, aw, af, _, _), (wts, yat, kn, doors, exs, yw, yr) => ch_Rl gi ti ex bA bB bT bth rd out inn aw af wts yat kn doors exs yw yr
theorem i_up {k : Nat} {u : SX} {v : SY} (h : i_Rel k u v) : i_Rel (k + 5) u v := h
theorem ch_place (x : Int32) : (∃ j, j < 6 ∧ x = nI j) ∨ (x < 0 ∨ ¬ x ≤ 5) := by
  by_cases h : x < 0
  · exact Or.inr (Or.inl h)
  · by_cases h2 : x ≤ 5
    · obtain ⟨j, hj, e⟩ := nI_of2 (M := 5) (n := 5) (by decide) h h2
      exact Or.inl ⟨j, by omega, e⟩
    · exact Or.inr (Or.inr h2)
theorem ch_code (x : Int32) : (∃ j, j < 13 ∧ x = nI j) ∨ (x < 0 ∨ ¬ x ≤ 12) := by
  by_cases h : x < 0
  · exact Or.inr (Or.inl h)
  · by_cases h2 : x ≤ 12
    · obtain ⟨j, hj, e⟩ := nI_of2 (M := 12) (n := 12) (by decide) h h2
      exact Or.inl ⟨j, by omega, e⟩
    · exact Or.inr (Or.inr h2)
theorem ch_off_t {post : Int32 → Prop} {j : Nat} (hj : j < 6) (h : post 0) : wpX_off post (nI j) :=
  br_f (nI_pos (by omega)) (br_t (nI_le (b := 5) (by omega) (by decide)) h)
theorem ch_off_f {post : Int32 → Prop} {x : Int32} (hx : x < 0 ∨ ¬ x ≤ 5) (h : post 1) : wpX_off post x := by
  unfold wpX_off
  by_cases h0 : x < 0
  · exact br_t h0 h
  · rcases hx with h1 | h1
    · exact absurd h1 h0
    · exact br_f h0 (br_f h1 h)
section
variable {wts yat kn : Int32} {doors exs yw yr : Nat → Int32}
theorem ch_bad_t {post : Int32 → Prop} {j : Nat} (hj : j < 6) (h : post 0) : wpY_bad post (wts, yat, kn, doors, exs, yw, yr) (nI j) :=
  br_f (nI_pos (by omega)) (br_t (nI_le (b := 5) (by omega) (by decide)) h)
theorem ch_bad_f {post : Int32 → Prop} {x : Int32} (hx : x < 0 ∨ ¬ x ≤ 5) (h : post 1) : wpY_bad post (wts, yat, kn, doors, exs, yw, yr) x := by
  unfold wpY_bad
  by_cases h0 : x < 0
  · exact br_t h0 h
  · rcases hx with h1 | h1
    · exact absurd h1 h0
    · exact br_f h0 (br_f h1 h)
end
theorem ch_bz (v : Int32) : ∃ op : Bool, lw_bz v = ch_bi op := by
  rcases lw_bz_01 v with e | e
  · exact ⟨false, e⟩
  · exact ⟨true, e⟩
theorem ch_bs (v : Int32) : ∃ s : Nat, s < 2 ∧ lw_bz v = nI s := by
  rcases lw_bz_01 v with e | e
  · exact ⟨0, by omega, e⟩
  · exact ⟨1, by omega, e⟩
/-! a door, an exit -/
def ch_D (D : Nat → Nat → Bool) (i j : Nat) (op : Bool) : Nat → Nat → Bool := fun a b => if a = i ∧ b = j then op else D a b
def ch_E (E : Nat → Bool) (i : Nat) (op : Bool) : Nat → Bool := fun a => if a = i then op else E a
theorem ch_row {out : Nat → Int32} {D : Nat → Nat → Bool} {i j : Nat} (hj : j < 6) (h : ∀ a b, a < 6 → b < 6 → bt (out a) b = D a b) :
    ∀ a b, a < 6 → b < 6 → bt (upd out i (out i &&& (((1 : Int32) <<< (nI j &&& 31)) ^^^ (-1))) a) b = ch_D D i j false a b := by
  intro a b ha hb
  unfold ch_D
  by_cases e : a = i
  · rw [e, pk_us, ch_clr _ j (by omega) (by omega)]
    by_cases e2 : b = j
    · rw [if_pos e2, if_pos ⟨rfl, e2⟩]
    · rw [if_neg e2, if_neg (fun z => e2 z.2), ← e]
      exact h a b ha hb
  · rw [pk_un e, if_neg (fun z => e z.1)]
    exact h a b ha hb
theorem ch_row2 {out : Nat → Int32} {D : Nat → Nat → Bool} {i j : Nat} (hj : j < 6) (h : ∀ a b, a < 6 → b < 6 → bt (out a) b = ch_D D i j false a b) :
    ∀ a b, a < 6 → b < 6 → bt (upd out i (out i ||| ((1 : Int32) <<< (nI j &&& 31))) a) b = ch_D D i j true a b := by
  intro a b ha hb
  by_cases e : a = i
  · rw [e, pk_us, ch_set _ j (by omega) (by omega)]
    by_cases e2 : b = j
    · rw [if_pos e2]
      unfold ch_D
      rw [if_pos ⟨rfl, e2⟩]
    · rw [if_neg e2, ← e, h a b ha hb]
      unfold ch_D
      rw [if_neg (fun z => e2 z.2), if_neg (fun z => e2 z.2)]
  · rw [pk_un e, h a b ha hb]
    unfold ch_D
    rw [if_neg (fun z => e z.1), if_neg (fun z => e z.1)]
section
variable {gi ti ex bA bB bT bth rd qd : Int32} {out inn aw af ao aq : Nat → Int32} {wts yat kn : Int32} {doors exs yw yr : Nat → Int32} {D : Nat → Nat → Bool} {E : Nat → Bool} {gw tw : Bool} {i j : Nat}
theorem ch_sw (D : Nat → Nat → Bool) (i j : Nat) (op : Bool) : ch_D (fun a b => D b a) j i op = fun a b => ch_D D i j op b a := by
  funext a b
  unfold ch_D
  by_cases e : a = j ∧ b = i
  · rw [if_pos e, if_pos ⟨e.2, e.1⟩]
  · rw [if_neg e, if_neg (fun z => e ⟨z.2, z.1⟩)]
theorem ch_xdoor {post : Int32 → SX → Prop} {op : Bool} (hM : ch_XM D E gw tw gi ti ex out inn) (hi : i < 6) (hj : j < 6) (hne : i ≠ j)
    (h : ∀ out' inn', ch_XM (ch_D D i j op) E gw tw gi ti ex out' inn' → post (ch_bi (D i j)) (gi, ti, ex, bA, bB, bT, bth, 0, qd, out', inn', aw, af, ao, aq)) :
    wpX_door post (gi, ti, ex, bA, bB, bT, bth, rd, qd, out, inn, aw, af, ao, aq) (nI i) (nI j) (ch_bi op) := by
  obtain ⟨hg, ht, hE, hD, hI⟩ := hM
  have ho1 := ch_row (i := i) hj hD
  have hi1 := ch_row (out := inn) (D := fun a b => D b a) (i := j) hi (fun a b ha hb => hI b a hb ha)
  unfold wpX_door
  refine ch_off_t hi (br_t rfl (ch_off_t hj (br_t rfl (br_f (fun z => hne ((nI_eq (by omega) (by omega)).mp z)) ?_))))
  rw [nI_clamp (n := i) (by omega), nI_clamp (n := j) (by omega)]
  refine ⟨pk_in i 6 hi, nm_r (e' := ch_bi (D i j)) ?_ ⟨pk_in i 6 hi, pk_in i 6 hi, nm_e ⟨pk_in j 6 hj, pk_in j 6 hj, nm_e ?_⟩⟩⟩
  · rw [ch_bit _ (by omega), hD i j hi hj]
  · cases op
    · refine br_t rfl (h _ _ ⟨hg, ht, hE, ho1, fun a b ha hb => ?_⟩)
      have e := hi1 b a hb ha
      rw [ch_sw] at e
      exact e
    · have ho2 := ch_row2 (i := i) hj ho1
      have hi2 := ch_row2 (i := j) hi hi1
      refine br_f (by decide) ⟨pk_in i 6 hi, pk_in i 6 hi, nm_e ⟨pk_in j 6 hj, pk_in j 6 hj, nm_e (h _ _ ⟨hg, ht, hE, ho2, fun a b ha hb => ?_⟩)⟩⟩
      have e := hi2 b a hb ha
      rw [ch_sw] at e
      exact e
theorem ch_ydoor {post : Int32 → SY → Prop} {op : Bool} (hN : ch_YM D E gw tw wts doors exs) (hi : i < 6) (hj : j < 6) (hne : i ≠ j)
    (h : ∀ doors', ch_YM (ch_D D i j op) E gw tw wts doors' exs → post (ch_bi (D i j)) (wts, yat, 0, doors', exs, yw, yr)) :
    wpY_door post (wts, yat, kn, doors, exs, yw, yr) (nI i) (nI j) (ch_bi op) := by
  obtain ⟨hg, ht, hE, hD⟩ := hN
  have hnar : vp_nar .boolean (ch_bi op) = ch_bi op := by cases op <;> rfl
  have h45 : wY_door_45 post (nI i) (nI j) (ch_bi op) (ch_bi (D i j)) wts yat kn doors exs yw yr := by
    unfold wY_door_45
    rw [ch_ix, nI_clamp (n := i * 6 + j) (by omega), hnar]
    refine ⟨pk_in (i * 6 + j) 36 (by omega), nm_e (h _ ⟨hg, ht, hE, fun a b ha hb => ?_⟩)⟩
    unfold ch_D
    by_cases e : a = i ∧ b = j
    · rw [if_pos e, e.1, e.2, pk_us]
    · rw [if_neg e, pk_un (by omega)]
      exact hD a b ha hb
  unfold wpY_door
  refine ch_bad_t hi (br_t rfl (ch_bad_t hj (br_t rfl (br_f (fun z => hne ((nI_eq (by omega) (by omega)).mp z)) ?_))))
  rw [ch_ix, nI_clamp (n := i * 6 + j) (by omega), hD i j hi hj]
  refine ⟨pk_in (i * 6 + j) 36 (by omega), ?_⟩
  cases hb : D i j
  · rw [hb] at h45
    exact br_t rfl h45
  · rw [hb] at h45
    exact br_f (by decide) h45
theorem ch_xexit {post : Int32 → SX → Prop} {op : Bool} (hM : ch_XM D E gw tw gi ti ex out inn) (hi : i < 6)
    (h : ∀ ex', ch_XM D (ch_E E i op) gw tw gi ti ex' out inn → post (ch_bi (E i)) (gi, ti, ex', bA, bB, bT, bth, 0, qd, out, inn, aw, af, ao, aq)) :
    wpX_exit post (gi, ti, ex, bA, bB, bT, bth, rd, qd, out, inn, aw, af, ao, aq) (nI i) (ch_bi op) := by
  obtain ⟨hg, ht, hE, hD, hI⟩ := hM
  unfold wpX_exit
  refine ch_off_t hi (br_t rfl (nm_r (e' := ch_bi (E i)) ?_ (nm_e ?_)))
  · rw [ch_bit _ (by omega), hE i hi]
  · cases op
    · refine br_t rfl (h _ ⟨hg, ht, fun a ha => ?_, hD, hI⟩)
      rw [ch_clr _ i (by omega) (by omega)]
      unfold ch_E
      by_cases e : a = i
      · rw [if_pos e, if_pos e]
      · rw [if_neg e, if_neg e]; exact hE a ha
    · refine br_f (by decide) (nm_e (h _ ⟨hg, ht, fun a ha => ?_, hD, hI⟩))
      rw [ch_set _ i (by omega) (by omega), ch_clr _ i (by omega) (by omega)]
      unfold ch_E
      by_cases e : a = i
      · rw [if_pos e, if_pos e]
      · rw [if_neg e, if_neg e, if_neg e]; exact hE a ha
theorem ch_yexit {post : Int32 → SY → Prop} {op : Bool} (hN : ch_YM D E gw tw wts doors exs) (hi : i < 6)
    (h : ∀ exs', ch_YM D (ch_E E i op) gw tw wts doors exs' → post (ch_bi (E i)) (wts, yat, 0, doors, exs', yw, yr)) :
    wpY_exit post (wts, yat, kn, doors, exs, yw, yr) (nI i) (ch_bi op) := by
  obtain ⟨hg, ht, hE, hD⟩ := hN
  have hnar : vp_nar .boolean (ch_bi op) = ch_bi op := by cases op <;> rfl
  have h24 : wY_exit_24 post (nI i) (ch_bi op) (ch_bi (E i)) wts yat kn doors exs yw yr := by
    unfold wY_exit_24
    rw [nI_clamp (n := i) (by omega), hnar]
    refine ⟨pk_in i 6 hi, nm_e (h _ ⟨hg, ht, fun a ha => ?_, hD⟩)⟩
    unfold ch_E
    by_cases e : a = i
    · rw [if_pos e, e, pk_us]
    · rw [if_neg e, pk_un e]
      exact hE a ha
  unfold wpY_exit
  refine ch_bad_t hi (br_t rfl ?_)
  rw [nI_clamp (n := i) (by omega), hE i hi]
  refine ⟨pk_in i 6 hi, ?_⟩
  cases hb : E i
  · rw [hb] at h24
    exact br_t rfl h24
  · rw [hb] at h24
    exact br_f (by decide) h24
end
end
section
theorem ch_w1 (k : Int32) : (k &&& 3) &&& 1 = k &&& 1 := by
  rw [Int32.and_assoc]; rfl
theorem ch_w2 (k : Int32) : (k &&& 3) &&& 2 = k &&& 2 := by
  rw [Int32.and_assoc]; rfl
theorem ch_init {k0 : Int32} {gw tw : Bool} (hg : (k0 &&& 1 = 0 ↔ gw = false)) (ht : (k0 &&& 2 = 0 ↔ tw = false)) :
    wpY_init (fun v => i_Rel 1 (ch_bi gw, ch_bi tw, 0, 0, 1, 5, 0, 0, 0, (fun _ => 0), (fun _ => 0), (fun _ => 0), (fun _ => 0), (fun _ => 0), (fun _ => 0)) v) k0 := by
  unfold wpY_init
  refine nm_e (ch_ynum (a := 0) (b := 1) (t := 5) (s := 0) (by omega) ?_)
  refine ⟨fun _ _ => false, fun _ => false, gw, tw, 0, 1, 5, 0, ⟨rfl, rfl, fun t _ => b_0 t, fun i j _ _ => b_0 j, fun i j _ _ => b_0 i⟩, ⟨?_, ?_, fun t _ => rfl, fun i j _ _ => rfl⟩, ⟨by omega, by omega, by omega, by omega⟩, ⟨rfl, rfl, rfl, rfl, rfl⟩, Or.inl rfl, Or.inl rfl⟩
  · rw [ch_w1]; exact hg
  · rw [ch_w2]; exact ht
theorem i_vc0 (k0 : Int32) : wpX_init (fun u => wpY_init (fun v => i_Rel 1 u v) k0) k0 := by
  unfold wpX_init
  refine br_c (fun h1 => ?_) (fun h1 => ?_)
  · refine ⟨rfl, rfl, br_c (fun h2 => ⟨rfl, rfl, ?_⟩) (fun h2 => ⟨rfl, rfl, ?_⟩)⟩
    · exact ch_init (gw := false) (tw := false) ⟨fun _ => rfl, fun _ => h1⟩ ⟨fun _ => rfl, fun _ => h2⟩
    · exact ch_init (gw := false) (tw := true) ⟨fun _ => rfl, fun _ => h1⟩ ⟨fun z => absurd z h2, fun z => absurd z (by decide)⟩
  · refine ⟨rfl, rfl, br_c (fun h2 => ⟨rfl, rfl, ?_⟩) (fun h2 => ⟨rfl, rfl, ?_⟩)⟩
    · exact ch_init (gw := true) (tw := false) ⟨fun z => absurd z h1, fun z => absurd z (by decide)⟩ ⟨fun _ => rfl, fun _ => h2⟩
    · exact ch_init (gw := true) (tw := true) ⟨fun z => absurd z h1, fun z => absurd z (by decide)⟩ ⟨fun z => absurd z h2, fun z => absurd z (by decide)⟩
theorem i_vc_door {k : Nat} {u : SX} {v : SY} (I : i_Rel k u v) (hk : k + 5 ≤ 2561) (v1 : Int32) (v2 : Int32) (v3 : Int32) : wpX_door (fun r u' => wpY_door (fun r' v' => r' = r ∧ i_Rel (k + 5) u' v') v v1 v2 (lw_bz v3)) u v1 v2 (lw_bz v3) := by
  obtain ⟨gi, ti, ex, bA, bB, bT, bth, rd, qd, out, inn, aw, af, ao, aq⟩ := u
  obtain ⟨wts, yat, kn, doors, exs, yw, yr⟩ := v
  rcases ch_place v1 with ⟨i, hi, rfl⟩ | h1
  · rcases ch_place v2 with ⟨j, hj, rfl⟩ | h2
    · by_cases e : i = j
      · subst e
        unfold wpX_door
        refine ch_off_t hi (br_t rfl (ch_off_t hi (br_t rfl (br_t rfl ?_))))
        unfold wpY_door
        exact ch_bad_t hi (br_t rfl (ch_bad_t hi (br_t rfl (br_t rfl ⟨rfl, I⟩))))
      · obtain ⟨op, eop⟩ := ch_bz v3
        obtain ⟨D, E, gw, tw, a, b, t, s, hM, hN, hpl, heq, hX, hY⟩ := I
        rw [eop]
        refine ch_xdoor hM hi hj e (fun out' inn' hM' => ?_)
        refine ch_ydoor hN hi hj e (fun doors' hN' => ⟨rfl, ?_⟩)
        exact ⟨ch_D D i j op, E, gw, tw, a, b, t, s, hM', hN', hpl, heq, Or.inl rfl, Or.inl rfl⟩
    · unfold wpX_door
      refine ch_off_t hi (br_t rfl (ch_off_f h2 (br_f (by decide) ?_)))
      unfold wpY_door
      exact ch_bad_t hi (br_t rfl (ch_bad_f h2 (br_f (by decide) ⟨rfl, I⟩)))
  · unfold wpX_door
    refine ch_off_f h1 (br_f (by decide) ?_)
    unfold wpY_door
    exact ch_bad_f h1 (br_f (by decide) ⟨rfl, I⟩)
theorem i_vc_exit {k : Nat} {u : SX} {v : SY} (I : i_Rel k u v) (hk : k + 5 ≤ 2561) (v1 : Int32) (v2 : Int32) : wpX_exit (fun r u' => wpY_exit (fun r' v' => r' = r ∧ i_Rel (k + 5) u' v') v v1 (lw_bz v2)) u v1 (lw_bz v2) := by
  obtain ⟨gi, ti, ex, bA, bB, bT, bth, rd, qd, out, inn, aw, af, ao, aq⟩ := u
  obtain ⟨wts, yat, kn, doors, exs, yw, yr⟩ := v
  rcases ch_place v1 with ⟨i, hi, rfl⟩ | h1
  · obtain ⟨op, eop⟩ := ch_bz v2
    obtain ⟨D, E, gw, tw, a, b, t, s, hM, hN, hpl, heq, hX, hY⟩ := I
    rw [eop]
    refine ch_xexit hM hi (fun ex' hM' => ?_)
    refine ch_yexit hN hi (fun exs' hN' => ⟨rfl, ?_⟩)
    exact ⟨D, ch_E E i op, gw, tw, a, b, t, s, hM', hN', hpl, heq, Or.inl rfl, Or.inl rfl⟩
  · unfold wpX_exit
    refine ch_off_f h1 (br_f (by decide) ?_)
    unfold wpY_exit
    exact ch_bad_f h1 (br_f (by decide) ⟨rfl, I⟩)
theorem i_vc_set {k : Nat} {u : SX} {v : SY} (I : i_Rel k u v) (hk : k + 5 ≤ 2561) (v1 : Int32) (v2 : Int32) (v3 : Int32) (v4 : Int32) : wpX_set (fun r u' => wpY_set (fun r' v' => r' = r ∧ i_Rel (k + 5) u' v') v v1 v2 v3 (lw_bz v4)) u v1 v2 v3 (lw_bz v4) := by
  obtain ⟨gi, ti, ex, bA, bB, bT, bth, rd, qd, out, inn, aw, af, ao, aq⟩ := u
  obtain ⟨wts, yat, kn, doors, exs, yw, yr⟩ := v
  unfold wpX_set
  rcases ch_place v1 with ⟨a', ha, rfl⟩ | h1
  · rcases ch_place v2 with ⟨b', hb, rfl⟩ | h2
    · rcases ch_place v3 with ⟨t', ht, rfl⟩ | h3
      · have hnar := lw_bz_n v4
        have hfit : fits .boolean (.int (lw_bz v4)) = true := by
          rcases lw_bz_01 v4 with e | e
          · rw [e]; rfl
          · rw [e]; rfl
        obtain ⟨s', hs, es⟩ := ch_bs v4
        rw [es] at hnar hfit ⊢
        obtain ⟨D, E, gw, tw, a, b, t, s, hM, hN, hpl, heq, hX, hY⟩ := I
        refine ch_off_t ha (br_t rfl (ch_off_t hb (br_t rfl (ch_off_t ht (br_t rfl ⟨hnar, hfit, ?_⟩)))))
        unfold wpY_set
        refine ch_bad_t ha (br_t rfl (ch_bad_t hb (br_t rfl (ch_bad_t ht (br_t rfl (ch_ynum hs ⟨rfl, ?_⟩))))))
        exact ⟨D, E, gw, tw, a', b', t', s', hM, hN, ⟨ha, hb, ht, hs⟩, ⟨rfl, rfl, rfl, rfl, rfl⟩, hX, hY⟩
      · refine ch_off_t ha (br_t rfl (ch_off_t hb (br_t rfl (ch_off_f h3 (br_f (by decide) ?_)))))
        unfold wpY_set
        exact ch_bad_t ha (br_t rfl (ch_bad_t hb (br_t rfl (ch_bad_f h3 (br_f (by decide) ⟨rfl, I⟩)))))
    · refine ch_off_t ha (br_t rfl (ch_off_f h2 (br_f (by decide) ?_)))
      unfold wpY_set
      exact ch_bad_t ha (br_t rfl (ch_bad_f h2 (br_f (by decide) ⟨rfl, I⟩)))
  · refine ch_off_f h1 (br_f (by decide) ?_)
    unfold wpY_set
    exact ch_bad_f h1 (br_f (by decide) ⟨rfl, I⟩)
theorem ch_pos (p : Nat) : p < 432 → ((p / 72 * 6 + p / 12 % 6) * 6 + p / 2 % 6) * 2 + p % 2 = p := by omega
theorem i_vc_play {k : Nat} {u : SX} {v : SY} (I : i_Rel k u v) (hk : k + 5 ≤ 2561) (v1 : Int32) : wpX_play (fun r u' => wpY_play (fun r' v' => r' = r ∧ i_Rel (k + 5) u' v') v v1) u v1 := by
  obtain ⟨gi, ti, ex, bA, bB, bT, bth, rd, qd, out, inn, aw, af, ao, aq⟩ := u
  obtain ⟨wts, yat, kn, doors, exs, yw, yr⟩ := v
  have I0 := I
  obtain ⟨D, E, gw, tw, a, b, t, s, hM, hN, ⟨ha, hb, ht, hs⟩, ⟨rfl, rfl, rfl, rfl, rfl⟩, hX, hY⟩ := I
  unfold wpX_play
  refine ch_xnum hs ?_
  have hp : ((a * 6 + b) * 6 + t) * 2 + s < 432 := by omega
  generalize ((a * 6 + b) * 6 + t) * 2 + s = p at hp I0 ⊢
  rcases ch_code v1 with ⟨c, hc, rfl⟩ | h1
  · refine ch_xafter hM hp hc ?_
    by_cases hv : ch_ov E p = 0
    · rw [show ch_av (ch_ok D gw tw) (ch_ov E) p c = ch_bv (ch_ok D gw tw) p c from if_pos hv]
      cases ho : ch_ok D gw tw p c
      · rw [ch_bv_f ho]
        refine br_f (by decide) ?_
        unfold wpY_play
        refine ch_yover hp hN.2.2.1 (br_t (by rw [hv]; rfl) (ch_yafter hN hp hc ?_))
        rw [ch_bv_f ho]
        exact br_f (by decide) ⟨rfl, I0⟩
      · rw [ch_bv_t ho]
        have hq := ch_Kok D gw tw p c hp hc ho
        have hY' : ∀ u', i_Rel (k + 5) u' (wts, nI (ch_nx p c), kn, doors, exs, yw, yr) → wpY_play (fun r' v' => r' = 0 ∧ i_Rel (k + 5) u' v') (wts, nI p, kn, doors, exs, yw, yr) (nI c) := by
          intro u' hu
          unfold wpY_play
          refine ch_yover hp hN.2.2.1 (br_t (by rw [hv]; rfl) (ch_yafter hN hp hc ?_))
          rw [ch_bv_t ho]
          exact br_t (nI_pos' (by omega)) ⟨rfl, hu⟩
        refine br_t (nI_pos' (by omega)) ⟨by decide, nm_r (ch_d72 hq) ⟨by decide, by decide, nm_r (ch_m12 hq) ⟨by decide, by decide, nm_r (ch_m2 hq) ⟨by decide, ?_⟩⟩⟩⟩
        rw [ch_par hq]
        have hpos := ch_pos _ hq
        refine pk_eq (ch_nx p c % 2) 1 (fun e => hY' _ ?_) (fun e => hY' _ ?_)
        · refine ⟨D, E, gw, tw, ch_nx p c / 72, ch_nx p c / 12 % 6, ch_nx p c / 2 % 6, 1, hM, hN, ⟨by omega, by omega, by omega, by omega⟩, ⟨rfl, rfl, rfl, rfl, ?_⟩, hX, hY⟩
          exact congrArg nI (by omega)
        · refine ⟨D, E, gw, tw, ch_nx p c / 72, ch_nx p c / 12 % 6, ch_nx p c / 2 % 6, 0, hM, hN, ⟨by omega, by omega, by omega, by omega⟩, ⟨rfl, rfl, rfl, rfl, ?_⟩, hX, hY⟩
          exact congrArg nI (by omega)
    · rw [show ch_av (ch_ok D gw tw) (ch_ov E) p c = -1 from if_neg hv]
      refine br_f (by decide) ?_
      unfold wpY_play
      have hov := ch_ov2 E p
      exact ch_yover hp hN.2.2.1 (br_f (nI_ne0 (by omega) (by omega)) ⟨rfl, I0⟩)
  · refine ch_xafter_no h1 (br_f (by decide) ?_)
    unfold wpY_play
    refine ch_yover hp hN.2.2.1 (br_c (fun _ => ch_yafter_no h1 (br_f (by decide) ⟨rfl, I0⟩)) (fun _ => ⟨rfl, I0⟩))
theorem i_vc_board {k : Nat} {u : SX} {v : SY} (I : i_Rel k u v) (hk : k + 5 ≤ 2561) : wpX_board (fun r => wpY_board (fun r' => r' = r ∧ i_Rel (k + 5) u v) v) u := by
  obtain ⟨gi, ti, ex, bA, bB, bT, bth, rd, qd, out, inn, aw, af, ao, aq⟩ := u
  obtain ⟨wts, yat, kn, doors, exs, yw, yr⟩ := v
  have I0 := I
  obtain ⟨D, E, gw, tw, a, b, t, s, hM, hN, ⟨ha, hb, ht, hs⟩, ⟨rfl, rfl, rfl, rfl, rfl⟩, hX, hY⟩ := I
  have hp : ((a * 6 + b) * 6 + t) * 2 + s < 432 := by omega
  have hY' : ∀ z : Int32, z = 512 * nI s → wpY_board (fun r' => r' = ((nI a + (8 * nI b)) + (64 * nI t)) + z ∧ i_Rel (k + 5) (gi, ti, ex, nI a, nI b, nI t, nI s, rd, qd, out, inn, aw, af, ao, aq) (wts, nI (((a * 6 + b) * 6 + t) * 2 + s), kn, doors, exs, yw, yr)) (wts, nI (((a * 6 + b) * 6 + t) * 2 + s), kn, doors, exs, yw, yr) := by
    intro z hz
    unfold wpY_board
    dsimp only
    rw [ch_d72 hp, ch_m12 hp, ch_m2 hp, ch_par hp]
    refine ⟨by decide, by decide, by decide, by decide, by decide, by decide, ?_, I0⟩
    rw [hz, show (((a * 6 + b) * 6 + t) * 2 + s) / 72 = a from by omega, show (((a * 6 + b) * 6 + t) * 2 + s) / 12 % 6 = b from by omega, show (((a * 6 + b) * 6 + t) * 2 + s) / 2 % 6 = t from by omega, show (((a * 6 + b) * 6 + t) * 2 + s) % 2 = s from by omega]
  unfold wpX_board
  refine pk_eq s 0 (fun e => ?_) (fun e => ?_)
  · unfold wX_board_14
    exact hY' 0 (by rw [e]; decide)
  · unfold wX_board_14
    exact hY' 512 (by rw [show s = 1 from by omega]; decide)
theorem i_vc_outcome {k : Nat} {u : SX} {v : SY} (I : i_Rel k u v) (hk : k + 5 ≤ 2561) (v1 : Int32) (v2 : Int32) (v3 : Int32) (v4 : Int32) : wpX_outcome (fun r u' => wpY_outcome (fun r' v' => r' = r ∧ i_Rel (k + 5) u' v') v v1 v2 v3 (lw_bz v4)) u v1 v2 v3 (lw_bz v4) := by
  obtain ⟨gi, ti, ex, bA, bB, bT, bth, rd, qd, out, inn, aw, af, ao, aq⟩ := u
  obtain ⟨wts, yat, kn, doors, exs, yw, yr⟩ := v
  unfold wpX_outcome
  rcases ch_place v1 with ⟨a', ha, rfl⟩ | h1
  · rcases ch_place v2 with ⟨b', hb, rfl⟩ | h2
    · rcases ch_place v3 with ⟨t', ht, rfl⟩ | h3
      · obtain ⟨s', hs, es⟩ := ch_bs v4
        rw [es]
        obtain ⟨D, E, gw, tw, a, b, t, s, hM, hN, hpl, heq, hX, hY⟩ := I
        refine ch_off_t ha (br_t rfl (ch_off_t hb (br_t rfl (ch_off_t ht (br_t rfl (ch_xprep hM hX ?_))))))
        intro qd' aw' af' ao' aq' w l hwl hT
        refine ch_xnum hs ⟨pk_in (((a' * 6 + b') * 6 + t') * 2 + s') 432 (by omega), ?_⟩
        unfold wpY_outcome
        refine ch_bad_t ha (br_t rfl (ch_bad_t hb (br_t rfl (ch_bad_t ht (br_t rfl (ch_ywork hN hY ?_))))))
        intro yw' yr' w' l' hya hw2 hT'
        have hE := ch_eq hwl hT hya hw2 hT'
        refine ch_ynum hs ⟨pk_in (((a' * 6 + b') * 6 + t') * 2 + s') 432 (by omega), ?_, ?_⟩
        · rw [nI_clamp (by omega)]
          exact (hE _ (by omega)).1
        · exact ⟨D, E, gw, tw, a, b, t, s, hM, hN, hpl, heq, Or.inr ⟨rfl, w, l, hwl, hT⟩, Or.inr ⟨rfl, w', l', hya, hw2, hT'⟩⟩
      · refine ch_off_t ha (br_t rfl (ch_off_t hb (br_t rfl (ch_off_f h3 (br_f (by decide) ?_)))))
        unfold wpY_outcome
        exact ch_bad_t ha (br_t rfl (ch_bad_t hb (br_t rfl (ch_bad_f h3 (br_f (by decide) ⟨rfl, I⟩)))))
    · refine ch_off_t ha (br_t rfl (ch_off_f h2 (br_f (by decide) ?_)))
      unfold wpY_outcome
      exact ch_bad_t ha (br_t rfl (ch_bad_f h2 (br_f (by decide) ⟨rfl, I⟩)))
  · refine ch_off_f h1 (br_f (by decide) ?_)
    unfold wpY_outcome
    exact ch_bad_f h1 (br_f (by decide) ⟨rfl, I⟩)
theorem i_vc_length {k : Nat} {u : SX} {v : SY} (I : i_Rel k u v) (hk : k + 5 ≤ 2561) (v1 : Int32) (v2 : Int32) (v3 : Int32) (v4 : Int32) : wpX_length (fun r u' => wpY_length (fun r' v' => r' = r ∧ i_Rel (k + 5) u' v') v v1 v2 v3 (lw_bz v4)) u v1 v2 v3 (lw_bz v4) := by
  obtain ⟨gi, ti, ex, bA, bB, bT, bth, rd, qd, out, inn, aw, af, ao, aq⟩ := u
  obtain ⟨wts, yat, kn, doors, exs, yw, yr⟩ := v
  unfold wpX_length
  rcases ch_place v1 with ⟨a', ha, rfl⟩ | h1
  · rcases ch_place v2 with ⟨b', hb, rfl⟩ | h2
    · rcases ch_place v3 with ⟨t', ht, rfl⟩ | h3
      · obtain ⟨s', hs, es⟩ := ch_bs v4
        rw [es]
        obtain ⟨D, E, gw, tw, a, b, t, s, hM, hN, hpl, heq, hX, hY⟩ := I
        refine ch_off_t ha (br_t rfl (ch_off_t hb (br_t rfl (ch_off_t ht (br_t rfl (ch_xprep hM hX ?_))))))
        intro qd' aw' af' ao' aq' w l hwl hT
        have hp : ((a' * 6 + b') * 6 + t') * 2 + s' < 432 := by omega
        have hYY : ∀ r : Int32, (∀ yw' yr', ch_Eq aw' af' yw' yr' → yr' (((a' * 6 + b') * 6 + t') * 2 + s') = r) →
            wpY_length (fun r' v' => r' = r ∧ i_Rel (k + 5) (gi, ti, ex, bA, bB, bT, bth, 1, qd', out, inn, aw', af', ao', aq') v') (wts, yat, kn, doors, exs, yw, yr) (nI a') (nI b') (nI t') (nI s') := by
          intro r hr
          unfold wpY_length
          refine ch_bad_t ha (br_t rfl (ch_bad_t hb (br_t rfl (ch_bad_t ht (br_t rfl (ch_ywork hN hY ?_))))))
          intro yw' yr' w' l' hya hw2 hT'
          have hE := ch_eq hwl hT hya hw2 hT'
          refine ch_ynum hs ⟨pk_in (((a' * 6 + b') * 6 + t') * 2 + s') 432 (by omega), ?_, ?_⟩
          · rw [nI_clamp (by omega)]
            exact hr yw' yr' hE
          · exact ⟨D, E, gw, tw, a, b, t, s, hM, hN, hpl, heq, Or.inr ⟨rfl, w, l, hwl, hT⟩, Or.inr ⟨rfl, w', l', hya, hw2, hT'⟩⟩
        refine ch_xnum hs ⟨pk_in (((a' * 6 + b') * 6 + t') * 2 + s') 432 (by omega), ?_⟩
        rw [nI_clamp (by omega)]
        refine br_c (fun e => ?_) (fun e => ⟨pk_in (((a' * 6 + b') * 6 + t') * 2 + s') 432 (by omega), ?_⟩)
        · exact hYY _ (fun yw' yr' hE => (hE _ hp).2.2 e)
        · exact hYY _ (fun yw' yr' hE => (hE _ hp).2.1 e)
      · refine ch_off_t ha (br_t rfl (ch_off_t hb (br_t rfl (ch_off_f h3 (br_f (by decide) ?_)))))
        unfold wpY_length
        exact ch_bad_t ha (br_t rfl (ch_bad_t hb (br_t rfl (ch_bad_f h3 (br_f (by decide) ⟨rfl, I⟩)))))
    · refine ch_off_t ha (br_t rfl (ch_off_f h2 (br_f (by decide) ?_)))
      unfold wpY_length
      exact ch_bad_t ha (br_t rfl (ch_bad_f h2 (br_f (by decide) ⟨rfl, I⟩)))
  · refine ch_off_f h1 (br_f (by decide) ?_)
    unfold wpY_length
    exact ch_bad_f h1 (br_f (by decide) ⟨rfl, I⟩)
theorem i_vc_best {k : Nat} {u : SX} {v : SY} (I : i_Rel k u v) (hk : k + 5 ≤ 2561) : wpX_best (fun r u' => wpY_best (fun r' v' => r' = r ∧ i_Rel (k + 5) u' v') v) u := by
  obtain ⟨gi, ti, ex, bA, bB, bT, bth, rd, qd, out, inn, aw, af, ao, aq⟩ := u
  obtain ⟨wts, yat, kn, doors, exs, yw, yr⟩ := v
  obtain ⟨D, E, gw, tw, a, b, t, s, hM, hN, ⟨ha, hb, ht, hs⟩, ⟨rfl, rfl, rfl, rfl, rfl⟩, hX, hY⟩ := I
  have hp : ((a * 6 + b) * 6 + t) * 2 + s < 432 := by omega
  unfold wpX_best
  refine ch_xprep hM hX ?_
  intro qd' aw' af' ao' aq' w l hwl hT
  refine ch_xnum hs ⟨13 + 1, ?_⟩
  by_cases hn : ch_ov E (((a * 6 + b) * 6 + t) * 2 + s) ≠ 0 ∨ ∀ c, c < 13 → ch_ok D gw tw (((a * 6 + b) * 6 + t) * 2 + s) c = false
  · refine ch_best0 hM hp hn ?_ 13 0 rfl
    unfold wpY_best
    refine ch_ycan hN hp (Or.inl ⟨br_t rfl ⟨rfl, ?_⟩, hn⟩)
    exact ⟨D, E, gw, tw, a, b, t, s, hM, hN, ⟨ha, hb, ht, hs⟩, ⟨rfl, rfl, rfl, rfl, rfl⟩, Or.inr ⟨rfl, w, l, hwl, hT⟩, hY⟩
  · have hv : ch_ov E (((a * 6 + b) * 6 + t) * 2 + s) = 0 := Classical.byContradiction (fun z => hn (Or.inl z))
    obtain ⟨r, hX', hY'⟩ := ch_best2 (bA := nI a) (bB := nI b) (bT := nI t) (bth := nI s) (rd := 1) (qd := qd') (aw := aw') (af := af') (ao := ao') (aq := aq') hM hN hp hv 13 0 rfl
    refine hX' _ ?_
    unfold wpY_best
    refine ch_ycan hN hp (Or.inr ⟨br_f (by decide) (ch_ywork hN hY ?_), hv, fun z => hn (Or.inr z)⟩)
    intro yw' yr' w' l' hya hw2 hT'
    have hE := ch_eq hwl hT hya hw2 hT'
    refine ⟨13 + 1, hY' 1 yw' yr' hE _ ⟨rfl, ?_⟩⟩
    exact ⟨D, E, gw, tw, a, b, t, s, hM, hN, ⟨ha, hb, ht, hs⟩, ⟨rfl, rfl, rfl, rfl, rfl⟩, Or.inr ⟨rfl, w, l, hwl, hT⟩, Or.inr ⟨rfl, w', l', hya, hw2, hT'⟩⟩
theorem i_vc_total {k : Nat} {u : SX} {v : SY} (I : i_Rel k u v) (hk : k + 5 ≤ 2561) (v1 : Int32) : wpX_total (fun r u' => wpY_total (fun r' v' => r' = r ∧ i_Rel (k + 5) u' v') v v1) u v1 := by
  obtain ⟨gi, ti, ex, bA, bB, bT, bth, rd, qd, out, inn, aw, af, ao, aq⟩ := u
  obtain ⟨wts, yat, kn, doors, exs, yw, yr⟩ := v
  obtain ⟨D, E, gw, tw, a, b, t, s, hM, hN, hpl, heq, hX, hY⟩ := I
  unfold wpX_total
  refine ch_xprep hM hX ?_
  intro qd' aw' af' ao' aq' w l hwl hT
  obtain ⟨r, hX', hY'⟩ := ch_total2 (gi := gi) (ti := ti) (ex := ex) (bA := bA) (bB := bB) (bT := bT) (bth := bth) (rd := 1) (qd := qd') (out := out) (inn := inn) (aw := aw') (af := af') (ao := ao') (aq := aq') (wts := wts) (doors := doors) (exs := exs) (yat := yat) (who := v1) 432 0 rfl 0
  refine ⟨432 + 1, hX' _ ?_⟩
  unfold wpY_total
  refine ch_ywork hN hY ?_
  intro yw' yr' w' l' hya hw2 hT'
  have hE := ch_eq hwl hT hya hw2 hT'
  refine ⟨432 + 1, hY' 1 yw' yr' hE _ ⟨rfl, ?_⟩⟩
  exact ⟨D, E, gw, tw, a, b, t, s, hM, hN, hpl, heq, Or.inr ⟨rfl, w, l, hwl, hT⟩, Or.inr ⟨rfl, w', l', hya, hw2, hT'⟩⟩
theorem i_vc_longest {k : Nat} {u : SX} {v : SY} (I : i_Rel k u v) (hk : k + 5 ≤ 2561) (v1 : Int32) : wpX_longest (fun r u' => wpY_longest (fun r' v' => r' = r ∧ i_Rel (k + 5) u' v') v v1) u v1 := by
  obtain ⟨gi, ti, ex, bA, bB, bT, bth, rd, qd, out, inn, aw, af, ao, aq⟩ := u
  obtain ⟨wts, yat, kn, doors, exs, yw, yr⟩ := v
  obtain ⟨D, E, gw, tw, a, b, t, s, hM, hN, hpl, heq, hX, hY⟩ := I
  have h13 : v1 ≠ 0 → wX_longest_13 (fun r u' => wpY_longest (fun r' v' => r' = r ∧ i_Rel (k + 5) u' v') (wts, yat, kn, doors, exs, yw, yr) v1) v1 gi ti ex bA bB bT bth rd qd out inn aw af ao aq := by
    intro hv1
    unfold wX_longest_13
    refine ch_xprep hM hX ?_
    intro qd' aw' af' ao' aq' w l hwl hT
    obtain ⟨r, hX', hY'⟩ := ch_long2 (gi := gi) (ti := ti) (ex := ex) (bA := bA) (bB := bB) (bT := bT) (bth := bth) (rd := 1) (qd := qd') (out := out) (inn := inn) (aw := aw') (af := af') (ao := ao') (aq := aq') (wts := wts) (doors := doors) (exs := exs) (yat := yat) (who := v1) hv1 432 0 rfl (-3)
    refine ⟨432 + 1, hX' _ ?_⟩
    unfold wpY_longest
    refine ch_ywork hN hY ?_
    intro yw' yr' w' l' hya hw2 hT'
    have hE := ch_eq hwl hT hya hw2 hT'
    refine ⟨432 + 1, hY' 1 yw' yr' hE _ ⟨rfl, ?_⟩⟩
    exact ⟨D, E, gw, tw, a, b, t, s, hM, hN, hpl, heq, Or.inr ⟨rfl, w, l, hwl, hT⟩, Or.inr ⟨rfl, w', l', hya, hw2, hT'⟩⟩
  unfold wpX_longest
  by_cases h1 : v1 = 1
  · exact br_t h1 (h13 (by rw [h1]; decide))
  · by_cases h2 : v1 = 2
    · exact br_f h1 (br_t h2 (h13 (by rw [h2]; decide)))
    · refine br_f h1 (br_f h2 ?_)
      unfold wpY_longest
      refine ch_ywork hN hY ?_
      intro yw' yr' w' l' hya hw2 hT'
      refine ⟨432 + 1, ch_long0 h1 h2 hya hw2 ⟨rfl, ?_⟩ 432 0 rfl⟩
      exact ⟨D, E, gw, tw, a, b, t, s, hM, hN, hpl, heq, hX, Or.inr ⟨rfl, w', l', hya, hw2, hT'⟩⟩
end
